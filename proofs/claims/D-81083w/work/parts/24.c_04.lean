set_option maxRecDepth 100000
def B_X1_open_61 (k61 : Nat → Int → Nat → Int → Mem → Option ((Int ⊕ Nat) × Mem)) (v0 : Nat) (v2 : Int) (v4 : Nat) (v5 : Int) (M : Mem) : Option ((Int ⊕ Nat) × Mem) :=
  if w32 6 ≤ w32 v5 then
    bN (d_X1_walk v0 v4 M) fun r43 M44 => 
    if inb (m_i M44 118 v0 0) 60 then 
    some (.inl (m_i M44 118 v0 0), (m_si (m_sr M44 119 v0 (ixn (m_i M44 118 v0 0)) (some v4)) 118 v0 0 ((m_i M44 118 v0 0) + 1))) else none
  else
    bR (d_X1_valueOf v0 v2 v5 (d_X1_day v0 M) (d_X1_day v0 M) M) fun r52 => 
    if inb v5 6 then 
    k61 v0 v2 v4 (v5 + 1) (m_si M 803 v4 (ixn v5) r52) else none
def L_X1_open_61  : Nat → Nat → Int → Nat → Int → Mem → Option ((Int ⊕ Nat) × Mem)
  | 0, _, _, _, _, _ => none
  | n + 1, v0, v2, v4, v5, M => B_X1_open_61 (L_X1_open_61  n) v0 v2 v4 v5 M
def B_X1_open_43  (v0 : Nat) (v1 : Int) (v2 : Int) (v3 : Nat) (s0 : Int) (M : Mem) : Option ((Int ⊕ Nat) × Mem) :=
  bT (d_X1_room s0 M) fun r25 M26 => 
  bN (d_X8_init (m_sz M26) v3 v1 v2 (m_nw M26 108)) fun r36 M37 => 
  if m_kd M37 (m_sz M26) = 8 then 
  L_X1_open_61 FU v0 v2 (m_sz M26) 0 M37 else none
def B_X1_open_26  (v0 : Nat) (v1 : Int) (v2 : Int) (v3 : Nat) (s0 : Int) (M : Mem) : Option ((Int ⊕ Nat) × Mem) :=
  bT (d_X1_may s0 M) fun r17 M18 => 
  if w32 60 ≤ w32 (m_i M18 118 v0 0) then
    B_X1_open_43 v0 v1 v2 v3 0 M18
  else
    B_X1_open_43 v0 v1 v2 v3 1 M18
def d_X1_open (v0 : Nat) (v1 : Int) (v2 : Int) (M : Mem) : Option ((Int ⊕ Nat) × Mem) :=
  bT (d_X1_formOf v0 v1 M) fun r1 M2 => 
  if m_kd M2 r1 = 2 then 
  bT (d_X1_unitIn v0 v2 M2) fun r8 M9 => 
  if inb v2 100 then 
  if w32 (m_i M9 104 v0 (ixn v2)) = w32 (-1) then
    B_X1_open_26 v0 v1 v2 r1 1 M9
  else
    B_X1_open_26 v0 v1 v2 r1 0 M9 else none else none
theorem cB_X1_open_61 {X : x_Ctx} {M0 : Mem} (C : x_CC X 8 172 yX1_open cX1_open 6 (some .int) []) {k61 : Nat → Int → Nat → Int → Mem → Option ((Int ⊕ Nat) × Mem)} (hk61 : ∀ (v0 : Nat) (v2 : Int) (v4 : Nat) (v5 : Int) (M : Mem) (r : Int ⊕ Nat) (M' : Mem), m_kd M v0 = 1 → m_kd M v4 = 8 → k61 v0 v2 v4 v5 M = some (r, M') → ocN r 6 6 ≤ (XR X).cells ∧ ocN r 99 99 ≤ (XR X).slots → x_Z X 6 99 (x_QF X M0 (ocI r) M' (ocN r 6 6) (ocN r 99 99)) M0 M 6 [(0, .ref v0), (2, vI v2), (4, .ref v4), (5, vI v5)] 61 []) (v0 : Nat) (v2 : Int) (v4 : Nat) (v5 : Int) (M : Mem) (r : Int ⊕ Nat) (M' : Mem) (hv0 : m_kd M v0 = 1) (hv4 : m_kd M v4 = 8) (h : B_X1_open_61 k61 v0 v2 v4 v5 M = some (r, M')) (hR : ocN r 6 6 ≤ (XR X).cells ∧ ocN r 99 99 ≤ (XR X).slots) : x_Z X 6 99 (x_QF X M0 (ocI r) M' (ocN r 6 6) (ocN r 99 99)) M0 M 6 [(0, .ref v0), (2, vI v2), (4, .ref v4), (5, vI v5)] 61 [] := by
  unfold B_X1_open_61 at h
  refine z_iload (pc := 61) C 3 rfl dX1_open_61 ?_
  refine z_bipush (pc := 63) C (by decide +kernel) dX1_open_63 ?_
  refine z_ic_ge (pc := 65) C dX1_open_65 (tgt := 97) (by decide) (fun c42 => ?_) (fun c42 => ?_)
  · have h := itt c42 h
    refine z_aload_n (pc := 97) C 0 rfl dX1_open_97 ?_
    refine z_aload (pc := 98) C 2 rfl dX1_open_98 ?_
    obtain ⟨r43, M44, e45, h⟩ := bNs h
    refine cX1_296 (pc := 100) (st := []) (st1 := []) C rfl (rm := { frames := 5, cells := 0, slots := 0, locals := 145 }) (ct_X1_walk C.2.1 v0 v4 M _ _ hv0 hv4 e45) ⟨by decide, by decide, Nat.le_trans (ocN_le (show 6 ≤ 6 from by decide) (show 6 ≤ 6 from by decide)) hR.1, Nat.le_trans (ocN_le (show 99 ≤ 99 from by decide) (show 99 ≤ 99 from by decide)) hR.2⟩ (Or.inl hv0) rfl (Nat.le_of_ble_eq_true rfl) dX1_open_100 (c2 := 6) (s2 := 99) rfl rfl (fun x46 => ?_)
    have k47 := x46 _ 1 (by decide) (Or.inl (by decide)) hv0
    have k48 := x46 _ 8 (by decide) (Or.inl (by decide)) hv4
    refine z_aload_n (pc := 103) C 0 rfl dX1_open_103 ?_
    refine gX1_119 (pc := 104) C rfl k47 dX1_open_104 ?_
    refine z_aload_n (pc := 107) C 0 rfl dX1_open_107 ?_
    refine gX1_118 (pc := 108) C rfl (Or.inl k47) rfl dX1_open_108 ?_
    refine z_aload (pc := 111) C 2 rfl dX1_open_111 ?_
    obtain ⟨c49, h⟩ := ifn h
    refine z_asO (pc := 113) (k := 1) (j := 19) C 119 rfl (by decide) (by decide) (by decide) rfl rfl rfl (by decide) rfl (by decide) (by decide) (by decide) rfl k47 c49 k48 (by unfold x_rk; decide) dX1_open_113 ?_
    refine z_aload_n (pc := 114) C 0 rfl dX1_open_114 ?_
    refine z_dup (pc := 115) C rfl dX1_open_115 ?_
    refine gX1_118 (pc := 116) C rfl (Or.inl k47) (x := m_i M44 118 v0 0) (m_i_sr.trans rfl) dX1_open_116 ?_
    refine z_dupx1 (pc := 119) C rfl rfl dX1_open_119 ?_
    refine z_iconst (pc := 120) C dX1_open_120 ?_
    refine z_iadd (pc := 121) C dX1_open_121 ?_
    refine pX1_118 (pc := 122) C rfl (Or.inl k47) dX1_open_122 ?_
    cases h
    exact z_iret (pc := 125) C rfl (show 6 ≤ 6 from by decide) (show 99 ≤ 99 from by decide) dX1_open_125
  · have h := itf c42 h
    refine z_aload (pc := 68) C 2 rfl dX1_open_68 ?_
    refine gX1_803 (pc := 70) C rfl hv4 dX1_open_70 ?_
    refine z_iload (pc := 73) C 3 rfl dX1_open_73 ?_
    refine z_aload_n (pc := 75) C 0 rfl dX1_open_75 ?_
    refine z_iload_n (pc := 76) C 1 rfl dX1_open_76 ?_
    refine z_iload (pc := 77) C 3 rfl dX1_open_77 ?_
    refine z_aload_n (pc := 79) C 0 rfl dX1_open_79 ?_
    refine cX1_196 (pc := 80) (st := [vI v5, vI v2, .ref v0, vI v5, .ref (v4 + 1)]) (st1 := [vI (d_X1_day v0 M), vI v5, vI v2, .ref v0, vI v5, .ref (v4 + 1)]) C rfl (rm := { frames := 1, cells := 0, slots := 0, locals := 24 }) (ct_X1_day C.2.1 v0 M _ hv0 rfl) ⟨by decide, by decide, Nat.le_trans (ocN_le (show 6 ≤ 6 from by decide) (show 6 ≤ 6 from by decide)) hR.1, Nat.le_trans (ocN_le (show 99 ≤ 99 from by decide) (show 99 ≤ 99 from by decide)) hR.2⟩ (Or.inl hv0) rfl (Nat.le_of_ble_eq_true rfl) dX1_open_80 (c2 := 6) (s2 := 99) rfl rfl (fun _ => ?_)
    refine z_aload_n (pc := 83) C 0 rfl dX1_open_83 ?_
    refine cX1_196 (pc := 84) (st := [vI (d_X1_day v0 M), vI v5, vI v2, .ref v0, vI v5, .ref (v4 + 1)]) (st1 := [vI (d_X1_day v0 M), vI (d_X1_day v0 M), vI v5, vI v2, .ref v0, vI v5, .ref (v4 + 1)]) C rfl (rm := { frames := 1, cells := 0, slots := 0, locals := 24 }) (ct_X1_day C.2.1 v0 M _ hv0 rfl) ⟨by decide, by decide, Nat.le_trans (ocN_le (show 6 ≤ 6 from by decide) (show 6 ≤ 6 from by decide)) hR.1, Nat.le_trans (ocN_le (show 99 ≤ 99 from by decide) (show 99 ≤ 99 from by decide)) hR.2⟩ (Or.inl hv0) rfl (Nat.le_of_ble_eq_true rfl) dX1_open_84 (c2 := 6) (s2 := 99) rfl rfl (fun _ => ?_)
    obtain ⟨r52, e53, h⟩ := bRs h
    refine cX1_211 (pc := 87) (st := [vI v5, .ref (v4 + 1)]) (st1 := [vI r52, vI v5, .ref (v4 + 1)]) C rfl (rm := { frames := 2, cells := 0, slots := 0, locals := 51 }) (ct_X1_valueOf C.2.1 v0 v2 v5 (d_X1_day v0 M) (d_X1_day v0 M) M _ hv0 e53) ⟨by decide, by decide, Nat.le_trans (ocN_le (show 6 ≤ 6 from by decide) (show 6 ≤ 6 from by decide)) hR.1, Nat.le_trans (ocN_le (show 99 ≤ 99 from by decide) (show 99 ≤ 99 from by decide)) hR.2⟩ (Or.inl hv0) rfl (Nat.le_of_ble_eq_true rfl) dX1_open_87 (c2 := 6) (s2 := 99) rfl rfl (fun _ => ?_)
    obtain ⟨c54, h⟩ := ifn h
    refine z_isO (pc := 90) (k := 8) (j := 3) C 803 rfl (by decide) (by decide) (by decide) rfl rfl rfl rfl hv4 c54 dX1_open_90 ?_
    refine z_iinc (pc := 91) C (lv' := [(0, .ref v0), (2, vI v2), (4, .ref v4), (5, vI (v5 + 1))]) 3 rfl (by decide) rfl dX1_open_91 ?_
    refine z_goto (pc := 94) C dX1_open_94 (tgt := 61) (by decide) ?_
    exact hk61 v0 v2 v4 (v5 + 1) (m_si M 803 v4 (ixn v5) r52) _ _ hv0 hv4 h hR
theorem cL_X1_open_61 {X : x_Ctx} {M0 : Mem} (C : x_CC X 8 172 yX1_open cX1_open 6 (some .int) [])  : ∀ (n : Nat) (v0 : Nat) (v2 : Int) (v4 : Nat) (v5 : Int) (M : Mem) (r : Int ⊕ Nat) (M' : Mem) (hv0 : m_kd M v0 = 1) (hv4 : m_kd M v4 = 8) (h : L_X1_open_61  n v0 v2 v4 v5 M = some (r, M')) (hR : ocN r 6 6 ≤ (XR X).cells ∧ ocN r 99 99 ≤ (XR X).slots), x_Z X 6 99 (x_QF X M0 (ocI r) M' (ocN r 6 6) (ocN r 99 99)) M0 M 6 [(0, .ref v0), (2, vI v2), (4, .ref v4), (5, vI v5)] 61 [] := by
  intro n
  induction n with
  | zero => intro v0 v2 v4 v5 M r M' hv0 hv4 h hR; cases h
  | succ n ih => intro v0 v2 v4 v5 M r M' hv0 hv4 h hR; exact cB_X1_open_61 C (fun v0 v2 v4 v5 M r M' hv0 hv4 h hR => ih v0 v2 v4 v5 M r M' hv0 hv4 h hR) v0 v2 v4 v5 M r M' hv0 hv4 h hR
theorem cB_X1_open_43 {X : x_Ctx} {M0 : Mem} (C : x_CC X 8 172 yX1_open cX1_open 6 (some .int) [])  (v0 : Nat) (v1 : Int) (v2 : Int) (v3 : Nat) (s0 : Int) (M : Mem) (r : Int ⊕ Nat) (M' : Mem) (hv0 : m_kd M v0 = 1) (hv3 : m_kd M v3 = 2) (h : B_X1_open_43  v0 v1 v2 v3 s0 M = some (r, M')) (hR : ocN r 6 6 ≤ (XR X).cells ∧ ocN r 99 99 ≤ (XR X).slots) : x_Z X 0 0 (x_QF X M0 (ocI r) M' (ocN r 6 6) (ocN r 99 99)) M0 M 6 [(0, .ref v0), (1, vI v1), (2, vI v2), (3, .ref v3)] 43 [vI s0] := by
  unfold B_X1_open_43 at h
  rcases bTs h with ⟨x29, e27, er⟩ | ⟨r25, M26, e27, h⟩
  · subst er; exact tX1_176 (pc := 43) C rfl (rm := { frames := 6, cells := 1, slots := 6, locals := 90 }) (ct_X1_room C.2.1 s0 M _ _  e27) ⟨by decide, by decide, Nat.le_trans (show 1 ≤ 6 from by decide) hR.1, Nat.le_trans (show 6 ≤ 99 from by decide) hR.2⟩ (Nat.le_of_ble_eq_true rfl) dX1_open_43 (by decide) (show 1 ≤ 6 from by decide) (show 6 ≤ 99 from by decide)
  refine cX1_176 (pc := 43) (st := []) (st1 := []) C rfl (rm := { frames := 6, cells := 0, slots := 0, locals := 90 }) (ct_X1_room C.2.1 s0 M _ _  e27) ⟨by decide, by decide, Nat.zero_le _, Nat.zero_le _⟩ rfl (Nat.le_of_ble_eq_true rfl) dX1_open_43 (c2 := 0) (s2 := 0) rfl rfl (fun x28 => ?_)
  have k30 := x28 _ 1 (by decide) (Or.inl (by decide)) hv0
  have k31 := x28 _ 2 (by decide) (Or.inl (by decide)) hv3
  refine nX1_8 (pc := 46) C rfl (a := m_sz M26) (Nat.le_trans (ocN_le (show 1 ≤ 6 from by decide) (show 1 ≤ 6 from by decide)) hR.1) (Nat.le_trans (ocN_le (show 13 ≤ 99 from by decide) (show 13 ≤ 99 from by decide)) hR.2) dX1_open_46 (c2 := 1) (s2 := 13) rfl rfl rfl (fun k32 x33 => ?_)
  have k34 := x33.k k30 (by decide)
  have k35 := x33.k k31 (by decide)
  refine z_dup (pc := 49) C rfl dX1_open_49 ?_
  refine z_aload_n (pc := 50) C 3 rfl dX1_open_50 ?_
  refine z_iload_n (pc := 51) C 1 rfl dX1_open_51 ?_
  refine z_iload_n (pc := 52) C 2 rfl dX1_open_52 ?_
  obtain ⟨r36, M37, e38, h⟩ := bNs h
  refine cX1_290 (pc := 53) (st := [.ref (m_sz M26)]) C rfl (rm := { frames := 1, cells := 5, slots := 86, locals := 24 }) (ct_X8_init C.2.1 (m_sz M26) v3 v1 v2 (m_nw M26 108) _ _ k32 k35 e38) ⟨by decide, by decide, Nat.le_trans (ocN_le (show 6 ≤ 6 from by decide) (show 6 ≤ 6 from by decide)) hR.1, Nat.le_trans (ocN_le (show 99 ≤ 99 from by decide) (show 99 ≤ 99 from by decide)) hR.2⟩ (Nat.le_of_ble_eq_true rfl) dX1_open_53 (c2 := 6) (s2 := 99) rfl rfl (fun x39 => ?_)
  obtain ⟨c40, h⟩ := ifn h
  have k41 := x39 _ 1 (by decide) (Or.inl (by decide)) k34
  refine z_astore (pc := 56) C (lv' := [(0, .ref v0), (1, vI v1), (2, vI v2), (3, .ref v3), (4, .ref (m_sz M26))]) (by decide) rfl dX1_open_56 ?_
  refine z_iconst (pc := 58) C dX1_open_58 ?_
  refine z_istore (pc := 59) C (lv' := [(0, .ref v0), (1, vI v1), (2, vI v2), (3, .ref v3), (4, .ref (m_sz M26)), (5, vI 0)]) (by decide) rfl dX1_open_59 ?_
  exact z_lv [0, 2, 4, 5] rfl <| cL_X1_open_61 C FU v0 v2 (m_sz M26) 0 M37 _ _ k41 c40 h hR
theorem cB_X1_open_26 {X : x_Ctx} {M0 : Mem} (C : x_CC X 8 172 yX1_open cX1_open 6 (some .int) [])  (v0 : Nat) (v1 : Int) (v2 : Int) (v3 : Nat) (s0 : Int) (M : Mem) (r : Int ⊕ Nat) (M' : Mem) (hv0 : m_kd M v0 = 1) (hv3 : m_kd M v3 = 2) (h : B_X1_open_26  v0 v1 v2 v3 s0 M = some (r, M')) (hR : ocN r 6 6 ≤ (XR X).cells ∧ ocN r 99 99 ≤ (XR X).slots) : x_Z X 0 0 (x_QF X M0 (ocI r) M' (ocN r 6 6) (ocN r 99 99)) M0 M 6 [(0, .ref v0), (1, vI v1), (2, vI v2), (3, .ref v3)] 26 [vI s0] := by
  unfold B_X1_open_26 at h
  rcases bTs h with ⟨x21, e19, er⟩ | ⟨r17, M18, e19, h⟩
  · subst er; exact tX1_190 (pc := 26) C rfl (rm := { frames := 6, cells := 1, slots := 6, locals := 90 }) (ct_X1_may C.2.1 s0 M _ _  e19) ⟨by decide, by decide, Nat.le_trans (show 1 ≤ 6 from by decide) hR.1, Nat.le_trans (show 6 ≤ 99 from by decide) hR.2⟩ (Nat.le_of_ble_eq_true rfl) dX1_open_26 (by decide) (show 1 ≤ 6 from by decide) (show 6 ≤ 99 from by decide)
  refine cX1_190 (pc := 26) (st := []) (st1 := []) C rfl (rm := { frames := 6, cells := 0, slots := 0, locals := 90 }) (ct_X1_may C.2.1 s0 M _ _  e19) ⟨by decide, by decide, Nat.zero_le _, Nat.zero_le _⟩ rfl (Nat.le_of_ble_eq_true rfl) dX1_open_26 (c2 := 0) (s2 := 0) rfl rfl (fun x20 => ?_)
  have k22 := x20 _ 1 (by decide) (Or.inl (by decide)) hv0
  have k23 := x20 _ 2 (by decide) (Or.inl (by decide)) hv3
  refine z_aload_n (pc := 29) C 0 rfl dX1_open_29 ?_
  refine gX1_118 (pc := 30) C rfl (Or.inl k22) rfl dX1_open_30 ?_
  refine z_bipush (pc := 33) C (by decide +kernel) dX1_open_33 ?_
  refine z_ic_ge (pc := 35) C dX1_open_35 (tgt := 42) (by decide) (fun c24 => ?_) (fun c24 => ?_)
  · have h := itt c24 h
    refine z_iconst (pc := 42) C dX1_open_42 ?_
    exact cB_X1_open_43 C v0 v1 v2 v3 0 M18 _ _ k22 k23 h hR
  · have h := itf c24 h
    refine z_iconst (pc := 38) C dX1_open_38 ?_
    refine z_goto (pc := 39) C dX1_open_39 (tgt := 43) (by decide) ?_
    exact cB_X1_open_43 C v0 v1 v2 v3 1 M18 _ _ k22 k23 h hR
theorem ct_X1_open {l : Launch} {S0 : State} {D : va_G} {cA : Nat → ClassId} (hG : x_G l S0 D cA) (v0 : Nat) (v1 : Int) (v2 : Int) (M : Mem) (r : Int ⊕ Nat) (M' : Mem) (hv0 : m_kd M v0 = 1) (h : d_X1_open v0 v1 v2 M = some (r, M')) : x_Me l S0 D cA yX1_open cX1_open 6 (some .int) [] ({ frames := 8, cells := (ocN r 6 6), slots := (ocN r 99 99), locals := 172 }) [.ref v0, vI v1, vI v2] M (ocI r) M' := by
  refine x_begin (F := 8) (Lo := 172) (mc := (ocN r 6 6)) (ms := (ocN r 99 99)) hG (Nat.le_of_ble_eq_true rfl) (lv := [(0, .ref v0), (1, vI v1), (2, vI v2)]) rfl rfl rfl rfl rfl (fun X e1 e2 e3 e4 e5 C => ?_)
  have hR : _ ∧ _ := ⟨Nat.le_of_eq (congrArg Room.cells e5).symm, Nat.le_of_eq (congrArg Room.slots e5).symm⟩
  unfold d_X1_open at h
  refine z_aload_n (pc := 0) C 0 rfl dX1_open_0 ?_
  refine z_iload_n (pc := 1) C 1 rfl dX1_open_1 ?_
  rcases bTs h with ⟨x5, e3, er⟩ | ⟨r1, M2, e3, h⟩
  · subst er; exact tX1_235 (pc := 2) C rfl (rm := { frames := 7, cells := 1, slots := 6, locals := 114 }) (ct_X1_formOf C.2.1 v0 v1 M _ _ hv0 e3) ⟨by decide, by decide, Nat.le_trans (show 1 ≤ 6 from by decide) hR.1, Nat.le_trans (show 6 ≤ 99 from by decide) hR.2⟩ (Or.inl hv0) (Nat.le_of_ble_eq_true rfl) dX1_open_2 (by decide) (show 1 ≤ 6 from by decide) (show 6 ≤ 99 from by decide)
  refine cX1_235 (pc := 2) (st := []) (st1 := [.ref r1]) C rfl (rm := { frames := 7, cells := 0, slots := 0, locals := 114 }) (ct_X1_formOf C.2.1 v0 v1 M _ _ hv0 e3) ⟨by decide, by decide, Nat.zero_le _, Nat.zero_le _⟩ (Or.inl hv0) rfl (Nat.le_of_ble_eq_true rfl) dX1_open_2 (c2 := 0) (s2 := 0) rfl rfl (fun x4 => ?_)
  have k6 := x4 _ 1 (by decide) (Or.inl (by decide)) hv0
  obtain ⟨c7, h⟩ := ifn h
  refine z_astore_n (pc := 5) C (lv' := [(0, .ref v0), (1, vI v1), (2, vI v2), (3, .ref r1)]) (by decide) rfl dX1_open_5 ?_
  refine z_aload_n (pc := 6) C 0 rfl dX1_open_6 ?_
  refine z_iload_n (pc := 7) C 2 rfl dX1_open_7 ?_
  rcases bTs h with ⟨x12, e10, er⟩ | ⟨r8, M9, e10, h⟩
  · subst er; exact tX1_179 (pc := 8) C rfl (rm := { frames := 7, cells := 1, slots := 6, locals := 114 }) (ct_X1_unitIn C.2.1 v0 v2 M2 _ _ k6 e10) ⟨by decide, by decide, Nat.le_trans (show 1 ≤ 6 from by decide) hR.1, Nat.le_trans (show 6 ≤ 99 from by decide) hR.2⟩ (Or.inl k6) (Nat.le_of_ble_eq_true rfl) dX1_open_8 (by decide) (show 1 ≤ 6 from by decide) (show 6 ≤ 99 from by decide)
  refine cX1_179 (pc := 8) (st := []) (st1 := []) C rfl (rm := { frames := 7, cells := 0, slots := 0, locals := 114 }) (ct_X1_unitIn C.2.1 v0 v2 M2 _ _ k6 e10) ⟨by decide, by decide, Nat.zero_le _, Nat.zero_le _⟩ (Or.inl k6) rfl (Nat.le_of_ble_eq_true rfl) dX1_open_8 (c2 := 0) (s2 := 0) rfl rfl (fun x11 => ?_)
  have k13 := x11 _ 1 (by decide) (Or.inl (by decide)) k6
  have k14 := x11 _ 2 (by decide) (Or.inl (by decide)) c7
  refine z_aload_n (pc := 11) C 0 rfl dX1_open_11 ?_
  refine gX1_104 (pc := 12) C rfl k13 dX1_open_12 ?_
  refine z_iload_n (pc := 15) C 2 rfl dX1_open_15 ?_
  obtain ⟨c15, h⟩ := ifn h
  refine z_iaO (pc := 16) (k := 1) (j := 4) C 104 rfl (by decide) (by decide) (by decide) rfl rfl rfl rfl k13 c15 rfl dX1_open_16 ?_
  refine z_iconst (pc := 17) C dX1_open_17 ?_
  refine z_ic_ne (pc := 18) C dX1_open_18 (tgt := 25) (by decide) (fun c16 => ?_) (fun c16 => ?_)
  · have h := itf c16 h
    refine z_iconst (pc := 25) C dX1_open_25 ?_
    exact cB_X1_open_26 C v0 v1 v2 r1 0 M9 _ _ k13 k14 h hR
  · have h := itt c16 h
    refine z_iconst (pc := 21) C dX1_open_21 ?_
    refine z_goto (pc := 22) C dX1_open_22 (tgt := 26) (by decide) ?_
    exact cB_X1_open_26 C v0 v1 v2 r1 1 M9 _ _ k13 k14 h hR
def d_X0_open (v0 : Nat) (v1 : Int) (v2 : Int) (v3 : Nat) (M : Mem) : Option (Int × Mem) :=
  bC (d_X1_open v0 v1 v2 M) (fun r1 M3 =>
    some (0, (m_si M3 9000 v3 (ixn 0) (w32 r1)))) (fun q2 M3 =>
    if m_kd M3 q2 = 115 then
      some (1, M3)
    else
      if m_kd M3 q2 = 116 then
        some (2, M3)
      else
        if m_kd M3 q2 = 114 then
          some (3, M3)
        else
          none)
theorem ct_X0_open {l : Launch} {S0 : State} {D : va_G} {cA : Nat → ClassId} (hG : x_G l S0 D cA) (v0 : Nat) (v1 : Int) (v2 : Int) (v3 : Nat) (M : Mem) (r : Int) (M' : Mem) (hv0 : m_kd M v0 = 1) (hv3 : m_kd M v3 = 19000) (h : d_X0_open v0 v1 v2 v3 M = some (r, M')) : x_Me l S0 D cA yX0_open cX0_open 5 (some .int) [(0, 10, 13, 25), (0, 10, 17, 27), (0, 10, 21, 19)] ({ frames := 9, cells := 6, slots := 99, locals := 201 }) [.ref v0, vI v1, vI v2, .ref v3] M (.returned (some (vI r))) M' := by
  refine x_begin (F := 9) (Lo := 201) (mc := 6) (ms := 99) hG (Nat.le_of_ble_eq_true rfl) (lv := [(0, .ref v0), (1, vI v1), (2, vI v2), (3, .ref v3)]) rfl rfl rfl rfl rfl (fun X e1 e2 e3 e4 e5 C => ?_)
  have hR : _ ∧ _ := ⟨Nat.le_of_eq (congrArg Room.cells e5).symm, Nat.le_of_eq (congrArg Room.slots e5).symm⟩
  unfold d_X0_open at h
  refine z_aload_n (pc := 0) C 3 rfl dX0_open_0 ?_
  refine z_iconst (pc := 1) C dX0_open_1 ?_
  refine z_aload_n (pc := 2) C 0 rfl dX0_open_2 ?_
  refine z_iload_n (pc := 3) C 1 rfl dX0_open_3 ?_
  refine z_iload_n (pc := 4) C 2 rfl dX0_open_4 ?_
  rcases bCs h with ⟨r1, M3, e4, h⟩ | ⟨q2, M3, e4, h⟩
  · refine cX0_53 (pc := 5) (st := [vI 0, .ref v3]) (st1 := [vI r1, vI 0, .ref v3]) C rfl (rm := { frames := 8, cells := 6, slots := 99, locals := 172 }) (ct_X1_open C.2.1 v0 v1 v2 M _ _ hv0 e4) ⟨by decide, by decide, Nat.le_trans (show 6 ≤ 6 from by decide) hR.1, Nat.le_trans (show 99 ≤ 99 from by decide) hR.2⟩ (Or.inl hv0) rfl (Nat.le_of_ble_eq_true rfl) dX0_open_5 (c2 := 6) (s2 := 99) rfl rfl (fun x5 => ?_)
    have k6 := x5 _ 19000 (by decide) (Or.inr (by decide)) hv3
    refine z_i2l (pc := 8) C dX0_open_8 ?_
    refine z_lsw (pc := 9) C k6 (by decide +kernel) dX0_open_9 ?_
    refine z_goto (pc := 10) C dX0_open_10 (tgt := 25) (by decide) ?_
    refine z_iconst (pc := 25) C dX0_open_25 ?_
    cases h
    exact z_iret (pc := 26) C rfl (show 6 ≤ 6 from by decide) (show 99 ≤ 99 from by decide) dX0_open_26
  · by_cases c7 : m_kd M3 q2 = 115
    · have h := itt c7 h
      refine kX0_53 (pc := 5) (st := [vI 0, .ref v3]) C rfl (rm := { frames := 8, cells := 6, slots := 99, locals := 172 }) (r := q2) (ct_X1_open C.2.1 v0 v1 v2 M _ _ hv0 e4) ⟨by decide, by decide, Nat.le_trans (show 6 ≤ 6 from by decide) hR.1, Nat.le_trans (show 99 ≤ 99 from by decide) hR.2⟩ (Or.inl hv0) (Nat.le_of_ble_eq_true rfl) dX0_open_5 (e := 15) (hpc := 13) (by decide) (Or.inr c7) (Or.inr ⟨by decide, by decide, 15, by decide, q560, Or.inl ⟨rfl, rfl⟩⟩) (c2 := 6) (s2 := 99) rfl rfl (fun x8 => ?_)
      refine z_astore (pc := 13) C (lv' := [(0, .ref v0), (1, vI v1), (2, vI v2), (3, .ref v3), (4, .ref q2)]) (by decide) rfl dX0_open_13 ?_
      refine z_iconst (pc := 15) C dX0_open_15 ?_
      cases h
      exact z_iret (pc := 16) C rfl (show 6 ≤ 6 from by decide) (show 99 ≤ 99 from by decide) dX0_open_16
    · have h := itf c7 h
      by_cases c9 : m_kd M3 q2 = 116
      · have h := itt c9 h
        refine kX0_53 (pc := 5) (st := [vI 0, .ref v3]) C rfl (rm := { frames := 8, cells := 6, slots := 99, locals := 172 }) (r := q2) (ct_X1_open C.2.1 v0 v1 v2 M _ _ hv0 e4) ⟨by decide, by decide, Nat.le_trans (show 6 ≤ 6 from by decide) hR.1, Nat.le_trans (show 99 ≤ 99 from by decide) hR.2⟩ (Or.inl hv0) (Nat.le_of_ble_eq_true rfl) dX0_open_5 (e := 16) (hpc := 17) (by decide) (Or.inr c9) (Or.inr ⟨by decide, by decide, 15, by decide, q560, Or.inr ⟨by decide, Or.inr ⟨by decide, by decide, 16, by decide, q584, Or.inl ⟨rfl, rfl⟩⟩⟩⟩) (c2 := 6) (s2 := 99) rfl rfl (fun x10 => ?_)
        refine z_astore (pc := 17) C (lv' := [(0, .ref v0), (1, vI v1), (2, vI v2), (3, .ref v3), (4, .ref q2)]) (by decide) rfl dX0_open_17 ?_
        refine z_iconst (pc := 19) C dX0_open_19 ?_
        cases h
        exact z_iret (pc := 20) C rfl (show 6 ≤ 6 from by decide) (show 99 ≤ 99 from by decide) dX0_open_20
      · have h := itf c9 h
        by_cases c11 : m_kd M3 q2 = 114
        · have h := itt c11 h
          refine kX0_53 (pc := 5) (st := [vI 0, .ref v3]) C rfl (rm := { frames := 8, cells := 6, slots := 99, locals := 172 }) (r := q2) (ct_X1_open C.2.1 v0 v1 v2 M _ _ hv0 e4) ⟨by decide, by decide, Nat.le_trans (show 6 ≤ 6 from by decide) hR.1, Nat.le_trans (show 99 ≤ 99 from by decide) hR.2⟩ (Or.inl hv0) (Nat.le_of_ble_eq_true rfl) dX0_open_5 (e := 14) (hpc := 21) (by decide) (Or.inr c11) (Or.inr ⟨by decide, by decide, 15, by decide, q560, Or.inr ⟨by decide, Or.inr ⟨by decide, by decide, 16, by decide, q584, Or.inr ⟨by decide, Or.inr ⟨by decide, by decide, 14, by decide, q533, Or.inl ⟨rfl, rfl⟩⟩⟩⟩⟩⟩) (c2 := 6) (s2 := 99) rfl rfl (fun x12 => ?_)
          refine z_astore (pc := 21) C (lv' := [(0, .ref v0), (1, vI v1), (2, vI v2), (3, .ref v3), (4, .ref q2)]) (by decide) rfl dX0_open_21 ?_
          refine z_iconst (pc := 23) C dX0_open_23 ?_
          cases h
          exact z_iret (pc := 24) C rfl (show 6 ≤ 6 from by decide) (show 99 ≤ 99 from by decide) dX0_open_24
        · have h := itf c11 h
          cases h
def d_X1_sessionOf (v0 : Nat) (v1 : Int) (M : Mem) : Option ((Nat ⊕ Nat) × Mem) :=
  bT (d_X1_inside (d_X1_isIn (w32 v1) 0 (w32 ((m_i M 118 v0 0) - 1))) M) fun r5 M6 => 
  if inb v1 60 then 
  bR (m_r M6 119 v0 (ixn v1)) fun q12 => 
  some (.inl q12, M6) else none
theorem ct_X1_sessionOf {l : Launch} {S0 : State} {D : va_G} {cA : Nat → ClassId} (hG : x_G l S0 D cA) (v0 : Nat) (v1 : Int) (M : Mem) (r : Nat ⊕ Nat) (M' : Mem) (hv0 : m_kd M v0 = 1) (h : d_X1_sessionOf v0 v1 M = some (r, M')) : x_Me l S0 D cA yX1_sessionOf cX1_sessionOf 2 (some (.object "CensusOffice$Session")) [] ({ frames := 7, cells := (ocN r 0 1), slots := (ocN r 0 6), locals := 114 }) [.ref v0, vI v1] M (ocR r) M' := by
  refine x_begin (F := 7) (Lo := 114) (mc := (ocN r 0 1)) (ms := (ocN r 0 6)) hG (Nat.le_of_ble_eq_true rfl) (lv := [(0, .ref v0), (1, vI v1)]) rfl rfl rfl rfl rfl (fun X e1 e2 e3 e4 e5 C => ?_)
  have hR : _ ∧ _ := ⟨Nat.le_of_eq (congrArg Room.cells e5).symm, Nat.le_of_eq (congrArg Room.slots e5).symm⟩
  unfold d_X1_sessionOf at h
  refine z_iload_n (pc := 0) C 1 rfl dX1_sessionOf_0 ?_
  refine z_i2l (pc := 1) C dX1_sessionOf_1 ?_
  refine z_lconst (pc := 2) C (x := 0) (by decide +kernel) dX1_sessionOf_2 ?_
  refine z_aload_n (pc := 3) C 0 rfl dX1_sessionOf_3 ?_
  refine gX1_118 (pc := 4) C rfl (Or.inl hv0) rfl dX1_sessionOf_4 ?_
  refine z_iconst (pc := 7) C dX1_sessionOf_7 ?_
  refine z_isub (pc := 8) C dX1_sessionOf_8 ?_
  refine z_i2l (pc := 9) C dX1_sessionOf_9 ?_
  refine cX1_159 (pc := 10) (st := []) (st1 := [vI (d_X1_isIn (w32 v1) 0 (w32 ((m_i M 118 v0 0) - 1)))]) C rfl (rm := { frames := 1, cells := 0, slots := 0, locals := 24 }) (ct_X1_isIn C.2.1 (w32 v1) 0 (w32 ((m_i M 118 v0 0) - 1)) M _  rfl) ⟨by decide, by decide, Nat.zero_le _, Nat.zero_le _⟩ rfl (Nat.le_of_ble_eq_true rfl) dX1_sessionOf_10 (c2 := 0) (s2 := 0) rfl rfl (fun _ => ?_)
  rcases bTs h with ⟨x9, e7, er⟩ | ⟨r5, M6, e7, h⟩
  · subst er; exact tX1_171 (pc := 13) C rfl (rm := { frames := 6, cells := 1, slots := 6, locals := 90 }) (ct_X1_inside C.2.1 (d_X1_isIn (w32 v1) 0 (w32 ((m_i M 118 v0 0) - 1))) M _ _  e7) ⟨by decide, by decide, Nat.le_trans (show 1 ≤ 1 from by decide) hR.1, Nat.le_trans (show 6 ≤ 6 from by decide) hR.2⟩ (Nat.le_of_ble_eq_true rfl) dX1_sessionOf_13 (by decide) (show 1 ≤ 1 from by decide) (show 6 ≤ 6 from by decide)
  refine cX1_171 (pc := 13) (st := []) (st1 := []) C rfl (rm := { frames := 6, cells := 0, slots := 0, locals := 90 }) (ct_X1_inside C.2.1 (d_X1_isIn (w32 v1) 0 (w32 ((m_i M 118 v0 0) - 1))) M _ _  e7) ⟨by decide, by decide, Nat.zero_le _, Nat.zero_le _⟩ rfl (Nat.le_of_ble_eq_true rfl) dX1_sessionOf_13 (c2 := 0) (s2 := 0) rfl rfl (fun x8 => ?_)
  have k10 := x8 _ 1 (by decide) (Or.inl (by decide)) hv0
  refine z_aload_n (pc := 16) C 0 rfl dX1_sessionOf_16 ?_
  refine gX1_119 (pc := 17) C rfl k10 dX1_sessionOf_17 ?_
  refine z_iload_n (pc := 20) C 1 rfl dX1_sessionOf_20 ?_
  obtain ⟨c11, h⟩ := ifn h
  obtain ⟨q12, e13, h⟩ := bRs h
  refine z_aaO (pc := 21) (k := 1) (j := 19) C 119 rfl (by decide) (by decide) (by decide) rfl rfl (by decide) (by decide) rfl k10 c11 rfl (by decide) e13 dX1_sessionOf_21 (fun k14 => ?_)
  cases h
  exact z_aret (pc := 22) C rfl (show 0 ≤ 0 from by decide) (show 0 ≤ 0 from by decide) dX1_sessionOf_22
def d_X1_isAtEnd (v0 : Nat) (M : Mem) : Option Int :=
  bR (m_r M 800 v0 0) fun q4 => 
  if w32 (m_i M 808 v0 0) = w32 (m_i M 200 q4 0) then
    some 1
  else
    some 0
theorem ct_X1_isAtEnd {l : Launch} {S0 : State} {D : va_G} {cA : Nat → ClassId} (hG : x_G l S0 D cA) (v0 : Nat) (M : Mem) (r : Int) (hv0 : m_kd M v0 = 8) (h : d_X1_isAtEnd v0 M = some r) : x_Me l S0 D cA yX1_isAtEnd cX1_isAtEnd 1 (some .boolean) [] ({ frames := 1, cells := 0, slots := 0, locals := 24 }) [.ref v0] M (.returned (some (vI r))) M := by
  refine x_begin (F := 1) (Lo := 24) (mc := 0) (ms := 0) hG (Nat.le_of_ble_eq_true rfl) (lv := [(0, .ref v0)]) rfl rfl rfl rfl rfl (fun X e1 e2 e3 e4 e5 C => ?_)
  unfold d_X1_isAtEnd at h
  refine z_aload_n (pc := 0) C 0 rfl dX1_isAtEnd_0 ?_
  refine gX1_808 (pc := 1) C rfl (Or.inl hv0) rfl dX1_isAtEnd_1 ?_
  refine z_aload_n (pc := 4) C 0 rfl dX1_isAtEnd_4 ?_
  obtain ⟨q4, e5, h⟩ := bRs h
  refine gX1_800 (pc := 5) C rfl (Or.inl hv0) e5 dX1_isAtEnd_5 (fun k6 => ?_)
  refine gX1_200 (pc := 8) C rfl (Or.inl k6) rfl dX1_isAtEnd_8 ?_
  refine z_ic_ne (pc := 11) C dX1_isAtEnd_11 (tgt := 18) (by decide) (fun c7 => ?_) (fun c7 => ?_)
  · have h := itf c7 h
    refine z_iconst (pc := 18) C dX1_isAtEnd_18 ?_
    cases h
    exact z_zret (pc := 19) C rfl (Or.inl rfl) (show 0 ≤ 0 from by decide) (show 0 ≤ 0 from by decide) dX1_isAtEnd_19
  · have h := itt c7 h
    refine z_iconst (pc := 14) C dX1_isAtEnd_14 ?_
    refine z_goto (pc := 15) C dX1_isAtEnd_15 (tgt := 19) (by decide) ?_
    cases h
    exact z_zret (pc := 19) C rfl (Or.inr rfl) (show 0 ≤ 0 from by decide) (show 0 ≤ 0 from by decide) dX1_isAtEnd_19
def d_X1_question (v0 : Nat) (v1 : Int) (M : Mem) : Option ((Int ⊕ Nat) × Mem) :=
  bT (d_X1_sessionOf v0 v1 M) fun r1 M2 => 
  if m_kd M2 r1 = 8 then 
  bR (d_X1_isAtEnd r1 M2) fun r7 => 
  if w32 r7 = 0 then
    some (.inl (m_i M2 808 r1 0), M2)
  else
    some (.inl (-1), M2) else none
theorem ct_X1_question {l : Launch} {S0 : State} {D : va_G} {cA : Nat → ClassId} (hG : x_G l S0 D cA) (v0 : Nat) (v1 : Int) (M : Mem) (r : Int ⊕ Nat) (M' : Mem) (hv0 : m_kd M v0 = 1) (h : d_X1_question v0 v1 M = some (r, M')) : x_Me l S0 D cA yX1_question cX1_question 3 (some .int) [] ({ frames := 8, cells := (ocN r 0 1), slots := (ocN r 0 6), locals := 139 }) [.ref v0, vI v1] M (ocI r) M' := by
  refine x_begin (F := 8) (Lo := 139) (mc := (ocN r 0 1)) (ms := (ocN r 0 6)) hG (Nat.le_of_ble_eq_true rfl) (lv := [(0, .ref v0), (1, vI v1)]) rfl rfl rfl rfl rfl (fun X e1 e2 e3 e4 e5 C => ?_)
  have hR : _ ∧ _ := ⟨Nat.le_of_eq (congrArg Room.cells e5).symm, Nat.le_of_eq (congrArg Room.slots e5).symm⟩
  unfold d_X1_question at h
  refine z_aload_n (pc := 0) C 0 rfl dX1_question_0 ?_
  refine z_iload_n (pc := 1) C 1 rfl dX1_question_1 ?_
  rcases bTs h with ⟨x5, e3, er⟩ | ⟨r1, M2, e3, h⟩
  · subst er; exact tX1_322 (pc := 2) C rfl (rm := { frames := 7, cells := 1, slots := 6, locals := 114 }) (ct_X1_sessionOf C.2.1 v0 v1 M _ _ hv0 e3) ⟨by decide, by decide, Nat.le_trans (show 1 ≤ 1 from by decide) hR.1, Nat.le_trans (show 6 ≤ 6 from by decide) hR.2⟩ (Or.inl hv0) (Nat.le_of_ble_eq_true rfl) dX1_question_2 (by decide) (show 1 ≤ 1 from by decide) (show 6 ≤ 6 from by decide)
  refine cX1_322 (pc := 2) (st := []) (st1 := [.ref r1]) C rfl (rm := { frames := 7, cells := 0, slots := 0, locals := 114 }) (ct_X1_sessionOf C.2.1 v0 v1 M _ _ hv0 e3) ⟨by decide, by decide, Nat.zero_le _, Nat.zero_le _⟩ (Or.inl hv0) rfl (Nat.le_of_ble_eq_true rfl) dX1_question_2 (c2 := 0) (s2 := 0) rfl rfl (fun x4 => ?_)
  obtain ⟨c6, h⟩ := ifn h
  refine z_astore_n (pc := 5) C (lv' := [(0, .ref v0), (1, vI v1), (2, .ref r1)]) (by decide) rfl dX1_question_5 ?_
  refine z_aload_n (pc := 6) C 2 rfl dX1_question_6 ?_
  obtain ⟨r7, e8, h⟩ := bRs h
  refine cX1_326 (pc := 7) (st := []) (st1 := [vI r7]) C rfl (rm := { frames := 1, cells := 0, slots := 0, locals := 24 }) (ct_X1_isAtEnd C.2.1 r1 M2 _ c6 e8) ⟨by decide, by decide, Nat.zero_le _, Nat.zero_le _⟩ rfl (Nat.le_of_ble_eq_true rfl) dX1_question_7 (c2 := 0) (s2 := 0) rfl rfl (fun _ => ?_)
  refine z_if_eq (pc := 10) C dX1_question_10 (tgt := 17) (by decide) (fun c9 => ?_) (fun c9 => ?_)
  · have h := itt c9 h
    refine z_aload_n (pc := 17) C 2 rfl dX1_question_17 ?_
    refine gX1_808 (pc := 18) C rfl (Or.inl c6) rfl dX1_question_18 ?_
    cases h
    exact z_iret (pc := 21) C rfl (show 0 ≤ 0 from by decide) (show 0 ≤ 0 from by decide) dX1_question_21
  · have h := itf c9 h
    refine z_iconst (pc := 13) C dX1_question_13 ?_
    refine z_goto (pc := 14) C dX1_question_14 (tgt := 21) (by decide) ?_
    cases h
    exact z_iret (pc := 21) C rfl (show 0 ≤ 0 from by decide) (show 0 ≤ 0 from by decide) dX1_question_21
def d_X0_question (v0 : Nat) (v1 : Int) (v2 : Nat) (M : Mem) : Option (Int × Mem) :=
  bC (d_X1_question v0 v1 M) (fun r1 M3 =>
    some (0, (m_si M3 9000 v2 (ixn 0) (w32 r1)))) (fun q2 M3 =>
    if m_kd M3 q2 = 115 then
      some (1, M3)
    else
      none)
theorem ct_X0_question {l : Launch} {S0 : State} {D : va_G} {cA : Nat → ClassId} (hG : x_G l S0 D cA) (v0 : Nat) (v1 : Int) (v2 : Nat) (M : Mem) (r : Int) (M' : Mem) (hv0 : m_kd M v0 = 1) (hv2 : m_kd M v2 = 19000) (h : d_X0_question v0 v1 v2 M = some (r, M')) : x_Me l S0 D cA yX0_question cX0_question 4 (some .int) [(0, 9, 12, 25)] ({ frames := 9, cells := 1, slots := 6, locals := 165 }) [.ref v0, vI v1, .ref v2] M (.returned (some (vI r))) M' := by
  refine x_begin (F := 9) (Lo := 165) (mc := 1) (ms := 6) hG (Nat.le_of_ble_eq_true rfl) (lv := [(0, .ref v0), (1, vI v1), (2, .ref v2)]) rfl rfl rfl rfl rfl (fun X e1 e2 e3 e4 e5 C => ?_)
  have hR : _ ∧ _ := ⟨Nat.le_of_eq (congrArg Room.cells e5).symm, Nat.le_of_eq (congrArg Room.slots e5).symm⟩
  unfold d_X0_question at h
  refine z_aload_n (pc := 0) C 2 rfl dX0_question_0 ?_
  refine z_iconst (pc := 1) C dX0_question_1 ?_
  refine z_aload_n (pc := 2) C 0 rfl dX0_question_2 ?_
  refine z_iload_n (pc := 3) C 1 rfl dX0_question_3 ?_
  rcases bCs h with ⟨r1, M3, e4, h⟩ | ⟨q2, M3, e4, h⟩
  · refine cX0_56 (pc := 4) (st := [vI 0, .ref v2]) (st1 := [vI r1, vI 0, .ref v2]) C rfl (rm := { frames := 8, cells := 0, slots := 0, locals := 139 }) (ct_X1_question C.2.1 v0 v1 M _ _ hv0 e4) ⟨by decide, by decide, Nat.zero_le _, Nat.zero_le _⟩ (Or.inl hv0) rfl (Nat.le_of_ble_eq_true rfl) dX0_question_4 (c2 := 0) (s2 := 0) rfl rfl (fun x5 => ?_)
    have k6 := x5 _ 19000 (by decide) (Or.inr (by decide)) hv2
    refine z_i2l (pc := 7) C dX0_question_7 ?_
    refine z_lsw (pc := 8) C k6 (by decide +kernel) dX0_question_8 ?_
    refine z_goto (pc := 9) C dX0_question_9 (tgt := 15) (by decide) ?_
    refine z_iconst (pc := 15) C dX0_question_15 ?_
    cases h
    exact z_iret (pc := 16) C rfl (show 0 ≤ 1 from by decide) (show 0 ≤ 6 from by decide) dX0_question_16
  · by_cases c7 : m_kd M3 q2 = 115
    · have h := itt c7 h
      refine kX0_56 (pc := 4) (st := [vI 0, .ref v2]) C rfl (rm := { frames := 8, cells := 1, slots := 6, locals := 139 }) (r := q2) (ct_X1_question C.2.1 v0 v1 M _ _ hv0 e4) ⟨by decide, by decide, Nat.le_trans (show 1 ≤ 1 from by decide) hR.1, Nat.le_trans (show 6 ≤ 6 from by decide) hR.2⟩ (Or.inl hv0) (Nat.le_of_ble_eq_true rfl) dX0_question_4 (e := 15) (hpc := 12) (by decide) (Or.inr c7) (Or.inr ⟨by decide, by decide, 15, by decide, q560, Or.inl ⟨rfl, rfl⟩⟩) (c2 := 1) (s2 := 6) rfl rfl (fun x8 => ?_)
      refine z_astore_n (pc := 12) C (lv' := [(0, .ref v0), (1, vI v1), (2, .ref v2), (3, .ref q2)]) (by decide) rfl dX0_question_12 ?_
      refine z_iconst (pc := 13) C dX0_question_13 ?_
      cases h
      exact z_iret (pc := 14) C rfl (show 1 ≤ 1 from by decide) (show 6 ≤ 6 from by decide) dX0_question_14
    · have h := itf c7 h
      cases h
def d_X1_give (v0 : Nat) (v1 : Nat) (v2 : Int) (v3 : Int) (M : Mem) : Option (Int × Mem) :=
  if inb v2 20 then 
  bN (d_X1_walk v0 v1 (m_si (m_si M 804 v1 (ixn v2) (bz 1)) 805 v1 (ixn v2) v3)) fun r2 M3 => 
  some (0, M3) else none
theorem ct_X1_give {l : Launch} {S0 : State} {D : va_G} {cA : Nat → ClassId} (hG : x_G l S0 D cA) (v0 : Nat) (v1 : Nat) (v2 : Int) (v3 : Int) (M : Mem) (r : Int) (M' : Mem) (hv0 : m_kd M v0 = 1) (hv1 : m_kd M v1 = 8) (h : d_X1_give v0 v1 v2 v3 M = some (r, M')) : x_Me l S0 D cA yX1_give cX1_give 4 none [] ({ frames := 6, cells := 0, slots := 0, locals := 172 }) [.ref v0, .ref v1, vI v2, vI v3] M (.returned none) M' := by
  refine x_begin (F := 6) (Lo := 172) (mc := 0) (ms := 0) hG (Nat.le_of_ble_eq_true rfl) (lv := [(0, .ref v0), (1, .ref v1), (2, vI v2), (3, vI v3)]) rfl rfl rfl rfl rfl (fun X e1 e2 e3 e4 e5 C => ?_)
  unfold d_X1_give at h
  refine z_aload_n (pc := 0) C 1 rfl dX1_give_0 ?_
  refine gX1_804 (pc := 1) C rfl hv1 dX1_give_1 ?_
  refine z_iload_n (pc := 4) C 2 rfl dX1_give_4 ?_
  refine z_iconst (pc := 5) C dX1_give_5 ?_
  obtain ⟨c1, h⟩ := ifn h
  refine z_zsO (pc := 6) (k := 8) (j := 4) C 804 rfl (by decide) (by decide) (by decide) rfl rfl rfl rfl hv1 c1 dX1_give_6 ?_
  refine z_aload_n (pc := 7) C 1 rfl dX1_give_7 ?_
  refine gX1_805 (pc := 8) C rfl hv1 dX1_give_8 ?_
  refine z_iload_n (pc := 11) C 2 rfl dX1_give_11 ?_
  refine z_iload_n (pc := 12) C 3 rfl dX1_give_12 ?_
  refine z_isO (pc := 13) (k := 8) (j := 5) C 805 rfl (by decide) (by decide) (by decide) rfl rfl rfl rfl hv1 c1 dX1_give_13 ?_
  refine z_aload_n (pc := 14) C 0 rfl dX1_give_14 ?_
  refine z_aload_n (pc := 15) C 1 rfl dX1_give_15 ?_
  obtain ⟨r2, M3, e4, h⟩ := bNs h
  refine cX1_296 (pc := 16) (st := []) (st1 := []) C rfl (rm := { frames := 5, cells := 0, slots := 0, locals := 145 }) (ct_X1_walk C.2.1 v0 v1 (m_si (m_si M 804 v1 (ixn v2) (bz 1)) 805 v1 (ixn v2) v3) _ _ hv0 hv1 e4) ⟨by decide, by decide, Nat.zero_le _, Nat.zero_le _⟩ (Or.inl hv0) rfl (Nat.le_of_ble_eq_true rfl) dX1_give_16 (c2 := 0) (s2 := 0) rfl rfl (fun x5 => ?_)
  cases h
  exact z_vret (pc := 19) C rfl (show 0 ≤ 0 from by decide) (show 0 ≤ 0 from by decide) dX1_give_19
def B_X1_isBroken_29  (v0 : Nat) (s0 : Int) (M : Mem) : Option (Int × Mem) :=
  if w32 s0 = 0 then
    if w32 (m_i M 117 v0 0) = 0 then
      some (1, M)
    else
      some (0, M)
  else
    some (0, M)
def d_X1_isBroken (v0 : Nat) (v1 : Nat) (v2 : Int) (v3 : Nat) (v4 : Nat) (M : Mem) : Option (Int × Mem) :=
  if inb v2 20 then 
  bN (d_X1_work v0 v1 (m_i M 210 v1 (ixn v2)) (m_i M 211 v1 (ixn v2)) v3 v4 M) fun r2 M3 => 
  if w32 r2 = w32 1 then
    B_X1_isBroken_29 v0 1 M3
  else
    B_X1_isBroken_29 v0 0 M3 else none
theorem cB_X1_isBroken_29 {X : x_Ctx} {M0 : Mem} (C : x_CC X 3 89 yX1_isBroken cX1_isBroken 6 (some .boolean) [])  (v0 : Nat) (s0 : Int) (M : Mem) (r : Int) (M' : Mem) (hv0 : m_kd M v0 = 1) (h : B_X1_isBroken_29  v0 s0 M = some (r, M'))  : x_Z X 0 0 (x_QF X M0 (.returned (some (vI r))) M' 0 0) M0 M 6 [(0, .ref v0)] 29 [vI s0] := by
  unfold B_X1_isBroken_29 at h
  refine z_istore (pc := 29) C (lv' := [(0, .ref v0), (5, vI s0)]) (by decide) rfl dX1_isBroken_29 ?_
  refine z_iload (pc := 31) C 1 rfl dX1_isBroken_31 ?_
  refine z_if_ne (pc := 33) C dX1_isBroken_33 (tgt := 47) (by decide) (fun c8 => ?_) (fun c8 => ?_)
  · have h := itf c8 h
    refine z_iconst (pc := 47) C dX1_isBroken_47 ?_
    cases h
    exact z_zret (pc := 48) C rfl (Or.inl rfl) (show 0 ≤ 0 from by decide) (show 0 ≤ 0 from by decide) dX1_isBroken_48
  · have h := itt c8 h
    refine z_aload_n (pc := 36) C 0 rfl dX1_isBroken_36 ?_
    refine gX1_117 (pc := 37) C rfl (Or.inl hv0) rfl dX1_isBroken_37 ?_
    refine z_if_ne (pc := 40) C dX1_isBroken_40 (tgt := 47) (by decide) (fun c9 => ?_) (fun c9 => ?_)
    · have h := itf c9 h
      refine z_iconst (pc := 47) C dX1_isBroken_47 ?_
      cases h
      exact z_zret (pc := 48) C rfl (Or.inl rfl) (show 0 ≤ 0 from by decide) (show 0 ≤ 0 from by decide) dX1_isBroken_48
    · have h := itt c9 h
      refine z_iconst (pc := 43) C dX1_isBroken_43 ?_
      refine z_goto (pc := 44) C dX1_isBroken_44 (tgt := 48) (by decide) ?_
      cases h
      exact z_zret (pc := 48) C rfl (Or.inr rfl) (show 0 ≤ 0 from by decide) (show 0 ≤ 0 from by decide) dX1_isBroken_48
theorem ct_X1_isBroken {l : Launch} {S0 : State} {D : va_G} {cA : Nat → ClassId} (hG : x_G l S0 D cA) (v0 : Nat) (v1 : Nat) (v2 : Int) (v3 : Nat) (v4 : Nat) (M : Mem) (r : Int) (M' : Mem) (hv0 : m_kd M v0 = 1) (hv1 : m_kd M v1 = 2) (hv3 : x_IA M v3) (hv4 : x_IA M v4) (h : d_X1_isBroken v0 v1 v2 v3 v4 M = some (r, M')) : x_Me l S0 D cA yX1_isBroken cX1_isBroken 6 (some .boolean) [] ({ frames := 3, cells := 0, slots := 0, locals := 89 }) [.ref v0, .ref v1, vI v2, .ref v3, .ref v4] M (.returned (some (vI r))) M' := by
  refine x_begin (F := 3) (Lo := 89) (mc := 0) (ms := 0) hG (Nat.le_of_ble_eq_true rfl) (lv := [(0, .ref v0), (1, .ref v1), (2, vI v2), (3, .ref v3), (4, .ref v4)]) rfl rfl rfl rfl rfl (fun X e1 e2 e3 e4 e5 C => ?_)
  unfold d_X1_isBroken at h
  refine z_aload_n (pc := 0) C 0 rfl dX1_isBroken_0 ?_
  refine z_aload_n (pc := 1) C 1 rfl dX1_isBroken_1 ?_
  refine z_aload_n (pc := 2) C 1 rfl dX1_isBroken_2 ?_
  refine gX1_210 (pc := 3) C rfl hv1 dX1_isBroken_3 ?_
  refine z_iload_n (pc := 6) C 2 rfl dX1_isBroken_6 ?_
  obtain ⟨c1, h⟩ := ifn h
  refine z_iaO (pc := 7) (k := 2) (j := 10) C 210 rfl (by decide) (by decide) (by decide) rfl rfl rfl rfl hv1 c1 rfl dX1_isBroken_7 ?_
  refine z_aload_n (pc := 8) C 1 rfl dX1_isBroken_8 ?_
  refine gX1_211 (pc := 9) C rfl hv1 dX1_isBroken_9 ?_
  refine z_iload_n (pc := 12) C 2 rfl dX1_isBroken_12 ?_
  refine z_iaO (pc := 13) (k := 2) (j := 11) C 211 rfl (by decide) (by decide) (by decide) rfl rfl rfl rfl hv1 c1 rfl dX1_isBroken_13 ?_
  refine z_aload_n (pc := 14) C 3 rfl dX1_isBroken_14 ?_
  refine z_aload (pc := 15) C 4 rfl dX1_isBroken_15 ?_
  obtain ⟨r2, M3, e4, h⟩ := bNs h
  refine cX1_276 (pc := 17) (st := []) (st1 := [vI r2]) C rfl (rm := { frames := 2, cells := 0, slots := 0, locals := 55 }) (ct_X1_work C.2.1 v0 v1 (m_i M 210 v1 (ixn v2)) (m_i M 211 v1 (ixn v2)) v3 v4 M _ _ hv0 hv1 hv3 hv4 e4) ⟨by decide, by decide, Nat.zero_le _, Nat.zero_le _⟩ (Or.inl hv0) rfl (Nat.le_of_ble_eq_true rfl) dX1_isBroken_17 (c2 := 0) (s2 := 0) rfl rfl (fun x5 => ?_)
  have k6 := x5 _ 1 (by decide) (Or.inl (by decide)) hv0
  refine z_iconst (pc := 20) C dX1_isBroken_20 ?_
  refine z_ic_ne (pc := 21) C dX1_isBroken_21 (tgt := 28) (by decide) (fun c7 => ?_) (fun c7 => ?_)
  · have h := itf c7 h
    refine z_iconst (pc := 28) C dX1_isBroken_28 ?_
    exact z_lv [0] rfl <| cB_X1_isBroken_29 C v0 0 M3 _ _ k6 h
  · have h := itt c7 h
    refine z_iconst (pc := 24) C dX1_isBroken_24 ?_
    refine z_goto (pc := 25) C dX1_isBroken_25 (tgt := 29) (by decide) ?_
    exact z_lv [0] rfl <| cB_X1_isBroken_29 C v0 1 M3 _ _ k6 h
def B_X1_brokenBehind_5 (k5 : Nat → Nat → Int → Int → Int → Mem → Option (Int × Mem)) (v0 : Nat) (v1 : Nat) (v3 : Int) (v4 : Int) (v5 : Int) (M : Mem) : Option (Int × Mem) :=
  if w32 (m_i M 808 v1 0) ≤ w32 v5 then
    some (-1, M)
  else
    bR (m_r M 800 v1 0) fun q8 => 
    if inb v5 20 then 
    if w32 (m_i M 202 q8 (ixn v5)) = w32 v3 then
      if w32 (a32 (s32 v4 v5) 1) = 0 then
        bR (m_r M 800 v1 0) fun q14 => 
        bN (d_X1_isBroken v0 q14 v5 (v1 + 5) (v1 + 1) M) fun r19 M20 => 
        if w32 r19 = 0 then
          k5 v0 v1 v3 v4 (v5 + 1) M20
        else
          some (v5, M20)
      else
        k5 v0 v1 v3 v4 (v5 + 1) M
    else
      k5 v0 v1 v3 v4 (v5 + 1) M else none
def L_X1_brokenBehind_5  : Nat → Nat → Nat → Int → Int → Int → Mem → Option (Int × Mem)
  | 0, _, _, _, _, _, _ => none
  | n + 1, v0, v1, v3, v4, v5, M => B_X1_brokenBehind_5 (L_X1_brokenBehind_5  n) v0 v1 v3 v4 v5 M
def d_X1_brokenBehind (v0 : Nat) (v1 : Nat) (v2 : Int) (v3 : Int) (v4 : Int) (M : Mem) : Option (Int × Mem) :=
  L_X1_brokenBehind_5 FU v0 v1 v3 v4 (v2 + 1) M
theorem cB_X1_brokenBehind_5 {X : x_Ctx} {M0 : Mem} (C : x_CC X 4 118 yX1_brokenBehind cX1_brokenBehind 6 (some .int) []) {k5 : Nat → Nat → Int → Int → Int → Mem → Option (Int × Mem)} (hk5 : ∀ (v0 : Nat) (v1 : Nat) (v3 : Int) (v4 : Int) (v5 : Int) (M : Mem) (r : Int) (M' : Mem), m_kd M v0 = 1 → m_kd M v1 = 8 → k5 v0 v1 v3 v4 v5 M = some (r, M') → x_Z X 0 0 (x_QF X M0 (.returned (some (vI r))) M' 0 0) M0 M 6 [(0, .ref v0), (1, .ref v1), (3, vI v3), (4, vI v4), (5, vI v5)] 5 []) (v0 : Nat) (v1 : Nat) (v3 : Int) (v4 : Int) (v5 : Int) (M : Mem) (r : Int) (M' : Mem) (hv0 : m_kd M v0 = 1) (hv1 : m_kd M v1 = 8) (h : B_X1_brokenBehind_5 k5 v0 v1 v3 v4 v5 M = some (r, M'))  : x_Z X 0 0 (x_QF X M0 (.returned (some (vI r))) M' 0 0) M0 M 6 [(0, .ref v0), (1, .ref v1), (3, vI v3), (4, vI v4), (5, vI v5)] 5 [] := by
  unfold B_X1_brokenBehind_5 at h
  refine z_iload (pc := 5) C 4 rfl dX1_brokenBehind_5 ?_
  refine z_aload_n (pc := 7) C 1 rfl dX1_brokenBehind_7 ?_
  refine gX1_808 (pc := 8) C rfl (Or.inl hv1) rfl dX1_brokenBehind_8 ?_
  refine z_ic_ge (pc := 11) C dX1_brokenBehind_11 (tgt := 68) (by decide) (fun c7 => ?_) (fun c7 => ?_)
  · have h := itt c7 h
    refine z_iconst (pc := 68) C dX1_brokenBehind_68 ?_
    cases h
    exact z_iret (pc := 69) C rfl (show 0 ≤ 0 from by decide) (show 0 ≤ 0 from by decide) dX1_brokenBehind_69
  · have h := itf c7 h
    refine z_aload_n (pc := 14) C 1 rfl dX1_brokenBehind_14 ?_
    obtain ⟨q8, e9, h⟩ := bRs h
    refine gX1_800 (pc := 15) C rfl (Or.inl hv1) e9 dX1_brokenBehind_15 (fun k10 => ?_)
    refine gX1_202 (pc := 18) C rfl k10 dX1_brokenBehind_18 ?_
    refine z_iload (pc := 21) C 4 rfl dX1_brokenBehind_21 ?_
    obtain ⟨c11, h⟩ := ifn h
    refine z_iaO (pc := 23) (k := 2) (j := 2) C 202 rfl (by decide) (by decide) (by decide) rfl rfl rfl rfl k10 c11 rfl dX1_brokenBehind_23 ?_
    refine z_iload_n (pc := 24) C 2 rfl dX1_brokenBehind_24 ?_
    refine z_ic_ne (pc := 25) C dX1_brokenBehind_25 (tgt := 62) (by decide) (fun c12 => ?_) (fun c12 => ?_)
    · have h := itf c12 h
      refine z_iinc (pc := 62) C (lv' := [(0, .ref v0), (1, .ref v1), (3, vI v3), (4, vI v4), (5, vI (v5 + 1))]) 4 rfl (by decide) rfl dX1_brokenBehind_62 ?_
      refine z_goto (pc := 65) C dX1_brokenBehind_65 (tgt := 5) (by decide) ?_
      exact hk5 v0 v1 v3 v4 (v5 + 1) M _ _ hv0 hv1 h
    · have h := itt c12 h
      refine z_iload (pc := 28) C 3 rfl dX1_brokenBehind_28 ?_
      refine z_iload (pc := 30) C 4 rfl dX1_brokenBehind_30 ?_
      refine z_ishr (pc := 32) C dX1_brokenBehind_32 ?_
      refine z_iconst (pc := 33) C dX1_brokenBehind_33 ?_
      refine z_iand (pc := 34) C dX1_brokenBehind_34 ?_
      refine z_if_ne (pc := 35) C dX1_brokenBehind_35 (tgt := 62) (by decide) (fun c13 => ?_) (fun c13 => ?_)
      · have h := itf c13 h
        refine z_iinc (pc := 62) C (lv' := [(0, .ref v0), (1, .ref v1), (3, vI v3), (4, vI v4), (5, vI (v5 + 1))]) 4 rfl (by decide) rfl dX1_brokenBehind_62 ?_
        refine z_goto (pc := 65) C dX1_brokenBehind_65 (tgt := 5) (by decide) ?_
        exact hk5 v0 v1 v3 v4 (v5 + 1) M _ _ hv0 hv1 h
      · have h := itt c13 h
        refine z_aload_n (pc := 38) C 0 rfl dX1_brokenBehind_38 ?_
        refine z_aload_n (pc := 39) C 1 rfl dX1_brokenBehind_39 ?_
        obtain ⟨q14, e15, h⟩ := bRs h
        refine gX1_800 (pc := 40) C rfl (Or.inl hv1) e15 dX1_brokenBehind_40 (fun k16 => ?_)
        refine z_iload (pc := 43) C 4 rfl dX1_brokenBehind_43 ?_
        refine z_aload_n (pc := 45) C 1 rfl dX1_brokenBehind_45 ?_
        refine gX1_807 (pc := 46) C rfl hv1 dX1_brokenBehind_46 ?_
        refine z_aload_n (pc := 49) C 1 rfl dX1_brokenBehind_49 ?_
        refine gX1_803 (pc := 50) C rfl hv1 dX1_brokenBehind_50 ?_
        refine z_ia (k := 8) (j := 7) 807 rfl (by decide) (by decide) (by decide) rfl rfl rfl hv1 (fun k17 => ?_)
        refine z_ia (k := 8) (j := 3) 803 rfl (by decide) (by decide) (by decide) rfl rfl rfl hv1 (fun k18 => ?_)
        obtain ⟨r19, M20, e21, h⟩ := bNs h
        refine cX1_319 (pc := 53) (st := []) (st1 := [vI r19]) C rfl (rm := { frames := 3, cells := 0, slots := 0, locals := 89 }) (ct_X1_isBroken C.2.1 v0 q14 v5 (v1 + 5) (v1 + 1) M _ _ hv0 k16 k17.1 k18.1 e21) ⟨by decide, by decide, Nat.zero_le _, Nat.zero_le _⟩ (Or.inl hv0) rfl (Nat.le_of_ble_eq_true rfl) dX1_brokenBehind_53 (c2 := 0) (s2 := 0) rfl rfl (fun x22 => ?_)
        have k23 := x22 _ 1 (by decide) (Or.inl (by decide)) hv0
        have k24 := x22 _ 8 (by decide) (Or.inl (by decide)) hv1
        refine z_if_eq (pc := 56) C dX1_brokenBehind_56 (tgt := 62) (by decide) (fun c25 => ?_) (fun c25 => ?_)
        · have h := itt c25 h
          refine z_iinc (pc := 62) C (lv' := [(0, .ref v0), (1, .ref v1), (3, vI v3), (4, vI v4), (5, vI (v5 + 1))]) 4 rfl (by decide) rfl dX1_brokenBehind_62 ?_
          refine z_goto (pc := 65) C dX1_brokenBehind_65 (tgt := 5) (by decide) ?_
          exact hk5 v0 v1 v3 v4 (v5 + 1) M20 _ _ k23 k24 h
        · have h := itf c25 h
          refine z_iload (pc := 59) C 4 rfl dX1_brokenBehind_59 ?_
          cases h
          exact z_iret (pc := 61) C rfl (show 0 ≤ 0 from by decide) (show 0 ≤ 0 from by decide) dX1_brokenBehind_61
theorem cL_X1_brokenBehind_5 {X : x_Ctx} {M0 : Mem} (C : x_CC X 4 118 yX1_brokenBehind cX1_brokenBehind 6 (some .int) [])  : ∀ (n : Nat) (v0 : Nat) (v1 : Nat) (v3 : Int) (v4 : Int) (v5 : Int) (M : Mem) (r : Int) (M' : Mem) (hv0 : m_kd M v0 = 1) (hv1 : m_kd M v1 = 8) (h : L_X1_brokenBehind_5  n v0 v1 v3 v4 v5 M = some (r, M')) , x_Z X 0 0 (x_QF X M0 (.returned (some (vI r))) M' 0 0) M0 M 6 [(0, .ref v0), (1, .ref v1), (3, vI v3), (4, vI v4), (5, vI v5)] 5 [] := by
  intro n
  induction n with
  | zero => intro v0 v1 v3 v4 v5 M r M' hv0 hv1 h ; cases h
  | succ n ih => intro v0 v1 v3 v4 v5 M r M' hv0 hv1 h ; exact cB_X1_brokenBehind_5 C (fun v0 v1 v3 v4 v5 M r M' hv0 hv1 h  => ih v0 v1 v3 v4 v5 M r M' hv0 hv1 h ) v0 v1 v3 v4 v5 M r M' hv0 hv1 h 
theorem ct_X1_brokenBehind {l : Launch} {S0 : State} {D : va_G} {cA : Nat → ClassId} (hG : x_G l S0 D cA) (v0 : Nat) (v1 : Nat) (v2 : Int) (v3 : Int) (v4 : Int) (M : Mem) (r : Int) (M' : Mem) (hv0 : m_kd M v0 = 1) (hv1 : m_kd M v1 = 8) (h : d_X1_brokenBehind v0 v1 v2 v3 v4 M = some (r, M')) : x_Me l S0 D cA yX1_brokenBehind cX1_brokenBehind 6 (some .int) [] ({ frames := 4, cells := 0, slots := 0, locals := 118 }) [.ref v0, .ref v1, vI v2, vI v3, vI v4] M (.returned (some (vI r))) M' := by
  refine x_begin (F := 4) (Lo := 118) (mc := 0) (ms := 0) hG (Nat.le_of_ble_eq_true rfl) (lv := [(0, .ref v0), (1, .ref v1), (2, vI v2), (3, vI v3), (4, vI v4)]) rfl rfl rfl rfl rfl (fun X e1 e2 e3 e4 e5 C => ?_)
  unfold d_X1_brokenBehind at h
  refine z_iload_n (pc := 0) C 2 rfl dX1_brokenBehind_0 ?_
  refine z_iconst (pc := 1) C dX1_brokenBehind_1 ?_
  refine z_iadd (pc := 2) C dX1_brokenBehind_2 ?_
  refine z_istore (pc := 3) C (lv' := [(0, .ref v0), (1, .ref v1), (2, vI v2), (3, vI v3), (4, vI v4), (5, vI (v2 + 1))]) (by decide) rfl dX1_brokenBehind_3 ?_
  exact z_lv [0, 1, 3, 4, 5] rfl <| cL_X1_brokenBehind_5 C FU v0 v1 v3 v4 (v2 + 1) M _ _ hv0 hv1 h
def d_X1_ungive (v0 : Nat) (v1 : Nat) (v2 : Int) (M : Mem) : Option (Int × Mem) :=
  if inb v2 20 then 
  bN (d_X1_walk v0 v1 (m_si M 804 v1 (ixn v2) (bz 0))) fun r2 M3 => 
  some (0, M3) else none
theorem ct_X1_ungive {l : Launch} {S0 : State} {D : va_G} {cA : Nat → ClassId} (hG : x_G l S0 D cA) (v0 : Nat) (v1 : Nat) (v2 : Int) (M : Mem) (r : Int) (M' : Mem) (hv0 : m_kd M v0 = 1) (hv1 : m_kd M v1 = 8) (h : d_X1_ungive v0 v1 v2 M = some (r, M')) : x_Me l S0 D cA yX1_ungive cX1_ungive 3 none [] ({ frames := 6, cells := 0, slots := 0, locals := 172 }) [.ref v0, .ref v1, vI v2] M (.returned none) M' := by
  refine x_begin (F := 6) (Lo := 172) (mc := 0) (ms := 0) hG (Nat.le_of_ble_eq_true rfl) (lv := [(0, .ref v0), (1, .ref v1), (2, vI v2)]) rfl rfl rfl rfl rfl (fun X e1 e2 e3 e4 e5 C => ?_)
  unfold d_X1_ungive at h
  refine z_aload_n (pc := 0) C 1 rfl dX1_ungive_0 ?_
  refine gX1_804 (pc := 1) C rfl hv1 dX1_ungive_1 ?_
  refine z_iload_n (pc := 4) C 2 rfl dX1_ungive_4 ?_
  refine z_iconst (pc := 5) C dX1_ungive_5 ?_
  obtain ⟨c1, h⟩ := ifn h
  refine z_zsO (pc := 6) (k := 8) (j := 4) C 804 rfl (by decide) (by decide) (by decide) rfl rfl rfl rfl hv1 c1 dX1_ungive_6 ?_
  refine z_aload_n (pc := 7) C 0 rfl dX1_ungive_7 ?_
  refine z_aload_n (pc := 8) C 1 rfl dX1_ungive_8 ?_
  obtain ⟨r2, M3, e4, h⟩ := bNs h
  refine cX1_296 (pc := 9) (st := []) (st1 := []) C rfl (rm := { frames := 5, cells := 0, slots := 0, locals := 145 }) (ct_X1_walk C.2.1 v0 v1 (m_si M 804 v1 (ixn v2) (bz 0)) _ _ hv0 hv1 e4) ⟨by decide, by decide, Nat.zero_le _, Nat.zero_le _⟩ (Or.inl hv0) rfl (Nat.le_of_ble_eq_true rfl) dX1_ungive_9 (c2 := 0) (s2 := 0) rfl rfl (fun x5 => ?_)
  cases h
  exact z_vret (pc := 12) C rfl (show 0 ≤ 0 from by decide) (show 0 ≤ 0 from by decide) dX1_ungive_12
def B_X1_takeOn_73 (k2 : Nat → Nat → Int → Mem → Option (Int × Mem)) (v0 : Nat) (v1 : Nat) (v3 : Int) (s0 : Int) (M : Mem) : Option (Int × Mem) :=
  if w32 s0 = 0 then
    bN (d_X1_ungive v0 v1 v3 M) fun r21 M22 => 
    k2 v0 v1 s0 M22
  else
    if inb v3 20 then 
    k2 v0 v1 s0 (m_si M 806 v1 (ixn v3) (-2000000)) else none
def B_X1_takeOn_72 (k2 : Nat → Nat → Int → Mem → Option (Int × Mem)) (v0 : Nat) (v1 : Nat) (v3 : Int) (M : Mem) : Option (Int × Mem) :=
  B_X1_takeOn_73 k2 v0 v1 v3 0 M
def B_X1_takeOn_2 (k2 : Nat → Nat → Int → Mem → Option (Int × Mem)) (v0 : Nat) (v1 : Nat) (v2 : Int) (M : Mem) : Option (Int × Mem) :=
  if w32 v2 = 0 then
    some (0, M)
  else
    bR (d_X1_isAtEnd v1 M) fun r2 => 
    if w32 r2 = 0 then
      if inb (m_i M 808 v1 0) 20 then 
      if w32 (m_i M 806 v1 (ixn (m_i M 808 v1 0))) = w32 (-2000000) then
        some (0, M)
      else
        bN (d_X1_give v0 v1 (m_i M 808 v1 0) (m_i M 806 v1 (ixn (m_i M 808 v1 0))) M) fun r7 M8 => 
        bN (d_X1_brokenBehind v0 v1 (m_i M 808 v1 0) 2 0 M8) fun r13 M14 => 
        if w32 r13 = w32 (-1) then
          bN (d_X1_brokenBehind v0 v1 (m_i M 808 v1 0) 3 0 M14) fun r28 M29 => 
          if w32 r28 = w32 (-1) then
            B_X1_takeOn_73 k2 v0 v1 (m_i M 808 v1 0) 1 M29
          else
            B_X1_takeOn_72 k2 v0 v1 (m_i M 808 v1 0) M29
        else
          B_X1_takeOn_72 k2 v0 v1 (m_i M 808 v1 0) M14 else none
    else
      some (0, M)
def L_X1_takeOn_2  : Nat → Nat → Nat → Int → Mem → Option (Int × Mem)
  | 0, _, _, _, _ => none
  | n + 1, v0, v1, v2, M => B_X1_takeOn_2 (L_X1_takeOn_2  n) v0 v1 v2 M
def d_X1_takeOn (v0 : Nat) (v1 : Nat) (M : Mem) : Option (Int × Mem) :=
  L_X1_takeOn_2 FU v0 v1 1 M
theorem cB_X1_takeOn_73 {X : x_Ctx} {M0 : Mem} (C : x_CC X 7 199 yX1_takeOn cX1_takeOn 4 none []) {k2 : Nat → Nat → Int → Mem → Option (Int × Mem)} (hk2 : ∀ (v0 : Nat) (v1 : Nat) (v2 : Int) (M : Mem) (r : Int) (M' : Mem), m_kd M v0 = 1 → m_kd M v1 = 8 → k2 v0 v1 v2 M = some (r, M') → x_Z X 0 0 (x_QF X M0 (.returned none) M' 0 0) M0 M 4 [(0, .ref v0), (1, .ref v1), (2, vI v2)] 2 []) (v0 : Nat) (v1 : Nat) (v3 : Int) (s0 : Int) (M : Mem) (r : Int) (M' : Mem) (hv0 : m_kd M v0 = 1) (hv1 : m_kd M v1 = 8) (h : B_X1_takeOn_73 k2 v0 v1 v3 s0 M = some (r, M'))  : x_Z X 0 0 (x_QF X M0 (.returned none) M' 0 0) M0 M 4 [(0, .ref v0), (1, .ref v1), (3, vI v3)] 73 [vI s0] := by
  unfold B_X1_takeOn_73 at h
  refine z_istore_n (pc := 73) C (lv' := [(0, .ref v0), (1, .ref v1), (2, vI s0), (3, vI v3)]) (by decide) rfl dX1_takeOn_73 ?_
  refine z_iload_n (pc := 74) C 2 rfl dX1_takeOn_74 ?_
  refine z_if_eq (pc := 75) C dX1_takeOn_75 (tgt := 89) (by decide) (fun c20 => ?_) (fun c20 => ?_)
  · have h := itt c20 h
    refine z_aload_n (pc := 89) C 0 rfl dX1_takeOn_89 ?_
    refine z_aload_n (pc := 90) C 1 rfl dX1_takeOn_90 ?_
    refine z_iload_n (pc := 91) C 3 rfl dX1_takeOn_91 ?_
    obtain ⟨r21, M22, e23, h⟩ := bNs h
    refine cX1_350 (pc := 92) (st := []) (st1 := []) C rfl (rm := { frames := 6, cells := 0, slots := 0, locals := 172 }) (ct_X1_ungive C.2.1 v0 v1 v3 M _ _ hv0 hv1 e23) ⟨by decide, by decide, Nat.zero_le _, Nat.zero_le _⟩ (Or.inl hv0) rfl (Nat.le_of_ble_eq_true rfl) dX1_takeOn_92 (c2 := 0) (s2 := 0) rfl rfl (fun x24 => ?_)
    have k25 := x24 _ 1 (by decide) (Or.inl (by decide)) hv0
    have k26 := x24 _ 8 (by decide) (Or.inl (by decide)) hv1
    refine z_goto (pc := 95) C dX1_takeOn_95 (tgt := 2) (by decide) ?_
    exact z_lv [0, 1, 2] rfl <| hk2 v0 v1 s0 M22 _ _ k25 k26 h
  · have h := itf c20 h
    refine z_aload_n (pc := 78) C 1 rfl dX1_takeOn_78 ?_
    refine gX1_806 (pc := 79) C rfl hv1 dX1_takeOn_79 ?_
    refine z_iload_n (pc := 82) C 3 rfl dX1_takeOn_82 ?_
    refine z_ldc (pc := 83) C (x := -2000000) q661 (by decide +kernel) dX1_takeOn_83 ?_
    obtain ⟨c27, h⟩ := ifn h
    refine z_isO (pc := 85) (k := 8) (j := 6) C 806 rfl (by decide) (by decide) (by decide) rfl rfl rfl rfl hv1 c27 dX1_takeOn_85 ?_
    refine z_goto (pc := 86) C dX1_takeOn_86 (tgt := 95) (by decide) ?_
    refine z_goto (pc := 95) C dX1_takeOn_95 (tgt := 2) (by decide) ?_
    exact z_lv [0, 1, 2] rfl <| hk2 v0 v1 s0 (m_si M 806 v1 (ixn v3) (-2000000)) _ _ hv0 hv1 h
theorem cB_X1_takeOn_72 {X : x_Ctx} {M0 : Mem} (C : x_CC X 7 199 yX1_takeOn cX1_takeOn 4 none []) {k2 : Nat → Nat → Int → Mem → Option (Int × Mem)} (hk2 : ∀ (v0 : Nat) (v1 : Nat) (v2 : Int) (M : Mem) (r : Int) (M' : Mem), m_kd M v0 = 1 → m_kd M v1 = 8 → k2 v0 v1 v2 M = some (r, M') → x_Z X 0 0 (x_QF X M0 (.returned none) M' 0 0) M0 M 4 [(0, .ref v0), (1, .ref v1), (2, vI v2)] 2 []) (v0 : Nat) (v1 : Nat) (v3 : Int) (M : Mem) (r : Int) (M' : Mem) (hv0 : m_kd M v0 = 1) (hv1 : m_kd M v1 = 8) (h : B_X1_takeOn_72 k2 v0 v1 v3 M = some (r, M'))  : x_Z X 0 0 (x_QF X M0 (.returned none) M' 0 0) M0 M 4 [(0, .ref v0), (1, .ref v1), (3, vI v3)] 72 [] := by
  unfold B_X1_takeOn_72 at h
  refine z_iconst (pc := 72) C dX1_takeOn_72 ?_
  exact cB_X1_takeOn_73 C hk2 v0 v1 v3 0 M _ _ hv0 hv1 h
theorem cB_X1_takeOn_2 {X : x_Ctx} {M0 : Mem} (C : x_CC X 7 199 yX1_takeOn cX1_takeOn 4 none []) {k2 : Nat → Nat → Int → Mem → Option (Int × Mem)} (hk2 : ∀ (v0 : Nat) (v1 : Nat) (v2 : Int) (M : Mem) (r : Int) (M' : Mem), m_kd M v0 = 1 → m_kd M v1 = 8 → k2 v0 v1 v2 M = some (r, M') → x_Z X 0 0 (x_QF X M0 (.returned none) M' 0 0) M0 M 4 [(0, .ref v0), (1, .ref v1), (2, vI v2)] 2 []) (v0 : Nat) (v1 : Nat) (v2 : Int) (M : Mem) (r : Int) (M' : Mem) (hv0 : m_kd M v0 = 1) (hv1 : m_kd M v1 = 8) (h : B_X1_takeOn_2 k2 v0 v1 v2 M = some (r, M'))  : x_Z X 0 0 (x_QF X M0 (.returned none) M' 0 0) M0 M 4 [(0, .ref v0), (1, .ref v1), (2, vI v2)] 2 [] := by
  unfold B_X1_takeOn_2 at h
  refine z_iload_n (pc := 2) C 2 rfl dX1_takeOn_2 ?_
  refine z_if_eq (pc := 3) C dX1_takeOn_3 (tgt := 98) (by decide) (fun c1 => ?_) (fun c1 => ?_)
  · have h := itt c1 h
    cases h
    exact z_vret (pc := 98) C rfl (show 0 ≤ 0 from by decide) (show 0 ≤ 0 from by decide) dX1_takeOn_98
  · have h := itf c1 h
    refine z_aload_n (pc := 6) C 1 rfl dX1_takeOn_6 ?_
    obtain ⟨r2, e3, h⟩ := bRs h
    refine cX1_326 (pc := 7) (st := []) (st1 := [vI r2]) C rfl (rm := { frames := 1, cells := 0, slots := 0, locals := 24 }) (ct_X1_isAtEnd C.2.1 v1 M _ hv1 e3) ⟨by decide, by decide, Nat.zero_le _, Nat.zero_le _⟩ rfl (Nat.le_of_ble_eq_true rfl) dX1_takeOn_7 (c2 := 0) (s2 := 0) rfl rfl (fun _ => ?_)
    refine z_if_ne (pc := 10) C dX1_takeOn_10 (tgt := 98) (by decide) (fun c4 => ?_) (fun c4 => ?_)
    · have h := itf c4 h
      cases h
      exact z_vret (pc := 98) C rfl (show 0 ≤ 0 from by decide) (show 0 ≤ 0 from by decide) dX1_takeOn_98
    · have h := itt c4 h
      refine z_aload_n (pc := 13) C 1 rfl dX1_takeOn_13 ?_
      refine gX1_806 (pc := 14) C rfl hv1 dX1_takeOn_14 ?_
      refine z_aload_n (pc := 17) C 1 rfl dX1_takeOn_17 ?_
      refine gX1_808 (pc := 18) C rfl (Or.inl hv1) rfl dX1_takeOn_18 ?_
      obtain ⟨c5, h⟩ := ifn h
      refine z_iaO (pc := 21) (k := 8) (j := 6) C 806 rfl (by decide) (by decide) (by decide) rfl rfl rfl rfl hv1 c5 rfl dX1_takeOn_21 ?_
      refine z_ldc (pc := 22) C (x := -2000000) q661 (by decide +kernel) dX1_takeOn_22 ?_
      refine z_ic_eq (pc := 24) C dX1_takeOn_24 (tgt := 98) (by decide) (fun c6 => ?_) (fun c6 => ?_)
      · have h := itt c6 h
        cases h
        exact z_vret (pc := 98) C rfl (show 0 ≤ 0 from by decide) (show 0 ≤ 0 from by decide) dX1_takeOn_98
      · have h := itf c6 h
        refine z_aload_n (pc := 27) C 1 rfl dX1_takeOn_27 ?_
        refine gX1_808 (pc := 28) C rfl (Or.inl hv1) rfl dX1_takeOn_28 ?_
        refine z_istore_n (pc := 31) C (lv' := [(0, .ref v0), (1, .ref v1), (2, vI v2), (3, vI (m_i M 808 v1 0))]) (by decide) rfl dX1_takeOn_31 ?_
        refine z_aload_n (pc := 32) C 0 rfl dX1_takeOn_32 ?_
        refine z_aload_n (pc := 33) C 1 rfl dX1_takeOn_33 ?_
        refine z_iload_n (pc := 34) C 3 rfl dX1_takeOn_34 ?_
        refine z_aload_n (pc := 35) C 1 rfl dX1_takeOn_35 ?_
        refine gX1_806 (pc := 36) C rfl hv1 dX1_takeOn_36 ?_
        refine z_iload_n (pc := 39) C 3 rfl dX1_takeOn_39 ?_
        refine z_iaO (pc := 40) (k := 8) (j := 6) C 806 rfl (by decide) (by decide) (by decide) rfl rfl rfl rfl hv1 c5 rfl dX1_takeOn_40 ?_
        obtain ⟨r7, M8, e9, h⟩ := bNs h
        refine cX1_342 (pc := 41) (st := []) (st1 := []) C rfl (rm := { frames := 6, cells := 0, slots := 0, locals := 172 }) (ct_X1_give C.2.1 v0 v1 (m_i M 808 v1 0) (m_i M 806 v1 (ixn (m_i M 808 v1 0))) M _ _ hv0 hv1 e9) ⟨by decide, by decide, Nat.zero_le _, Nat.zero_le _⟩ (Or.inl hv0) rfl (Nat.le_of_ble_eq_true rfl) dX1_takeOn_41 (c2 := 0) (s2 := 0) rfl rfl (fun x10 => ?_)
        have k11 := x10 _ 1 (by decide) (Or.inl (by decide)) hv0
        have k12 := x10 _ 8 (by decide) (Or.inl (by decide)) hv1
        refine z_aload_n (pc := 44) C 0 rfl dX1_takeOn_44 ?_
        refine z_aload_n (pc := 45) C 1 rfl dX1_takeOn_45 ?_
        refine z_iload_n (pc := 46) C 3 rfl dX1_takeOn_46 ?_
        refine z_iconst (pc := 47) C dX1_takeOn_47 ?_
        refine z_iconst (pc := 48) C dX1_takeOn_48 ?_
        obtain ⟨r13, M14, e15, h⟩ := bNs h
        refine cX1_346 (pc := 49) (st := []) (st1 := [vI r13]) C rfl (rm := { frames := 4, cells := 0, slots := 0, locals := 118 }) (ct_X1_brokenBehind C.2.1 v0 v1 (m_i M 808 v1 0) 2 0 M8 _ _ k11 k12 e15) ⟨by decide, by decide, Nat.zero_le _, Nat.zero_le _⟩ (Or.inl k11) rfl (Nat.le_of_ble_eq_true rfl) dX1_takeOn_49 (c2 := 0) (s2 := 0) rfl rfl (fun x16 => ?_)
        have k17 := x16 _ 1 (by decide) (Or.inl (by decide)) k11
        have k18 := x16 _ 8 (by decide) (Or.inl (by decide)) k12
        refine z_iconst (pc := 52) C dX1_takeOn_52 ?_
        refine z_ic_ne (pc := 53) C dX1_takeOn_53 (tgt := 72) (by decide) (fun c19 => ?_) (fun c19 => ?_)
        · have h := itf c19 h
          exact z_lv [0, 1, 3] rfl <| cB_X1_takeOn_72 C hk2 v0 v1 (m_i M 808 v1 0) M14 _ _ k17 k18 h
        · have h := itt c19 h
          refine z_aload_n (pc := 56) C 0 rfl dX1_takeOn_56 ?_
          refine z_aload_n (pc := 57) C 1 rfl dX1_takeOn_57 ?_
          refine z_iload_n (pc := 58) C 3 rfl dX1_takeOn_58 ?_
          refine z_iconst (pc := 59) C dX1_takeOn_59 ?_
          refine z_iconst (pc := 60) C dX1_takeOn_60 ?_
          obtain ⟨r28, M29, e30, h⟩ := bNs h
          refine cX1_346 (pc := 61) (st := []) (st1 := [vI r28]) C rfl (rm := { frames := 4, cells := 0, slots := 0, locals := 118 }) (ct_X1_brokenBehind C.2.1 v0 v1 (m_i M 808 v1 0) 3 0 M14 _ _ k17 k18 e30) ⟨by decide, by decide, Nat.zero_le _, Nat.zero_le _⟩ (Or.inl k17) rfl (Nat.le_of_ble_eq_true rfl) dX1_takeOn_61 (c2 := 0) (s2 := 0) rfl rfl (fun x31 => ?_)
          have k32 := x31 _ 1 (by decide) (Or.inl (by decide)) k17
          have k33 := x31 _ 8 (by decide) (Or.inl (by decide)) k18
          refine z_iconst (pc := 64) C dX1_takeOn_64 ?_
          refine z_ic_ne (pc := 65) C dX1_takeOn_65 (tgt := 72) (by decide) (fun c34 => ?_) (fun c34 => ?_)
          · have h := itf c34 h
            exact z_lv [0, 1, 3] rfl <| cB_X1_takeOn_72 C hk2 v0 v1 (m_i M 808 v1 0) M29 _ _ k32 k33 h
          · have h := itt c34 h
            refine z_iconst (pc := 68) C dX1_takeOn_68 ?_
            refine z_goto (pc := 69) C dX1_takeOn_69 (tgt := 73) (by decide) ?_
            exact z_lv [0, 1, 3] rfl <| cB_X1_takeOn_73 C hk2 v0 v1 (m_i M 808 v1 0) 1 M29 _ _ k32 k33 h
theorem cL_X1_takeOn_2 {X : x_Ctx} {M0 : Mem} (C : x_CC X 7 199 yX1_takeOn cX1_takeOn 4 none [])  : ∀ (n : Nat) (v0 : Nat) (v1 : Nat) (v2 : Int) (M : Mem) (r : Int) (M' : Mem) (hv0 : m_kd M v0 = 1) (hv1 : m_kd M v1 = 8) (h : L_X1_takeOn_2  n v0 v1 v2 M = some (r, M')) , x_Z X 0 0 (x_QF X M0 (.returned none) M' 0 0) M0 M 4 [(0, .ref v0), (1, .ref v1), (2, vI v2)] 2 [] := by
  intro n
  induction n with
  | zero => intro v0 v1 v2 M r M' hv0 hv1 h ; cases h
  | succ n ih => intro v0 v1 v2 M r M' hv0 hv1 h ; exact cB_X1_takeOn_2 C (fun v0 v1 v2 M r M' hv0 hv1 h  => ih v0 v1 v2 M r M' hv0 hv1 h ) v0 v1 v2 M r M' hv0 hv1 h 
theorem ct_X1_takeOn {l : Launch} {S0 : State} {D : va_G} {cA : Nat → ClassId} (hG : x_G l S0 D cA) (v0 : Nat) (v1 : Nat) (M : Mem) (r : Int) (M' : Mem) (hv0 : m_kd M v0 = 1) (hv1 : m_kd M v1 = 8) (h : d_X1_takeOn v0 v1 M = some (r, M')) : x_Me l S0 D cA yX1_takeOn cX1_takeOn 4 none [] ({ frames := 7, cells := 0, slots := 0, locals := 199 }) [.ref v0, .ref v1] M (.returned none) M' := by
  refine x_begin (F := 7) (Lo := 199) (mc := 0) (ms := 0) hG (Nat.le_of_ble_eq_true rfl) (lv := [(0, .ref v0), (1, .ref v1)]) rfl rfl rfl rfl rfl (fun X e1 e2 e3 e4 e5 C => ?_)
  unfold d_X1_takeOn at h
  refine z_iconst (pc := 0) C dX1_takeOn_0 ?_
  refine z_istore_n (pc := 1) C (lv' := [(0, .ref v0), (1, .ref v1), (2, vI 1)]) (by decide) rfl dX1_takeOn_1 ?_
  exact cL_X1_takeOn_2 C FU v0 v1 1 M _ _ hv0 hv1 h
def B_X1_answer_178  (v5 : Int) (v6 : Int) (M : Mem) : Option ((Int ⊕ Nat) × Mem) :=
  if w32 v5 = w32 (-1) then
    some (.inl (200 + v6), M)
  else
    some (.inl (100 + v5), M)
def B_X1_answer_152  (v0 : Nat) (v3 : Nat) (v4 : Int) (v5 : Int) (v6 : Int) (M : Mem) : Option ((Int ⊕ Nat) × Mem) :=
  bN (d_X1_ungive v0 v3 v4 M) fun r52 M53 => 
  if w32 v6 = w32 (-1) then
    B_X1_answer_178 v5 v6 M53
  else
    B_X1_answer_178 v5 v6 (m_si M53 810 v3 0 (o32 (m_i M53 810 v3 0) (l32 1 v6)))
def B_X1_answer_138  (v0 : Nat) (v3 : Nat) (v4 : Int) (v5 : Int) (s0 : Int) (M : Mem) : Option ((Int ⊕ Nat) × Mem) :=
  if w32 v5 = w32 (-1) then
    if w32 s0 = w32 (-1) then
      if inb v4 20 then 
      bN (d_X1_takeOn v0 v3 (m_si (m_si M 810 v3 0 0) 806 v3 (ixn v4) (-2000000))) fun r61 M62 => 
      some (.inl 0, M62) else none
    else
      B_X1_answer_152 v0 v3 v4 v5 s0 M
  else
    B_X1_answer_152 v0 v3 v4 v5 s0 M
def B_X1_answer_86  (v0 : Nat) (v2 : Int) (v3 : Nat) (v4 : Int) (M : Mem) : Option ((Int ⊕ Nat) × Mem) :=
  bN (d_X1_give v0 v3 v4 v2 (m_si (m_si M 811 v3 0 v4) 812 v3 0 v2)) fun r38 M39 => 
  bN (d_X1_brokenBehind v0 v3 v4 2 0 M39) fun r44 M45 => 
  if w32 r44 = w32 (-1) then
    bN (d_X1_brokenBehind v0 v3 v4 3 (m_i M45 810 v3 0) M45) fun r65 M66 => 
    B_X1_answer_138 v0 v3 v4 r44 r65 M66
  else
    B_X1_answer_138 v0 v3 v4 r44 (-1) M45
def B_X1_answer_81  (v0 : Nat) (v2 : Int) (v3 : Nat) (v4 : Int) (M : Mem) : Option ((Int ⊕ Nat) × Mem) :=
  B_X1_answer_86 v0 v2 v3 v4 (m_si M 810 v3 0 0)
def B_X1_answer_25  (v0 : Nat) (v2 : Int) (v3 : Nat) (s0 : Int) (M : Mem) : Option ((Int ⊕ Nat) × Mem) :=
  bT (d_X1_may s0 M) fun r15 M16 => 
  bR (m_r M16 800 v3 0) fun q22 => 
  if inb (m_i M16 808 v3 0) 20 then 
  bR (m_r M16 800 v3 0) fun q26 => 
  bT (d_X1_need (d_X1_isIn (w32 v2) (w32 (m_i M16 203 q22 (ixn (m_i M16 808 v3 0)))) (w32 (m_i M16 204 q26 (ixn (m_i M16 808 v3 0))))) M16) fun r30 M31 => 
  if w32 (m_i M16 808 v3 0) = w32 (m_i M31 811 v3 0) then
    if w32 v2 = w32 (m_i M31 812 v3 0) then
      B_X1_answer_86 v0 v2 v3 (m_i M16 808 v3 0) M31
    else
      B_X1_answer_81 v0 v2 v3 (m_i M16 808 v3 0) M31
  else
    B_X1_answer_81 v0 v2 v3 (m_i M16 808 v3 0) M31 else none
def B_X1_answer_24  (v0 : Nat) (v2 : Int) (v3 : Nat) (M : Mem) : Option ((Int ⊕ Nat) × Mem) :=
  B_X1_answer_25 v0 v2 v3 0 M
def d_X1_answer (v0 : Nat) (v1 : Int) (v2 : Int) (M : Mem) : Option ((Int ⊕ Nat) × Mem) :=
  bT (d_X1_sessionOf v0 v1 M) fun r7 M8 => 
  if m_kd M8 r7 = 8 then 
  if w32 (m_i M8 809 r7 0) = 0 then
    bR (d_X1_isAtEnd r7 M8) fun r72 => 
    if w32 r72 = 0 then
      B_X1_answer_25 v0 v2 r7 1 M8
    else
      B_X1_answer_24 v0 v2 r7 M8
  else
    B_X1_answer_24 v0 v2 r7 M8 else none
theorem cB_X1_answer_178 {X : x_Ctx} {M0 : Mem} (C : x_CC X 8 226 yX1_answer cX1_answer 7 (some .int) [])  (v5 : Int) (v6 : Int) (M : Mem) (r : Int ⊕ Nat) (M' : Mem)  (h : B_X1_answer_178  v5 v6 M = some (r, M')) (hR : ocN r 0 1 ≤ (XR X).cells ∧ ocN r 0 6 ≤ (XR X).slots) : x_Z X 0 0 (x_QF X M0 (ocI r) M' (ocN r 0 1) (ocN r 0 6)) M0 M 7 [(5, vI v5), (6, vI v6)] 178 [] := by
  unfold B_X1_answer_178 at h
  refine z_iload (pc := 178) C 0 rfl dX1_answer_178 ?_
  refine z_iconst (pc := 180) C dX1_answer_180 ?_
  refine z_ic_eq (pc := 181) C dX1_answer_181 (tgt := 192) (by decide) (fun c58 => ?_) (fun c58 => ?_)
  · have h := itt c58 h
    refine z_sipush (pc := 192) C (by decide +kernel) dX1_answer_192 ?_
    refine z_iload (pc := 195) C 1 rfl dX1_answer_195 ?_
    refine z_iadd (pc := 197) C dX1_answer_197 ?_
    cases h
    exact z_iret (pc := 198) C rfl (show 0 ≤ 0 from by decide) (show 0 ≤ 0 from by decide) dX1_answer_198
  · have h := itf c58 h
    refine z_bipush (pc := 184) C (by decide +kernel) dX1_answer_184 ?_
    refine z_iload (pc := 186) C 0 rfl dX1_answer_186 ?_
    refine z_iadd (pc := 188) C dX1_answer_188 ?_
    refine z_goto (pc := 189) C dX1_answer_189 (tgt := 198) (by decide) ?_
    cases h
    exact z_iret (pc := 198) C rfl (show 0 ≤ 0 from by decide) (show 0 ≤ 0 from by decide) dX1_answer_198
theorem cB_X1_answer_152 {X : x_Ctx} {M0 : Mem} (C : x_CC X 8 226 yX1_answer cX1_answer 7 (some .int) [])  (v0 : Nat) (v3 : Nat) (v4 : Int) (v5 : Int) (v6 : Int) (M : Mem) (r : Int ⊕ Nat) (M' : Mem) (hv0 : m_kd M v0 = 1) (hv3 : m_kd M v3 = 8) (h : B_X1_answer_152  v0 v3 v4 v5 v6 M = some (r, M')) (hR : ocN r 0 1 ≤ (XR X).cells ∧ ocN r 0 6 ≤ (XR X).slots) : x_Z X 0 0 (x_QF X M0 (ocI r) M' (ocN r 0 1) (ocN r 0 6)) M0 M 7 [(0, .ref v0), (3, .ref v3), (4, vI v4), (5, vI v5), (6, vI v6)] 152 [] := by
  unfold B_X1_answer_152 at h
  refine z_aload_n (pc := 152) C 0 rfl dX1_answer_152 ?_
  refine z_aload_n (pc := 153) C 1 rfl dX1_answer_153 ?_
  refine z_iload (pc := 154) C 2 rfl dX1_answer_154 ?_
  obtain ⟨r52, M53, e54, h⟩ := bNs h
  refine cX1_350 (pc := 156) (st := []) (st1 := []) C rfl (rm := { frames := 6, cells := 0, slots := 0, locals := 172 }) (ct_X1_ungive C.2.1 v0 v3 v4 M _ _ hv0 hv3 e54) ⟨by decide, by decide, Nat.zero_le _, Nat.zero_le _⟩ (Or.inl hv0) rfl (Nat.le_of_ble_eq_true rfl) dX1_answer_156 (c2 := 0) (s2 := 0) rfl rfl (fun x55 => ?_)
  have k56 := x55 _ 8 (by decide) (Or.inl (by decide)) hv3
  refine z_iload (pc := 159) C 4 rfl dX1_answer_159 ?_
  refine z_iconst (pc := 161) C dX1_answer_161 ?_
  refine z_ic_eq (pc := 162) C dX1_answer_162 (tgt := 178) (by decide) (fun c57 => ?_) (fun c57 => ?_)
  · have h := itt c57 h
    exact z_lv [3, 4] rfl <| cB_X1_answer_178 C v5 v6 M53 _ _ h hR
  · have h := itf c57 h
    refine z_aload_n (pc := 165) C 1 rfl dX1_answer_165 ?_
    refine z_dup (pc := 166) C rfl dX1_answer_166 ?_
    refine gX1_810 (pc := 167) C rfl (Or.inl k56) rfl dX1_answer_167 ?_
    refine z_iconst (pc := 170) C dX1_answer_170 ?_
    refine z_iload (pc := 171) C 4 rfl dX1_answer_171 ?_
    refine z_ishl (pc := 173) C dX1_answer_173 ?_
    refine z_ior (pc := 174) C dX1_answer_174 ?_
    refine pX1_810 (pc := 175) C rfl (Or.inl k56) dX1_answer_175 ?_
    exact z_lv [3, 4] rfl <| cB_X1_answer_178 C v5 v6 (m_si M53 810 v3 0 (o32 (m_i M53 810 v3 0) (l32 1 v6))) _ _ h hR
theorem cB_X1_answer_138 {X : x_Ctx} {M0 : Mem} (C : x_CC X 8 226 yX1_answer cX1_answer 7 (some .int) [])  (v0 : Nat) (v3 : Nat) (v4 : Int) (v5 : Int) (s0 : Int) (M : Mem) (r : Int ⊕ Nat) (M' : Mem) (hv0 : m_kd M v0 = 1) (hv3 : m_kd M v3 = 8) (h : B_X1_answer_138  v0 v3 v4 v5 s0 M = some (r, M')) (hR : ocN r 0 1 ≤ (XR X).cells ∧ ocN r 0 6 ≤ (XR X).slots) : x_Z X 0 0 (x_QF X M0 (ocI r) M' (ocN r 0 1) (ocN r 0 6)) M0 M 7 [(0, .ref v0), (3, .ref v3), (4, vI v4), (5, vI v5)] 138 [vI s0] := by
  unfold B_X1_answer_138 at h
  refine z_istore (pc := 138) C (lv' := [(0, .ref v0), (3, .ref v3), (4, vI v4), (5, vI v5), (6, vI s0)]) (by decide) rfl dX1_answer_138 ?_
  refine z_iload (pc := 140) C 3 rfl dX1_answer_140 ?_
  refine z_iconst (pc := 142) C dX1_answer_142 ?_
  refine z_ic_ne (pc := 143) C dX1_answer_143 (tgt := 152) (by decide) (fun c51 => ?_) (fun c51 => ?_)
  · have h := itf c51 h
    exact cB_X1_answer_152 C v0 v3 v4 v5 s0 M _ _ hv0 hv3 h hR
  · have h := itt c51 h
    refine z_iload (pc := 146) C 4 rfl dX1_answer_146 ?_
    refine z_iconst (pc := 148) C dX1_answer_148 ?_
    refine z_ic_eq (pc := 149) C dX1_answer_149 (tgt := 199) (by decide) (fun c59 => ?_) (fun c59 => ?_)
    · have h := itt c59 h
      refine z_aload_n (pc := 199) C 1 rfl dX1_answer_199 ?_
      refine z_iconst (pc := 200) C dX1_answer_200 ?_
      refine pX1_810 (pc := 201) C rfl (Or.inl hv3) dX1_answer_201 ?_
      refine z_aload_n (pc := 204) C 1 rfl dX1_answer_204 ?_
      refine gX1_806 (pc := 205) C rfl hv3 dX1_answer_205 ?_
      refine z_iload (pc := 208) C 2 rfl dX1_answer_208 ?_
      refine z_ldc (pc := 210) C (x := -2000000) q661 (by decide +kernel) dX1_answer_210 ?_
      obtain ⟨c60, h⟩ := ifn h
      refine z_isO (pc := 212) (k := 8) (j := 6) C 806 rfl (by decide) (by decide) (by decide) rfl rfl rfl rfl hv3 c60 dX1_answer_212 ?_
      refine z_aload_n (pc := 213) C 0 rfl dX1_answer_213 ?_
      refine z_aload_n (pc := 214) C 1 rfl dX1_answer_214 ?_
      obtain ⟨r61, M62, e63, h⟩ := bNs h
      refine cX1_357 (pc := 215) (st := []) (st1 := []) C rfl (rm := { frames := 7, cells := 0, slots := 0, locals := 199 }) (ct_X1_takeOn C.2.1 v0 v3 (m_si (m_si M 810 v3 0 0) 806 v3 (ixn v4) (-2000000)) _ _ hv0 hv3 e63) ⟨by decide, by decide, Nat.zero_le _, Nat.zero_le _⟩ (Or.inl hv0) rfl (Nat.le_of_ble_eq_true rfl) dX1_answer_215 (c2 := 0) (s2 := 0) rfl rfl (fun x64 => ?_)
      refine z_iconst (pc := 218) C dX1_answer_218 ?_
      cases h
      exact z_iret (pc := 219) C rfl (show 0 ≤ 0 from by decide) (show 0 ≤ 0 from by decide) dX1_answer_219
    · have h := itf c59 h
      exact cB_X1_answer_152 C v0 v3 v4 v5 s0 M _ _ hv0 hv3 h hR
theorem cB_X1_answer_86 {X : x_Ctx} {M0 : Mem} (C : x_CC X 8 226 yX1_answer cX1_answer 7 (some .int) [])  (v0 : Nat) (v2 : Int) (v3 : Nat) (v4 : Int) (M : Mem) (r : Int ⊕ Nat) (M' : Mem) (hv0 : m_kd M v0 = 1) (hv3 : m_kd M v3 = 8) (h : B_X1_answer_86  v0 v2 v3 v4 M = some (r, M')) (hR : ocN r 0 1 ≤ (XR X).cells ∧ ocN r 0 6 ≤ (XR X).slots) : x_Z X 0 0 (x_QF X M0 (ocI r) M' (ocN r 0 1) (ocN r 0 6)) M0 M 7 [(0, .ref v0), (2, vI v2), (3, .ref v3), (4, vI v4)] 86 [] := by
  unfold B_X1_answer_86 at h
  refine z_aload_n (pc := 86) C 2 rfl dX1_answer_86 ?_
  refine z_iload (pc := 87) C 3 rfl dX1_answer_87 ?_
  refine pX1_811 (pc := 89) C rfl (Or.inl hv3) dX1_answer_89 ?_
  refine z_aload_n (pc := 92) C 2 rfl dX1_answer_92 ?_
  refine z_iload_n (pc := 93) C 1 rfl dX1_answer_93 ?_
  refine pX1_812 (pc := 94) C rfl (Or.inl hv3) dX1_answer_94 ?_
  refine z_aload_n (pc := 97) C 0 rfl dX1_answer_97 ?_
  refine z_aload_n (pc := 98) C 2 rfl dX1_answer_98 ?_
  refine z_iload (pc := 99) C 3 rfl dX1_answer_99 ?_
  refine z_iload_n (pc := 101) C 1 rfl dX1_answer_101 ?_
  obtain ⟨r38, M39, e40, h⟩ := bNs h
  refine cX1_342 (pc := 102) (st := []) (st1 := []) C rfl (rm := { frames := 6, cells := 0, slots := 0, locals := 172 }) (ct_X1_give C.2.1 v0 v3 v4 v2 (m_si (m_si M 811 v3 0 v4) 812 v3 0 v2) _ _ hv0 hv3 e40) ⟨by decide, by decide, Nat.zero_le _, Nat.zero_le _⟩ (Or.inl hv0) rfl (Nat.le_of_ble_eq_true rfl) dX1_answer_102 (c2 := 0) (s2 := 0) rfl rfl (fun x41 => ?_)
  have k42 := x41 _ 1 (by decide) (Or.inl (by decide)) hv0
  have k43 := x41 _ 8 (by decide) (Or.inl (by decide)) hv3
  refine z_aload_n (pc := 105) C 0 rfl dX1_answer_105 ?_
  refine z_aload_n (pc := 106) C 2 rfl dX1_answer_106 ?_
  refine z_iload (pc := 107) C 3 rfl dX1_answer_107 ?_
  refine z_iconst (pc := 109) C dX1_answer_109 ?_
  refine z_iconst (pc := 110) C dX1_answer_110 ?_
  obtain ⟨r44, M45, e46, h⟩ := bNs h
  refine cX1_346 (pc := 111) (st := []) (st1 := [vI r44]) C rfl (rm := { frames := 4, cells := 0, slots := 0, locals := 118 }) (ct_X1_brokenBehind C.2.1 v0 v3 v4 2 0 M39 _ _ k42 k43 e46) ⟨by decide, by decide, Nat.zero_le _, Nat.zero_le _⟩ (Or.inl k42) rfl (Nat.le_of_ble_eq_true rfl) dX1_answer_111 (c2 := 0) (s2 := 0) rfl rfl (fun x47 => ?_)
  have k48 := x47 _ 1 (by decide) (Or.inl (by decide)) k42
  have k49 := x47 _ 8 (by decide) (Or.inl (by decide)) k43
  refine z_istore (pc := 114) C (lv' := [(0, .ref v0), (2, vI v2), (3, .ref v3), (4, vI v4), (5, vI r44)]) (by decide) rfl dX1_answer_114 ?_
  refine z_iload (pc := 116) C 4 rfl dX1_answer_116 ?_
  refine z_iconst (pc := 118) C dX1_answer_118 ?_
  refine z_ic_ne (pc := 119) C dX1_answer_119 (tgt := 137) (by decide) (fun c50 => ?_) (fun c50 => ?_)
  · have h := itf c50 h
    refine z_iconst (pc := 137) C dX1_answer_137 ?_
    exact z_lv [0, 2, 3, 4] rfl <| cB_X1_answer_138 C v0 v3 v4 r44 (-1) M45 _ _ k48 k49 h hR
  · have h := itt c50 h
    refine z_aload_n (pc := 122) C 0 rfl dX1_answer_122 ?_
    refine z_aload_n (pc := 123) C 2 rfl dX1_answer_123 ?_
    refine z_iload (pc := 124) C 3 rfl dX1_answer_124 ?_
    refine z_iconst (pc := 126) C dX1_answer_126 ?_
    refine z_aload_n (pc := 127) C 2 rfl dX1_answer_127 ?_
    refine gX1_810 (pc := 128) C rfl (Or.inl k49) rfl dX1_answer_128 ?_
    obtain ⟨r65, M66, e67, h⟩ := bNs h
    refine cX1_346 (pc := 131) (st := []) (st1 := [vI r65]) C rfl (rm := { frames := 4, cells := 0, slots := 0, locals := 118 }) (ct_X1_brokenBehind C.2.1 v0 v3 v4 3 (m_i M45 810 v3 0) M45 _ _ k48 k49 e67) ⟨by decide, by decide, Nat.zero_le _, Nat.zero_le _⟩ (Or.inl k48) rfl (Nat.le_of_ble_eq_true rfl) dX1_answer_131 (c2 := 0) (s2 := 0) rfl rfl (fun x68 => ?_)
    have k69 := x68 _ 1 (by decide) (Or.inl (by decide)) k48
    have k70 := x68 _ 8 (by decide) (Or.inl (by decide)) k49
    refine z_goto (pc := 134) C dX1_answer_134 (tgt := 138) (by decide) ?_
    exact z_lv [0, 2, 3, 4] rfl <| cB_X1_answer_138 C v0 v3 v4 r44 r65 M66 _ _ k69 k70 h hR
theorem cB_X1_answer_81 {X : x_Ctx} {M0 : Mem} (C : x_CC X 8 226 yX1_answer cX1_answer 7 (some .int) [])  (v0 : Nat) (v2 : Int) (v3 : Nat) (v4 : Int) (M : Mem) (r : Int ⊕ Nat) (M' : Mem) (hv0 : m_kd M v0 = 1) (hv3 : m_kd M v3 = 8) (h : B_X1_answer_81  v0 v2 v3 v4 M = some (r, M')) (hR : ocN r 0 1 ≤ (XR X).cells ∧ ocN r 0 6 ≤ (XR X).slots) : x_Z X 0 0 (x_QF X M0 (ocI r) M' (ocN r 0 1) (ocN r 0 6)) M0 M 7 [(0, .ref v0), (2, vI v2), (3, .ref v3), (4, vI v4)] 81 [] := by
  unfold B_X1_answer_81 at h
  refine z_aload_n (pc := 81) C 2 rfl dX1_answer_81 ?_
  refine z_iconst (pc := 82) C dX1_answer_82 ?_
  refine pX1_810 (pc := 83) C rfl (Or.inl hv3) dX1_answer_83 ?_
  exact cB_X1_answer_86 C v0 v2 v3 v4 (m_si M 810 v3 0 0) _ _ hv0 hv3 h hR
theorem cB_X1_answer_25 {X : x_Ctx} {M0 : Mem} (C : x_CC X 8 226 yX1_answer cX1_answer 7 (some .int) [])  (v0 : Nat) (v2 : Int) (v3 : Nat) (s0 : Int) (M : Mem) (r : Int ⊕ Nat) (M' : Mem) (hv0 : m_kd M v0 = 1) (hv3 : m_kd M v3 = 8) (h : B_X1_answer_25  v0 v2 v3 s0 M = some (r, M')) (hR : ocN r 0 1 ≤ (XR X).cells ∧ ocN r 0 6 ≤ (XR X).slots) : x_Z X 0 0 (x_QF X M0 (ocI r) M' (ocN r 0 1) (ocN r 0 6)) M0 M 7 [(0, .ref v0), (2, vI v2), (3, .ref v3)] 25 [vI s0] := by
  unfold B_X1_answer_25 at h
  rcases bTs h with ⟨x19, e17, er⟩ | ⟨r15, M16, e17, h⟩
  · subst er; exact tX1_190 (pc := 25) C rfl (rm := { frames := 6, cells := 1, slots := 6, locals := 90 }) (ct_X1_may C.2.1 s0 M _ _  e17) ⟨by decide, by decide, Nat.le_trans (show 1 ≤ 1 from by decide) hR.1, Nat.le_trans (show 6 ≤ 6 from by decide) hR.2⟩ (Nat.le_of_ble_eq_true rfl) dX1_answer_25 (by decide) (show 1 ≤ 1 from by decide) (show 6 ≤ 6 from by decide)
  refine cX1_190 (pc := 25) (st := []) (st1 := []) C rfl (rm := { frames := 6, cells := 0, slots := 0, locals := 90 }) (ct_X1_may C.2.1 s0 M _ _  e17) ⟨by decide, by decide, Nat.zero_le _, Nat.zero_le _⟩ rfl (Nat.le_of_ble_eq_true rfl) dX1_answer_25 (c2 := 0) (s2 := 0) rfl rfl (fun x18 => ?_)
  have k20 := x18 _ 1 (by decide) (Or.inl (by decide)) hv0
  have k21 := x18 _ 8 (by decide) (Or.inl (by decide)) hv3
  refine z_aload_n (pc := 28) C 2 rfl dX1_answer_28 ?_
  refine gX1_808 (pc := 29) C rfl (Or.inl k21) rfl dX1_answer_29 ?_
  refine z_istore (pc := 32) C (lv' := [(0, .ref v0), (2, vI v2), (3, .ref v3), (4, vI (m_i M16 808 v3 0))]) (by decide) rfl dX1_answer_32 ?_
  refine z_iload_n (pc := 34) C 1 rfl dX1_answer_34 ?_
  refine z_i2l (pc := 35) C dX1_answer_35 ?_
  refine z_aload_n (pc := 36) C 2 rfl dX1_answer_36 ?_
  obtain ⟨q22, e23, h⟩ := bRs h
  refine gX1_800 (pc := 37) C rfl (Or.inl k21) e23 dX1_answer_37 (fun k24 => ?_)
  refine gX1_203 (pc := 40) C rfl k24 dX1_answer_40 ?_
  refine z_iload (pc := 43) C 3 rfl dX1_answer_43 ?_
  obtain ⟨c25, h⟩ := ifn h
  refine z_iaO (pc := 45) (k := 2) (j := 3) C 203 rfl (by decide) (by decide) (by decide) rfl rfl rfl rfl k24 c25 rfl dX1_answer_45 ?_
  refine z_i2l (pc := 46) C dX1_answer_46 ?_
  refine z_aload_n (pc := 47) C 2 rfl dX1_answer_47 ?_
  obtain ⟨q26, e27, h⟩ := bRs h
  refine gX1_800 (pc := 48) C rfl (Or.inl k21) e27 dX1_answer_48 (fun k28 => ?_)
  refine gX1_204 (pc := 51) C rfl k28 dX1_answer_51 ?_
  refine z_iload (pc := 54) C 3 rfl dX1_answer_54 ?_
  refine z_iaO (pc := 56) (k := 2) (j := 4) C 204 rfl (by decide) (by decide) (by decide) rfl rfl rfl rfl k28 c25 rfl dX1_answer_56 ?_
  refine z_i2l (pc := 57) C dX1_answer_57 ?_
  refine cX1_159 (pc := 58) (st := []) (st1 := [vI (d_X1_isIn (w32 v2) (w32 (m_i M16 203 q22 (ixn (m_i M16 808 v3 0)))) (w32 (m_i M16 204 q26 (ixn (m_i M16 808 v3 0)))))]) C rfl (rm := { frames := 1, cells := 0, slots := 0, locals := 24 }) (ct_X1_isIn C.2.1 (w32 v2) (w32 (m_i M16 203 q22 (ixn (m_i M16 808 v3 0)))) (w32 (m_i M16 204 q26 (ixn (m_i M16 808 v3 0)))) M16 _  rfl) ⟨by decide, by decide, Nat.zero_le _, Nat.zero_le _⟩ rfl (Nat.le_of_ble_eq_true rfl) dX1_answer_58 (c2 := 0) (s2 := 0) rfl rfl (fun _ => ?_)
  rcases bTs h with ⟨x34, e32, er⟩ | ⟨r30, M31, e32, h⟩
  · subst er; exact tX1_164 (pc := 61) C rfl (rm := { frames := 6, cells := 1, slots := 6, locals := 90 }) (ct_X1_need C.2.1 (d_X1_isIn (w32 v2) (w32 (m_i M16 203 q22 (ixn (m_i M16 808 v3 0)))) (w32 (m_i M16 204 q26 (ixn (m_i M16 808 v3 0))))) M16 _ _  e32) ⟨by decide, by decide, Nat.le_trans (show 1 ≤ 1 from by decide) hR.1, Nat.le_trans (show 6 ≤ 6 from by decide) hR.2⟩ (Nat.le_of_ble_eq_true rfl) dX1_answer_61 (by decide) (show 1 ≤ 1 from by decide) (show 6 ≤ 6 from by decide)
  refine cX1_164 (pc := 61) (st := []) (st1 := []) C rfl (rm := { frames := 6, cells := 0, slots := 0, locals := 90 }) (ct_X1_need C.2.1 (d_X1_isIn (w32 v2) (w32 (m_i M16 203 q22 (ixn (m_i M16 808 v3 0)))) (w32 (m_i M16 204 q26 (ixn (m_i M16 808 v3 0))))) M16 _ _  e32) ⟨by decide, by decide, Nat.zero_le _, Nat.zero_le _⟩ rfl (Nat.le_of_ble_eq_true rfl) dX1_answer_61 (c2 := 0) (s2 := 0) rfl rfl (fun x33 => ?_)
  have k35 := x33 _ 1 (by decide) (Or.inl (by decide)) k20
  have k36 := x33 _ 8 (by decide) (Or.inl (by decide)) k21
  refine z_iload (pc := 64) C 3 rfl dX1_answer_64 ?_
  refine z_aload_n (pc := 66) C 2 rfl dX1_answer_66 ?_
  refine gX1_811 (pc := 67) C rfl (Or.inl k36) rfl dX1_answer_67 ?_
  refine z_ic_ne (pc := 70) C dX1_answer_70 (tgt := 81) (by decide) (fun c37 => ?_) (fun c37 => ?_)
  · have h := itf c37 h
    exact cB_X1_answer_81 C v0 v2 v3 (m_i M16 808 v3 0) M31 _ _ k35 k36 h hR
  · have h := itt c37 h
    refine z_iload_n (pc := 73) C 1 rfl dX1_answer_73 ?_
    refine z_aload_n (pc := 74) C 2 rfl dX1_answer_74 ?_
    refine gX1_812 (pc := 75) C rfl (Or.inl k36) rfl dX1_answer_75 ?_
    refine z_ic_eq (pc := 78) C dX1_answer_78 (tgt := 86) (by decide) (fun c71 => ?_) (fun c71 => ?_)
    · have h := itt c71 h
      exact cB_X1_answer_86 C v0 v2 v3 (m_i M16 808 v3 0) M31 _ _ k35 k36 h hR
    · have h := itf c71 h
      exact cB_X1_answer_81 C v0 v2 v3 (m_i M16 808 v3 0) M31 _ _ k35 k36 h hR
theorem cB_X1_answer_24 {X : x_Ctx} {M0 : Mem} (C : x_CC X 8 226 yX1_answer cX1_answer 7 (some .int) [])  (v0 : Nat) (v2 : Int) (v3 : Nat) (M : Mem) (r : Int ⊕ Nat) (M' : Mem) (hv0 : m_kd M v0 = 1) (hv3 : m_kd M v3 = 8) (h : B_X1_answer_24  v0 v2 v3 M = some (r, M')) (hR : ocN r 0 1 ≤ (XR X).cells ∧ ocN r 0 6 ≤ (XR X).slots) : x_Z X 0 0 (x_QF X M0 (ocI r) M' (ocN r 0 1) (ocN r 0 6)) M0 M 7 [(0, .ref v0), (2, vI v2), (3, .ref v3)] 24 [] := by
  unfold B_X1_answer_24 at h
  refine z_iconst (pc := 24) C dX1_answer_24 ?_
  exact cB_X1_answer_25 C v0 v2 v3 0 M _ _ hv0 hv3 h hR
theorem ct_X1_answer {l : Launch} {S0 : State} {D : va_G} {cA : Nat → ClassId} (hG : x_G l S0 D cA) (v0 : Nat) (v1 : Int) (v2 : Int) (M : Mem) (r : Int ⊕ Nat) (M' : Mem) (hv0 : m_kd M v0 = 1) (h : d_X1_answer v0 v1 v2 M = some (r, M')) : x_Me l S0 D cA yX1_answer cX1_answer 7 (some .int) [] ({ frames := 8, cells := (ocN r 0 1), slots := (ocN r 0 6), locals := 226 }) [.ref v0, vI v1, vI v2] M (ocI r) M' := by
  refine x_begin (F := 8) (Lo := 226) (mc := (ocN r 0 1)) (ms := (ocN r 0 6)) hG (Nat.le_of_ble_eq_true rfl) (lv := [(0, .ref v0), (1, vI v1), (2, vI v2)]) rfl rfl rfl rfl rfl (fun X e1 e2 e3 e4 e5 C => ?_)
  have hR : _ ∧ _ := ⟨Nat.le_of_eq (congrArg Room.cells e5).symm, Nat.le_of_eq (congrArg Room.slots e5).symm⟩
  unfold d_X1_answer at h
  refine z_aload_n (pc := 0) C 0 rfl dX1_answer_0 ?_
  refine z_iload_n (pc := 1) C 1 rfl dX1_answer_1 ?_
  rcases bTs h with ⟨x11, e9, er⟩ | ⟨r7, M8, e9, h⟩
  · subst er; exact tX1_322 (pc := 2) C rfl (rm := { frames := 7, cells := 1, slots := 6, locals := 114 }) (ct_X1_sessionOf C.2.1 v0 v1 M _ _ hv0 e9) ⟨by decide, by decide, Nat.le_trans (show 1 ≤ 1 from by decide) hR.1, Nat.le_trans (show 6 ≤ 6 from by decide) hR.2⟩ (Or.inl hv0) (Nat.le_of_ble_eq_true rfl) dX1_answer_2 (by decide) (show 1 ≤ 1 from by decide) (show 6 ≤ 6 from by decide)
  refine cX1_322 (pc := 2) (st := []) (st1 := [.ref r7]) C rfl (rm := { frames := 7, cells := 0, slots := 0, locals := 114 }) (ct_X1_sessionOf C.2.1 v0 v1 M _ _ hv0 e9) ⟨by decide, by decide, Nat.zero_le _, Nat.zero_le _⟩ (Or.inl hv0) rfl (Nat.le_of_ble_eq_true rfl) dX1_answer_2 (c2 := 0) (s2 := 0) rfl rfl (fun x10 => ?_)
  have k12 := x10 _ 1 (by decide) (Or.inl (by decide)) hv0
  obtain ⟨c13, h⟩ := ifn h
  refine z_astore_n (pc := 5) C (lv' := [(0, .ref v0), (1, vI v1), (2, vI v2), (3, .ref r7)]) (by decide) rfl dX1_answer_5 ?_
  refine z_aload_n (pc := 6) C 3 rfl dX1_answer_6 ?_
  refine gX1_809 (pc := 7) C rfl (Or.inl c13) rfl dX1_answer_7 ?_
  refine z_if_ne (pc := 10) C dX1_answer_10 (tgt := 24) (by decide) (fun c14 => ?_) (fun c14 => ?_)
  · have h := itf c14 h
    exact z_lv [0, 2, 3] rfl <| cB_X1_answer_24 C v0 v2 r7 M8 _ _ k12 c13 h hR
  · have h := itt c14 h
    refine z_aload_n (pc := 13) C 3 rfl dX1_answer_13 ?_
    obtain ⟨r72, e73, h⟩ := bRs h
    refine cX1_326 (pc := 14) (st := []) (st1 := [vI r72]) C rfl (rm := { frames := 1, cells := 0, slots := 0, locals := 24 }) (ct_X1_isAtEnd C.2.1 r7 M8 _ c13 e73) ⟨by decide, by decide, Nat.zero_le _, Nat.zero_le _⟩ rfl (Nat.le_of_ble_eq_true rfl) dX1_answer_14 (c2 := 0) (s2 := 0) rfl rfl (fun _ => ?_)
    refine z_if_ne (pc := 17) C dX1_answer_17 (tgt := 24) (by decide) (fun c74 => ?_) (fun c74 => ?_)
    · have h := itf c74 h
      exact z_lv [0, 2, 3] rfl <| cB_X1_answer_24 C v0 v2 r7 M8 _ _ k12 c13 h hR
    · have h := itt c74 h
      refine z_iconst (pc := 20) C dX1_answer_20 ?_
      refine z_goto (pc := 21) C dX1_answer_21 (tgt := 25) (by decide) ?_
      exact z_lv [0, 2, 3] rfl <| cB_X1_answer_25 C v0 v2 r7 1 M8 _ _ k12 c13 h hR
def d_X0_answer (v0 : Nat) (v1 : Int) (v2 : Int) (v3 : Nat) (M : Mem) : Option (Int × Mem) :=
  bC (d_X1_answer v0 v1 v2 M) (fun r1 M3 =>
    some (0, (m_si M3 9000 v3 (ixn 0) (w32 r1)))) (fun q2 M3 =>
    if m_kd M3 q2 = 115 then
      some (1, M3)
    else
      if m_kd M3 q2 = 116 then
        some (2, M3)
      else
        if m_kd M3 q2 = 113 then
          some (3, M3)
        else
          none)
theorem ct_X0_answer {l : Launch} {S0 : State} {D : va_G} {cA : Nat → ClassId} (hG : x_G l S0 D cA) (v0 : Nat) (v1 : Int) (v2 : Int) (v3 : Nat) (M : Mem) (r : Int) (M' : Mem) (hv0 : m_kd M v0 = 1) (hv3 : m_kd M v3 = 19000) (h : d_X0_answer v0 v1 v2 v3 M = some (r, M')) : x_Me l S0 D cA yX0_answer cX0_answer 5 (some .int) [(0, 10, 13, 25), (0, 10, 17, 27), (0, 10, 21, 13)] ({ frames := 9, cells := 1, slots := 6, locals := 256 }) [.ref v0, vI v1, vI v2, .ref v3] M (.returned (some (vI r))) M' := by
  refine x_begin (F := 9) (Lo := 256) (mc := 1) (ms := 6) hG (Nat.le_of_ble_eq_true rfl) (lv := [(0, .ref v0), (1, vI v1), (2, vI v2), (3, .ref v3)]) rfl rfl rfl rfl rfl (fun X e1 e2 e3 e4 e5 C => ?_)
  have hR : _ ∧ _ := ⟨Nat.le_of_eq (congrArg Room.cells e5).symm, Nat.le_of_eq (congrArg Room.slots e5).symm⟩
  unfold d_X0_answer at h
  refine z_aload_n (pc := 0) C 3 rfl dX0_answer_0 ?_
  refine z_iconst (pc := 1) C dX0_answer_1 ?_
  refine z_aload_n (pc := 2) C 0 rfl dX0_answer_2 ?_
  refine z_iload_n (pc := 3) C 1 rfl dX0_answer_3 ?_
  refine z_iload_n (pc := 4) C 2 rfl dX0_answer_4 ?_
  rcases bCs h with ⟨r1, M3, e4, h⟩ | ⟨q2, M3, e4, h⟩
  · refine cX0_59 (pc := 5) (st := [vI 0, .ref v3]) (st1 := [vI r1, vI 0, .ref v3]) C rfl (rm := { frames := 8, cells := 0, slots := 0, locals := 226 }) (ct_X1_answer C.2.1 v0 v1 v2 M _ _ hv0 e4) ⟨by decide, by decide, Nat.zero_le _, Nat.zero_le _⟩ (Or.inl hv0) rfl (Nat.le_of_ble_eq_true rfl) dX0_answer_5 (c2 := 0) (s2 := 0) rfl rfl (fun x5 => ?_)
    have k6 := x5 _ 19000 (by decide) (Or.inr (by decide)) hv3
    refine z_i2l (pc := 8) C dX0_answer_8 ?_
    refine z_lsw (pc := 9) C k6 (by decide +kernel) dX0_answer_9 ?_
    refine z_goto (pc := 10) C dX0_answer_10 (tgt := 25) (by decide) ?_
    refine z_iconst (pc := 25) C dX0_answer_25 ?_
    cases h
    exact z_iret (pc := 26) C rfl (show 0 ≤ 1 from by decide) (show 0 ≤ 6 from by decide) dX0_answer_26
  · by_cases c7 : m_kd M3 q2 = 115
    · have h := itt c7 h
      refine kX0_59 (pc := 5) (st := [vI 0, .ref v3]) C rfl (rm := { frames := 8, cells := 1, slots := 6, locals := 226 }) (r := q2) (ct_X1_answer C.2.1 v0 v1 v2 M _ _ hv0 e4) ⟨by decide, by decide, Nat.le_trans (show 1 ≤ 1 from by decide) hR.1, Nat.le_trans (show 6 ≤ 6 from by decide) hR.2⟩ (Or.inl hv0) (Nat.le_of_ble_eq_true rfl) dX0_answer_5 (e := 15) (hpc := 13) (by decide) (Or.inr c7) (Or.inr ⟨by decide, by decide, 15, by decide, q560, Or.inl ⟨rfl, rfl⟩⟩) (c2 := 1) (s2 := 6) rfl rfl (fun x8 => ?_)
      refine z_astore (pc := 13) C (lv' := [(0, .ref v0), (1, vI v1), (2, vI v2), (3, .ref v3), (4, .ref q2)]) (by decide) rfl dX0_answer_13 ?_
      refine z_iconst (pc := 15) C dX0_answer_15 ?_
      cases h
      exact z_iret (pc := 16) C rfl (show 1 ≤ 1 from by decide) (show 6 ≤ 6 from by decide) dX0_answer_16
    · have h := itf c7 h
      by_cases c9 : m_kd M3 q2 = 116
      · have h := itt c9 h
        refine kX0_59 (pc := 5) (st := [vI 0, .ref v3]) C rfl (rm := { frames := 8, cells := 1, slots := 6, locals := 226 }) (r := q2) (ct_X1_answer C.2.1 v0 v1 v2 M _ _ hv0 e4) ⟨by decide, by decide, Nat.le_trans (show 1 ≤ 1 from by decide) hR.1, Nat.le_trans (show 6 ≤ 6 from by decide) hR.2⟩ (Or.inl hv0) (Nat.le_of_ble_eq_true rfl) dX0_answer_5 (e := 16) (hpc := 17) (by decide) (Or.inr c9) (Or.inr ⟨by decide, by decide, 15, by decide, q560, Or.inr ⟨by decide, Or.inr ⟨by decide, by decide, 16, by decide, q584, Or.inl ⟨rfl, rfl⟩⟩⟩⟩) (c2 := 1) (s2 := 6) rfl rfl (fun x10 => ?_)
        refine z_astore (pc := 17) C (lv' := [(0, .ref v0), (1, vI v1), (2, vI v2), (3, .ref v3), (4, .ref q2)]) (by decide) rfl dX0_answer_17 ?_
        refine z_iconst (pc := 19) C dX0_answer_19 ?_
        cases h
        exact z_iret (pc := 20) C rfl (show 1 ≤ 1 from by decide) (show 6 ≤ 6 from by decide) dX0_answer_20
      · have h := itf c9 h
        by_cases c11 : m_kd M3 q2 = 113
        · have h := itt c11 h
          refine kX0_59 (pc := 5) (st := [vI 0, .ref v3]) C rfl (rm := { frames := 8, cells := 1, slots := 6, locals := 226 }) (r := q2) (ct_X1_answer C.2.1 v0 v1 v2 M _ _ hv0 e4) ⟨by decide, by decide, Nat.le_trans (show 1 ≤ 1 from by decide) hR.1, Nat.le_trans (show 6 ≤ 6 from by decide) hR.2⟩ (Or.inl hv0) (Nat.le_of_ble_eq_true rfl) dX0_answer_5 (e := 13) (hpc := 21) (by decide) (Or.inr c11) (Or.inr ⟨by decide, by decide, 15, by decide, q560, Or.inr ⟨by decide, Or.inr ⟨by decide, by decide, 16, by decide, q584, Or.inr ⟨by decide, Or.inr ⟨by decide, by decide, 13, by decide, q447, Or.inl ⟨rfl, rfl⟩⟩⟩⟩⟩⟩) (c2 := 1) (s2 := 6) rfl rfl (fun x12 => ?_)
          refine z_astore (pc := 21) C (lv' := [(0, .ref v0), (1, vI v1), (2, vI v2), (3, .ref v3), (4, .ref q2)]) (by decide) rfl dX0_answer_21 ?_
          refine z_iconst (pc := 23) C dX0_answer_23 ?_
          cases h
          exact z_iret (pc := 24) C rfl (show 1 ≤ 1 from by decide) (show 6 ≤ 6 from by decide) dX0_answer_24
        · have h := itf c11 h
          cases h
def B_X1_back_47  (v0 : Nat) (v2 : Nat) (v3 : Int) (M : Mem) : Option ((Int ⊕ Nat) × Mem) :=
  if 0 ≤ w32 v3 then
    if inb v3 20 then 
    bN (d_X1_ungive v0 v2 v3 (m_si (m_si M 806 v2 (ixn v3) (m_i M 805 v2 (ixn v3))) 810 v2 0 0)) fun r19 M20 => 
    some (.inl v3, M20) else none
  else
    some (.inl (-1), M)
def B_X1_back_28 (k28 : Nat → Nat → Int → Mem → Option ((Int ⊕ Nat) × Mem)) (v0 : Nat) (v2 : Nat) (v3 : Int) (M : Mem) : Option ((Int ⊕ Nat) × Mem) :=
  if w32 v3 < 0 then
    B_X1_back_47 v0 v2 v3 M
  else
    if inb v3 20 then 
    if w32 (m_i M 804 v2 (ixn v3)) = 0 then
      k28 v0 v2 (v3 + (-1)) M
    else
      B_X1_back_47 v0 v2 v3 M else none
def L_X1_back_28  : Nat → Nat → Nat → Int → Mem → Option ((Int ⊕ Nat) × Mem)
  | 0, _, _, _, _ => none
  | n + 1, v0, v2, v3, M => B_X1_back_28 (L_X1_back_28  n) v0 v2 v3 M
def d_X1_back (v0 : Nat) (v1 : Int) (M : Mem) : Option ((Int ⊕ Nat) × Mem) :=
  bT (d_X1_sessionOf v0 v1 M) fun r1 M2 => 
  if m_kd M2 r1 = 8 then 
  if w32 (m_i M2 809 r1 0) = 0 then
    bT (d_X1_may 1 M2) fun r25 M26 => 
    L_X1_back_28 FU v0 r1 ((m_i M26 808 r1 0) - 1) M26
  else
    bT (d_X1_may 0 M2) fun r9 M10 => 
    L_X1_back_28 FU v0 r1 ((m_i M10 808 r1 0) - 1) M10 else none
theorem cB_X1_back_47 {X : x_Ctx} {M0 : Mem} (C : x_CC X 8 198 yX1_back cX1_back 4 (some .int) [])  (v0 : Nat) (v2 : Nat) (v3 : Int) (M : Mem) (r : Int ⊕ Nat) (M' : Mem) (hv0 : m_kd M v0 = 1) (hv2 : m_kd M v2 = 8) (h : B_X1_back_47  v0 v2 v3 M = some (r, M')) (hR : ocN r 0 1 ≤ (XR X).cells ∧ ocN r 0 6 ≤ (XR X).slots) : x_Z X 0 0 (x_QF X M0 (ocI r) M' (ocN r 0 1) (ocN r 0 6)) M0 M 4 [(0, .ref v0), (2, .ref v2), (3, vI v3)] 47 [] := by
  unfold B_X1_back_47 at h
  refine z_iload_n (pc := 47) C 2 rfl dX1_back_47 ?_
  refine z_if_ge (pc := 48) C dX1_back_48 (tgt := 53) (by decide) (fun c17 => ?_) (fun c17 => ?_)
  · have h := itt c17 h
    refine z_aload_n (pc := 53) C 1 rfl dX1_back_53 ?_
    refine gX1_806 (pc := 54) C rfl hv2 dX1_back_54 ?_
    refine z_iload_n (pc := 57) C 2 rfl dX1_back_57 ?_
    refine z_aload_n (pc := 58) C 1 rfl dX1_back_58 ?_
    refine gX1_805 (pc := 59) C rfl hv2 dX1_back_59 ?_
    refine z_iload_n (pc := 62) C 2 rfl dX1_back_62 ?_
    obtain ⟨c18, h⟩ := ifn h
    refine z_iaO (pc := 63) (k := 8) (j := 5) C 805 rfl (by decide) (by decide) (by decide) rfl rfl rfl rfl hv2 c18 rfl dX1_back_63 ?_
    refine z_isO (pc := 64) (k := 8) (j := 6) C 806 rfl (by decide) (by decide) (by decide) rfl rfl rfl rfl hv2 c18 dX1_back_64 ?_
    refine z_aload_n (pc := 65) C 1 rfl dX1_back_65 ?_
    refine z_iconst (pc := 66) C dX1_back_66 ?_
    refine pX1_810 (pc := 67) C rfl (Or.inl hv2) dX1_back_67 ?_
    refine z_aload_n (pc := 70) C 0 rfl dX1_back_70 ?_
    refine z_aload_n (pc := 71) C 1 rfl dX1_back_71 ?_
    refine z_iload_n (pc := 72) C 2 rfl dX1_back_72 ?_
    obtain ⟨r19, M20, e21, h⟩ := bNs h
    refine cX1_350 (pc := 73) (st := []) (st1 := []) C rfl (rm := { frames := 6, cells := 0, slots := 0, locals := 172 }) (ct_X1_ungive C.2.1 v0 v2 v3 (m_si (m_si M 806 v2 (ixn v3) (m_i M 805 v2 (ixn v3))) 810 v2 0 0) _ _ hv0 hv2 e21) ⟨by decide, by decide, Nat.zero_le _, Nat.zero_le _⟩ (Or.inl hv0) rfl (Nat.le_of_ble_eq_true rfl) dX1_back_73 (c2 := 0) (s2 := 0) rfl rfl (fun x22 => ?_)
    refine z_iload_n (pc := 76) C 2 rfl dX1_back_76 ?_
    cases h
    exact z_iret (pc := 77) C rfl (show 0 ≤ 0 from by decide) (show 0 ≤ 0 from by decide) dX1_back_77
  · have h := itf c17 h
    refine z_iconst (pc := 51) C dX1_back_51 ?_
    cases h
    exact z_iret (pc := 52) C rfl (show 0 ≤ 0 from by decide) (show 0 ≤ 0 from by decide) dX1_back_52
theorem cB_X1_back_28 {X : x_Ctx} {M0 : Mem} (C : x_CC X 8 198 yX1_back cX1_back 4 (some .int) []) {k28 : Nat → Nat → Int → Mem → Option ((Int ⊕ Nat) × Mem)} (hk28 : ∀ (v0 : Nat) (v2 : Nat) (v3 : Int) (M : Mem) (r : Int ⊕ Nat) (M' : Mem), m_kd M v0 = 1 → m_kd M v2 = 8 → k28 v0 v2 v3 M = some (r, M') → ocN r 0 1 ≤ (XR X).cells ∧ ocN r 0 6 ≤ (XR X).slots → x_Z X 0 0 (x_QF X M0 (ocI r) M' (ocN r 0 1) (ocN r 0 6)) M0 M 4 [(0, .ref v0), (2, .ref v2), (3, vI v3)] 28 []) (v0 : Nat) (v2 : Nat) (v3 : Int) (M : Mem) (r : Int ⊕ Nat) (M' : Mem) (hv0 : m_kd M v0 = 1) (hv2 : m_kd M v2 = 8) (h : B_X1_back_28 k28 v0 v2 v3 M = some (r, M')) (hR : ocN r 0 1 ≤ (XR X).cells ∧ ocN r 0 6 ≤ (XR X).slots) : x_Z X 0 0 (x_QF X M0 (ocI r) M' (ocN r 0 1) (ocN r 0 6)) M0 M 4 [(0, .ref v0), (2, .ref v2), (3, vI v3)] 28 [] := by
  unfold B_X1_back_28 at h
  refine z_iload_n (pc := 28) C 2 rfl dX1_back_28 ?_
  refine z_if_lt (pc := 29) C dX1_back_29 (tgt := 47) (by decide) (fun c16 => ?_) (fun c16 => ?_)
  · have h := itt c16 h
    exact cB_X1_back_47 C v0 v2 v3 M _ _ hv0 hv2 h hR
  · have h := itf c16 h
    refine z_aload_n (pc := 32) C 1 rfl dX1_back_32 ?_
    refine gX1_804 (pc := 33) C rfl hv2 dX1_back_33 ?_
    refine z_iload_n (pc := 36) C 2 rfl dX1_back_36 ?_
    obtain ⟨c23, h⟩ := ifn h
    refine z_zaO (pc := 37) (k := 8) (j := 4) C 804 rfl (by decide) (by decide) (by decide) rfl rfl rfl rfl hv2 c23 rfl dX1_back_37 ?_
    refine z_if_ne (pc := 38) C dX1_back_38 (tgt := 47) (by decide) (fun c24 => ?_) (fun c24 => ?_)
    · have h := itf c24 h
      exact cB_X1_back_47 C v0 v2 v3 M _ _ hv0 hv2 h hR
    · have h := itt c24 h
      refine z_iinc (pc := 41) C (lv' := [(0, .ref v0), (2, .ref v2), (3, vI (v3 + (-1)))]) 2 rfl (by decide) rfl dX1_back_41 ?_
      refine z_goto (pc := 44) C dX1_back_44 (tgt := 28) (by decide) ?_
      exact hk28 v0 v2 (v3 + (-1)) M _ _ hv0 hv2 h hR
theorem cL_X1_back_28 {X : x_Ctx} {M0 : Mem} (C : x_CC X 8 198 yX1_back cX1_back 4 (some .int) [])  : ∀ (n : Nat) (v0 : Nat) (v2 : Nat) (v3 : Int) (M : Mem) (r : Int ⊕ Nat) (M' : Mem) (hv0 : m_kd M v0 = 1) (hv2 : m_kd M v2 = 8) (h : L_X1_back_28  n v0 v2 v3 M = some (r, M')) (hR : ocN r 0 1 ≤ (XR X).cells ∧ ocN r 0 6 ≤ (XR X).slots), x_Z X 0 0 (x_QF X M0 (ocI r) M' (ocN r 0 1) (ocN r 0 6)) M0 M 4 [(0, .ref v0), (2, .ref v2), (3, vI v3)] 28 [] := by
  intro n
  induction n with
  | zero => intro v0 v2 v3 M r M' hv0 hv2 h hR; cases h
  | succ n ih => intro v0 v2 v3 M r M' hv0 hv2 h hR; exact cB_X1_back_28 C (fun v0 v2 v3 M r M' hv0 hv2 h hR => ih v0 v2 v3 M r M' hv0 hv2 h hR) v0 v2 v3 M r M' hv0 hv2 h hR
theorem ct_X1_back {l : Launch} {S0 : State} {D : va_G} {cA : Nat → ClassId} (hG : x_G l S0 D cA) (v0 : Nat) (v1 : Int) (M : Mem) (r : Int ⊕ Nat) (M' : Mem) (hv0 : m_kd M v0 = 1) (h : d_X1_back v0 v1 M = some (r, M')) : x_Me l S0 D cA yX1_back cX1_back 4 (some .int) [] ({ frames := 8, cells := (ocN r 0 1), slots := (ocN r 0 6), locals := 198 }) [.ref v0, vI v1] M (ocI r) M' := by
  refine x_begin (F := 8) (Lo := 198) (mc := (ocN r 0 1)) (ms := (ocN r 0 6)) hG (Nat.le_of_ble_eq_true rfl) (lv := [(0, .ref v0), (1, vI v1)]) rfl rfl rfl rfl rfl (fun X e1 e2 e3 e4 e5 C => ?_)
  have hR : _ ∧ _ := ⟨Nat.le_of_eq (congrArg Room.cells e5).symm, Nat.le_of_eq (congrArg Room.slots e5).symm⟩
  unfold d_X1_back at h
  refine z_aload_n (pc := 0) C 0 rfl dX1_back_0 ?_
  refine z_iload_n (pc := 1) C 1 rfl dX1_back_1 ?_
  rcases bTs h with ⟨x5, e3, er⟩ | ⟨r1, M2, e3, h⟩
  · subst er; exact tX1_322 (pc := 2) C rfl (rm := { frames := 7, cells := 1, slots := 6, locals := 114 }) (ct_X1_sessionOf C.2.1 v0 v1 M _ _ hv0 e3) ⟨by decide, by decide, Nat.le_trans (show 1 ≤ 1 from by decide) hR.1, Nat.le_trans (show 6 ≤ 6 from by decide) hR.2⟩ (Or.inl hv0) (Nat.le_of_ble_eq_true rfl) dX1_back_2 (by decide) (show 1 ≤ 1 from by decide) (show 6 ≤ 6 from by decide)
  refine cX1_322 (pc := 2) (st := []) (st1 := [.ref r1]) C rfl (rm := { frames := 7, cells := 0, slots := 0, locals := 114 }) (ct_X1_sessionOf C.2.1 v0 v1 M _ _ hv0 e3) ⟨by decide, by decide, Nat.zero_le _, Nat.zero_le _⟩ (Or.inl hv0) rfl (Nat.le_of_ble_eq_true rfl) dX1_back_2 (c2 := 0) (s2 := 0) rfl rfl (fun x4 => ?_)
  have k6 := x4 _ 1 (by decide) (Or.inl (by decide)) hv0
  obtain ⟨c7, h⟩ := ifn h
  refine z_astore_n (pc := 5) C (lv' := [(0, .ref v0), (1, vI v1), (2, .ref r1)]) (by decide) rfl dX1_back_5 ?_
  refine z_aload_n (pc := 6) C 2 rfl dX1_back_6 ?_
  refine gX1_809 (pc := 7) C rfl (Or.inl c7) rfl dX1_back_7 ?_
  refine z_if_ne (pc := 10) C dX1_back_10 (tgt := 17) (by decide) (fun c8 => ?_) (fun c8 => ?_)
  · have h := itf c8 h
    refine z_iconst (pc := 17) C dX1_back_17 ?_
    rcases bTs h with ⟨x13, e11, er⟩ | ⟨r9, M10, e11, h⟩
    · subst er; exact tX1_190 (pc := 18) C rfl (rm := { frames := 6, cells := 1, slots := 6, locals := 90 }) (ct_X1_may C.2.1 0 M2 _ _  e11) ⟨by decide, by decide, Nat.le_trans (show 1 ≤ 1 from by decide) hR.1, Nat.le_trans (show 6 ≤ 6 from by decide) hR.2⟩ (Nat.le_of_ble_eq_true rfl) dX1_back_18 (by decide) (show 1 ≤ 1 from by decide) (show 6 ≤ 6 from by decide)
    refine cX1_190 (pc := 18) (st := []) (st1 := []) C rfl (rm := { frames := 6, cells := 0, slots := 0, locals := 90 }) (ct_X1_may C.2.1 0 M2 _ _  e11) ⟨by decide, by decide, Nat.zero_le _, Nat.zero_le _⟩ rfl (Nat.le_of_ble_eq_true rfl) dX1_back_18 (c2 := 0) (s2 := 0) rfl rfl (fun x12 => ?_)
    have k14 := x12 _ 1 (by decide) (Or.inl (by decide)) k6
    have k15 := x12 _ 8 (by decide) (Or.inl (by decide)) c7
    refine z_aload_n (pc := 21) C 2 rfl dX1_back_21 ?_
    refine gX1_808 (pc := 22) C rfl (Or.inl k15) rfl dX1_back_22 ?_
    refine z_iconst (pc := 25) C dX1_back_25 ?_
    refine z_isub (pc := 26) C dX1_back_26 ?_
    refine z_istore_n (pc := 27) C (lv' := [(0, .ref v0), (1, vI v1), (2, .ref r1), (3, vI ((m_i M10 808 r1 0) - 1))]) (by decide) rfl dX1_back_27 ?_
    exact z_lv [0, 2, 3] rfl <| cL_X1_back_28 C FU v0 r1 ((m_i M10 808 r1 0) - 1) M10 _ _ k14 k15 h hR
  · have h := itt c8 h
    refine z_iconst (pc := 13) C dX1_back_13 ?_
    refine z_goto (pc := 14) C dX1_back_14 (tgt := 18) (by decide) ?_
    rcases bTs h with ⟨x29, e27, er⟩ | ⟨r25, M26, e27, h⟩
    · subst er; exact tX1_190 (pc := 18) C rfl (rm := { frames := 6, cells := 1, slots := 6, locals := 90 }) (ct_X1_may C.2.1 1 M2 _ _  e27) ⟨by decide, by decide, Nat.le_trans (show 1 ≤ 1 from by decide) hR.1, Nat.le_trans (show 6 ≤ 6 from by decide) hR.2⟩ (Nat.le_of_ble_eq_true rfl) dX1_back_18 (by decide) (show 1 ≤ 1 from by decide) (show 6 ≤ 6 from by decide)
    refine cX1_190 (pc := 18) (st := []) (st1 := []) C rfl (rm := { frames := 6, cells := 0, slots := 0, locals := 90 }) (ct_X1_may C.2.1 1 M2 _ _  e27) ⟨by decide, by decide, Nat.zero_le _, Nat.zero_le _⟩ rfl (Nat.le_of_ble_eq_true rfl) dX1_back_18 (c2 := 0) (s2 := 0) rfl rfl (fun x28 => ?_)
    have k30 := x28 _ 1 (by decide) (Or.inl (by decide)) k6
    have k31 := x28 _ 8 (by decide) (Or.inl (by decide)) c7
    refine z_aload_n (pc := 21) C 2 rfl dX1_back_21 ?_
    refine gX1_808 (pc := 22) C rfl (Or.inl k31) rfl dX1_back_22 ?_
    refine z_iconst (pc := 25) C dX1_back_25 ?_
    refine z_isub (pc := 26) C dX1_back_26 ?_
    refine z_istore_n (pc := 27) C (lv' := [(0, .ref v0), (1, vI v1), (2, .ref r1), (3, vI ((m_i M26 808 r1 0) - 1))]) (by decide) rfl dX1_back_27 ?_
    exact z_lv [0, 2, 3] rfl <| cL_X1_back_28 C FU v0 r1 ((m_i M26 808 r1 0) - 1) M26 _ _ k30 k31 h hR
def d_X0_back (v0 : Nat) (v1 : Int) (v2 : Nat) (M : Mem) : Option (Int × Mem) :=
  bC (d_X1_back v0 v1 M) (fun r1 M3 =>
    some (0, (m_si M3 9000 v2 (ixn 0) (w32 r1)))) (fun q2 M3 =>
    if m_kd M3 q2 = 115 then
      some (1, M3)
    else
      if m_kd M3 q2 = 116 then
        some (2, M3)
      else
        none)
theorem ct_X0_back {l : Launch} {S0 : State} {D : va_G} {cA : Nat → ClassId} (hG : x_G l S0 D cA) (v0 : Nat) (v1 : Int) (v2 : Nat) (M : Mem) (r : Int) (M' : Mem) (hv0 : m_kd M v0 = 1) (hv2 : m_kd M v2 = 19000) (h : d_X0_back v0 v1 v2 M = some (r, M')) : x_Me l S0 D cA yX0_back cX0_back 4 (some .int) [(0, 9, 12, 25), (0, 9, 15, 27)] ({ frames := 9, cells := 1, slots := 6, locals := 225 }) [.ref v0, vI v1, .ref v2] M (.returned (some (vI r))) M' := by
  refine x_begin (F := 9) (Lo := 225) (mc := 1) (ms := 6) hG (Nat.le_of_ble_eq_true rfl) (lv := [(0, .ref v0), (1, vI v1), (2, .ref v2)]) rfl rfl rfl rfl rfl (fun X e1 e2 e3 e4 e5 C => ?_)
  have hR : _ ∧ _ := ⟨Nat.le_of_eq (congrArg Room.cells e5).symm, Nat.le_of_eq (congrArg Room.slots e5).symm⟩
  unfold d_X0_back at h
  refine z_aload_n (pc := 0) C 2 rfl dX0_back_0 ?_
  refine z_iconst (pc := 1) C dX0_back_1 ?_
  refine z_aload_n (pc := 2) C 0 rfl dX0_back_2 ?_
  refine z_iload_n (pc := 3) C 1 rfl dX0_back_3 ?_
  rcases bCs h with ⟨r1, M3, e4, h⟩ | ⟨q2, M3, e4, h⟩
  · refine cX0_62 (pc := 4) (st := [vI 0, .ref v2]) (st1 := [vI r1, vI 0, .ref v2]) C rfl (rm := { frames := 8, cells := 0, slots := 0, locals := 198 }) (ct_X1_back C.2.1 v0 v1 M _ _ hv0 e4) ⟨by decide, by decide, Nat.zero_le _, Nat.zero_le _⟩ (Or.inl hv0) rfl (Nat.le_of_ble_eq_true rfl) dX0_back_4 (c2 := 0) (s2 := 0) rfl rfl (fun x5 => ?_)
    have k6 := x5 _ 19000 (by decide) (Or.inr (by decide)) hv2
    refine z_i2l (pc := 7) C dX0_back_7 ?_
    refine z_lsw (pc := 8) C k6 (by decide +kernel) dX0_back_8 ?_
    refine z_goto (pc := 9) C dX0_back_9 (tgt := 18) (by decide) ?_
    refine z_iconst (pc := 18) C dX0_back_18 ?_
    cases h
    exact z_iret (pc := 19) C rfl (show 0 ≤ 1 from by decide) (show 0 ≤ 6 from by decide) dX0_back_19
  · by_cases c7 : m_kd M3 q2 = 115
    · have h := itt c7 h
      refine kX0_62 (pc := 4) (st := [vI 0, .ref v2]) C rfl (rm := { frames := 8, cells := 1, slots := 6, locals := 198 }) (r := q2) (ct_X1_back C.2.1 v0 v1 M _ _ hv0 e4) ⟨by decide, by decide, Nat.le_trans (show 1 ≤ 1 from by decide) hR.1, Nat.le_trans (show 6 ≤ 6 from by decide) hR.2⟩ (Or.inl hv0) (Nat.le_of_ble_eq_true rfl) dX0_back_4 (e := 15) (hpc := 12) (by decide) (Or.inr c7) (Or.inr ⟨by decide, by decide, 15, by decide, q560, Or.inl ⟨rfl, rfl⟩⟩) (c2 := 1) (s2 := 6) rfl rfl (fun x8 => ?_)
      refine z_astore_n (pc := 12) C (lv' := [(0, .ref v0), (1, vI v1), (2, .ref v2), (3, .ref q2)]) (by decide) rfl dX0_back_12 ?_
      refine z_iconst (pc := 13) C dX0_back_13 ?_
      cases h
      exact z_iret (pc := 14) C rfl (show 1 ≤ 1 from by decide) (show 6 ≤ 6 from by decide) dX0_back_14
    · have h := itf c7 h
      by_cases c9 : m_kd M3 q2 = 116
      · have h := itt c9 h
        refine kX0_62 (pc := 4) (st := [vI 0, .ref v2]) C rfl (rm := { frames := 8, cells := 1, slots := 6, locals := 198 }) (r := q2) (ct_X1_back C.2.1 v0 v1 M _ _ hv0 e4) ⟨by decide, by decide, Nat.le_trans (show 1 ≤ 1 from by decide) hR.1, Nat.le_trans (show 6 ≤ 6 from by decide) hR.2⟩ (Or.inl hv0) (Nat.le_of_ble_eq_true rfl) dX0_back_4 (e := 16) (hpc := 15) (by decide) (Or.inr c9) (Or.inr ⟨by decide, by decide, 15, by decide, q560, Or.inr ⟨by decide, Or.inr ⟨by decide, by decide, 16, by decide, q584, Or.inl ⟨rfl, rfl⟩⟩⟩⟩) (c2 := 1) (s2 := 6) rfl rfl (fun x10 => ?_)
        refine z_astore_n (pc := 15) C (lv' := [(0, .ref v0), (1, vI v1), (2, .ref v2), (3, .ref q2)]) (by decide) rfl dX0_back_15 ?_
        refine z_iconst (pc := 16) C dX0_back_16 ?_
        cases h
        exact z_iret (pc := 17) C rfl (show 1 ≤ 1 from by decide) (show 6 ≤ 6 from by decide) dX0_back_17
      · have h := itf c9 h
        cases h
def d_X1_given (v0 : Nat) (v1 : Int) (v2 : Int) (v3 : Int) (M : Mem) : Option ((Int ⊕ Nat) × Mem) :=
  bT (d_X1_sessionOf v0 v1 M) fun r4 M5 => 
  if m_kd M5 r4 = 8 then 
  bR (m_r M5 800 r4 0) fun q10 => 
  bT (d_X1_statementIn q10 v2 M5) fun r13 M14 => 
  if w32 v3 = 0 then
    if inb v2 20 then 
    some (.inl (m_i M14 807 r4 (ixn v2)), M14) else none
  else
    if inb v2 20 then 
    some (.inl (m_i M14 806 r4 (ixn v2)), M14) else none else none
theorem ct_X1_given {l : Launch} {S0 : State} {D : va_G} {cA : Nat → ClassId} (hG : x_G l S0 D cA) (v0 : Nat) (v1 : Int) (v2 : Int) (v3 : Int) (M : Mem) (r : Int ⊕ Nat) (M' : Mem) (hv0 : m_kd M v0 = 1) (h : d_X1_given v0 v1 v2 v3 M = some (r, M')) : x_Me l S0 D cA yX1_given cX1_given 5 (some .int) [] ({ frames := 8, cells := (ocN r 0 1), slots := (ocN r 0 6), locals := 139 }) [.ref v0, vI v1, vI v2, vI v3] M (ocI r) M' := by
  refine x_begin (F := 8) (Lo := 139) (mc := (ocN r 0 1)) (ms := (ocN r 0 6)) hG (Nat.le_of_ble_eq_true rfl) (lv := [(0, .ref v0), (1, vI v1), (2, vI v2), (3, vI v3)]) rfl rfl rfl rfl rfl (fun X e1 e2 e3 e4 e5 C => ?_)
  have hR : _ ∧ _ := ⟨Nat.le_of_eq (congrArg Room.cells e5).symm, Nat.le_of_eq (congrArg Room.slots e5).symm⟩
  unfold d_X1_given at h
  refine z_aload_n (pc := 0) C 0 rfl dX1_given_0 ?_
  refine z_iload_n (pc := 1) C 1 rfl dX1_given_1 ?_
  rcases bTs h with ⟨x8, e6, er⟩ | ⟨r4, M5, e6, h⟩
  · subst er; exact tX1_322 (pc := 2) C rfl (rm := { frames := 7, cells := 1, slots := 6, locals := 114 }) (ct_X1_sessionOf C.2.1 v0 v1 M _ _ hv0 e6) ⟨by decide, by decide, Nat.le_trans (show 1 ≤ 1 from by decide) hR.1, Nat.le_trans (show 6 ≤ 6 from by decide) hR.2⟩ (Or.inl hv0) (Nat.le_of_ble_eq_true rfl) dX1_given_2 (by decide) (show 1 ≤ 1 from by decide) (show 6 ≤ 6 from by decide)
  refine cX1_322 (pc := 2) (st := []) (st1 := [.ref r4]) C rfl (rm := { frames := 7, cells := 0, slots := 0, locals := 114 }) (ct_X1_sessionOf C.2.1 v0 v1 M _ _ hv0 e6) ⟨by decide, by decide, Nat.zero_le _, Nat.zero_le _⟩ (Or.inl hv0) rfl (Nat.le_of_ble_eq_true rfl) dX1_given_2 (c2 := 0) (s2 := 0) rfl rfl (fun x7 => ?_)
  obtain ⟨c9, h⟩ := ifn h
  refine z_astore (pc := 5) C (lv' := [(0, .ref v0), (1, vI v1), (2, vI v2), (3, vI v3), (4, .ref r4)]) (by decide) rfl dX1_given_5 ?_
  refine z_aload (pc := 7) C 4 rfl dX1_given_7 ?_
  obtain ⟨q10, e11, h⟩ := bRs h
  refine gX1_800 (pc := 9) C rfl (Or.inl c9) e11 dX1_given_9 (fun k12 => ?_)
  refine z_iload_n (pc := 12) C 2 rfl dX1_given_12 ?_
  rcases bTs h with ⟨x17, e15, er⟩ | ⟨r13, M14, e15, h⟩
  · subst er; exact tX1_239 (pc := 13) C rfl (rm := { frames := 7, cells := 1, slots := 6, locals := 114 }) (ct_X1_statementIn C.2.1 q10 v2 M5 _ _ k12 e15) ⟨by decide, by decide, Nat.le_trans (show 1 ≤ 1 from by decide) hR.1, Nat.le_trans (show 6 ≤ 6 from by decide) hR.2⟩ (Nat.le_of_ble_eq_true rfl) dX1_given_13 (by decide) (show 1 ≤ 1 from by decide) (show 6 ≤ 6 from by decide)
  refine cX1_239 (pc := 13) (st := []) (st1 := []) C rfl (rm := { frames := 7, cells := 0, slots := 0, locals := 114 }) (ct_X1_statementIn C.2.1 q10 v2 M5 _ _ k12 e15) ⟨by decide, by decide, Nat.zero_le _, Nat.zero_le _⟩ rfl (Nat.le_of_ble_eq_true rfl) dX1_given_13 (c2 := 0) (s2 := 0) rfl rfl (fun x16 => ?_)
  have k18 := x16 _ 8 (by decide) (Or.inl (by decide)) c9
  refine z_iload_n (pc := 16) C 3 rfl dX1_given_16 ?_
  refine z_if_eq (pc := 17) C dX1_given_17 (tgt := 30) (by decide) (fun c19 => ?_) (fun c19 => ?_)
  · have h := itt c19 h
    refine z_aload (pc := 30) C 4 rfl dX1_given_30 ?_
    refine gX1_807 (pc := 32) C rfl k18 dX1_given_32 ?_
    refine z_iload_n (pc := 35) C 2 rfl dX1_given_35 ?_
    obtain ⟨c20, h⟩ := ifn h
    refine z_iaO (pc := 36) (k := 8) (j := 7) C 807 rfl (by decide) (by decide) (by decide) rfl rfl rfl rfl k18 c20 rfl dX1_given_36 ?_
    cases h
    exact z_iret (pc := 37) C rfl (show 0 ≤ 0 from by decide) (show 0 ≤ 0 from by decide) dX1_given_37
  · have h := itf c19 h
    refine z_aload (pc := 20) C 4 rfl dX1_given_20 ?_
    refine gX1_806 (pc := 22) C rfl k18 dX1_given_22 ?_
    refine z_iload_n (pc := 25) C 2 rfl dX1_given_25 ?_
    obtain ⟨c21, h⟩ := ifn h
    refine z_iaO (pc := 26) (k := 8) (j := 6) C 806 rfl (by decide) (by decide) (by decide) rfl rfl rfl rfl k18 c21 rfl dX1_given_26 ?_
    refine z_goto (pc := 27) C dX1_given_27 (tgt := 37) (by decide) ?_
    cases h
    exact z_iret (pc := 37) C rfl (show 0 ≤ 0 from by decide) (show 0 ≤ 0 from by decide) dX1_given_37
