set_option maxRecDepth 100000
def d_X2_lay (v0 : Nat) (v1 : Int) (v2 : Int) (M : Mem) : Option (Int × Mem) :=
  if inb (m_i M 208 v0 0) 3600 then 
  if inb ((m_i M 208 v0 0) + 1) 3600 then 
  some (0, (m_si (m_si (m_si M 207 v0 (ixn (m_i M 208 v0 0)) v1) 207 v0 (ixn ((m_i M 208 v0 0) + 1)) v2) 208 v0 0 ((m_i M 208 v0 0) + 2))) else none else none
theorem ct_X2_lay {l : Launch} {S0 : State} {D : va_G} {cA : Nat → ClassId} (hG : x_G l S0 D cA) (v0 : Nat) (v1 : Int) (v2 : Int) (M : Mem) (r : Int) (M' : Mem) (hv0 : m_kd M v0 = 2) (h : d_X2_lay v0 v1 v2 M = some (r, M')) : x_Me l S0 D cA yX2_lay cX2_lay 3 none [] ({ frames := 1, cells := 0, slots := 0, locals := 24 }) [.ref v0, vI v1, vI v2] M (.returned none) M' := by
  refine x_begin (F := 1) (Lo := 24) (mc := 0) (ms := 0) hG (Nat.le_of_ble_eq_true rfl) (lv := [(0, .ref v0), (1, vI v1), (2, vI v2)]) rfl rfl rfl rfl rfl (fun X e1 e2 e3 e4 e5 C => ?_)
  unfold d_X2_lay at h
  refine z_aload_n (pc := 0) C 0 rfl dX2_lay_0 ?_
  refine gX2_207 (pc := 1) C rfl hv0 dX2_lay_1 ?_
  refine z_aload_n (pc := 4) C 0 rfl dX2_lay_4 ?_
  refine gX2_208 (pc := 5) C rfl (Or.inl hv0) rfl dX2_lay_5 ?_
  refine z_iload_n (pc := 8) C 1 rfl dX2_lay_8 ?_
  obtain ⟨c1, h⟩ := ifn h
  refine z_isO (pc := 9) (k := 2) (j := 7) C 207 rfl (by decide) (by decide) (by decide) rfl rfl rfl rfl hv0 c1 dX2_lay_9 ?_
  refine z_aload_n (pc := 10) C 0 rfl dX2_lay_10 ?_
  refine gX2_207 (pc := 11) C rfl hv0 dX2_lay_11 ?_
  refine z_aload_n (pc := 14) C 0 rfl dX2_lay_14 ?_
  refine gX2_208 (pc := 15) C rfl (Or.inl hv0) (x := m_i M 208 v0 0) ((m_i_ne (by decide)).trans rfl) dX2_lay_15 ?_
  refine z_iconst (pc := 18) C dX2_lay_18 ?_
  refine z_iadd (pc := 19) C dX2_lay_19 ?_
  refine z_iload_n (pc := 20) C 2 rfl dX2_lay_20 ?_
  obtain ⟨c2, h⟩ := ifn h
  refine z_isO (pc := 21) (k := 2) (j := 7) C 207 rfl (by decide) (by decide) (by decide) rfl rfl rfl rfl hv0 c2 dX2_lay_21 ?_
  refine z_aload_n (pc := 22) C 0 rfl dX2_lay_22 ?_
  refine z_dup (pc := 23) C rfl dX2_lay_23 ?_
  refine gX2_208 (pc := 24) C rfl (Or.inl hv0) (x := m_i M 208 v0 0) ((m_i_ne (by decide)).trans ((m_i_ne (by decide)).trans rfl)) dX2_lay_24 ?_
  refine z_iconst (pc := 27) C dX2_lay_27 ?_
  refine z_iadd (pc := 28) C dX2_lay_28 ?_
  refine pX2_208 (pc := 29) C rfl (Or.inl hv0) dX2_lay_29 ?_
  cases h
  exact z_vret (pc := 32) C rfl (show 0 ≤ 0 from by decide) (show 0 ≤ 0 from by decide) dX2_lay_32
def B_X6_term_140  (v0 : Nat) (s0 : Nat) (s1 : Int) (M : Mem) : Option ((Int ⊕ Nat) × Mem) :=
  bT (d_X6_want s0 s1 M) fun r29 M30 => 
  bR (m_r M30 600 v0 0) fun q35 => 
  bR (d_X6_nameHere v0 M30) fun r38 => 
  bR (d_X6_item v0 r38 M30) fun r40 => 
  bN (d_X2_lay q35 1 r40 M30) fun r42 M43 => 
  bN (d_X6_next v0 M43) fun r47 M48 => 
  some (.inl 0, M48)
def B_X6_term_139  (v0 : Nat) (s0 : Nat) (M : Mem) : Option ((Int ⊕ Nat) × Mem) :=
  B_X6_term_140 v0 s0 0 M
def B_X6_term_97  (v0 : Nat) (s0 : Nat) (s1 : Int) (M : Mem) : Option ((Int ⊕ Nat) × Mem) :=
  bT (d_X6_want s0 s1 M) fun r57 M58 => 
  bR (m_r M58 600 v0 0) fun q63 => 
  bR (d_X6_digits v0 M58) fun r66 => 
  bN (d_X2_lay q63 2 r66 M58) fun r68 M69 => 
  bN (d_X6_next v0 M69) fun r73 M74 => 
  some (.inl 0, M74)
def B_X6_term_96  (v0 : Nat) (s0 : Nat) (M : Mem) : Option ((Int ⊕ Nat) × Mem) :=
  B_X6_term_97 v0 s0 0 M
def B_X6_term_46  (v0 : Nat) (s0 : Nat) (s1 : Int) (M : Mem) : Option ((Int ⊕ Nat) × Mem) :=
  bT (d_X6_want s0 s1 M) fun r81 M82 => 
  bR (m_r M82 600 v0 0) fun q87 => 
  bR (d_X6_digits v0 M82) fun r90 => 
  bN (d_X2_lay q87 0 (-r90) M82) fun r92 M93 => 
  bN (d_X6_next v0 M93) fun r97 M98 => 
  some (.inl 0, M98)
def d_X6_term (v0 : Nat) (M : Mem) : Option ((Int ⊕ Nat) × Mem) :=
  if w32 (m_i M 603 v0 0) = w32 2 then
    bR (m_r M 600 v0 0) fun q101 => 
    bR (d_X6_digits v0 M) fun r104 => 
    bN (d_X2_lay q101 0 r104 M) fun r106 M107 => 
    bN (d_X6_next v0 M107) fun r111 M112 => 
    some (.inl 0, M112)
  else
    bN (d_X6_passes v0 13 M) fun r14 M15 => 
    if w32 r14 = 0 then
      bN (d_X6_passes v0 12 M15) fun r20 M21 => 
      if w32 r20 = 0 then
        bR (d_X6_isName v0 M21) fun r26 => 
        if w32 r26 = 0 then
          B_X6_term_139 v0 v0 M21
        else
          bR (d_X6_nameHere v0 M21) fun r51 => 
          bR (d_X6_item v0 r51 M21) fun r53 => 
          if w32 r53 = w32 (-1) then
            B_X6_term_139 v0 v0 M21
          else
            B_X6_term_140 v0 v0 1 M21
      else
        if w32 (m_i M21 603 v0 0) = w32 2 then
          bR (d_X6_digits v0 M21) fun r77 => 
          if w32 6 ≤ w32 r77 then
            B_X6_term_96 v0 v0 M21
          else
            B_X6_term_97 v0 v0 1 M21
        else
          B_X6_term_96 v0 v0 M21
    else
      if w32 (m_i M15 603 v0 0) = w32 2 then
        B_X6_term_46 v0 v0 1 M15
      else
        B_X6_term_46 v0 v0 0 M15
theorem cB_X6_term_140 {X : x_Ctx} {M0 : Mem} (C : x_CC X 7 274 yX6_term cX6_term 1 none [])  (v0 : Nat) (s0 : Nat) (s1 : Int) (M : Mem) (r : Int ⊕ Nat) (M' : Mem) (hv0 : m_kd M v0 = 6) (hs0 : m_kd M s0 = 6) (h : B_X6_term_140  v0 s0 s1 M = some (r, M')) (hR : ocN r 0 1 ≤ (XR X).cells ∧ ocN r 0 7 ≤ (XR X).slots) : x_Z X 0 0 (x_QF X M0 (ocV r) M' (ocN r 0 1) (ocN r 0 7)) M0 M 1 [(0, .ref v0)] 140 [vI s1, .ref s0] := by
  unfold B_X6_term_140 at h
  rcases bTs h with ⟨x33, e31, er⟩ | ⟨r29, M30, e31, h⟩
  · subst er; exact tX6_108 (pc := 140) C rfl (rm := { frames := 6, cells := 1, slots := 7, locals := 249 }) (ct_X6_want C.2.1 s0 s1 M _ _ hs0 e31) ⟨by decide, by decide, Nat.le_trans (show 1 ≤ 1 from by decide) hR.1, Nat.le_trans (show 7 ≤ 7 from by decide) hR.2⟩ (Or.inl hs0) (Nat.le_of_ble_eq_true rfl) dX6_term_140 (by decide) (show 1 ≤ 1 from by decide) (show 7 ≤ 7 from by decide)
  refine cX6_108 (pc := 140) (st := []) (st1 := []) C rfl (rm := { frames := 6, cells := 0, slots := 0, locals := 249 }) (ct_X6_want C.2.1 s0 s1 M _ _ hs0 e31) ⟨by decide, by decide, Nat.zero_le _, Nat.zero_le _⟩ (Or.inl hs0) rfl (Nat.le_of_ble_eq_true rfl) dX6_term_140 (c2 := 0) (s2 := 0) rfl rfl (fun x32 => ?_)
  have k34 := x32 _ 6 (by decide) (Or.inl (by decide)) hv0
  refine z_aload_n (pc := 143) C 0 rfl dX6_term_143 ?_
  obtain ⟨q35, e36, h⟩ := bRs h
  refine gX6_600 (pc := 144) C rfl (Or.inl k34) e36 dX6_term_144 (fun k37 => ?_)
  refine z_iconst (pc := 147) C dX6_term_147 ?_
  refine z_aload_n (pc := 148) C 0 rfl dX6_term_148 ?_
  refine z_aload_n (pc := 149) C 0 rfl dX6_term_149 ?_
  obtain ⟨r38, e39, h⟩ := bRs h
  refine cX6_163 (pc := 150) (st := [.ref v0, vI 1, .ref q35]) (st1 := [vL r38, .ref v0, vI 1, .ref q35]) C rfl (rm := { frames := 2, cells := 0, slots := 0, locals := 49 }) (ct_X6_nameHere C.2.1 v0 M30 _ k34 e39) ⟨by decide, by decide, Nat.zero_le _, Nat.zero_le _⟩ (Or.inl k34) rfl (Nat.le_of_ble_eq_true rfl) dX6_term_150 (c2 := 0) (s2 := 0) rfl rfl (fun _ => ?_)
  obtain ⟨r40, e41, h⟩ := bRs h
  refine cX6_167 (pc := 153) (st := [vI 1, .ref q35]) (st1 := [vI r40, vI 1, .ref q35]) C rfl (rm := { frames := 1, cells := 0, slots := 0, locals := 24 }) (ct_X6_item C.2.1 v0 r38 M30 _ k34 e41) ⟨by decide, by decide, Nat.zero_le _, Nat.zero_le _⟩ (Or.inl k34) rfl (Nat.le_of_ble_eq_true rfl) dX6_term_153 (c2 := 0) (s2 := 0) rfl rfl (fun _ => ?_)
  obtain ⟨r42, M43, e44, h⟩ := bNs h
  refine cX6_179 (pc := 156) (st := []) (st1 := []) C rfl (rm := { frames := 1, cells := 0, slots := 0, locals := 24 }) (ct_X2_lay C.2.1 q35 1 r40 M30 _ _ k37 e44) ⟨by decide, by decide, Nat.zero_le _, Nat.zero_le _⟩ (Or.inl k37) rfl (Nat.le_of_ble_eq_true rfl) dX6_term_156 (c2 := 0) (s2 := 0) rfl rfl (fun x45 => ?_)
  have k46 := x45 _ 6 (by decide) (Or.inl (by decide)) k34
  refine z_aload_n (pc := 159) C 0 rfl dX6_term_159 ?_
  obtain ⟨r47, M48, e49, h⟩ := bNs h
  refine cX6_73 (pc := 160) (st := []) (st1 := []) C rfl (rm := { frames := 2, cells := 0, slots := 0, locals := 49 }) (ct_X6_next C.2.1 v0 M43 _ _ k46 e49) ⟨by decide, by decide, Nat.zero_le _, Nat.zero_le _⟩ (Or.inl k46) rfl (Nat.le_of_ble_eq_true rfl) dX6_term_160 (c2 := 0) (s2 := 0) rfl rfl (fun x50 => ?_)
  cases h
  exact z_vret (pc := 163) C rfl (show 0 ≤ 0 from by decide) (show 0 ≤ 0 from by decide) dX6_term_163
theorem cB_X6_term_139 {X : x_Ctx} {M0 : Mem} (C : x_CC X 7 274 yX6_term cX6_term 1 none [])  (v0 : Nat) (s0 : Nat) (M : Mem) (r : Int ⊕ Nat) (M' : Mem) (hv0 : m_kd M v0 = 6) (hs0 : m_kd M s0 = 6) (h : B_X6_term_139  v0 s0 M = some (r, M')) (hR : ocN r 0 1 ≤ (XR X).cells ∧ ocN r 0 7 ≤ (XR X).slots) : x_Z X 0 0 (x_QF X M0 (ocV r) M' (ocN r 0 1) (ocN r 0 7)) M0 M 1 [(0, .ref v0)] 139 [.ref s0] := by
  unfold B_X6_term_139 at h
  refine z_iconst (pc := 139) C dX6_term_139 ?_
  exact cB_X6_term_140 C v0 s0 0 M _ _ hv0 hs0 h hR
theorem cB_X6_term_97 {X : x_Ctx} {M0 : Mem} (C : x_CC X 7 274 yX6_term cX6_term 1 none [])  (v0 : Nat) (s0 : Nat) (s1 : Int) (M : Mem) (r : Int ⊕ Nat) (M' : Mem) (hv0 : m_kd M v0 = 6) (hs0 : m_kd M s0 = 6) (h : B_X6_term_97  v0 s0 s1 M = some (r, M')) (hR : ocN r 0 1 ≤ (XR X).cells ∧ ocN r 0 7 ≤ (XR X).slots) : x_Z X 0 0 (x_QF X M0 (ocV r) M' (ocN r 0 1) (ocN r 0 7)) M0 M 1 [(0, .ref v0)] 97 [vI s1, .ref s0] := by
  unfold B_X6_term_97 at h
  rcases bTs h with ⟨x61, e59, er⟩ | ⟨r57, M58, e59, h⟩
  · subst er; exact tX6_108 (pc := 97) C rfl (rm := { frames := 6, cells := 1, slots := 7, locals := 249 }) (ct_X6_want C.2.1 s0 s1 M _ _ hs0 e59) ⟨by decide, by decide, Nat.le_trans (show 1 ≤ 1 from by decide) hR.1, Nat.le_trans (show 7 ≤ 7 from by decide) hR.2⟩ (Or.inl hs0) (Nat.le_of_ble_eq_true rfl) dX6_term_97 (by decide) (show 1 ≤ 1 from by decide) (show 7 ≤ 7 from by decide)
  refine cX6_108 (pc := 97) (st := []) (st1 := []) C rfl (rm := { frames := 6, cells := 0, slots := 0, locals := 249 }) (ct_X6_want C.2.1 s0 s1 M _ _ hs0 e59) ⟨by decide, by decide, Nat.zero_le _, Nat.zero_le _⟩ (Or.inl hs0) rfl (Nat.le_of_ble_eq_true rfl) dX6_term_97 (c2 := 0) (s2 := 0) rfl rfl (fun x60 => ?_)
  have k62 := x60 _ 6 (by decide) (Or.inl (by decide)) hv0
  refine z_aload_n (pc := 100) C 0 rfl dX6_term_100 ?_
  obtain ⟨q63, e64, h⟩ := bRs h
  refine gX6_600 (pc := 101) C rfl (Or.inl k62) e64 dX6_term_101 (fun k65 => ?_)
  refine z_iconst (pc := 104) C dX6_term_104 ?_
  refine z_aload_n (pc := 105) C 0 rfl dX6_term_105 ?_
  obtain ⟨r66, e67, h⟩ := bRs h
  refine cX6_173 (pc := 106) (st := [vI 2, .ref q63]) (st1 := [vI r66, vI 2, .ref q63]) C rfl (rm := { frames := 2, cells := 0, slots := 0, locals := 49 }) (ct_X6_digits C.2.1 v0 M58 _ k62 e67) ⟨by decide, by decide, Nat.zero_le _, Nat.zero_le _⟩ (Or.inl k62) rfl (Nat.le_of_ble_eq_true rfl) dX6_term_106 (c2 := 0) (s2 := 0) rfl rfl (fun _ => ?_)
  obtain ⟨r68, M69, e70, h⟩ := bNs h
  refine cX6_179 (pc := 109) (st := []) (st1 := []) C rfl (rm := { frames := 1, cells := 0, slots := 0, locals := 24 }) (ct_X2_lay C.2.1 q63 2 r66 M58 _ _ k65 e70) ⟨by decide, by decide, Nat.zero_le _, Nat.zero_le _⟩ (Or.inl k65) rfl (Nat.le_of_ble_eq_true rfl) dX6_term_109 (c2 := 0) (s2 := 0) rfl rfl (fun x71 => ?_)
  have k72 := x71 _ 6 (by decide) (Or.inl (by decide)) k62
  refine z_goto (pc := 112) C dX6_term_112 (tgt := 159) (by decide) ?_
  refine z_aload_n (pc := 159) C 0 rfl dX6_term_159 ?_
  obtain ⟨r73, M74, e75, h⟩ := bNs h
  refine cX6_73 (pc := 160) (st := []) (st1 := []) C rfl (rm := { frames := 2, cells := 0, slots := 0, locals := 49 }) (ct_X6_next C.2.1 v0 M69 _ _ k72 e75) ⟨by decide, by decide, Nat.zero_le _, Nat.zero_le _⟩ (Or.inl k72) rfl (Nat.le_of_ble_eq_true rfl) dX6_term_160 (c2 := 0) (s2 := 0) rfl rfl (fun x76 => ?_)
  cases h
  exact z_vret (pc := 163) C rfl (show 0 ≤ 0 from by decide) (show 0 ≤ 0 from by decide) dX6_term_163
theorem cB_X6_term_96 {X : x_Ctx} {M0 : Mem} (C : x_CC X 7 274 yX6_term cX6_term 1 none [])  (v0 : Nat) (s0 : Nat) (M : Mem) (r : Int ⊕ Nat) (M' : Mem) (hv0 : m_kd M v0 = 6) (hs0 : m_kd M s0 = 6) (h : B_X6_term_96  v0 s0 M = some (r, M')) (hR : ocN r 0 1 ≤ (XR X).cells ∧ ocN r 0 7 ≤ (XR X).slots) : x_Z X 0 0 (x_QF X M0 (ocV r) M' (ocN r 0 1) (ocN r 0 7)) M0 M 1 [(0, .ref v0)] 96 [.ref s0] := by
  unfold B_X6_term_96 at h
  refine z_iconst (pc := 96) C dX6_term_96 ?_
  exact cB_X6_term_97 C v0 s0 0 M _ _ hv0 hs0 h hR
theorem cB_X6_term_46 {X : x_Ctx} {M0 : Mem} (C : x_CC X 7 274 yX6_term cX6_term 1 none [])  (v0 : Nat) (s0 : Nat) (s1 : Int) (M : Mem) (r : Int ⊕ Nat) (M' : Mem) (hv0 : m_kd M v0 = 6) (hs0 : m_kd M s0 = 6) (h : B_X6_term_46  v0 s0 s1 M = some (r, M')) (hR : ocN r 0 1 ≤ (XR X).cells ∧ ocN r 0 7 ≤ (XR X).slots) : x_Z X 0 0 (x_QF X M0 (ocV r) M' (ocN r 0 1) (ocN r 0 7)) M0 M 1 [(0, .ref v0)] 46 [vI s1, .ref s0] := by
  unfold B_X6_term_46 at h
  rcases bTs h with ⟨x85, e83, er⟩ | ⟨r81, M82, e83, h⟩
  · subst er; exact tX6_108 (pc := 46) C rfl (rm := { frames := 6, cells := 1, slots := 7, locals := 249 }) (ct_X6_want C.2.1 s0 s1 M _ _ hs0 e83) ⟨by decide, by decide, Nat.le_trans (show 1 ≤ 1 from by decide) hR.1, Nat.le_trans (show 7 ≤ 7 from by decide) hR.2⟩ (Or.inl hs0) (Nat.le_of_ble_eq_true rfl) dX6_term_46 (by decide) (show 1 ≤ 1 from by decide) (show 7 ≤ 7 from by decide)
  refine cX6_108 (pc := 46) (st := []) (st1 := []) C rfl (rm := { frames := 6, cells := 0, slots := 0, locals := 249 }) (ct_X6_want C.2.1 s0 s1 M _ _ hs0 e83) ⟨by decide, by decide, Nat.zero_le _, Nat.zero_le _⟩ (Or.inl hs0) rfl (Nat.le_of_ble_eq_true rfl) dX6_term_46 (c2 := 0) (s2 := 0) rfl rfl (fun x84 => ?_)
  have k86 := x84 _ 6 (by decide) (Or.inl (by decide)) hv0
  refine z_aload_n (pc := 49) C 0 rfl dX6_term_49 ?_
  obtain ⟨q87, e88, h⟩ := bRs h
  refine gX6_600 (pc := 50) C rfl (Or.inl k86) e88 dX6_term_50 (fun k89 => ?_)
  refine z_iconst (pc := 53) C dX6_term_53 ?_
  refine z_aload_n (pc := 54) C 0 rfl dX6_term_54 ?_
  obtain ⟨r90, e91, h⟩ := bRs h
  refine cX6_173 (pc := 55) (st := [vI 0, .ref q87]) (st1 := [vI r90, vI 0, .ref q87]) C rfl (rm := { frames := 2, cells := 0, slots := 0, locals := 49 }) (ct_X6_digits C.2.1 v0 M82 _ k86 e91) ⟨by decide, by decide, Nat.zero_le _, Nat.zero_le _⟩ (Or.inl k86) rfl (Nat.le_of_ble_eq_true rfl) dX6_term_55 (c2 := 0) (s2 := 0) rfl rfl (fun _ => ?_)
  refine z_ineg (pc := 58) C dX6_term_58 ?_
  obtain ⟨r92, M93, e94, h⟩ := bNs h
  refine cX6_179 (pc := 59) (st := []) (st1 := []) C rfl (rm := { frames := 1, cells := 0, slots := 0, locals := 24 }) (ct_X2_lay C.2.1 q87 0 (-r90) M82 _ _ k89 e94) ⟨by decide, by decide, Nat.zero_le _, Nat.zero_le _⟩ (Or.inl k89) rfl (Nat.le_of_ble_eq_true rfl) dX6_term_59 (c2 := 0) (s2 := 0) rfl rfl (fun x95 => ?_)
  have k96 := x95 _ 6 (by decide) (Or.inl (by decide)) k86
  refine z_goto (pc := 62) C dX6_term_62 (tgt := 159) (by decide) ?_
  refine z_aload_n (pc := 159) C 0 rfl dX6_term_159 ?_
  obtain ⟨r97, M98, e99, h⟩ := bNs h
  refine cX6_73 (pc := 160) (st := []) (st1 := []) C rfl (rm := { frames := 2, cells := 0, slots := 0, locals := 49 }) (ct_X6_next C.2.1 v0 M93 _ _ k96 e99) ⟨by decide, by decide, Nat.zero_le _, Nat.zero_le _⟩ (Or.inl k96) rfl (Nat.le_of_ble_eq_true rfl) dX6_term_160 (c2 := 0) (s2 := 0) rfl rfl (fun x100 => ?_)
  cases h
  exact z_vret (pc := 163) C rfl (show 0 ≤ 0 from by decide) (show 0 ≤ 0 from by decide) dX6_term_163
theorem ct_X6_term {l : Launch} {S0 : State} {D : va_G} {cA : Nat → ClassId} (hG : x_G l S0 D cA) (v0 : Nat) (M : Mem) (r : Int ⊕ Nat) (M' : Mem) (hv0 : m_kd M v0 = 6) (h : d_X6_term v0 M = some (r, M')) : x_Me l S0 D cA yX6_term cX6_term 1 none [] ({ frames := 7, cells := (ocN r 0 1), slots := (ocN r 0 7), locals := 274 }) [.ref v0] M (ocV r) M' := by
  refine x_begin (F := 7) (Lo := 274) (mc := (ocN r 0 1)) (ms := (ocN r 0 7)) hG (Nat.le_of_ble_eq_true rfl) (lv := [(0, .ref v0)]) rfl rfl rfl rfl rfl (fun X e1 e2 e3 e4 e5 C => ?_)
  have hR : _ ∧ _ := ⟨Nat.le_of_eq (congrArg Room.cells e5).symm, Nat.le_of_eq (congrArg Room.slots e5).symm⟩
  unfold d_X6_term at h
  refine z_aload_n (pc := 0) C 0 rfl dX6_term_0 ?_
  refine gX6_603 (pc := 1) C rfl (Or.inl hv0) rfl dX6_term_1 ?_
  refine z_iconst (pc := 4) C dX6_term_4 ?_
  refine z_ic_ne (pc := 5) C dX6_term_5 (tgt := 23) (by decide) (fun c13 => ?_) (fun c13 => ?_)
  · have h := itf c13 h
    refine z_aload_n (pc := 23) C 0 rfl dX6_term_23 ?_
    refine z_lds (pc := 24) C 13 (by decide) rfl dX6_term_24 ?_
    obtain ⟨r14, M15, e16, h⟩ := bNs h
    refine cX6_147 (pc := 26) (st := []) (st1 := [vI r14]) C rfl (rm := { frames := 6, cells := 0, slots := 0, locals := 153 }) (ct_X6_passes C.2.1 v0 13 M _ _ hv0 (by decide) e16) ⟨by decide, by decide, Nat.zero_le _, Nat.zero_le _⟩ (Or.inl hv0) rfl (Nat.le_of_ble_eq_true rfl) dX6_term_26 (c2 := 0) (s2 := 0) rfl rfl (fun x17 => ?_)
    have k18 := x17 _ 6 (by decide) (Or.inl (by decide)) hv0
    refine z_if_eq (pc := 29) C dX6_term_29 (tgt := 65) (by decide) (fun c19 => ?_) (fun c19 => ?_)
    · have h := itt c19 h
      refine z_aload_n (pc := 65) C 0 rfl dX6_term_65 ?_
      refine z_lds (pc := 66) C 12 (by decide) rfl dX6_term_66 ?_
      obtain ⟨r20, M21, e22, h⟩ := bNs h
      refine cX6_147 (pc := 68) (st := []) (st1 := [vI r20]) C rfl (rm := { frames := 6, cells := 0, slots := 0, locals := 153 }) (ct_X6_passes C.2.1 v0 12 M15 _ _ k18 (by decide) e22) ⟨by decide, by decide, Nat.zero_le _, Nat.zero_le _⟩ (Or.inl k18) rfl (Nat.le_of_ble_eq_true rfl) dX6_term_68 (c2 := 0) (s2 := 0) rfl rfl (fun x23 => ?_)
      have k24 := x23 _ 6 (by decide) (Or.inl (by decide)) k18
      refine z_if_eq (pc := 71) C dX6_term_71 (tgt := 115) (by decide) (fun c25 => ?_) (fun c25 => ?_)
      · have h := itt c25 h
        refine z_aload_n (pc := 115) C 0 rfl dX6_term_115 ?_
        refine z_aload_n (pc := 116) C 0 rfl dX6_term_116 ?_
        obtain ⟨r26, e27, h⟩ := bRs h
        refine cX6_159 (pc := 117) (st := [.ref v0]) (st1 := [vI r26, .ref v0]) C rfl (rm := { frames := 6, cells := 0, slots := 0, locals := 153 }) (ct_X6_isName C.2.1 v0 M21 _ k24 e27) ⟨by decide, by decide, Nat.zero_le _, Nat.zero_le _⟩ (Or.inl k24) rfl (Nat.le_of_ble_eq_true rfl) dX6_term_117 (c2 := 0) (s2 := 0) rfl rfl (fun _ => ?_)
        refine z_if_eq (pc := 120) C dX6_term_120 (tgt := 139) (by decide) (fun c28 => ?_) (fun c28 => ?_)
        · have h := itt c28 h
          exact cB_X6_term_139 C v0 v0 M21 _ _ k24 k24 h hR
        · have h := itf c28 h
          refine z_aload_n (pc := 123) C 0 rfl dX6_term_123 ?_
          refine z_aload_n (pc := 124) C 0 rfl dX6_term_124 ?_
          obtain ⟨r51, e52, h⟩ := bRs h
          refine cX6_163 (pc := 125) (st := [.ref v0, .ref v0]) (st1 := [vL r51, .ref v0, .ref v0]) C rfl (rm := { frames := 2, cells := 0, slots := 0, locals := 49 }) (ct_X6_nameHere C.2.1 v0 M21 _ k24 e52) ⟨by decide, by decide, Nat.zero_le _, Nat.zero_le _⟩ (Or.inl k24) rfl (Nat.le_of_ble_eq_true rfl) dX6_term_125 (c2 := 0) (s2 := 0) rfl rfl (fun _ => ?_)
          obtain ⟨r53, e54, h⟩ := bRs h
          refine cX6_167 (pc := 128) (st := [.ref v0]) (st1 := [vI r53, .ref v0]) C rfl (rm := { frames := 1, cells := 0, slots := 0, locals := 24 }) (ct_X6_item C.2.1 v0 r51 M21 _ k24 e54) ⟨by decide, by decide, Nat.zero_le _, Nat.zero_le _⟩ (Or.inl k24) rfl (Nat.le_of_ble_eq_true rfl) dX6_term_128 (c2 := 0) (s2 := 0) rfl rfl (fun _ => ?_)
          refine z_iconst (pc := 131) C dX6_term_131 ?_
          refine z_ic_eq (pc := 132) C dX6_term_132 (tgt := 139) (by decide) (fun c55 => ?_) (fun c55 => ?_)
          · have h := itt c55 h
            exact cB_X6_term_139 C v0 v0 M21 _ _ k24 k24 h hR
          · have h := itf c55 h
            refine z_iconst (pc := 135) C dX6_term_135 ?_
            refine z_goto (pc := 136) C dX6_term_136 (tgt := 140) (by decide) ?_
            exact cB_X6_term_140 C v0 v0 1 M21 _ _ k24 k24 h hR
      · have h := itf c25 h
        refine z_aload_n (pc := 74) C 0 rfl dX6_term_74 ?_
        refine z_aload_n (pc := 75) C 0 rfl dX6_term_75 ?_
        refine gX6_603 (pc := 76) C rfl (Or.inl k24) rfl dX6_term_76 ?_
        refine z_iconst (pc := 79) C dX6_term_79 ?_
        refine z_ic_ne (pc := 80) C dX6_term_80 (tgt := 96) (by decide) (fun c56 => ?_) (fun c56 => ?_)
        · have h := itf c56 h
          exact cB_X6_term_96 C v0 v0 M21 _ _ k24 k24 h hR
        · have h := itt c56 h
          refine z_aload_n (pc := 83) C 0 rfl dX6_term_83 ?_
          obtain ⟨r77, e78, h⟩ := bRs h
          refine cX6_173 (pc := 84) (st := [.ref v0]) (st1 := [vI r77, .ref v0]) C rfl (rm := { frames := 2, cells := 0, slots := 0, locals := 49 }) (ct_X6_digits C.2.1 v0 M21 _ k24 e78) ⟨by decide, by decide, Nat.zero_le _, Nat.zero_le _⟩ (Or.inl k24) rfl (Nat.le_of_ble_eq_true rfl) dX6_term_84 (c2 := 0) (s2 := 0) rfl rfl (fun _ => ?_)
          refine z_bipush (pc := 87) C (by decide +kernel) dX6_term_87 ?_
          refine z_ic_ge (pc := 89) C dX6_term_89 (tgt := 96) (by decide) (fun c79 => ?_) (fun c79 => ?_)
          · have h := itt c79 h
            exact cB_X6_term_96 C v0 v0 M21 _ _ k24 k24 h hR
          · have h := itf c79 h
            refine z_iconst (pc := 92) C dX6_term_92 ?_
            refine z_goto (pc := 93) C dX6_term_93 (tgt := 97) (by decide) ?_
            exact cB_X6_term_97 C v0 v0 1 M21 _ _ k24 k24 h hR
    · have h := itf c19 h
      refine z_aload_n (pc := 32) C 0 rfl dX6_term_32 ?_
      refine z_aload_n (pc := 33) C 0 rfl dX6_term_33 ?_
      refine gX6_603 (pc := 34) C rfl (Or.inl k18) rfl dX6_term_34 ?_
      refine z_iconst (pc := 37) C dX6_term_37 ?_
      refine z_ic_ne (pc := 38) C dX6_term_38 (tgt := 45) (by decide) (fun c80 => ?_) (fun c80 => ?_)
      · have h := itf c80 h
        refine z_iconst (pc := 45) C dX6_term_45 ?_
        exact cB_X6_term_46 C v0 v0 0 M15 _ _ k18 k18 h hR
      · have h := itt c80 h
        refine z_iconst (pc := 41) C dX6_term_41 ?_
        refine z_goto (pc := 42) C dX6_term_42 (tgt := 46) (by decide) ?_
        exact cB_X6_term_46 C v0 v0 1 M15 _ _ k18 k18 h hR
  · have h := itt c13 h
    refine z_aload_n (pc := 8) C 0 rfl dX6_term_8 ?_
    obtain ⟨q101, e102, h⟩ := bRs h
    refine gX6_600 (pc := 9) C rfl (Or.inl hv0) e102 dX6_term_9 (fun k103 => ?_)
    refine z_iconst (pc := 12) C dX6_term_12 ?_
    refine z_aload_n (pc := 13) C 0 rfl dX6_term_13 ?_
    obtain ⟨r104, e105, h⟩ := bRs h
    refine cX6_173 (pc := 14) (st := [vI 0, .ref q101]) (st1 := [vI r104, vI 0, .ref q101]) C rfl (rm := { frames := 2, cells := 0, slots := 0, locals := 49 }) (ct_X6_digits C.2.1 v0 M _ hv0 e105) ⟨by decide, by decide, Nat.zero_le _, Nat.zero_le _⟩ (Or.inl hv0) rfl (Nat.le_of_ble_eq_true rfl) dX6_term_14 (c2 := 0) (s2 := 0) rfl rfl (fun _ => ?_)
    obtain ⟨r106, M107, e108, h⟩ := bNs h
    refine cX6_179 (pc := 17) (st := []) (st1 := []) C rfl (rm := { frames := 1, cells := 0, slots := 0, locals := 24 }) (ct_X2_lay C.2.1 q101 0 r104 M _ _ k103 e108) ⟨by decide, by decide, Nat.zero_le _, Nat.zero_le _⟩ (Or.inl k103) rfl (Nat.le_of_ble_eq_true rfl) dX6_term_17 (c2 := 0) (s2 := 0) rfl rfl (fun x109 => ?_)
    have k110 := x109 _ 6 (by decide) (Or.inl (by decide)) hv0
    refine z_goto (pc := 20) C dX6_term_20 (tgt := 159) (by decide) ?_
    refine z_aload_n (pc := 159) C 0 rfl dX6_term_159 ?_
    obtain ⟨r111, M112, e113, h⟩ := bNs h
    refine cX6_73 (pc := 160) (st := []) (st1 := []) C rfl (rm := { frames := 2, cells := 0, slots := 0, locals := 49 }) (ct_X6_next C.2.1 v0 M107 _ _ k110 e113) ⟨by decide, by decide, Nat.zero_le _, Nat.zero_le _⟩ (Or.inl k110) rfl (Nat.le_of_ble_eq_true rfl) dX6_term_160 (c2 := 0) (s2 := 0) rfl rfl (fun x114 => ?_)
    cases h
    exact z_vret (pc := 163) C rfl (show 0 ≤ 0 from by decide) (show 0 ≤ 0 from by decide) dX6_term_163
def B_X6_expr_36 (k4 : Nat → Mem → Option ((Int ⊕ Nat) × Mem)) (v0 : Nat) (s0 : Int) (M : Mem) : Option ((Int ⊕ Nat) × Mem) :=
  bN (d_X6_next v0 M) fun r19 M20 => 
  bT (d_X6_term v0 M20) fun r24 M25 => 
  bR (m_r M25 600 v0 0) fun q30 => 
  bN (d_X2_lay q30 s0 0 M25) fun r33 M34 => 
  k4 v0 M34
def B_X6_expr_22 (k4 : Nat → Mem → Option ((Int ⊕ Nat) × Mem)) (v0 : Nat) (M : Mem) : Option ((Int ⊕ Nat) × Mem) :=
  bR (d_X6_is v0 14 M) fun r16 => 
  if w32 r16 = 0 then
    B_X6_expr_36 k4 v0 4 M
  else
    B_X6_expr_36 k4 v0 3 M
def B_X6_expr_4 (k4 : Nat → Mem → Option ((Int ⊕ Nat) × Mem)) (v0 : Nat) (M : Mem) : Option ((Int ⊕ Nat) × Mem) :=
  bR (d_X6_is v0 14 M) fun r13 => 
  if w32 r13 = 0 then
    bR (d_X6_is v0 13 M) fun r38 => 
    if w32 r38 = 0 then
      bR (m_r M 600 v0 0) fun q41 => 
      bN (d_X2_lay q41 5 0 M) fun r44 M45 => 
      some (.inl 0, M45)
    else
      B_X6_expr_22 k4 v0 M
  else
    B_X6_expr_22 k4 v0 M
def L_X6_expr_4  : Nat → Nat → Mem → Option ((Int ⊕ Nat) × Mem)
  | 0, _, _ => none
  | n + 1, v0, M => B_X6_expr_4 (L_X6_expr_4  n) v0 M
def d_X6_expr (v0 : Nat) (M : Mem) : Option ((Int ⊕ Nat) × Mem) :=
  bT (d_X6_term v0 M) fun r7 M8 => 
  L_X6_expr_4 FU v0 M8
theorem cB_X6_expr_36 {X : x_Ctx} {M0 : Mem} (C : x_CC X 8 298 yX6_expr cX6_expr 2 none []) {k4 : Nat → Mem → Option ((Int ⊕ Nat) × Mem)} (hk4 : ∀ (v0 : Nat) (M : Mem) (r : Int ⊕ Nat) (M' : Mem), m_kd M v0 = 6 → k4 v0 M = some (r, M') → ocN r 0 1 ≤ (XR X).cells ∧ ocN r 0 7 ≤ (XR X).slots → x_Z X 0 0 (x_QF X M0 (ocV r) M' (ocN r 0 1) (ocN r 0 7)) M0 M 2 [(0, .ref v0)] 4 []) (v0 : Nat) (s0 : Int) (M : Mem) (r : Int ⊕ Nat) (M' : Mem) (hv0 : m_kd M v0 = 6) (h : B_X6_expr_36 k4 v0 s0 M = some (r, M')) (hR : ocN r 0 1 ≤ (XR X).cells ∧ ocN r 0 7 ≤ (XR X).slots) : x_Z X 0 0 (x_QF X M0 (ocV r) M' (ocN r 0 1) (ocN r 0 7)) M0 M 2 [(0, .ref v0)] 36 [vI s0] := by
  unfold B_X6_expr_36 at h
  refine z_istore_n (pc := 36) C (lv' := [(0, .ref v0), (1, vI s0)]) (by decide) rfl dX6_expr_36 ?_
  refine z_aload_n (pc := 37) C 0 rfl dX6_expr_37 ?_
  obtain ⟨r19, M20, e21, h⟩ := bNs h
  refine cX6_73 (pc := 38) (st := []) (st1 := []) C rfl (rm := { frames := 2, cells := 0, slots := 0, locals := 49 }) (ct_X6_next C.2.1 v0 M _ _ hv0 e21) ⟨by decide, by decide, Nat.zero_le _, Nat.zero_le _⟩ (Or.inl hv0) rfl (Nat.le_of_ble_eq_true rfl) dX6_expr_38 (c2 := 0) (s2 := 0) rfl rfl (fun x22 => ?_)
  have k23 := x22 _ 6 (by decide) (Or.inl (by decide)) hv0
  refine z_aload_n (pc := 41) C 0 rfl dX6_expr_41 ?_
  rcases bTs h with ⟨x28, e26, er⟩ | ⟨r24, M25, e26, h⟩
  · subst er; exact tX6_198 (pc := 42) C rfl (rm := { frames := 7, cells := 1, slots := 7, locals := 274 }) (ct_X6_term C.2.1 v0 M20 _ _ k23 e26) ⟨by decide, by decide, Nat.le_trans (show 1 ≤ 1 from by decide) hR.1, Nat.le_trans (show 7 ≤ 7 from by decide) hR.2⟩ (Or.inl k23) (Nat.le_of_ble_eq_true rfl) dX6_expr_42 (by decide) (show 1 ≤ 1 from by decide) (show 7 ≤ 7 from by decide)
  refine cX6_198 (pc := 42) (st := []) (st1 := []) C rfl (rm := { frames := 7, cells := 0, slots := 0, locals := 274 }) (ct_X6_term C.2.1 v0 M20 _ _ k23 e26) ⟨by decide, by decide, Nat.zero_le _, Nat.zero_le _⟩ (Or.inl k23) rfl (Nat.le_of_ble_eq_true rfl) dX6_expr_42 (c2 := 0) (s2 := 0) rfl rfl (fun x27 => ?_)
  have k29 := x27 _ 6 (by decide) (Or.inl (by decide)) k23
  refine z_aload_n (pc := 45) C 0 rfl dX6_expr_45 ?_
  obtain ⟨q30, e31, h⟩ := bRs h
  refine gX6_600 (pc := 46) C rfl (Or.inl k29) e31 dX6_expr_46 (fun k32 => ?_)
  refine z_iload_n (pc := 49) C 1 rfl dX6_expr_49 ?_
  refine z_iconst (pc := 50) C dX6_expr_50 ?_
  obtain ⟨r33, M34, e35, h⟩ := bNs h
  refine cX6_179 (pc := 51) (st := []) (st1 := []) C rfl (rm := { frames := 1, cells := 0, slots := 0, locals := 24 }) (ct_X2_lay C.2.1 q30 s0 0 M25 _ _ k32 e35) ⟨by decide, by decide, Nat.zero_le _, Nat.zero_le _⟩ (Or.inl k32) rfl (Nat.le_of_ble_eq_true rfl) dX6_expr_51 (c2 := 0) (s2 := 0) rfl rfl (fun x36 => ?_)
  have k37 := x36 _ 6 (by decide) (Or.inl (by decide)) k29
  refine z_goto (pc := 54) C dX6_expr_54 (tgt := 4) (by decide) ?_
  exact z_lv [0] rfl <| hk4 v0 M34 _ _ k37 h hR
theorem cB_X6_expr_22 {X : x_Ctx} {M0 : Mem} (C : x_CC X 8 298 yX6_expr cX6_expr 2 none []) {k4 : Nat → Mem → Option ((Int ⊕ Nat) × Mem)} (hk4 : ∀ (v0 : Nat) (M : Mem) (r : Int ⊕ Nat) (M' : Mem), m_kd M v0 = 6 → k4 v0 M = some (r, M') → ocN r 0 1 ≤ (XR X).cells ∧ ocN r 0 7 ≤ (XR X).slots → x_Z X 0 0 (x_QF X M0 (ocV r) M' (ocN r 0 1) (ocN r 0 7)) M0 M 2 [(0, .ref v0)] 4 []) (v0 : Nat) (M : Mem) (r : Int ⊕ Nat) (M' : Mem) (hv0 : m_kd M v0 = 6) (h : B_X6_expr_22 k4 v0 M = some (r, M')) (hR : ocN r 0 1 ≤ (XR X).cells ∧ ocN r 0 7 ≤ (XR X).slots) : x_Z X 0 0 (x_QF X M0 (ocV r) M' (ocN r 0 1) (ocN r 0 7)) M0 M 2 [(0, .ref v0)] 22 [] := by
  unfold B_X6_expr_22 at h
  refine z_aload_n (pc := 22) C 0 rfl dX6_expr_22 ?_
  refine z_lds (pc := 23) C 14 (by decide) rfl dX6_expr_23 ?_
  obtain ⟨r16, e17, h⟩ := bRs h
  refine cX6_69 (pc := 25) (st := []) (st1 := [vI r16]) C rfl (rm := { frames := 5, cells := 0, slots := 0, locals := 126 }) (ct_X6_is C.2.1 v0 14 M _ hv0 (by decide) e17) ⟨by decide, by decide, Nat.zero_le _, Nat.zero_le _⟩ (Or.inl hv0) rfl (Nat.le_of_ble_eq_true rfl) dX6_expr_25 (c2 := 0) (s2 := 0) rfl rfl (fun _ => ?_)
  refine z_if_eq (pc := 28) C dX6_expr_28 (tgt := 35) (by decide) (fun c18 => ?_) (fun c18 => ?_)
  · have h := itt c18 h
    refine z_iconst (pc := 35) C dX6_expr_35 ?_
    exact cB_X6_expr_36 C hk4 v0 4 M _ _ hv0 h hR
  · have h := itf c18 h
    refine z_iconst (pc := 31) C dX6_expr_31 ?_
    refine z_goto (pc := 32) C dX6_expr_32 (tgt := 36) (by decide) ?_
    exact cB_X6_expr_36 C hk4 v0 3 M _ _ hv0 h hR
theorem cB_X6_expr_4 {X : x_Ctx} {M0 : Mem} (C : x_CC X 8 298 yX6_expr cX6_expr 2 none []) {k4 : Nat → Mem → Option ((Int ⊕ Nat) × Mem)} (hk4 : ∀ (v0 : Nat) (M : Mem) (r : Int ⊕ Nat) (M' : Mem), m_kd M v0 = 6 → k4 v0 M = some (r, M') → ocN r 0 1 ≤ (XR X).cells ∧ ocN r 0 7 ≤ (XR X).slots → x_Z X 0 0 (x_QF X M0 (ocV r) M' (ocN r 0 1) (ocN r 0 7)) M0 M 2 [(0, .ref v0)] 4 []) (v0 : Nat) (M : Mem) (r : Int ⊕ Nat) (M' : Mem) (hv0 : m_kd M v0 = 6) (h : B_X6_expr_4 k4 v0 M = some (r, M')) (hR : ocN r 0 1 ≤ (XR X).cells ∧ ocN r 0 7 ≤ (XR X).slots) : x_Z X 0 0 (x_QF X M0 (ocV r) M' (ocN r 0 1) (ocN r 0 7)) M0 M 2 [(0, .ref v0)] 4 [] := by
  unfold B_X6_expr_4 at h
  refine z_aload_n (pc := 4) C 0 rfl dX6_expr_4 ?_
  refine z_lds (pc := 5) C 14 (by decide) rfl dX6_expr_5 ?_
  obtain ⟨r13, e14, h⟩ := bRs h
  refine cX6_69 (pc := 7) (st := []) (st1 := [vI r13]) C rfl (rm := { frames := 5, cells := 0, slots := 0, locals := 126 }) (ct_X6_is C.2.1 v0 14 M _ hv0 (by decide) e14) ⟨by decide, by decide, Nat.zero_le _, Nat.zero_le _⟩ (Or.inl hv0) rfl (Nat.le_of_ble_eq_true rfl) dX6_expr_7 (c2 := 0) (s2 := 0) rfl rfl (fun _ => ?_)
  refine z_if_ne (pc := 10) C dX6_expr_10 (tgt := 22) (by decide) (fun c15 => ?_) (fun c15 => ?_)
  · have h := itf c15 h
    exact cB_X6_expr_22 C hk4 v0 M _ _ hv0 h hR
  · have h := itt c15 h
    refine z_aload_n (pc := 13) C 0 rfl dX6_expr_13 ?_
    refine z_lds (pc := 14) C 13 (by decide) rfl dX6_expr_14 ?_
    obtain ⟨r38, e39, h⟩ := bRs h
    refine cX6_69 (pc := 16) (st := []) (st1 := [vI r38]) C rfl (rm := { frames := 5, cells := 0, slots := 0, locals := 126 }) (ct_X6_is C.2.1 v0 13 M _ hv0 (by decide) e39) ⟨by decide, by decide, Nat.zero_le _, Nat.zero_le _⟩ (Or.inl hv0) rfl (Nat.le_of_ble_eq_true rfl) dX6_expr_16 (c2 := 0) (s2 := 0) rfl rfl (fun _ => ?_)
    refine z_if_eq (pc := 19) C dX6_expr_19 (tgt := 57) (by decide) (fun c40 => ?_) (fun c40 => ?_)
    · have h := itt c40 h
      refine z_aload_n (pc := 57) C 0 rfl dX6_expr_57 ?_
      obtain ⟨q41, e42, h⟩ := bRs h
      refine gX6_600 (pc := 58) C rfl (Or.inl hv0) e42 dX6_expr_58 (fun k43 => ?_)
      refine z_iconst (pc := 61) C dX6_expr_61 ?_
      refine z_iconst (pc := 62) C dX6_expr_62 ?_
      obtain ⟨r44, M45, e46, h⟩ := bNs h
      refine cX6_179 (pc := 63) (st := []) (st1 := []) C rfl (rm := { frames := 1, cells := 0, slots := 0, locals := 24 }) (ct_X2_lay C.2.1 q41 5 0 M _ _ k43 e46) ⟨by decide, by decide, Nat.zero_le _, Nat.zero_le _⟩ (Or.inl k43) rfl (Nat.le_of_ble_eq_true rfl) dX6_expr_63 (c2 := 0) (s2 := 0) rfl rfl (fun x47 => ?_)
      cases h
      exact z_vret (pc := 66) C rfl (show 0 ≤ 0 from by decide) (show 0 ≤ 0 from by decide) dX6_expr_66
    · have h := itf c40 h
      exact cB_X6_expr_22 C hk4 v0 M _ _ hv0 h hR
theorem cL_X6_expr_4 {X : x_Ctx} {M0 : Mem} (C : x_CC X 8 298 yX6_expr cX6_expr 2 none [])  : ∀ (n : Nat) (v0 : Nat) (M : Mem) (r : Int ⊕ Nat) (M' : Mem) (hv0 : m_kd M v0 = 6) (h : L_X6_expr_4  n v0 M = some (r, M')) (hR : ocN r 0 1 ≤ (XR X).cells ∧ ocN r 0 7 ≤ (XR X).slots), x_Z X 0 0 (x_QF X M0 (ocV r) M' (ocN r 0 1) (ocN r 0 7)) M0 M 2 [(0, .ref v0)] 4 [] := by
  intro n
  induction n with
  | zero => intro v0 M r M' hv0 h hR; cases h
  | succ n ih => intro v0 M r M' hv0 h hR; exact cB_X6_expr_4 C (fun v0 M r M' hv0 h hR => ih v0 M r M' hv0 h hR) v0 M r M' hv0 h hR
theorem ct_X6_expr {l : Launch} {S0 : State} {D : va_G} {cA : Nat → ClassId} (hG : x_G l S0 D cA) (v0 : Nat) (M : Mem) (r : Int ⊕ Nat) (M' : Mem) (hv0 : m_kd M v0 = 6) (h : d_X6_expr v0 M = some (r, M')) : x_Me l S0 D cA yX6_expr cX6_expr 2 none [] ({ frames := 8, cells := (ocN r 0 1), slots := (ocN r 0 7), locals := 298 }) [.ref v0] M (ocV r) M' := by
  refine x_begin (F := 8) (Lo := 298) (mc := (ocN r 0 1)) (ms := (ocN r 0 7)) hG (Nat.le_of_ble_eq_true rfl) (lv := [(0, .ref v0)]) rfl rfl rfl rfl rfl (fun X e1 e2 e3 e4 e5 C => ?_)
  have hR : _ ∧ _ := ⟨Nat.le_of_eq (congrArg Room.cells e5).symm, Nat.le_of_eq (congrArg Room.slots e5).symm⟩
  unfold d_X6_expr at h
  refine z_aload_n (pc := 0) C 0 rfl dX6_expr_0 ?_
  rcases bTs h with ⟨x11, e9, er⟩ | ⟨r7, M8, e9, h⟩
  · subst er; exact tX6_198 (pc := 1) C rfl (rm := { frames := 7, cells := 1, slots := 7, locals := 274 }) (ct_X6_term C.2.1 v0 M _ _ hv0 e9) ⟨by decide, by decide, Nat.le_trans (show 1 ≤ 1 from by decide) hR.1, Nat.le_trans (show 7 ≤ 7 from by decide) hR.2⟩ (Or.inl hv0) (Nat.le_of_ble_eq_true rfl) dX6_expr_1 (by decide) (show 1 ≤ 1 from by decide) (show 7 ≤ 7 from by decide)
  refine cX6_198 (pc := 1) (st := []) (st1 := []) C rfl (rm := { frames := 7, cells := 0, slots := 0, locals := 274 }) (ct_X6_term C.2.1 v0 M _ _ hv0 e9) ⟨by decide, by decide, Nat.zero_le _, Nat.zero_le _⟩ (Or.inl hv0) rfl (Nat.le_of_ble_eq_true rfl) dX6_expr_1 (c2 := 0) (s2 := 0) rfl rfl (fun x10 => ?_)
  have k12 := x10 _ 6 (by decide) (Or.inl (by decide)) hv0
  exact cL_X6_expr_4 C FU v0 M8 _ _ k12 h hR
def B_X6_cmp_95  (v0 : Nat) (v1 : Int) (s0 : Nat) (s1 : Int) (M : Mem) : Option ((Int ⊕ Nat) × Mem) :=
  bT (d_X6_want s0 s1 M) fun r29 M30 => 
  bN (d_X6_next v0 M30) fun r35 M36 => 
  bT (d_X6_expr v0 M36) fun r40 M41 => 
  bR (m_r M41 600 v0 0) fun q46 => 
  bN (d_X2_lay q46 (8 + v1) 0 M41) fun r49 M50 => 
  some (.inl 0, M50)
def B_X6_cmp_83  (v0 : Nat) (s0 : Int) (M : Mem) : Option ((Int ⊕ Nat) × Mem) :=
  if w32 s0 = w32 (-1) then
    B_X6_cmp_95 v0 s0 v0 0 M
  else
    B_X6_cmp_95 v0 s0 v0 1 M
def d_X6_cmp (v0 : Nat) (M : Mem) : Option ((Int ⊕ Nat) × Mem) :=
  bT (d_X6_expr v0 M) fun r4 M5 => 
  bR (d_X6_is v0 15 M5) fun r10 => 
  if w32 r10 = 0 then
    bR (d_X6_is v0 16 M5) fun r13 => 
    if w32 r13 = 0 then
      bR (d_X6_is v0 17 M5) fun r16 => 
      if w32 r16 = 0 then
        bR (d_X6_is v0 18 M5) fun r19 => 
        if w32 r19 = 0 then
          bR (d_X6_is v0 19 M5) fun r22 => 
          if w32 r22 = 0 then
            bR (d_X6_is v0 20 M5) fun r25 => 
            if w32 r25 = 0 then
              B_X6_cmp_83 v0 (-1) M5
            else
              B_X6_cmp_83 v0 5 M5
          else
            B_X6_cmp_83 v0 4 M5
        else
          B_X6_cmp_83 v0 3 M5
      else
        B_X6_cmp_83 v0 2 M5
    else
      B_X6_cmp_83 v0 1 M5
  else
    B_X6_cmp_83 v0 0 M5
theorem cB_X6_cmp_95 {X : x_Ctx} {M0 : Mem} (C : x_CC X 9 323 yX6_cmp cX6_cmp 2 none [])  (v0 : Nat) (v1 : Int) (s0 : Nat) (s1 : Int) (M : Mem) (r : Int ⊕ Nat) (M' : Mem) (hv0 : m_kd M v0 = 6) (hs0 : m_kd M s0 = 6) (h : B_X6_cmp_95  v0 v1 s0 s1 M = some (r, M')) (hR : ocN r 0 1 ≤ (XR X).cells ∧ ocN r 0 7 ≤ (XR X).slots) : x_Z X 0 0 (x_QF X M0 (ocV r) M' (ocN r 0 1) (ocN r 0 7)) M0 M 2 [(0, .ref v0), (1, vI v1)] 95 [vI s1, .ref s0] := by
  unfold B_X6_cmp_95 at h
  rcases bTs h with ⟨x33, e31, er⟩ | ⟨r29, M30, e31, h⟩
  · subst er; exact tX6_108 (pc := 95) C rfl (rm := { frames := 6, cells := 1, slots := 7, locals := 249 }) (ct_X6_want C.2.1 s0 s1 M _ _ hs0 e31) ⟨by decide, by decide, Nat.le_trans (show 1 ≤ 1 from by decide) hR.1, Nat.le_trans (show 7 ≤ 7 from by decide) hR.2⟩ (Or.inl hs0) (Nat.le_of_ble_eq_true rfl) dX6_cmp_95 (by decide) (show 1 ≤ 1 from by decide) (show 7 ≤ 7 from by decide)
  refine cX6_108 (pc := 95) (st := []) (st1 := []) C rfl (rm := { frames := 6, cells := 0, slots := 0, locals := 249 }) (ct_X6_want C.2.1 s0 s1 M _ _ hs0 e31) ⟨by decide, by decide, Nat.zero_le _, Nat.zero_le _⟩ (Or.inl hs0) rfl (Nat.le_of_ble_eq_true rfl) dX6_cmp_95 (c2 := 0) (s2 := 0) rfl rfl (fun x32 => ?_)
  have k34 := x32 _ 6 (by decide) (Or.inl (by decide)) hv0
  refine z_aload_n (pc := 98) C 0 rfl dX6_cmp_98 ?_
  obtain ⟨r35, M36, e37, h⟩ := bNs h
  refine cX6_73 (pc := 99) (st := []) (st1 := []) C rfl (rm := { frames := 2, cells := 0, slots := 0, locals := 49 }) (ct_X6_next C.2.1 v0 M30 _ _ k34 e37) ⟨by decide, by decide, Nat.zero_le _, Nat.zero_le _⟩ (Or.inl k34) rfl (Nat.le_of_ble_eq_true rfl) dX6_cmp_99 (c2 := 0) (s2 := 0) rfl rfl (fun x38 => ?_)
  have k39 := x38 _ 6 (by decide) (Or.inl (by decide)) k34
  refine z_aload_n (pc := 102) C 0 rfl dX6_cmp_102 ?_
  rcases bTs h with ⟨x44, e42, er⟩ | ⟨r40, M41, e42, h⟩
  · subst er; exact tX6_150 (pc := 103) C rfl (rm := { frames := 8, cells := 1, slots := 7, locals := 298 }) (ct_X6_expr C.2.1 v0 M36 _ _ k39 e42) ⟨by decide, by decide, Nat.le_trans (show 1 ≤ 1 from by decide) hR.1, Nat.le_trans (show 7 ≤ 7 from by decide) hR.2⟩ (Or.inl k39) (Nat.le_of_ble_eq_true rfl) dX6_cmp_103 (by decide) (show 1 ≤ 1 from by decide) (show 7 ≤ 7 from by decide)
  refine cX6_150 (pc := 103) (st := []) (st1 := []) C rfl (rm := { frames := 8, cells := 0, slots := 0, locals := 298 }) (ct_X6_expr C.2.1 v0 M36 _ _ k39 e42) ⟨by decide, by decide, Nat.zero_le _, Nat.zero_le _⟩ (Or.inl k39) rfl (Nat.le_of_ble_eq_true rfl) dX6_cmp_103 (c2 := 0) (s2 := 0) rfl rfl (fun x43 => ?_)
  have k45 := x43 _ 6 (by decide) (Or.inl (by decide)) k39
  refine z_aload_n (pc := 106) C 0 rfl dX6_cmp_106 ?_
  obtain ⟨q46, e47, h⟩ := bRs h
  refine gX6_600 (pc := 107) C rfl (Or.inl k45) e47 dX6_cmp_107 (fun k48 => ?_)
  refine z_bipush (pc := 110) C (by decide +kernel) dX6_cmp_110 ?_
  refine z_iload_n (pc := 112) C 1 rfl dX6_cmp_112 ?_
  refine z_iadd (pc := 113) C dX6_cmp_113 ?_
  refine z_iconst (pc := 114) C dX6_cmp_114 ?_
  obtain ⟨r49, M50, e51, h⟩ := bNs h
  refine cX6_179 (pc := 115) (st := []) (st1 := []) C rfl (rm := { frames := 1, cells := 0, slots := 0, locals := 24 }) (ct_X2_lay C.2.1 q46 (8 + v1) 0 M41 _ _ k48 e51) ⟨by decide, by decide, Nat.zero_le _, Nat.zero_le _⟩ (Or.inl k48) rfl (Nat.le_of_ble_eq_true rfl) dX6_cmp_115 (c2 := 0) (s2 := 0) rfl rfl (fun x52 => ?_)
  cases h
  exact z_vret (pc := 118) C rfl (show 0 ≤ 0 from by decide) (show 0 ≤ 0 from by decide) dX6_cmp_118
theorem cB_X6_cmp_83 {X : x_Ctx} {M0 : Mem} (C : x_CC X 9 323 yX6_cmp cX6_cmp 2 none [])  (v0 : Nat) (s0 : Int) (M : Mem) (r : Int ⊕ Nat) (M' : Mem) (hv0 : m_kd M v0 = 6) (h : B_X6_cmp_83  v0 s0 M = some (r, M')) (hR : ocN r 0 1 ≤ (XR X).cells ∧ ocN r 0 7 ≤ (XR X).slots) : x_Z X 0 0 (x_QF X M0 (ocV r) M' (ocN r 0 1) (ocN r 0 7)) M0 M 2 [(0, .ref v0)] 83 [vI s0] := by
  unfold B_X6_cmp_83 at h
  refine z_istore_n (pc := 83) C (lv' := [(0, .ref v0), (1, vI s0)]) (by decide) rfl dX6_cmp_83 ?_
  refine z_aload_n (pc := 84) C 0 rfl dX6_cmp_84 ?_
  refine z_iload_n (pc := 85) C 1 rfl dX6_cmp_85 ?_
  refine z_iconst (pc := 86) C dX6_cmp_86 ?_
  refine z_ic_eq (pc := 87) C dX6_cmp_87 (tgt := 94) (by decide) (fun c28 => ?_) (fun c28 => ?_)
  · have h := itt c28 h
    refine z_iconst (pc := 94) C dX6_cmp_94 ?_
    exact cB_X6_cmp_95 C v0 s0 v0 0 M _ _ hv0 hv0 h hR
  · have h := itf c28 h
    refine z_iconst (pc := 90) C dX6_cmp_90 ?_
    refine z_goto (pc := 91) C dX6_cmp_91 (tgt := 95) (by decide) ?_
    exact cB_X6_cmp_95 C v0 s0 v0 1 M _ _ hv0 hv0 h hR
theorem ct_X6_cmp {l : Launch} {S0 : State} {D : va_G} {cA : Nat → ClassId} (hG : x_G l S0 D cA) (v0 : Nat) (M : Mem) (r : Int ⊕ Nat) (M' : Mem) (hv0 : m_kd M v0 = 6) (h : d_X6_cmp v0 M = some (r, M')) : x_Me l S0 D cA yX6_cmp cX6_cmp 2 none [] ({ frames := 9, cells := (ocN r 0 1), slots := (ocN r 0 7), locals := 323 }) [.ref v0] M (ocV r) M' := by
  refine x_begin (F := 9) (Lo := 323) (mc := (ocN r 0 1)) (ms := (ocN r 0 7)) hG (Nat.le_of_ble_eq_true rfl) (lv := [(0, .ref v0)]) rfl rfl rfl rfl rfl (fun X e1 e2 e3 e4 e5 C => ?_)
  have hR : _ ∧ _ := ⟨Nat.le_of_eq (congrArg Room.cells e5).symm, Nat.le_of_eq (congrArg Room.slots e5).symm⟩
  unfold d_X6_cmp at h
  refine z_aload_n (pc := 0) C 0 rfl dX6_cmp_0 ?_
  rcases bTs h with ⟨x8, e6, er⟩ | ⟨r4, M5, e6, h⟩
  · subst er; exact tX6_150 (pc := 1) C rfl (rm := { frames := 8, cells := 1, slots := 7, locals := 298 }) (ct_X6_expr C.2.1 v0 M _ _ hv0 e6) ⟨by decide, by decide, Nat.le_trans (show 1 ≤ 1 from by decide) hR.1, Nat.le_trans (show 7 ≤ 7 from by decide) hR.2⟩ (Or.inl hv0) (Nat.le_of_ble_eq_true rfl) dX6_cmp_1 (by decide) (show 1 ≤ 1 from by decide) (show 7 ≤ 7 from by decide)
  refine cX6_150 (pc := 1) (st := []) (st1 := []) C rfl (rm := { frames := 8, cells := 0, slots := 0, locals := 298 }) (ct_X6_expr C.2.1 v0 M _ _ hv0 e6) ⟨by decide, by decide, Nat.zero_le _, Nat.zero_le _⟩ (Or.inl hv0) rfl (Nat.le_of_ble_eq_true rfl) dX6_cmp_1 (c2 := 0) (s2 := 0) rfl rfl (fun x7 => ?_)
  have k9 := x7 _ 6 (by decide) (Or.inl (by decide)) hv0
  refine z_aload_n (pc := 4) C 0 rfl dX6_cmp_4 ?_
  refine z_lds (pc := 5) C 15 (by decide) rfl dX6_cmp_5 ?_
  obtain ⟨r10, e11, h⟩ := bRs h
  refine cX6_69 (pc := 7) (st := []) (st1 := [vI r10]) C rfl (rm := { frames := 5, cells := 0, slots := 0, locals := 126 }) (ct_X6_is C.2.1 v0 15 M5 _ k9 (by decide) e11) ⟨by decide, by decide, Nat.zero_le _, Nat.zero_le _⟩ (Or.inl k9) rfl (Nat.le_of_ble_eq_true rfl) dX6_cmp_7 (c2 := 0) (s2 := 0) rfl rfl (fun _ => ?_)
  refine z_if_eq (pc := 10) C dX6_cmp_10 (tgt := 17) (by decide) (fun c12 => ?_) (fun c12 => ?_)
  · have h := itt c12 h
    refine z_aload_n (pc := 17) C 0 rfl dX6_cmp_17 ?_
    refine z_lds (pc := 18) C 16 (by decide) rfl dX6_cmp_18 ?_
    obtain ⟨r13, e14, h⟩ := bRs h
    refine cX6_69 (pc := 20) (st := []) (st1 := [vI r13]) C rfl (rm := { frames := 5, cells := 0, slots := 0, locals := 126 }) (ct_X6_is C.2.1 v0 16 M5 _ k9 (by decide) e14) ⟨by decide, by decide, Nat.zero_le _, Nat.zero_le _⟩ (Or.inl k9) rfl (Nat.le_of_ble_eq_true rfl) dX6_cmp_20 (c2 := 0) (s2 := 0) rfl rfl (fun _ => ?_)
    refine z_if_eq (pc := 23) C dX6_cmp_23 (tgt := 30) (by decide) (fun c15 => ?_) (fun c15 => ?_)
    · have h := itt c15 h
      refine z_aload_n (pc := 30) C 0 rfl dX6_cmp_30 ?_
      refine z_lds (pc := 31) C 17 (by decide) rfl dX6_cmp_31 ?_
      obtain ⟨r16, e17, h⟩ := bRs h
      refine cX6_69 (pc := 33) (st := []) (st1 := [vI r16]) C rfl (rm := { frames := 5, cells := 0, slots := 0, locals := 126 }) (ct_X6_is C.2.1 v0 17 M5 _ k9 (by decide) e17) ⟨by decide, by decide, Nat.zero_le _, Nat.zero_le _⟩ (Or.inl k9) rfl (Nat.le_of_ble_eq_true rfl) dX6_cmp_33 (c2 := 0) (s2 := 0) rfl rfl (fun _ => ?_)
      refine z_if_eq (pc := 36) C dX6_cmp_36 (tgt := 43) (by decide) (fun c18 => ?_) (fun c18 => ?_)
      · have h := itt c18 h
        refine z_aload_n (pc := 43) C 0 rfl dX6_cmp_43 ?_
        refine z_lds (pc := 44) C 18 (by decide) rfl dX6_cmp_44 ?_
        obtain ⟨r19, e20, h⟩ := bRs h
        refine cX6_69 (pc := 46) (st := []) (st1 := [vI r19]) C rfl (rm := { frames := 5, cells := 0, slots := 0, locals := 126 }) (ct_X6_is C.2.1 v0 18 M5 _ k9 (by decide) e20) ⟨by decide, by decide, Nat.zero_le _, Nat.zero_le _⟩ (Or.inl k9) rfl (Nat.le_of_ble_eq_true rfl) dX6_cmp_46 (c2 := 0) (s2 := 0) rfl rfl (fun _ => ?_)
        refine z_if_eq (pc := 49) C dX6_cmp_49 (tgt := 56) (by decide) (fun c21 => ?_) (fun c21 => ?_)
        · have h := itt c21 h
          refine z_aload_n (pc := 56) C 0 rfl dX6_cmp_56 ?_
          refine z_lds (pc := 57) C 19 (by decide) rfl dX6_cmp_57 ?_
          obtain ⟨r22, e23, h⟩ := bRs h
          refine cX6_69 (pc := 59) (st := []) (st1 := [vI r22]) C rfl (rm := { frames := 5, cells := 0, slots := 0, locals := 126 }) (ct_X6_is C.2.1 v0 19 M5 _ k9 (by decide) e23) ⟨by decide, by decide, Nat.zero_le _, Nat.zero_le _⟩ (Or.inl k9) rfl (Nat.le_of_ble_eq_true rfl) dX6_cmp_59 (c2 := 0) (s2 := 0) rfl rfl (fun _ => ?_)
          refine z_if_eq (pc := 62) C dX6_cmp_62 (tgt := 69) (by decide) (fun c24 => ?_) (fun c24 => ?_)
          · have h := itt c24 h
            refine z_aload_n (pc := 69) C 0 rfl dX6_cmp_69 ?_
            refine z_lds (pc := 70) C 20 (by decide) rfl dX6_cmp_70 ?_
            obtain ⟨r25, e26, h⟩ := bRs h
            refine cX6_69 (pc := 72) (st := []) (st1 := [vI r25]) C rfl (rm := { frames := 5, cells := 0, slots := 0, locals := 126 }) (ct_X6_is C.2.1 v0 20 M5 _ k9 (by decide) e26) ⟨by decide, by decide, Nat.zero_le _, Nat.zero_le _⟩ (Or.inl k9) rfl (Nat.le_of_ble_eq_true rfl) dX6_cmp_72 (c2 := 0) (s2 := 0) rfl rfl (fun _ => ?_)
            refine z_if_eq (pc := 75) C dX6_cmp_75 (tgt := 82) (by decide) (fun c27 => ?_) (fun c27 => ?_)
            · have h := itt c27 h
              refine z_iconst (pc := 82) C dX6_cmp_82 ?_
              exact cB_X6_cmp_83 C v0 (-1) M5 _ _ k9 h hR
            · have h := itf c27 h
              refine z_iconst (pc := 78) C dX6_cmp_78 ?_
              refine z_goto (pc := 79) C dX6_cmp_79 (tgt := 83) (by decide) ?_
              exact cB_X6_cmp_83 C v0 5 M5 _ _ k9 h hR
          · have h := itf c24 h
            refine z_iconst (pc := 65) C dX6_cmp_65 ?_
            refine z_goto (pc := 66) C dX6_cmp_66 (tgt := 83) (by decide) ?_
            exact cB_X6_cmp_83 C v0 4 M5 _ _ k9 h hR
        · have h := itf c21 h
          refine z_iconst (pc := 52) C dX6_cmp_52 ?_
          refine z_goto (pc := 53) C dX6_cmp_53 (tgt := 83) (by decide) ?_
          exact cB_X6_cmp_83 C v0 3 M5 _ _ k9 h hR
      · have h := itf c18 h
        refine z_iconst (pc := 39) C dX6_cmp_39 ?_
        refine z_goto (pc := 40) C dX6_cmp_40 (tgt := 83) (by decide) ?_
        exact cB_X6_cmp_83 C v0 2 M5 _ _ k9 h hR
    · have h := itf c15 h
      refine z_iconst (pc := 26) C dX6_cmp_26 ?_
      refine z_goto (pc := 27) C dX6_cmp_27 (tgt := 83) (by decide) ?_
      exact cB_X6_cmp_83 C v0 1 M5 _ _ k9 h hR
  · have h := itf c12 h
    refine z_iconst (pc := 13) C dX6_cmp_13 ?_
    refine z_goto (pc := 14) C dX6_cmp_14 (tgt := 83) (by decide) ?_
    exact cB_X6_cmp_83 C v0 0 M5 _ _ k9 h hR
def B_X6_conds_4 (k4 : Nat → Mem → Option ((Int ⊕ Nat) × Mem)) (v0 : Nat) (M : Mem) : Option ((Int ⊕ Nat) × Mem) :=
  bN (d_X6_passes v0 10 M) fun r10 M11 => 
  if w32 r10 = 0 then
    some (.inl 0, M11)
  else
    bT (d_X6_cmp v0 M11) fun r16 M17 => 
    bR (m_r M17 600 v0 0) fun q22 => 
    bN (d_X2_lay q22 6 0 M17) fun r25 M26 => 
    k4 v0 M26
def L_X6_conds_4  : Nat → Nat → Mem → Option ((Int ⊕ Nat) × Mem)
  | 0, _, _ => none
  | n + 1, v0, M => B_X6_conds_4 (L_X6_conds_4  n) v0 M
def d_X6_conds (v0 : Nat) (M : Mem) : Option ((Int ⊕ Nat) × Mem) :=
  bT (d_X6_cmp v0 M) fun r4 M5 => 
  L_X6_conds_4 FU v0 M5
theorem cB_X6_conds_4 {X : x_Ctx} {M0 : Mem} (C : x_CC X 10 348 yX6_conds cX6_conds 1 none []) {k4 : Nat → Mem → Option ((Int ⊕ Nat) × Mem)} (hk4 : ∀ (v0 : Nat) (M : Mem) (r : Int ⊕ Nat) (M' : Mem), m_kd M v0 = 6 → k4 v0 M = some (r, M') → ocN r 0 1 ≤ (XR X).cells ∧ ocN r 0 7 ≤ (XR X).slots → x_Z X 0 0 (x_QF X M0 (ocV r) M' (ocN r 0 1) (ocN r 0 7)) M0 M 1 [(0, .ref v0)] 4 []) (v0 : Nat) (M : Mem) (r : Int ⊕ Nat) (M' : Mem) (hv0 : m_kd M v0 = 6) (h : B_X6_conds_4 k4 v0 M = some (r, M')) (hR : ocN r 0 1 ≤ (XR X).cells ∧ ocN r 0 7 ≤ (XR X).slots) : x_Z X 0 0 (x_QF X M0 (ocV r) M' (ocN r 0 1) (ocN r 0 7)) M0 M 1 [(0, .ref v0)] 4 [] := by
  unfold B_X6_conds_4 at h
  refine z_aload_n (pc := 4) C 0 rfl dX6_conds_4 ?_
  refine z_lds (pc := 5) C 10 (by decide) rfl dX6_conds_5 ?_
  obtain ⟨r10, M11, e12, h⟩ := bNs h
  refine cX6_147 (pc := 7) (st := []) (st1 := [vI r10]) C rfl (rm := { frames := 6, cells := 0, slots := 0, locals := 153 }) (ct_X6_passes C.2.1 v0 10 M _ _ hv0 (by decide) e12) ⟨by decide, by decide, Nat.zero_le _, Nat.zero_le _⟩ (Or.inl hv0) rfl (Nat.le_of_ble_eq_true rfl) dX6_conds_7 (c2 := 0) (s2 := 0) rfl rfl (fun x13 => ?_)
  have k14 := x13 _ 6 (by decide) (Or.inl (by decide)) hv0
  refine z_if_eq (pc := 10) C dX6_conds_10 (tgt := 30) (by decide) (fun c15 => ?_) (fun c15 => ?_)
  · have h := itt c15 h
    cases h
    exact z_vret (pc := 30) C rfl (show 0 ≤ 0 from by decide) (show 0 ≤ 0 from by decide) dX6_conds_30
  · have h := itf c15 h
    refine z_aload_n (pc := 13) C 0 rfl dX6_conds_13 ?_
    rcases bTs h with ⟨x20, e18, er⟩ | ⟨r16, M17, e18, h⟩
    · subst er; exact tX6_183 (pc := 14) C rfl (rm := { frames := 9, cells := 1, slots := 7, locals := 323 }) (ct_X6_cmp C.2.1 v0 M11 _ _ k14 e18) ⟨by decide, by decide, Nat.le_trans (show 1 ≤ 1 from by decide) hR.1, Nat.le_trans (show 7 ≤ 7 from by decide) hR.2⟩ (Or.inl k14) (Nat.le_of_ble_eq_true rfl) dX6_conds_14 (by decide) (show 1 ≤ 1 from by decide) (show 7 ≤ 7 from by decide)
    refine cX6_183 (pc := 14) (st := []) (st1 := []) C rfl (rm := { frames := 9, cells := 0, slots := 0, locals := 323 }) (ct_X6_cmp C.2.1 v0 M11 _ _ k14 e18) ⟨by decide, by decide, Nat.zero_le _, Nat.zero_le _⟩ (Or.inl k14) rfl (Nat.le_of_ble_eq_true rfl) dX6_conds_14 (c2 := 0) (s2 := 0) rfl rfl (fun x19 => ?_)
    have k21 := x19 _ 6 (by decide) (Or.inl (by decide)) k14
    refine z_aload_n (pc := 17) C 0 rfl dX6_conds_17 ?_
    obtain ⟨q22, e23, h⟩ := bRs h
    refine gX6_600 (pc := 18) C rfl (Or.inl k21) e23 dX6_conds_18 (fun k24 => ?_)
    refine z_bipush (pc := 21) C (by decide +kernel) dX6_conds_21 ?_
    refine z_iconst (pc := 23) C dX6_conds_23 ?_
    obtain ⟨r25, M26, e27, h⟩ := bNs h
    refine cX6_179 (pc := 24) (st := []) (st1 := []) C rfl (rm := { frames := 1, cells := 0, slots := 0, locals := 24 }) (ct_X2_lay C.2.1 q22 6 0 M17 _ _ k24 e27) ⟨by decide, by decide, Nat.zero_le _, Nat.zero_le _⟩ (Or.inl k24) rfl (Nat.le_of_ble_eq_true rfl) dX6_conds_24 (c2 := 0) (s2 := 0) rfl rfl (fun x28 => ?_)
    have k29 := x28 _ 6 (by decide) (Or.inl (by decide)) k21
    refine z_goto (pc := 27) C dX6_conds_27 (tgt := 4) (by decide) ?_
    exact hk4 v0 M26 _ _ k29 h hR
theorem cL_X6_conds_4 {X : x_Ctx} {M0 : Mem} (C : x_CC X 10 348 yX6_conds cX6_conds 1 none [])  : ∀ (n : Nat) (v0 : Nat) (M : Mem) (r : Int ⊕ Nat) (M' : Mem) (hv0 : m_kd M v0 = 6) (h : L_X6_conds_4  n v0 M = some (r, M')) (hR : ocN r 0 1 ≤ (XR X).cells ∧ ocN r 0 7 ≤ (XR X).slots), x_Z X 0 0 (x_QF X M0 (ocV r) M' (ocN r 0 1) (ocN r 0 7)) M0 M 1 [(0, .ref v0)] 4 [] := by
  intro n
  induction n with
  | zero => intro v0 M r M' hv0 h hR; cases h
  | succ n ih => intro v0 M r M' hv0 h hR; exact cB_X6_conds_4 C (fun v0 M r M' hv0 h hR => ih v0 M r M' hv0 h hR) v0 M r M' hv0 h hR
theorem ct_X6_conds {l : Launch} {S0 : State} {D : va_G} {cA : Nat → ClassId} (hG : x_G l S0 D cA) (v0 : Nat) (M : Mem) (r : Int ⊕ Nat) (M' : Mem) (hv0 : m_kd M v0 = 6) (h : d_X6_conds v0 M = some (r, M')) : x_Me l S0 D cA yX6_conds cX6_conds 1 none [] ({ frames := 10, cells := (ocN r 0 1), slots := (ocN r 0 7), locals := 348 }) [.ref v0] M (ocV r) M' := by
  refine x_begin (F := 10) (Lo := 348) (mc := (ocN r 0 1)) (ms := (ocN r 0 7)) hG (Nat.le_of_ble_eq_true rfl) (lv := [(0, .ref v0)]) rfl rfl rfl rfl rfl (fun X e1 e2 e3 e4 e5 C => ?_)
  have hR : _ ∧ _ := ⟨Nat.le_of_eq (congrArg Room.cells e5).symm, Nat.le_of_eq (congrArg Room.slots e5).symm⟩
  unfold d_X6_conds at h
  refine z_aload_n (pc := 0) C 0 rfl dX6_conds_0 ?_
  rcases bTs h with ⟨x8, e6, er⟩ | ⟨r4, M5, e6, h⟩
  · subst er; exact tX6_183 (pc := 1) C rfl (rm := { frames := 9, cells := 1, slots := 7, locals := 323 }) (ct_X6_cmp C.2.1 v0 M _ _ hv0 e6) ⟨by decide, by decide, Nat.le_trans (show 1 ≤ 1 from by decide) hR.1, Nat.le_trans (show 7 ≤ 7 from by decide) hR.2⟩ (Or.inl hv0) (Nat.le_of_ble_eq_true rfl) dX6_conds_1 (by decide) (show 1 ≤ 1 from by decide) (show 7 ≤ 7 from by decide)
  refine cX6_183 (pc := 1) (st := []) (st1 := []) C rfl (rm := { frames := 9, cells := 0, slots := 0, locals := 323 }) (ct_X6_cmp C.2.1 v0 M _ _ hv0 e6) ⟨by decide, by decide, Nat.zero_le _, Nat.zero_le _⟩ (Or.inl hv0) rfl (Nat.le_of_ble_eq_true rfl) dX6_conds_1 (c2 := 0) (s2 := 0) rfl rfl (fun x7 => ?_)
  have k9 := x7 _ 6 (by decide) (Or.inl (by decide)) hv0
  exact cL_X6_conds_4 C FU v0 M5 _ _ k9 h hR
def B_X6_cond_4 (k4 : Nat → Mem → Option ((Int ⊕ Nat) × Mem)) (v0 : Nat) (M : Mem) : Option ((Int ⊕ Nat) × Mem) :=
  bN (d_X6_passes v0 11 M) fun r10 M11 => 
  if w32 r10 = 0 then
    some (.inl 0, M11)
  else
    bT (d_X6_conds v0 M11) fun r16 M17 => 
    bR (m_r M17 600 v0 0) fun q22 => 
    bN (d_X2_lay q22 7 0 M17) fun r25 M26 => 
    k4 v0 M26
def L_X6_cond_4  : Nat → Nat → Mem → Option ((Int ⊕ Nat) × Mem)
  | 0, _, _ => none
  | n + 1, v0, M => B_X6_cond_4 (L_X6_cond_4  n) v0 M
def d_X6_cond (v0 : Nat) (M : Mem) : Option ((Int ⊕ Nat) × Mem) :=
  bT (d_X6_conds v0 M) fun r4 M5 => 
  L_X6_cond_4 FU v0 M5
theorem cB_X6_cond_4 {X : x_Ctx} {M0 : Mem} (C : x_CC X 11 372 yX6_cond cX6_cond 1 none []) {k4 : Nat → Mem → Option ((Int ⊕ Nat) × Mem)} (hk4 : ∀ (v0 : Nat) (M : Mem) (r : Int ⊕ Nat) (M' : Mem), m_kd M v0 = 6 → k4 v0 M = some (r, M') → ocN r 0 1 ≤ (XR X).cells ∧ ocN r 0 7 ≤ (XR X).slots → x_Z X 0 0 (x_QF X M0 (ocV r) M' (ocN r 0 1) (ocN r 0 7)) M0 M 1 [(0, .ref v0)] 4 []) (v0 : Nat) (M : Mem) (r : Int ⊕ Nat) (M' : Mem) (hv0 : m_kd M v0 = 6) (h : B_X6_cond_4 k4 v0 M = some (r, M')) (hR : ocN r 0 1 ≤ (XR X).cells ∧ ocN r 0 7 ≤ (XR X).slots) : x_Z X 0 0 (x_QF X M0 (ocV r) M' (ocN r 0 1) (ocN r 0 7)) M0 M 1 [(0, .ref v0)] 4 [] := by
  unfold B_X6_cond_4 at h
  refine z_aload_n (pc := 4) C 0 rfl dX6_cond_4 ?_
  refine z_lds (pc := 5) C 11 (by decide) rfl dX6_cond_5 ?_
  obtain ⟨r10, M11, e12, h⟩ := bNs h
  refine cX6_147 (pc := 7) (st := []) (st1 := [vI r10]) C rfl (rm := { frames := 6, cells := 0, slots := 0, locals := 153 }) (ct_X6_passes C.2.1 v0 11 M _ _ hv0 (by decide) e12) ⟨by decide, by decide, Nat.zero_le _, Nat.zero_le _⟩ (Or.inl hv0) rfl (Nat.le_of_ble_eq_true rfl) dX6_cond_7 (c2 := 0) (s2 := 0) rfl rfl (fun x13 => ?_)
  have k14 := x13 _ 6 (by decide) (Or.inl (by decide)) hv0
  refine z_if_eq (pc := 10) C dX6_cond_10 (tgt := 30) (by decide) (fun c15 => ?_) (fun c15 => ?_)
  · have h := itt c15 h
    cases h
    exact z_vret (pc := 30) C rfl (show 0 ≤ 0 from by decide) (show 0 ≤ 0 from by decide) dX6_cond_30
  · have h := itf c15 h
    refine z_aload_n (pc := 13) C 0 rfl dX6_cond_13 ?_
    rcases bTs h with ⟨x20, e18, er⟩ | ⟨r16, M17, e18, h⟩
    · subst er; exact tX6_176 (pc := 14) C rfl (rm := { frames := 10, cells := 1, slots := 7, locals := 348 }) (ct_X6_conds C.2.1 v0 M11 _ _ k14 e18) ⟨by decide, by decide, Nat.le_trans (show 1 ≤ 1 from by decide) hR.1, Nat.le_trans (show 7 ≤ 7 from by decide) hR.2⟩ (Or.inl k14) (Nat.le_of_ble_eq_true rfl) dX6_cond_14 (by decide) (show 1 ≤ 1 from by decide) (show 7 ≤ 7 from by decide)
    refine cX6_176 (pc := 14) (st := []) (st1 := []) C rfl (rm := { frames := 10, cells := 0, slots := 0, locals := 348 }) (ct_X6_conds C.2.1 v0 M11 _ _ k14 e18) ⟨by decide, by decide, Nat.zero_le _, Nat.zero_le _⟩ (Or.inl k14) rfl (Nat.le_of_ble_eq_true rfl) dX6_cond_14 (c2 := 0) (s2 := 0) rfl rfl (fun x19 => ?_)
    have k21 := x19 _ 6 (by decide) (Or.inl (by decide)) k14
    refine z_aload_n (pc := 17) C 0 rfl dX6_cond_17 ?_
    obtain ⟨q22, e23, h⟩ := bRs h
    refine gX6_600 (pc := 18) C rfl (Or.inl k21) e23 dX6_cond_18 (fun k24 => ?_)
    refine z_bipush (pc := 21) C (by decide +kernel) dX6_cond_21 ?_
    refine z_iconst (pc := 23) C dX6_cond_23 ?_
    obtain ⟨r25, M26, e27, h⟩ := bNs h
    refine cX6_179 (pc := 24) (st := []) (st1 := []) C rfl (rm := { frames := 1, cells := 0, slots := 0, locals := 24 }) (ct_X2_lay C.2.1 q22 7 0 M17 _ _ k24 e27) ⟨by decide, by decide, Nat.zero_le _, Nat.zero_le _⟩ (Or.inl k24) rfl (Nat.le_of_ble_eq_true rfl) dX6_cond_24 (c2 := 0) (s2 := 0) rfl rfl (fun x28 => ?_)
    have k29 := x28 _ 6 (by decide) (Or.inl (by decide)) k21
    refine z_goto (pc := 27) C dX6_cond_27 (tgt := 4) (by decide) ?_
    exact hk4 v0 M26 _ _ k29 h hR
theorem cL_X6_cond_4 {X : x_Ctx} {M0 : Mem} (C : x_CC X 11 372 yX6_cond cX6_cond 1 none [])  : ∀ (n : Nat) (v0 : Nat) (M : Mem) (r : Int ⊕ Nat) (M' : Mem) (hv0 : m_kd M v0 = 6) (h : L_X6_cond_4  n v0 M = some (r, M')) (hR : ocN r 0 1 ≤ (XR X).cells ∧ ocN r 0 7 ≤ (XR X).slots), x_Z X 0 0 (x_QF X M0 (ocV r) M' (ocN r 0 1) (ocN r 0 7)) M0 M 1 [(0, .ref v0)] 4 [] := by
  intro n
  induction n with
  | zero => intro v0 M r M' hv0 h hR; cases h
  | succ n ih => intro v0 M r M' hv0 h hR; exact cB_X6_cond_4 C (fun v0 M r M' hv0 h hR => ih v0 M r M' hv0 h hR) v0 M r M' hv0 h hR
theorem ct_X6_cond {l : Launch} {S0 : State} {D : va_G} {cA : Nat → ClassId} (hG : x_G l S0 D cA) (v0 : Nat) (M : Mem) (r : Int ⊕ Nat) (M' : Mem) (hv0 : m_kd M v0 = 6) (h : d_X6_cond v0 M = some (r, M')) : x_Me l S0 D cA yX6_cond cX6_cond 1 none [] ({ frames := 11, cells := (ocN r 0 1), slots := (ocN r 0 7), locals := 372 }) [.ref v0] M (ocV r) M' := by
  refine x_begin (F := 11) (Lo := 372) (mc := (ocN r 0 1)) (ms := (ocN r 0 7)) hG (Nat.le_of_ble_eq_true rfl) (lv := [(0, .ref v0)]) rfl rfl rfl rfl rfl (fun X e1 e2 e3 e4 e5 C => ?_)
  have hR : _ ∧ _ := ⟨Nat.le_of_eq (congrArg Room.cells e5).symm, Nat.le_of_eq (congrArg Room.slots e5).symm⟩
  unfold d_X6_cond at h
  refine z_aload_n (pc := 0) C 0 rfl dX6_cond_0 ?_
  rcases bTs h with ⟨x8, e6, er⟩ | ⟨r4, M5, e6, h⟩
  · subst er; exact tX6_176 (pc := 1) C rfl (rm := { frames := 10, cells := 1, slots := 7, locals := 348 }) (ct_X6_conds C.2.1 v0 M _ _ hv0 e6) ⟨by decide, by decide, Nat.le_trans (show 1 ≤ 1 from by decide) hR.1, Nat.le_trans (show 7 ≤ 7 from by decide) hR.2⟩ (Or.inl hv0) (Nat.le_of_ble_eq_true rfl) dX6_cond_1 (by decide) (show 1 ≤ 1 from by decide) (show 7 ≤ 7 from by decide)
  refine cX6_176 (pc := 1) (st := []) (st1 := []) C rfl (rm := { frames := 10, cells := 0, slots := 0, locals := 348 }) (ct_X6_conds C.2.1 v0 M _ _ hv0 e6) ⟨by decide, by decide, Nat.zero_le _, Nat.zero_le _⟩ (Or.inl hv0) rfl (Nat.le_of_ble_eq_true rfl) dX6_cond_1 (c2 := 0) (s2 := 0) rfl rfl (fun x7 => ?_)
  have k9 := x7 _ 6 (by decide) (Or.inl (by decide)) hv0
  exact cL_X6_cond_4 C FU v0 M5 _ _ k9 h hR
def d_X6_condition (v0 : Nat) (M : Mem) : Option ((Int ⊕ Nat) × Mem) :=
  bN (d_X6_passes v0 9 M) fun r1 M2 => 
  if w32 r1 = 0 then
    some (.inl 0, M2)
  else
    bT (d_X6_cond v0 M2) fun r7 M8 => 
    some (.inl 0, M8)
theorem ct_X6_condition {l : Launch} {S0 : State} {D : va_G} {cA : Nat → ClassId} (hG : x_G l S0 D cA) (v0 : Nat) (M : Mem) (r : Int ⊕ Nat) (M' : Mem) (hv0 : m_kd M v0 = 6) (h : d_X6_condition v0 M = some (r, M')) : x_Me l S0 D cA yX6_condition cX6_condition 1 none [] ({ frames := 12, cells := (ocN r 0 1), slots := (ocN r 0 7), locals := 396 }) [.ref v0] M (ocV r) M' := by
  refine x_begin (F := 12) (Lo := 396) (mc := (ocN r 0 1)) (ms := (ocN r 0 7)) hG (Nat.le_of_ble_eq_true rfl) (lv := [(0, .ref v0)]) rfl rfl rfl rfl rfl (fun X e1 e2 e3 e4 e5 C => ?_)
  have hR : _ ∧ _ := ⟨Nat.le_of_eq (congrArg Room.cells e5).symm, Nat.le_of_eq (congrArg Room.slots e5).symm⟩
  unfold d_X6_condition at h
  refine z_aload_n (pc := 0) C 0 rfl dX6_condition_0 ?_
  refine z_lds (pc := 1) C 9 (by decide) rfl dX6_condition_1 ?_
  obtain ⟨r1, M2, e3, h⟩ := bNs h
  refine cX6_147 (pc := 3) (st := []) (st1 := [vI r1]) C rfl (rm := { frames := 6, cells := 0, slots := 0, locals := 153 }) (ct_X6_passes C.2.1 v0 9 M _ _ hv0 (by decide) e3) ⟨by decide, by decide, Nat.zero_le _, Nat.zero_le _⟩ (Or.inl hv0) rfl (Nat.le_of_ble_eq_true rfl) dX6_condition_3 (c2 := 0) (s2 := 0) rfl rfl (fun x4 => ?_)
  have k5 := x4 _ 6 (by decide) (Or.inl (by decide)) hv0
  refine z_if_eq (pc := 6) C dX6_condition_6 (tgt := 13) (by decide) (fun c6 => ?_) (fun c6 => ?_)
  · have h := itt c6 h
    cases h
    exact z_vret (pc := 13) C rfl (show 0 ≤ 0 from by decide) (show 0 ≤ 0 from by decide) dX6_condition_13
  · have h := itf c6 h
    refine z_aload_n (pc := 9) C 0 rfl dX6_condition_9 ?_
    rcases bTs h with ⟨x11, e9, er⟩ | ⟨r7, M8, e9, h⟩
    · subst er; exact tX6_153 (pc := 10) C rfl (rm := { frames := 11, cells := 1, slots := 7, locals := 372 }) (ct_X6_cond C.2.1 v0 M2 _ _ k5 e9) ⟨by decide, by decide, Nat.le_trans (show 1 ≤ 1 from by decide) hR.1, Nat.le_trans (show 7 ≤ 7 from by decide) hR.2⟩ (Or.inl k5) (Nat.le_of_ble_eq_true rfl) dX6_condition_10 (by decide) (show 1 ≤ 1 from by decide) (show 7 ≤ 7 from by decide)
    refine cX6_153 (pc := 10) (st := []) (st1 := []) C rfl (rm := { frames := 11, cells := 0, slots := 0, locals := 372 }) (ct_X6_cond C.2.1 v0 M2 _ _ k5 e9) ⟨by decide, by decide, Nat.zero_le _, Nat.zero_le _⟩ (Or.inl k5) rfl (Nat.le_of_ble_eq_true rfl) dX6_condition_10 (c2 := 0) (s2 := 0) rfl rfl (fun x10 => ?_)
    cases h
    exact z_vret (pc := 13) C rfl (show 0 ≤ 0 from by decide) (show 0 ≤ 0 from by decide) dX6_condition_13
def B_X6_statement_278  (v0 : Nat) (v1 : Int) (s0 : Nat) (s1 : Int) (s2 : Int) (M : Mem) : Option ((Int ⊕ Nat) × Mem) :=
  if inb s1 20 then 
  bT (d_X6_cond v0 (m_si M 202 s0 (ixn s1) s2)) fun r117 M118 => 
  bR (m_r M118 600 v0 0) fun q123 => 
  bR (m_r M118 600 v0 0) fun q126 => 
  if inb v1 20 then 
  some (.inl 0, (m_si M118 211 q123 (ixn v1) (m_i M118 208 q126 0))) else none else none
def B_X6_statement_254  (v0 : Nat) (v1 : Int) (v2 : Int) (s0 : Nat) (s1 : Int) (M : Mem) : Option ((Int ⊕ Nat) × Mem) :=
  bT (d_X6_want s0 s1 M) fun r101 M102 => 
  bN (d_X6_next v0 M102) fun r107 M108 => 
  bR (m_r M108 600 v0 0) fun q112 => 
  if w32 v2 = 0 then
    B_X6_statement_278 v0 v1 q112 v1 3 M108
  else
    B_X6_statement_278 v0 v1 q112 v1 2 M108
def B_X6_statement_249  (v0 : Nat) (v1 : Int) (v2 : Int) (s0 : Nat) (M : Mem) : Option ((Int ⊕ Nat) × Mem) :=
  B_X6_statement_254 v0 v1 v2 s0 1 M
def B_X6_statement_177  (v0 : Nat) (v1 : Int) (M : Mem) : Option ((Int ⊕ Nat) × Mem) :=
  bN (d_X6_passes v0 6 M) fun r92 M93 => 
  if w32 r92 = 0 then
    bR (d_X6_is v0 7 M93) fun r98 => 
    if w32 r98 = 0 then
      bR (d_X6_is v0 8 M93) fun r130 => 
      if w32 r130 = 0 then
        B_X6_statement_254 v0 v1 r98 v0 0 M93
      else
        B_X6_statement_249 v0 v1 r98 v0 M93
    else
      B_X6_statement_249 v0 v1 r98 v0 M93
  else
    bR (m_r M93 600 v0 0) fun q133 => 
    if inb v1 20 then 
    bT (d_X6_told v0 v1 (m_si M93 202 q133 (ixn v1) 1)) fun r137 M138 => 
    bT (d_X6_expr v0 M138) fun r143 M144 => 
    bR (m_r M144 600 v0 0) fun q149 => 
    bR (m_r M144 600 v0 0) fun q152 => 
    bT (d_X6_condition v0 (m_si M144 210 q149 (ixn v1) (m_i M144 208 q152 0))) fun r155 M156 => 
    bR (m_r M156 600 v0 0) fun q161 => 
    bR (m_r M156 600 v0 0) fun q164 => 
    some (.inl 0, (m_si M156 211 q161 (ixn v1) (m_i M156 208 q164 0))) else none
def B_X6_statement_283  (v0 : Nat) (v1 : Int) (M : Mem) : Option ((Int ⊕ Nat) × Mem) :=
  bR (m_r M 600 v0 0) fun q223 => 
  bR (m_r M 600 v0 0) fun q226 => 
  if inb v1 20 then 
  some (.inl 0, (m_si M 211 q223 (ixn v1) (m_i M 208 q226 0))) else none
def d_X6_statement (v0 : Nat) (M : Mem) : Option ((Int ⊕ Nat) × Mem) :=
  bR (m_r M 600 v0 0) fun q64 => 
  bR (m_r M 600 v0 0) fun q67 => 
  bR (m_r M 600 v0 0) fun q70 => 
  if inb (m_i M 200 q64 0) 20 then 
  bR (m_r M 600 v0 0) fun q74 => 
  bR (m_r M 600 v0 0) fun q77 => 
  bR (m_r M 600 v0 0) fun q80 => 
  bR (m_r M 600 v0 0) fun q83 => 
  bR (m_r M 600 v0 0) fun q86 => 
  bR (d_X6_is v0 5 (m_si (m_si (m_si (m_si (m_si M 209 q67 (ixn (m_i M 200 q64 0)) (m_i M 208 q70 0)) 210 q74 (ixn (m_i M 200 q64 0)) (m_i M 208 q77 0)) 203 q80 (ixn (m_i M 200 q64 0)) 0) 204 q83 (ixn (m_i M 200 q64 0)) 0) 205 q86 (ixn (m_i M 200 q64 0)) 0)) fun r89 => 
  if w32 r89 = 0 then
    B_X6_statement_177 v0 (m_i M 200 q64 0) (m_si (m_si (m_si (m_si (m_si M 209 q67 (ixn (m_i M 200 q64 0)) (m_i M 208 q70 0)) 210 q74 (ixn (m_i M 200 q64 0)) (m_i M 208 q77 0)) 203 q80 (ixn (m_i M 200 q64 0)) 0) 204 q83 (ixn (m_i M 200 q64 0)) 0) 205 q86 (ixn (m_i M 200 q64 0)) 0)
  else
    bR (m_r M 600 v0 0) fun q167 => 
    if w32 10 ≤ w32 (m_i M 201 q167 0) then
      B_X6_statement_177 v0 (m_i M 200 q64 0) (m_si (m_si (m_si (m_si (m_si M 209 q67 (ixn (m_i M 200 q64 0)) (m_i M 208 q70 0)) 210 q74 (ixn (m_i M 200 q64 0)) (m_i M 208 q77 0)) 203 q80 (ixn (m_i M 200 q64 0)) 0) 204 q83 (ixn (m_i M 200 q64 0)) 0) 205 q86 (ixn (m_i M 200 q64 0)) 0)
    else
      bN (d_X6_next v0 (m_si (m_si (m_si (m_si (m_si M 209 q67 (ixn (m_i M 200 q64 0)) (m_i M 208 q70 0)) 210 q74 (ixn (m_i M 200 q64 0)) (m_i M 208 q77 0)) 203 q80 (ixn (m_i M 200 q64 0)) 0) 204 q83 (ixn (m_i M 200 q64 0)) 0) 205 q86 (ixn (m_i M 200 q64 0)) 0)) fun r171 M172 => 
      bR (m_r M172 600 v0 0) fun q176 => 
      if inb (m_i M 200 q64 0) 20 then 
      bR (m_r M172 600 v0 0) fun q180 => 
      bR (m_r M172 600 v0 0) fun q183 => 
      bT (d_X6_told v0 (m_i M 200 q64 0) (m_si (m_si (m_si M172 202 q176 (ixn (m_i M 200 q64 0)) 0) 205 q180 (ixn (m_i M 200 q64 0)) 1) 201 q183 0 ((m_i M172 201 q183 0) + 1))) fun r186 M187 => 
      bR (m_r M187 600 v0 0) fun q192 => 
      bT (d_X6_bound v0 (-1000000) M187) fun r195 M196 => 
      if inb (m_i M 200 q64 0) 20 then 
      bR (m_r M196 600 v0 0) fun q203 => 
      bR (m_r M196 600 v0 0) fun q206 => 
      bT (d_X6_bound v0 (m_i (m_si M196 203 q192 (ixn (m_i M 200 q64 0)) r195) 203 q206 (ixn (m_i M 200 q64 0))) (m_si M196 203 q192 (ixn (m_i M 200 q64 0)) r195)) fun r209 M210 => 
      if inb (m_i M 200 q64 0) 20 then 
      bT (d_X6_condition v0 (m_si M210 204 q203 (ixn (m_i M 200 q64 0)) r209)) fun r217 M218 => 
      B_X6_statement_283 v0 (m_i M 200 q64 0) M218 else none else none else none else none
theorem cB_X6_statement_278 {X : x_Ctx} {M0 : Mem} (C : x_CC X 13 420 yX6_statement cX6_statement 3 none [])  (v0 : Nat) (v1 : Int) (s0 : Nat) (s1 : Int) (s2 : Int) (M : Mem) (r : Int ⊕ Nat) (M' : Mem) (hv0 : m_kd M v0 = 6) (hs0 : m_kd M s0 = 2) (h : B_X6_statement_278  v0 v1 s0 s1 s2 M = some (r, M')) (hR : ocN r 0 1 ≤ (XR X).cells ∧ ocN r 0 7 ≤ (XR X).slots) : x_Z X 0 0 (x_QF X M0 (ocV r) M' (ocN r 0 1) (ocN r 0 7)) M0 M 3 [(0, .ref v0), (1, vI v1)] 278 [vI s2, vI s1, .ref (s0 + 1)] := by
  unfold B_X6_statement_278 at h
  obtain ⟨c116, h⟩ := ifn h
  refine z_isO (pc := 278) (k := 2) (j := 2) C 202 rfl (by decide) (by decide) (by decide) rfl rfl rfl rfl hs0 c116 dX6_statement_278 ?_
  refine z_aload_n (pc := 279) C 0 rfl dX6_statement_279 ?_
  rcases bTs h with ⟨x121, e119, er⟩ | ⟨r117, M118, e119, h⟩
  · subst er; exact tX6_153 (pc := 280) C rfl (rm := { frames := 11, cells := 1, slots := 7, locals := 372 }) (ct_X6_cond C.2.1 v0 (m_si M 202 s0 (ixn s1) s2) _ _ hv0 e119) ⟨by decide, by decide, Nat.le_trans (show 1 ≤ 1 from by decide) hR.1, Nat.le_trans (show 7 ≤ 7 from by decide) hR.2⟩ (Or.inl hv0) (Nat.le_of_ble_eq_true rfl) dX6_statement_280 (by decide) (show 1 ≤ 1 from by decide) (show 7 ≤ 7 from by decide)
  refine cX6_153 (pc := 280) (st := []) (st1 := []) C rfl (rm := { frames := 11, cells := 0, slots := 0, locals := 372 }) (ct_X6_cond C.2.1 v0 (m_si M 202 s0 (ixn s1) s2) _ _ hv0 e119) ⟨by decide, by decide, Nat.zero_le _, Nat.zero_le _⟩ (Or.inl hv0) rfl (Nat.le_of_ble_eq_true rfl) dX6_statement_280 (c2 := 0) (s2 := 0) rfl rfl (fun x120 => ?_)
  have k122 := x120 _ 6 (by decide) (Or.inl (by decide)) hv0
  refine z_aload_n (pc := 283) C 0 rfl dX6_statement_283 ?_
  obtain ⟨q123, e124, h⟩ := bRs h
  refine gX6_600 (pc := 284) C rfl (Or.inl k122) e124 dX6_statement_284 (fun k125 => ?_)
  refine gX6_211 (pc := 287) C rfl k125 dX6_statement_287 ?_
  refine z_iload_n (pc := 290) C 1 rfl dX6_statement_290 ?_
  refine z_aload_n (pc := 291) C 0 rfl dX6_statement_291 ?_
  obtain ⟨q126, e127, h⟩ := bRs h
  refine gX6_600 (pc := 292) C rfl (Or.inl k122) e127 dX6_statement_292 (fun k128 => ?_)
  refine gX6_208 (pc := 295) C rfl (Or.inl k128) rfl dX6_statement_295 ?_
  obtain ⟨c129, h⟩ := ifn h
  refine z_isO (pc := 298) (k := 2) (j := 11) C 211 rfl (by decide) (by decide) (by decide) rfl rfl rfl rfl k125 c129 dX6_statement_298 ?_
  cases h
  exact z_vret (pc := 299) C rfl (show 0 ≤ 0 from by decide) (show 0 ≤ 0 from by decide) dX6_statement_299
theorem cB_X6_statement_254 {X : x_Ctx} {M0 : Mem} (C : x_CC X 13 420 yX6_statement cX6_statement 3 none [])  (v0 : Nat) (v1 : Int) (v2 : Int) (s0 : Nat) (s1 : Int) (M : Mem) (r : Int ⊕ Nat) (M' : Mem) (hv0 : m_kd M v0 = 6) (hs0 : m_kd M s0 = 6) (h : B_X6_statement_254  v0 v1 v2 s0 s1 M = some (r, M')) (hR : ocN r 0 1 ≤ (XR X).cells ∧ ocN r 0 7 ≤ (XR X).slots) : x_Z X 0 0 (x_QF X M0 (ocV r) M' (ocN r 0 1) (ocN r 0 7)) M0 M 3 [(0, .ref v0), (1, vI v1), (2, vI v2)] 254 [vI s1, .ref s0] := by
  unfold B_X6_statement_254 at h
  rcases bTs h with ⟨x105, e103, er⟩ | ⟨r101, M102, e103, h⟩
  · subst er; exact tX6_108 (pc := 254) C rfl (rm := { frames := 6, cells := 1, slots := 7, locals := 249 }) (ct_X6_want C.2.1 s0 s1 M _ _ hs0 e103) ⟨by decide, by decide, Nat.le_trans (show 1 ≤ 1 from by decide) hR.1, Nat.le_trans (show 7 ≤ 7 from by decide) hR.2⟩ (Or.inl hs0) (Nat.le_of_ble_eq_true rfl) dX6_statement_254 (by decide) (show 1 ≤ 1 from by decide) (show 7 ≤ 7 from by decide)
  refine cX6_108 (pc := 254) (st := []) (st1 := []) C rfl (rm := { frames := 6, cells := 0, slots := 0, locals := 249 }) (ct_X6_want C.2.1 s0 s1 M _ _ hs0 e103) ⟨by decide, by decide, Nat.zero_le _, Nat.zero_le _⟩ (Or.inl hs0) rfl (Nat.le_of_ble_eq_true rfl) dX6_statement_254 (c2 := 0) (s2 := 0) rfl rfl (fun x104 => ?_)
  have k106 := x104 _ 6 (by decide) (Or.inl (by decide)) hv0
  refine z_aload_n (pc := 257) C 0 rfl dX6_statement_257 ?_
  obtain ⟨r107, M108, e109, h⟩ := bNs h
  refine cX6_73 (pc := 258) (st := []) (st1 := []) C rfl (rm := { frames := 2, cells := 0, slots := 0, locals := 49 }) (ct_X6_next C.2.1 v0 M102 _ _ k106 e109) ⟨by decide, by decide, Nat.zero_le _, Nat.zero_le _⟩ (Or.inl k106) rfl (Nat.le_of_ble_eq_true rfl) dX6_statement_258 (c2 := 0) (s2 := 0) rfl rfl (fun x110 => ?_)
  have k111 := x110 _ 6 (by decide) (Or.inl (by decide)) k106
  refine z_aload_n (pc := 261) C 0 rfl dX6_statement_261 ?_
  obtain ⟨q112, e113, h⟩ := bRs h
  refine gX6_600 (pc := 262) C rfl (Or.inl k111) e113 dX6_statement_262 (fun k114 => ?_)
  refine gX6_202 (pc := 265) C rfl k114 dX6_statement_265 ?_
  refine z_iload_n (pc := 268) C 1 rfl dX6_statement_268 ?_
  refine z_iload_n (pc := 269) C 2 rfl dX6_statement_269 ?_
  refine z_if_eq (pc := 270) C dX6_statement_270 (tgt := 277) (by decide) (fun c115 => ?_) (fun c115 => ?_)
  · have h := itt c115 h
    refine z_iconst (pc := 277) C dX6_statement_277 ?_
    exact z_lv [0, 1] rfl <| cB_X6_statement_278 C v0 v1 q112 v1 3 M108 _ _ k111 k114 h hR
  · have h := itf c115 h
    refine z_iconst (pc := 273) C dX6_statement_273 ?_
    refine z_goto (pc := 274) C dX6_statement_274 (tgt := 278) (by decide) ?_
    exact z_lv [0, 1] rfl <| cB_X6_statement_278 C v0 v1 q112 v1 2 M108 _ _ k111 k114 h hR
theorem cB_X6_statement_249 {X : x_Ctx} {M0 : Mem} (C : x_CC X 13 420 yX6_statement cX6_statement 3 none [])  (v0 : Nat) (v1 : Int) (v2 : Int) (s0 : Nat) (M : Mem) (r : Int ⊕ Nat) (M' : Mem) (hv0 : m_kd M v0 = 6) (hs0 : m_kd M s0 = 6) (h : B_X6_statement_249  v0 v1 v2 s0 M = some (r, M')) (hR : ocN r 0 1 ≤ (XR X).cells ∧ ocN r 0 7 ≤ (XR X).slots) : x_Z X 0 0 (x_QF X M0 (ocV r) M' (ocN r 0 1) (ocN r 0 7)) M0 M 3 [(0, .ref v0), (1, vI v1), (2, vI v2)] 249 [.ref s0] := by
  unfold B_X6_statement_249 at h
  refine z_iconst (pc := 249) C dX6_statement_249 ?_
  refine z_goto (pc := 250) C dX6_statement_250 (tgt := 254) (by decide) ?_
  exact cB_X6_statement_254 C v0 v1 v2 s0 1 M _ _ hv0 hs0 h hR
theorem cB_X6_statement_177 {X : x_Ctx} {M0 : Mem} (C : x_CC X 13 420 yX6_statement cX6_statement 3 none [])  (v0 : Nat) (v1 : Int) (M : Mem) (r : Int ⊕ Nat) (M' : Mem) (hv0 : m_kd M v0 = 6) (h : B_X6_statement_177  v0 v1 M = some (r, M')) (hR : ocN r 0 1 ≤ (XR X).cells ∧ ocN r 0 7 ≤ (XR X).slots) : x_Z X 0 0 (x_QF X M0 (ocV r) M' (ocN r 0 1) (ocN r 0 7)) M0 M 3 [(0, .ref v0), (1, vI v1)] 177 [] := by
  unfold B_X6_statement_177 at h
  refine z_aload_n (pc := 177) C 0 rfl dX6_statement_177 ?_
  refine z_lds (pc := 178) C 6 (by decide) rfl dX6_statement_178 ?_
  obtain ⟨r92, M93, e94, h⟩ := bNs h
  refine cX6_147 (pc := 180) (st := []) (st1 := [vI r92]) C rfl (rm := { frames := 6, cells := 0, slots := 0, locals := 153 }) (ct_X6_passes C.2.1 v0 6 M _ _ hv0 (by decide) e94) ⟨by decide, by decide, Nat.zero_le _, Nat.zero_le _⟩ (Or.inl hv0) rfl (Nat.le_of_ble_eq_true rfl) dX6_statement_180 (c2 := 0) (s2 := 0) rfl rfl (fun x95 => ?_)
  have k96 := x95 _ 6 (by decide) (Or.inl (by decide)) hv0
  refine z_if_eq (pc := 183) C dX6_statement_183 (tgt := 228) (by decide) (fun c97 => ?_) (fun c97 => ?_)
  · have h := itt c97 h
    refine z_aload_n (pc := 228) C 0 rfl dX6_statement_228 ?_
    refine z_lds (pc := 229) C 7 (by decide) rfl dX6_statement_229 ?_
    obtain ⟨r98, e99, h⟩ := bRs h
    refine cX6_69 (pc := 231) (st := []) (st1 := [vI r98]) C rfl (rm := { frames := 5, cells := 0, slots := 0, locals := 126 }) (ct_X6_is C.2.1 v0 7 M93 _ k96 (by decide) e99) ⟨by decide, by decide, Nat.zero_le _, Nat.zero_le _⟩ (Or.inl k96) rfl (Nat.le_of_ble_eq_true rfl) dX6_statement_231 (c2 := 0) (s2 := 0) rfl rfl (fun _ => ?_)
    refine z_istore_n (pc := 234) C (lv' := [(0, .ref v0), (1, vI v1), (2, vI r98)]) (by decide) rfl dX6_statement_234 ?_
    refine z_aload_n (pc := 235) C 0 rfl dX6_statement_235 ?_
    refine z_iload_n (pc := 236) C 2 rfl dX6_statement_236 ?_
    refine z_if_ne (pc := 237) C dX6_statement_237 (tgt := 249) (by decide) (fun c100 => ?_) (fun c100 => ?_)
    · have h := itf c100 h
      exact cB_X6_statement_249 C v0 v1 r98 v0 M93 _ _ k96 k96 h hR
    · have h := itt c100 h
      refine z_aload_n (pc := 240) C 0 rfl dX6_statement_240 ?_
      refine z_lds (pc := 241) C 8 (by decide) rfl dX6_statement_241 ?_
      obtain ⟨r130, e131, h⟩ := bRs h
      refine cX6_69 (pc := 243) (st := [.ref v0]) (st1 := [vI r130, .ref v0]) C rfl (rm := { frames := 5, cells := 0, slots := 0, locals := 126 }) (ct_X6_is C.2.1 v0 8 M93 _ k96 (by decide) e131) ⟨by decide, by decide, Nat.zero_le _, Nat.zero_le _⟩ (Or.inl k96) rfl (Nat.le_of_ble_eq_true rfl) dX6_statement_243 (c2 := 0) (s2 := 0) rfl rfl (fun _ => ?_)
      refine z_if_eq (pc := 246) C dX6_statement_246 (tgt := 253) (by decide) (fun c132 => ?_) (fun c132 => ?_)
      · have h := itt c132 h
        refine z_iconst (pc := 253) C dX6_statement_253 ?_
        exact cB_X6_statement_254 C v0 v1 r98 v0 0 M93 _ _ k96 k96 h hR
      · have h := itf c132 h
        exact cB_X6_statement_249 C v0 v1 r98 v0 M93 _ _ k96 k96 h hR
  · have h := itf c97 h
    refine z_aload_n (pc := 186) C 0 rfl dX6_statement_186 ?_
    obtain ⟨q133, e134, h⟩ := bRs h
    refine gX6_600 (pc := 187) C rfl (Or.inl k96) e134 dX6_statement_187 (fun k135 => ?_)
    refine gX6_202 (pc := 190) C rfl k135 dX6_statement_190 ?_
    refine z_iload_n (pc := 193) C 1 rfl dX6_statement_193 ?_
    refine z_iconst (pc := 194) C dX6_statement_194 ?_
    obtain ⟨c136, h⟩ := ifn h
    refine z_isO (pc := 195) (k := 2) (j := 2) C 202 rfl (by decide) (by decide) (by decide) rfl rfl rfl rfl k135 c136 dX6_statement_195 ?_
    refine z_aload_n (pc := 196) C 0 rfl dX6_statement_196 ?_
    refine z_iload_n (pc := 197) C 1 rfl dX6_statement_197 ?_
    rcases bTs h with ⟨x141, e139, er⟩ | ⟨r137, M138, e139, h⟩
    · subst er; exact tX6_137 (pc := 198) C rfl (rm := { frames := 7, cells := 1, slots := 7, locals := 274 }) (ct_X6_told C.2.1 v0 v1 (m_si M93 202 q133 (ixn v1) 1) _ _ k96 e139) ⟨by decide, by decide, Nat.le_trans (show 1 ≤ 1 from by decide) hR.1, Nat.le_trans (show 7 ≤ 7 from by decide) hR.2⟩ (Or.inl k96) (Nat.le_of_ble_eq_true rfl) dX6_statement_198 (by decide) (show 1 ≤ 1 from by decide) (show 7 ≤ 7 from by decide)
    refine cX6_137 (pc := 198) (st := []) (st1 := []) C rfl (rm := { frames := 7, cells := 0, slots := 0, locals := 274 }) (ct_X6_told C.2.1 v0 v1 (m_si M93 202 q133 (ixn v1) 1) _ _ k96 e139) ⟨by decide, by decide, Nat.zero_le _, Nat.zero_le _⟩ (Or.inl k96) rfl (Nat.le_of_ble_eq_true rfl) dX6_statement_198 (c2 := 0) (s2 := 0) rfl rfl (fun x140 => ?_)
    have k142 := x140 _ 6 (by decide) (Or.inl (by decide)) k96
    refine z_aload_n (pc := 201) C 0 rfl dX6_statement_201 ?_
    rcases bTs h with ⟨x147, e145, er⟩ | ⟨r143, M144, e145, h⟩
    · subst er; exact tX6_150 (pc := 202) C rfl (rm := { frames := 8, cells := 1, slots := 7, locals := 298 }) (ct_X6_expr C.2.1 v0 M138 _ _ k142 e145) ⟨by decide, by decide, Nat.le_trans (show 1 ≤ 1 from by decide) hR.1, Nat.le_trans (show 7 ≤ 7 from by decide) hR.2⟩ (Or.inl k142) (Nat.le_of_ble_eq_true rfl) dX6_statement_202 (by decide) (show 1 ≤ 1 from by decide) (show 7 ≤ 7 from by decide)
    refine cX6_150 (pc := 202) (st := []) (st1 := []) C rfl (rm := { frames := 8, cells := 0, slots := 0, locals := 298 }) (ct_X6_expr C.2.1 v0 M138 _ _ k142 e145) ⟨by decide, by decide, Nat.zero_le _, Nat.zero_le _⟩ (Or.inl k142) rfl (Nat.le_of_ble_eq_true rfl) dX6_statement_202 (c2 := 0) (s2 := 0) rfl rfl (fun x146 => ?_)
    have k148 := x146 _ 6 (by decide) (Or.inl (by decide)) k142
    refine z_aload_n (pc := 205) C 0 rfl dX6_statement_205 ?_
    obtain ⟨q149, e150, h⟩ := bRs h
    refine gX6_600 (pc := 206) C rfl (Or.inl k148) e150 dX6_statement_206 (fun k151 => ?_)
    refine gX6_210 (pc := 209) C rfl k151 dX6_statement_209 ?_
    refine z_iload_n (pc := 212) C 1 rfl dX6_statement_212 ?_
    refine z_aload_n (pc := 213) C 0 rfl dX6_statement_213 ?_
    obtain ⟨q152, e153, h⟩ := bRs h
    refine gX6_600 (pc := 214) C rfl (Or.inl k148) e153 dX6_statement_214 (fun k154 => ?_)
    refine gX6_208 (pc := 217) C rfl (Or.inl k154) rfl dX6_statement_217 ?_
    refine z_isO (pc := 220) (k := 2) (j := 10) C 210 rfl (by decide) (by decide) (by decide) rfl rfl rfl rfl k151 c136 dX6_statement_220 ?_
    refine z_aload_n (pc := 221) C 0 rfl dX6_statement_221 ?_
    rcases bTs h with ⟨x159, e157, er⟩ | ⟨r155, M156, e157, h⟩
    · subst er; exact tX6_144 (pc := 222) C rfl (rm := { frames := 12, cells := 1, slots := 7, locals := 396 }) (ct_X6_condition C.2.1 v0 (m_si M144 210 q149 (ixn v1) (m_i M144 208 q152 0)) _ _ k148 e157) ⟨by decide, by decide, Nat.le_trans (show 1 ≤ 1 from by decide) hR.1, Nat.le_trans (show 7 ≤ 7 from by decide) hR.2⟩ (Or.inl k148) (Nat.le_of_ble_eq_true rfl) dX6_statement_222 (by decide) (show 1 ≤ 1 from by decide) (show 7 ≤ 7 from by decide)
    refine cX6_144 (pc := 222) (st := []) (st1 := []) C rfl (rm := { frames := 12, cells := 0, slots := 0, locals := 396 }) (ct_X6_condition C.2.1 v0 (m_si M144 210 q149 (ixn v1) (m_i M144 208 q152 0)) _ _ k148 e157) ⟨by decide, by decide, Nat.zero_le _, Nat.zero_le _⟩ (Or.inl k148) rfl (Nat.le_of_ble_eq_true rfl) dX6_statement_222 (c2 := 0) (s2 := 0) rfl rfl (fun x158 => ?_)
    have k160 := x158 _ 6 (by decide) (Or.inl (by decide)) k148
    refine z_goto (pc := 225) C dX6_statement_225 (tgt := 283) (by decide) ?_
    refine z_aload_n (pc := 283) C 0 rfl dX6_statement_283 ?_
    obtain ⟨q161, e162, h⟩ := bRs h
    refine gX6_600 (pc := 284) C rfl (Or.inl k160) e162 dX6_statement_284 (fun k163 => ?_)
    refine gX6_211 (pc := 287) C rfl k163 dX6_statement_287 ?_
    refine z_iload_n (pc := 290) C 1 rfl dX6_statement_290 ?_
    refine z_aload_n (pc := 291) C 0 rfl dX6_statement_291 ?_
    obtain ⟨q164, e165, h⟩ := bRs h
    refine gX6_600 (pc := 292) C rfl (Or.inl k160) e165 dX6_statement_292 (fun k166 => ?_)
    refine gX6_208 (pc := 295) C rfl (Or.inl k166) rfl dX6_statement_295 ?_
    refine z_isO (pc := 298) (k := 2) (j := 11) C 211 rfl (by decide) (by decide) (by decide) rfl rfl rfl rfl k163 c136 dX6_statement_298 ?_
    cases h
    exact z_vret (pc := 299) C rfl (show 0 ≤ 0 from by decide) (show 0 ≤ 0 from by decide) dX6_statement_299
theorem cB_X6_statement_283 {X : x_Ctx} {M0 : Mem} (C : x_CC X 13 420 yX6_statement cX6_statement 3 none [])  (v0 : Nat) (v1 : Int) (M : Mem) (r : Int ⊕ Nat) (M' : Mem) (hv0 : m_kd M v0 = 6) (h : B_X6_statement_283  v0 v1 M = some (r, M')) (hR : ocN r 0 1 ≤ (XR X).cells ∧ ocN r 0 7 ≤ (XR X).slots) : x_Z X 0 0 (x_QF X M0 (ocV r) M' (ocN r 0 1) (ocN r 0 7)) M0 M 3 [(0, .ref v0), (1, vI v1)] 283 [] := by
  unfold B_X6_statement_283 at h
  refine z_aload_n (pc := 283) C 0 rfl dX6_statement_283 ?_
  obtain ⟨q223, e224, h⟩ := bRs h
  refine gX6_600 (pc := 284) C rfl (Or.inl hv0) e224 dX6_statement_284 (fun k225 => ?_)
  refine gX6_211 (pc := 287) C rfl k225 dX6_statement_287 ?_
  refine z_iload_n (pc := 290) C 1 rfl dX6_statement_290 ?_
  refine z_aload_n (pc := 291) C 0 rfl dX6_statement_291 ?_
  obtain ⟨q226, e227, h⟩ := bRs h
  refine gX6_600 (pc := 292) C rfl (Or.inl hv0) e227 dX6_statement_292 (fun k228 => ?_)
  refine gX6_208 (pc := 295) C rfl (Or.inl k228) rfl dX6_statement_295 ?_
  obtain ⟨c229, h⟩ := ifn h
  refine z_isO (pc := 298) (k := 2) (j := 11) C 211 rfl (by decide) (by decide) (by decide) rfl rfl rfl rfl k225 c229 dX6_statement_298 ?_
  cases h
  exact z_vret (pc := 299) C rfl (show 0 ≤ 0 from by decide) (show 0 ≤ 0 from by decide) dX6_statement_299
theorem ct_X6_statement {l : Launch} {S0 : State} {D : va_G} {cA : Nat → ClassId} (hG : x_G l S0 D cA) (v0 : Nat) (M : Mem) (r : Int ⊕ Nat) (M' : Mem) (hv0 : m_kd M v0 = 6) (h : d_X6_statement v0 M = some (r, M')) : x_Me l S0 D cA yX6_statement cX6_statement 3 none [] ({ frames := 13, cells := (ocN r 0 1), slots := (ocN r 0 7), locals := 420 }) [.ref v0] M (ocV r) M' := by
  refine x_begin (F := 13) (Lo := 420) (mc := (ocN r 0 1)) (ms := (ocN r 0 7)) hG (Nat.le_of_ble_eq_true rfl) (lv := [(0, .ref v0)]) rfl rfl rfl rfl rfl (fun X e1 e2 e3 e4 e5 C => ?_)
  have hR : _ ∧ _ := ⟨Nat.le_of_eq (congrArg Room.cells e5).symm, Nat.le_of_eq (congrArg Room.slots e5).symm⟩
  unfold d_X6_statement at h
  refine z_aload_n (pc := 0) C 0 rfl dX6_statement_0 ?_
  obtain ⟨q64, e65, h⟩ := bRs h
  refine gX6_600 (pc := 1) C rfl (Or.inl hv0) e65 dX6_statement_1 (fun k66 => ?_)
  refine gX6_200 (pc := 4) C rfl (Or.inl k66) rfl dX6_statement_4 ?_
  refine z_istore_n (pc := 7) C (lv' := [(0, .ref v0), (1, vI (m_i M 200 q64 0))]) (by decide) rfl dX6_statement_7 ?_
  refine z_aload_n (pc := 8) C 0 rfl dX6_statement_8 ?_
  obtain ⟨q67, e68, h⟩ := bRs h
  refine gX6_600 (pc := 9) C rfl (Or.inl hv0) e68 dX6_statement_9 (fun k69 => ?_)
  refine gX6_209 (pc := 12) C rfl k69 dX6_statement_12 ?_
  refine z_iload_n (pc := 15) C 1 rfl dX6_statement_15 ?_
  refine z_aload_n (pc := 16) C 0 rfl dX6_statement_16 ?_
  obtain ⟨q70, e71, h⟩ := bRs h
  refine gX6_600 (pc := 17) C rfl (Or.inl hv0) e71 dX6_statement_17 (fun k72 => ?_)
  refine gX6_208 (pc := 20) C rfl (Or.inl k72) rfl dX6_statement_20 ?_
  obtain ⟨c73, h⟩ := ifn h
  refine z_isO (pc := 23) (k := 2) (j := 9) C 209 rfl (by decide) (by decide) (by decide) rfl rfl rfl rfl k69 c73 dX6_statement_23 ?_
  refine z_aload_n (pc := 24) C 0 rfl dX6_statement_24 ?_
  obtain ⟨q74, e75, h⟩ := bRs h
  refine gX6_600 (pc := 25) C rfl (Or.inl hv0) e75 dX6_statement_25 (fun k76 => ?_)
  refine gX6_210 (pc := 28) C rfl k76 dX6_statement_28 ?_
  refine z_iload_n (pc := 31) C 1 rfl dX6_statement_31 ?_
  refine z_aload_n (pc := 32) C 0 rfl dX6_statement_32 ?_
  obtain ⟨q77, e78, h⟩ := bRs h
  refine gX6_600 (pc := 33) C rfl (Or.inl hv0) e78 dX6_statement_33 (fun k79 => ?_)
  refine gX6_208 (pc := 36) C rfl (Or.inl k79) (x := m_i M 208 q77 0) ((m_i_ne (by decide)).trans rfl) dX6_statement_36 ?_
  refine z_isO (pc := 39) (k := 2) (j := 10) C 210 rfl (by decide) (by decide) (by decide) rfl rfl rfl rfl k76 c73 dX6_statement_39 ?_
  refine z_aload_n (pc := 40) C 0 rfl dX6_statement_40 ?_
  obtain ⟨q80, e81, h⟩ := bRs h
  refine gX6_600 (pc := 41) C rfl (Or.inl hv0) e81 dX6_statement_41 (fun k82 => ?_)
  refine gX6_203 (pc := 44) C rfl k82 dX6_statement_44 ?_
  refine z_iload_n (pc := 47) C 1 rfl dX6_statement_47 ?_
  refine z_iconst (pc := 48) C dX6_statement_48 ?_
  refine z_isO (pc := 49) (k := 2) (j := 3) C 203 rfl (by decide) (by decide) (by decide) rfl rfl rfl rfl k82 c73 dX6_statement_49 ?_
  refine z_aload_n (pc := 50) C 0 rfl dX6_statement_50 ?_
  obtain ⟨q83, e84, h⟩ := bRs h
  refine gX6_600 (pc := 51) C rfl (Or.inl hv0) e84 dX6_statement_51 (fun k85 => ?_)
  refine gX6_204 (pc := 54) C rfl k85 dX6_statement_54 ?_
  refine z_iload_n (pc := 57) C 1 rfl dX6_statement_57 ?_
  refine z_iconst (pc := 58) C dX6_statement_58 ?_
  refine z_isO (pc := 59) (k := 2) (j := 4) C 204 rfl (by decide) (by decide) (by decide) rfl rfl rfl rfl k85 c73 dX6_statement_59 ?_
  refine z_aload_n (pc := 60) C 0 rfl dX6_statement_60 ?_
  obtain ⟨q86, e87, h⟩ := bRs h
  refine gX6_600 (pc := 61) C rfl (Or.inl hv0) e87 dX6_statement_61 (fun k88 => ?_)
  refine gX6_205 (pc := 64) C rfl k88 dX6_statement_64 ?_
  refine z_iload_n (pc := 67) C 1 rfl dX6_statement_67 ?_
  refine z_iconst (pc := 68) C dX6_statement_68 ?_
  refine z_isO (pc := 69) (k := 2) (j := 5) C 205 rfl (by decide) (by decide) (by decide) rfl rfl rfl rfl k88 c73 dX6_statement_69 ?_
  refine z_aload_n (pc := 70) C 0 rfl dX6_statement_70 ?_
  refine z_lds (pc := 71) C 5 (by decide) rfl dX6_statement_71 ?_
  obtain ⟨r89, e90, h⟩ := bRs h
  refine cX6_69 (pc := 73) (st := []) (st1 := [vI r89]) C rfl (rm := { frames := 5, cells := 0, slots := 0, locals := 126 }) (ct_X6_is C.2.1 v0 5 (m_si (m_si (m_si (m_si (m_si M 209 q67 (ixn (m_i M 200 q64 0)) (m_i M 208 q70 0)) 210 q74 (ixn (m_i M 200 q64 0)) (m_i M 208 q77 0)) 203 q80 (ixn (m_i M 200 q64 0)) 0) 204 q83 (ixn (m_i M 200 q64 0)) 0) 205 q86 (ixn (m_i M 200 q64 0)) 0) _ hv0 (by decide) e90) ⟨by decide, by decide, Nat.zero_le _, Nat.zero_le _⟩ (Or.inl hv0) rfl (Nat.le_of_ble_eq_true rfl) dX6_statement_73 (c2 := 0) (s2 := 0) rfl rfl (fun _ => ?_)
  refine z_if_eq (pc := 76) C dX6_statement_76 (tgt := 177) (by decide) (fun c91 => ?_) (fun c91 => ?_)
  · have h := itt c91 h
    exact cB_X6_statement_177 C v0 (m_i M 200 q64 0) (m_si (m_si (m_si (m_si (m_si M 209 q67 (ixn (m_i M 200 q64 0)) (m_i M 208 q70 0)) 210 q74 (ixn (m_i M 200 q64 0)) (m_i M 208 q77 0)) 203 q80 (ixn (m_i M 200 q64 0)) 0) 204 q83 (ixn (m_i M 200 q64 0)) 0) 205 q86 (ixn (m_i M 200 q64 0)) 0) _ _ hv0 h hR
  · have h := itf c91 h
    refine z_aload_n (pc := 79) C 0 rfl dX6_statement_79 ?_
    obtain ⟨q167, e168, h⟩ := bRs h
    refine gX6_600 (pc := 80) C rfl (Or.inl hv0) e168 dX6_statement_80 (fun k169 => ?_)
    refine gX6_201 (pc := 83) C rfl (Or.inl k169) (x := m_i M 201 q167 0) ((m_i_ne (by decide)).trans ((m_i_ne (by decide)).trans ((m_i_ne (by decide)).trans ((m_i_ne (by decide)).trans ((m_i_ne (by decide)).trans rfl))))) dX6_statement_83 ?_
    refine z_bipush (pc := 86) C (by decide +kernel) dX6_statement_86 ?_
    refine z_ic_ge (pc := 88) C dX6_statement_88 (tgt := 177) (by decide) (fun c170 => ?_) (fun c170 => ?_)
    · have h := itt c170 h
      exact cB_X6_statement_177 C v0 (m_i M 200 q64 0) (m_si (m_si (m_si (m_si (m_si M 209 q67 (ixn (m_i M 200 q64 0)) (m_i M 208 q70 0)) 210 q74 (ixn (m_i M 200 q64 0)) (m_i M 208 q77 0)) 203 q80 (ixn (m_i M 200 q64 0)) 0) 204 q83 (ixn (m_i M 200 q64 0)) 0) 205 q86 (ixn (m_i M 200 q64 0)) 0) _ _ hv0 h hR
    · have h := itf c170 h
      refine z_aload_n (pc := 91) C 0 rfl dX6_statement_91 ?_
      obtain ⟨r171, M172, e173, h⟩ := bNs h
      refine cX6_73 (pc := 92) (st := []) (st1 := []) C rfl (rm := { frames := 2, cells := 0, slots := 0, locals := 49 }) (ct_X6_next C.2.1 v0 (m_si (m_si (m_si (m_si (m_si M 209 q67 (ixn (m_i M 200 q64 0)) (m_i M 208 q70 0)) 210 q74 (ixn (m_i M 200 q64 0)) (m_i M 208 q77 0)) 203 q80 (ixn (m_i M 200 q64 0)) 0) 204 q83 (ixn (m_i M 200 q64 0)) 0) 205 q86 (ixn (m_i M 200 q64 0)) 0) _ _ hv0 e173) ⟨by decide, by decide, Nat.zero_le _, Nat.zero_le _⟩ (Or.inl hv0) rfl (Nat.le_of_ble_eq_true rfl) dX6_statement_92 (c2 := 0) (s2 := 0) rfl rfl (fun x174 => ?_)
      have k175 := x174 _ 6 (by decide) (Or.inl (by decide)) hv0
      refine z_aload_n (pc := 95) C 0 rfl dX6_statement_95 ?_
      obtain ⟨q176, e177, h⟩ := bRs h
      refine gX6_600 (pc := 96) C rfl (Or.inl k175) e177 dX6_statement_96 (fun k178 => ?_)
      refine gX6_202 (pc := 99) C rfl k178 dX6_statement_99 ?_
      refine z_iload_n (pc := 102) C 1 rfl dX6_statement_102 ?_
      refine z_iconst (pc := 103) C dX6_statement_103 ?_
      obtain ⟨c179, h⟩ := ifn h
      refine z_isO (pc := 104) (k := 2) (j := 2) C 202 rfl (by decide) (by decide) (by decide) rfl rfl rfl rfl k178 c179 dX6_statement_104 ?_
      refine z_aload_n (pc := 105) C 0 rfl dX6_statement_105 ?_
      obtain ⟨q180, e181, h⟩ := bRs h
      refine gX6_600 (pc := 106) C rfl (Or.inl k175) e181 dX6_statement_106 (fun k182 => ?_)
      refine gX6_205 (pc := 109) C rfl k182 dX6_statement_109 ?_
      refine z_iload_n (pc := 112) C 1 rfl dX6_statement_112 ?_
      refine z_iconst (pc := 113) C dX6_statement_113 ?_
      refine z_isO (pc := 114) (k := 2) (j := 5) C 205 rfl (by decide) (by decide) (by decide) rfl rfl rfl rfl k182 c179 dX6_statement_114 ?_
      refine z_aload_n (pc := 115) C 0 rfl dX6_statement_115 ?_
      obtain ⟨q183, e184, h⟩ := bRs h
      refine gX6_600 (pc := 116) C rfl (Or.inl k175) e184 dX6_statement_116 (fun k185 => ?_)
      refine z_dup (pc := 119) C rfl dX6_statement_119 ?_
      refine gX6_201 (pc := 120) C rfl (Or.inl k185) (x := m_i M172 201 q183 0) ((m_i_ne (by decide)).trans ((m_i_ne (by decide)).trans rfl)) dX6_statement_120 ?_
      refine z_iconst (pc := 123) C dX6_statement_123 ?_
      refine z_iadd (pc := 124) C dX6_statement_124 ?_
      refine pX6_201 (pc := 125) C rfl (Or.inl k185) dX6_statement_125 ?_
      refine z_aload_n (pc := 128) C 0 rfl dX6_statement_128 ?_
      refine z_iload_n (pc := 129) C 1 rfl dX6_statement_129 ?_
      rcases bTs h with ⟨x190, e188, er⟩ | ⟨r186, M187, e188, h⟩
      · subst er; exact tX6_137 (pc := 130) C rfl (rm := { frames := 7, cells := 1, slots := 7, locals := 274 }) (ct_X6_told C.2.1 v0 (m_i M 200 q64 0) (m_si (m_si (m_si M172 202 q176 (ixn (m_i M 200 q64 0)) 0) 205 q180 (ixn (m_i M 200 q64 0)) 1) 201 q183 0 ((m_i M172 201 q183 0) + 1)) _ _ k175 e188) ⟨by decide, by decide, Nat.le_trans (show 1 ≤ 1 from by decide) hR.1, Nat.le_trans (show 7 ≤ 7 from by decide) hR.2⟩ (Or.inl k175) (Nat.le_of_ble_eq_true rfl) dX6_statement_130 (by decide) (show 1 ≤ 1 from by decide) (show 7 ≤ 7 from by decide)
      refine cX6_137 (pc := 130) (st := []) (st1 := []) C rfl (rm := { frames := 7, cells := 0, slots := 0, locals := 274 }) (ct_X6_told C.2.1 v0 (m_i M 200 q64 0) (m_si (m_si (m_si M172 202 q176 (ixn (m_i M 200 q64 0)) 0) 205 q180 (ixn (m_i M 200 q64 0)) 1) 201 q183 0 ((m_i M172 201 q183 0) + 1)) _ _ k175 e188) ⟨by decide, by decide, Nat.zero_le _, Nat.zero_le _⟩ (Or.inl k175) rfl (Nat.le_of_ble_eq_true rfl) dX6_statement_130 (c2 := 0) (s2 := 0) rfl rfl (fun x189 => ?_)
      have k191 := x189 _ 6 (by decide) (Or.inl (by decide)) k175
      refine z_aload_n (pc := 133) C 0 rfl dX6_statement_133 ?_
      obtain ⟨q192, e193, h⟩ := bRs h
      refine gX6_600 (pc := 134) C rfl (Or.inl k191) e193 dX6_statement_134 (fun k194 => ?_)
      refine gX6_203 (pc := 137) C rfl k194 dX6_statement_137 ?_
      refine z_iload_n (pc := 140) C 1 rfl dX6_statement_140 ?_
      refine z_aload_n (pc := 141) C 0 rfl dX6_statement_141 ?_
      refine z_ldc (pc := 142) C (x := -1000000) q850 (by decide +kernel) dX6_statement_142 ?_
      rcases bTs h with ⟨x199, e197, er⟩ | ⟨r195, M196, e197, h⟩
      · subst er; exact tX6_141 (pc := 144) C rfl (rm := { frames := 7, cells := 1, slots := 7, locals := 274 }) (ct_X6_bound C.2.1 v0 (-1000000) M187 _ _ k191 e197) ⟨by decide, by decide, Nat.le_trans (show 1 ≤ 1 from by decide) hR.1, Nat.le_trans (show 7 ≤ 7 from by decide) hR.2⟩ (Or.inl k191) (Nat.le_of_ble_eq_true rfl) dX6_statement_144 (by decide) (show 1 ≤ 1 from by decide) (show 7 ≤ 7 from by decide)
      refine cX6_141 (pc := 144) (st := [vI (m_i M 200 q64 0), .ref (q192 + 2)]) (st1 := [vI r195, vI (m_i M 200 q64 0), .ref (q192 + 2)]) C rfl (rm := { frames := 7, cells := 0, slots := 0, locals := 274 }) (ct_X6_bound C.2.1 v0 (-1000000) M187 _ _ k191 e197) ⟨by decide, by decide, Nat.zero_le _, Nat.zero_le _⟩ (Or.inl k191) rfl (Nat.le_of_ble_eq_true rfl) dX6_statement_144 (c2 := 0) (s2 := 0) rfl rfl (fun x198 => ?_)
      have k200 := x198 _ 2 (by decide) (Or.inl (by decide)) k194
      have k201 := x198 _ 6 (by decide) (Or.inl (by decide)) k191
      obtain ⟨c202, h⟩ := ifn h
      refine z_isO (pc := 147) (k := 2) (j := 3) C 203 rfl (by decide) (by decide) (by decide) rfl rfl rfl rfl k200 c202 dX6_statement_147 ?_
      refine z_aload_n (pc := 148) C 0 rfl dX6_statement_148 ?_
      obtain ⟨q203, e204, h⟩ := bRs h
      refine gX6_600 (pc := 149) C rfl (Or.inl k201) e204 dX6_statement_149 (fun k205 => ?_)
      refine gX6_204 (pc := 152) C rfl k205 dX6_statement_152 ?_
      refine z_iload_n (pc := 155) C 1 rfl dX6_statement_155 ?_
      refine z_aload_n (pc := 156) C 0 rfl dX6_statement_156 ?_
      refine z_aload_n (pc := 157) C 0 rfl dX6_statement_157 ?_
      obtain ⟨q206, e207, h⟩ := bRs h
      refine gX6_600 (pc := 158) C rfl (Or.inl k201) e207 dX6_statement_158 (fun k208 => ?_)
      refine gX6_203 (pc := 161) C rfl k208 dX6_statement_161 ?_
      refine z_iload_n (pc := 164) C 1 rfl dX6_statement_164 ?_
      refine z_iaO (pc := 165) (k := 2) (j := 3) C 203 rfl (by decide) (by decide) (by decide) rfl rfl rfl rfl k208 c202 rfl dX6_statement_165 ?_
      rcases bTs h with ⟨x213, e211, er⟩ | ⟨r209, M210, e211, h⟩
      · subst er; exact tX6_141 (pc := 166) C rfl (rm := { frames := 7, cells := 1, slots := 7, locals := 274 }) (ct_X6_bound C.2.1 v0 (m_i (m_si M196 203 q192 (ixn (m_i M 200 q64 0)) r195) 203 q206 (ixn (m_i M 200 q64 0))) (m_si M196 203 q192 (ixn (m_i M 200 q64 0)) r195) _ _ k201 e211) ⟨by decide, by decide, Nat.le_trans (show 1 ≤ 1 from by decide) hR.1, Nat.le_trans (show 7 ≤ 7 from by decide) hR.2⟩ (Or.inl k201) (Nat.le_of_ble_eq_true rfl) dX6_statement_166 (by decide) (show 1 ≤ 1 from by decide) (show 7 ≤ 7 from by decide)
      refine cX6_141 (pc := 166) (st := [vI (m_i M 200 q64 0), .ref (q203 + 3)]) (st1 := [vI r209, vI (m_i M 200 q64 0), .ref (q203 + 3)]) C rfl (rm := { frames := 7, cells := 0, slots := 0, locals := 274 }) (ct_X6_bound C.2.1 v0 (m_i (m_si M196 203 q192 (ixn (m_i M 200 q64 0)) r195) 203 q206 (ixn (m_i M 200 q64 0))) (m_si M196 203 q192 (ixn (m_i M 200 q64 0)) r195) _ _ k201 e211) ⟨by decide, by decide, Nat.zero_le _, Nat.zero_le _⟩ (Or.inl k201) rfl (Nat.le_of_ble_eq_true rfl) dX6_statement_166 (c2 := 0) (s2 := 0) rfl rfl (fun x212 => ?_)
      have k214 := x212 _ 2 (by decide) (Or.inl (by decide)) k205
      have k215 := x212 _ 6 (by decide) (Or.inl (by decide)) k201
      obtain ⟨c216, h⟩ := ifn h
      refine z_isO (pc := 169) (k := 2) (j := 4) C 204 rfl (by decide) (by decide) (by decide) rfl rfl rfl rfl k214 c216 dX6_statement_169 ?_
      refine z_aload_n (pc := 170) C 0 rfl dX6_statement_170 ?_
      rcases bTs h with ⟨x221, e219, er⟩ | ⟨r217, M218, e219, h⟩
      · subst er; exact tX6_144 (pc := 171) C rfl (rm := { frames := 12, cells := 1, slots := 7, locals := 396 }) (ct_X6_condition C.2.1 v0 (m_si M210 204 q203 (ixn (m_i M 200 q64 0)) r209) _ _ k215 e219) ⟨by decide, by decide, Nat.le_trans (show 1 ≤ 1 from by decide) hR.1, Nat.le_trans (show 7 ≤ 7 from by decide) hR.2⟩ (Or.inl k215) (Nat.le_of_ble_eq_true rfl) dX6_statement_171 (by decide) (show 1 ≤ 1 from by decide) (show 7 ≤ 7 from by decide)
      refine cX6_144 (pc := 171) (st := []) (st1 := []) C rfl (rm := { frames := 12, cells := 0, slots := 0, locals := 396 }) (ct_X6_condition C.2.1 v0 (m_si M210 204 q203 (ixn (m_i M 200 q64 0)) r209) _ _ k215 e219) ⟨by decide, by decide, Nat.zero_le _, Nat.zero_le _⟩ (Or.inl k215) rfl (Nat.le_of_ble_eq_true rfl) dX6_statement_171 (c2 := 0) (s2 := 0) rfl rfl (fun x220 => ?_)
      have k222 := x220 _ 6 (by decide) (Or.inl (by decide)) k215
      refine z_goto (pc := 174) C dX6_statement_174 (tgt := 283) (by decide) ?_
      exact cB_X6_statement_283 C v0 (m_i M 200 q64 0) M218 _ _ k222 h hR
def B_X6_form_37 (k11 : Nat → Mem → Option ((Nat ⊕ Nat) × Mem)) (v0 : Nat) (s0 : Nat) (s1 : Int) (M : Mem) : Option ((Nat ⊕ Nat) × Mem) :=
  bT (d_X6_want s0 s1 M) fun r27 M28 => 
  bT (d_X6_statement v0 M28) fun r33 M34 => 
  bR (d_X6_is v0 21 M34) fun r39 => 
  bT (d_X6_want v0 r39 M34) fun r41 M42 => 
  bN (d_X6_next v0 M42) fun r47 M48 => 
  bR (m_r M48 600 v0 0) fun q52 => 
  if w32 (m_i M48 603 v0 0) = 0 then
    bR (m_r M48 600 v0 0) fun q56 => 
    some (.inl q56, (m_si M48 200 q52 0 ((m_i M48 200 q52 0) + 1)))
  else
    k11 v0 (m_si M48 200 q52 0 ((m_i M48 200 q52 0) + 1))
def B_X6_form_36 (k11 : Nat → Mem → Option ((Nat ⊕ Nat) × Mem)) (v0 : Nat) (s0 : Nat) (M : Mem) : Option ((Nat ⊕ Nat) × Mem) :=
  B_X6_form_37 k11 v0 s0 0 M
def B_X6_form_11 (k11 : Nat → Mem → Option ((Nat ⊕ Nat) × Mem)) (v0 : Nat) (M : Mem) : Option ((Nat ⊕ Nat) × Mem) :=
  if w32 (m_i M 603 v0 0) = w32 1 then
    bR (m_r M 600 v0 0) fun q59 => 
    if w32 20 ≤ w32 (m_i M 200 q59 0) then
      B_X6_form_36 k11 v0 v0 M
    else
      B_X6_form_37 k11 v0 v0 1 M
  else
    B_X6_form_36 k11 v0 v0 M
def L_X6_form_11  : Nat → Nat → Mem → Option ((Nat ⊕ Nat) × Mem)
  | 0, _, _ => none
  | n + 1, v0, M => B_X6_form_11 (L_X6_form_11  n) v0 M
def d_X6_form (v0 : Nat) (M : Mem) : Option ((Nat ⊕ Nat) × Mem) :=
  bR (m_r M 600 v0 0) fun q13 => 
  bN (d_X2_begin q13 M) fun r16 M17 => 
  bN (d_X6_next v0 M17) fun r21 M22 => 
  L_X6_form_11 FU v0 M22
theorem cB_X6_form_37 {X : x_Ctx} {M0 : Mem} (C : x_CC X 14 446 yX6_form cX6_form 1 (some (.object "CensusOffice$Form")) []) {k11 : Nat → Mem → Option ((Nat ⊕ Nat) × Mem)} (hk11 : ∀ (v0 : Nat) (M : Mem) (r : Nat ⊕ Nat) (M' : Mem), m_kd M v0 = 6 → k11 v0 M = some (r, M') → ocN r 0 1 ≤ (XR X).cells ∧ ocN r 0 7 ≤ (XR X).slots → x_Z X 0 0 (x_QF X M0 (ocR r) M' (ocN r 0 1) (ocN r 0 7)) M0 M 1 [(0, .ref v0)] 11 []) (v0 : Nat) (s0 : Nat) (s1 : Int) (M : Mem) (r : Nat ⊕ Nat) (M' : Mem) (hv0 : m_kd M v0 = 6) (hs0 : m_kd M s0 = 6) (h : B_X6_form_37 k11 v0 s0 s1 M = some (r, M')) (hR : ocN r 0 1 ≤ (XR X).cells ∧ ocN r 0 7 ≤ (XR X).slots) : x_Z X 0 0 (x_QF X M0 (ocR r) M' (ocN r 0 1) (ocN r 0 7)) M0 M 1 [(0, .ref v0)] 37 [vI s1, .ref s0] := by
  unfold B_X6_form_37 at h
  rcases bTs h with ⟨x31, e29, er⟩ | ⟨r27, M28, e29, h⟩
  · subst er; exact tX6_108 (pc := 37) C rfl (rm := { frames := 6, cells := 1, slots := 7, locals := 249 }) (ct_X6_want C.2.1 s0 s1 M _ _ hs0 e29) ⟨by decide, by decide, Nat.le_trans (show 1 ≤ 1 from by decide) hR.1, Nat.le_trans (show 7 ≤ 7 from by decide) hR.2⟩ (Or.inl hs0) (Nat.le_of_ble_eq_true rfl) dX6_form_37 (by decide) (show 1 ≤ 1 from by decide) (show 7 ≤ 7 from by decide)
  refine cX6_108 (pc := 37) (st := []) (st1 := []) C rfl (rm := { frames := 6, cells := 0, slots := 0, locals := 249 }) (ct_X6_want C.2.1 s0 s1 M _ _ hs0 e29) ⟨by decide, by decide, Nat.zero_le _, Nat.zero_le _⟩ (Or.inl hs0) rfl (Nat.le_of_ble_eq_true rfl) dX6_form_37 (c2 := 0) (s2 := 0) rfl rfl (fun x30 => ?_)
  have k32 := x30 _ 6 (by decide) (Or.inl (by decide)) hv0
  refine z_aload_n (pc := 40) C 0 rfl dX6_form_40 ?_
  rcases bTs h with ⟨x37, e35, er⟩ | ⟨r33, M34, e35, h⟩
  · subst er; exact tX6_112 (pc := 41) C rfl (rm := { frames := 13, cells := 1, slots := 7, locals := 420 }) (ct_X6_statement C.2.1 v0 M28 _ _ k32 e35) ⟨by decide, by decide, Nat.le_trans (show 1 ≤ 1 from by decide) hR.1, Nat.le_trans (show 7 ≤ 7 from by decide) hR.2⟩ (Or.inl k32) (Nat.le_of_ble_eq_true rfl) dX6_form_41 (by decide) (show 1 ≤ 1 from by decide) (show 7 ≤ 7 from by decide)
  refine cX6_112 (pc := 41) (st := []) (st1 := []) C rfl (rm := { frames := 13, cells := 0, slots := 0, locals := 420 }) (ct_X6_statement C.2.1 v0 M28 _ _ k32 e35) ⟨by decide, by decide, Nat.zero_le _, Nat.zero_le _⟩ (Or.inl k32) rfl (Nat.le_of_ble_eq_true rfl) dX6_form_41 (c2 := 0) (s2 := 0) rfl rfl (fun x36 => ?_)
  have k38 := x36 _ 6 (by decide) (Or.inl (by decide)) k32
  refine z_aload_n (pc := 44) C 0 rfl dX6_form_44 ?_
  refine z_aload_n (pc := 45) C 0 rfl dX6_form_45 ?_
  refine z_lds (pc := 46) C 21 (by decide) rfl dX6_form_46 ?_
  obtain ⟨r39, e40, h⟩ := bRs h
  refine cX6_69 (pc := 48) (st := [.ref v0]) (st1 := [vI r39, .ref v0]) C rfl (rm := { frames := 5, cells := 0, slots := 0, locals := 126 }) (ct_X6_is C.2.1 v0 21 M34 _ k38 (by decide) e40) ⟨by decide, by decide, Nat.zero_le _, Nat.zero_le _⟩ (Or.inl k38) rfl (Nat.le_of_ble_eq_true rfl) dX6_form_48 (c2 := 0) (s2 := 0) rfl rfl (fun _ => ?_)
  rcases bTs h with ⟨x45, e43, er⟩ | ⟨r41, M42, e43, h⟩
  · subst er; exact tX6_108 (pc := 51) C rfl (rm := { frames := 6, cells := 1, slots := 7, locals := 249 }) (ct_X6_want C.2.1 v0 r39 M34 _ _ k38 e43) ⟨by decide, by decide, Nat.le_trans (show 1 ≤ 1 from by decide) hR.1, Nat.le_trans (show 7 ≤ 7 from by decide) hR.2⟩ (Or.inl k38) (Nat.le_of_ble_eq_true rfl) dX6_form_51 (by decide) (show 1 ≤ 1 from by decide) (show 7 ≤ 7 from by decide)
  refine cX6_108 (pc := 51) (st := []) (st1 := []) C rfl (rm := { frames := 6, cells := 0, slots := 0, locals := 249 }) (ct_X6_want C.2.1 v0 r39 M34 _ _ k38 e43) ⟨by decide, by decide, Nat.zero_le _, Nat.zero_le _⟩ (Or.inl k38) rfl (Nat.le_of_ble_eq_true rfl) dX6_form_51 (c2 := 0) (s2 := 0) rfl rfl (fun x44 => ?_)
  have k46 := x44 _ 6 (by decide) (Or.inl (by decide)) k38
  refine z_aload_n (pc := 54) C 0 rfl dX6_form_54 ?_
  obtain ⟨r47, M48, e49, h⟩ := bNs h
  refine cX6_73 (pc := 55) (st := []) (st1 := []) C rfl (rm := { frames := 2, cells := 0, slots := 0, locals := 49 }) (ct_X6_next C.2.1 v0 M42 _ _ k46 e49) ⟨by decide, by decide, Nat.zero_le _, Nat.zero_le _⟩ (Or.inl k46) rfl (Nat.le_of_ble_eq_true rfl) dX6_form_55 (c2 := 0) (s2 := 0) rfl rfl (fun x50 => ?_)
  have k51 := x50 _ 6 (by decide) (Or.inl (by decide)) k46
  refine z_aload_n (pc := 58) C 0 rfl dX6_form_58 ?_
  obtain ⟨q52, e53, h⟩ := bRs h
  refine gX6_600 (pc := 59) C rfl (Or.inl k51) e53 dX6_form_59 (fun k54 => ?_)
  refine z_dup (pc := 62) C rfl dX6_form_62 ?_
  refine gX6_200 (pc := 63) C rfl (Or.inl k54) rfl dX6_form_63 ?_
  refine z_iconst (pc := 66) C dX6_form_66 ?_
  refine z_iadd (pc := 67) C dX6_form_67 ?_
  refine pX6_200 (pc := 68) C rfl (Or.inl k54) dX6_form_68 ?_
  refine z_aload_n (pc := 71) C 0 rfl dX6_form_71 ?_
  refine gX6_603 (pc := 72) C rfl (Or.inl k51) (x := m_i M48 603 v0 0) ((m_i_ne (by decide)).trans rfl) dX6_form_72 ?_
  refine z_if_ne (pc := 75) C dX6_form_75 (tgt := 11) (by decide) (fun c55 => ?_) (fun c55 => ?_)
  · have h := itf c55 h
    exact hk11 v0 (m_si M48 200 q52 0 ((m_i M48 200 q52 0) + 1)) _ _ k51 h hR
  · have h := itt c55 h
    refine z_aload_n (pc := 78) C 0 rfl dX6_form_78 ?_
    obtain ⟨q56, e57, h⟩ := bRs h
    refine gX6_600 (pc := 79) C rfl (Or.inl k51) e57 dX6_form_79 (fun k58 => ?_)
    cases h
    exact z_aret (pc := 82) C rfl (show 0 ≤ 0 from by decide) (show 0 ≤ 0 from by decide) dX6_form_82
theorem cB_X6_form_36 {X : x_Ctx} {M0 : Mem} (C : x_CC X 14 446 yX6_form cX6_form 1 (some (.object "CensusOffice$Form")) []) {k11 : Nat → Mem → Option ((Nat ⊕ Nat) × Mem)} (hk11 : ∀ (v0 : Nat) (M : Mem) (r : Nat ⊕ Nat) (M' : Mem), m_kd M v0 = 6 → k11 v0 M = some (r, M') → ocN r 0 1 ≤ (XR X).cells ∧ ocN r 0 7 ≤ (XR X).slots → x_Z X 0 0 (x_QF X M0 (ocR r) M' (ocN r 0 1) (ocN r 0 7)) M0 M 1 [(0, .ref v0)] 11 []) (v0 : Nat) (s0 : Nat) (M : Mem) (r : Nat ⊕ Nat) (M' : Mem) (hv0 : m_kd M v0 = 6) (hs0 : m_kd M s0 = 6) (h : B_X6_form_36 k11 v0 s0 M = some (r, M')) (hR : ocN r 0 1 ≤ (XR X).cells ∧ ocN r 0 7 ≤ (XR X).slots) : x_Z X 0 0 (x_QF X M0 (ocR r) M' (ocN r 0 1) (ocN r 0 7)) M0 M 1 [(0, .ref v0)] 36 [.ref s0] := by
  unfold B_X6_form_36 at h
  refine z_iconst (pc := 36) C dX6_form_36 ?_
  exact cB_X6_form_37 C hk11 v0 s0 0 M _ _ hv0 hs0 h hR
theorem cB_X6_form_11 {X : x_Ctx} {M0 : Mem} (C : x_CC X 14 446 yX6_form cX6_form 1 (some (.object "CensusOffice$Form")) []) {k11 : Nat → Mem → Option ((Nat ⊕ Nat) × Mem)} (hk11 : ∀ (v0 : Nat) (M : Mem) (r : Nat ⊕ Nat) (M' : Mem), m_kd M v0 = 6 → k11 v0 M = some (r, M') → ocN r 0 1 ≤ (XR X).cells ∧ ocN r 0 7 ≤ (XR X).slots → x_Z X 0 0 (x_QF X M0 (ocR r) M' (ocN r 0 1) (ocN r 0 7)) M0 M 1 [(0, .ref v0)] 11 []) (v0 : Nat) (M : Mem) (r : Nat ⊕ Nat) (M' : Mem) (hv0 : m_kd M v0 = 6) (h : B_X6_form_11 k11 v0 M = some (r, M')) (hR : ocN r 0 1 ≤ (XR X).cells ∧ ocN r 0 7 ≤ (XR X).slots) : x_Z X 0 0 (x_QF X M0 (ocR r) M' (ocN r 0 1) (ocN r 0 7)) M0 M 1 [(0, .ref v0)] 11 [] := by
  unfold B_X6_form_11 at h
  refine z_aload_n (pc := 11) C 0 rfl dX6_form_11 ?_
  refine z_aload_n (pc := 12) C 0 rfl dX6_form_12 ?_
  refine gX6_603 (pc := 13) C rfl (Or.inl hv0) rfl dX6_form_13 ?_
  refine z_iconst (pc := 16) C dX6_form_16 ?_
  refine z_ic_ne (pc := 17) C dX6_form_17 (tgt := 36) (by decide) (fun c26 => ?_) (fun c26 => ?_)
  · have h := itf c26 h
    exact cB_X6_form_36 C hk11 v0 v0 M _ _ hv0 hv0 h hR
  · have h := itt c26 h
    refine z_aload_n (pc := 20) C 0 rfl dX6_form_20 ?_
    obtain ⟨q59, e60, h⟩ := bRs h
    refine gX6_600 (pc := 21) C rfl (Or.inl hv0) e60 dX6_form_21 (fun k61 => ?_)
    refine gX6_200 (pc := 24) C rfl (Or.inl k61) rfl dX6_form_24 ?_
    refine z_bipush (pc := 27) C (by decide +kernel) dX6_form_27 ?_
    refine z_ic_ge (pc := 29) C dX6_form_29 (tgt := 36) (by decide) (fun c62 => ?_) (fun c62 => ?_)
    · have h := itt c62 h
      exact cB_X6_form_36 C hk11 v0 v0 M _ _ hv0 hv0 h hR
    · have h := itf c62 h
      refine z_iconst (pc := 32) C dX6_form_32 ?_
      refine z_goto (pc := 33) C dX6_form_33 (tgt := 37) (by decide) ?_
      exact cB_X6_form_37 C hk11 v0 v0 1 M _ _ hv0 hv0 h hR
theorem cL_X6_form_11 {X : x_Ctx} {M0 : Mem} (C : x_CC X 14 446 yX6_form cX6_form 1 (some (.object "CensusOffice$Form")) [])  : ∀ (n : Nat) (v0 : Nat) (M : Mem) (r : Nat ⊕ Nat) (M' : Mem) (hv0 : m_kd M v0 = 6) (h : L_X6_form_11  n v0 M = some (r, M')) (hR : ocN r 0 1 ≤ (XR X).cells ∧ ocN r 0 7 ≤ (XR X).slots), x_Z X 0 0 (x_QF X M0 (ocR r) M' (ocN r 0 1) (ocN r 0 7)) M0 M 1 [(0, .ref v0)] 11 [] := by
  intro n
  induction n with
  | zero => intro v0 M r M' hv0 h hR; cases h
  | succ n ih => intro v0 M r M' hv0 h hR; exact cB_X6_form_11 C (fun v0 M r M' hv0 h hR => ih v0 M r M' hv0 h hR) v0 M r M' hv0 h hR
theorem ct_X6_form {l : Launch} {S0 : State} {D : va_G} {cA : Nat → ClassId} (hG : x_G l S0 D cA) (v0 : Nat) (M : Mem) (r : Nat ⊕ Nat) (M' : Mem) (hv0 : m_kd M v0 = 6) (h : d_X6_form v0 M = some (r, M')) : x_Me l S0 D cA yX6_form cX6_form 1 (some (.object "CensusOffice$Form")) [] ({ frames := 14, cells := (ocN r 0 1), slots := (ocN r 0 7), locals := 446 }) [.ref v0] M (ocR r) M' := by
  refine x_begin (F := 14) (Lo := 446) (mc := (ocN r 0 1)) (ms := (ocN r 0 7)) hG (Nat.le_of_ble_eq_true rfl) (lv := [(0, .ref v0)]) rfl rfl rfl rfl rfl (fun X e1 e2 e3 e4 e5 C => ?_)
  have hR : _ ∧ _ := ⟨Nat.le_of_eq (congrArg Room.cells e5).symm, Nat.le_of_eq (congrArg Room.slots e5).symm⟩
  unfold d_X6_form at h
  refine z_aload_n (pc := 0) C 0 rfl dX6_form_0 ?_
  obtain ⟨q13, e14, h⟩ := bRs h
  refine gX6_600 (pc := 1) C rfl (Or.inl hv0) e14 dX6_form_1 (fun k15 => ?_)
  obtain ⟨r16, M17, e18, h⟩ := bNs h
  refine cX6_105 (pc := 4) (st := []) (st1 := []) C rfl (rm := { frames := 1, cells := 0, slots := 0, locals := 24 }) (ct_X2_begin C.2.1 q13 M _ _ k15 e18) ⟨by decide, by decide, Nat.zero_le _, Nat.zero_le _⟩ (Or.inl k15) rfl (Nat.le_of_ble_eq_true rfl) dX6_form_4 (c2 := 0) (s2 := 0) rfl rfl (fun x19 => ?_)
  have k20 := x19 _ 6 (by decide) (Or.inl (by decide)) hv0
  refine z_aload_n (pc := 7) C 0 rfl dX6_form_7 ?_
  obtain ⟨r21, M22, e23, h⟩ := bNs h
  refine cX6_73 (pc := 8) (st := []) (st1 := []) C rfl (rm := { frames := 2, cells := 0, slots := 0, locals := 49 }) (ct_X6_next C.2.1 v0 M17 _ _ k20 e23) ⟨by decide, by decide, Nat.zero_le _, Nat.zero_le _⟩ (Or.inl k20) rfl (Nat.le_of_ble_eq_true rfl) dX6_form_8 (c2 := 0) (s2 := 0) rfl rfl (fun x24 => ?_)
  have k25 := x24 _ 6 (by decide) (Or.inl (by decide)) k20
  exact cL_X6_form_11 C FU v0 M22 _ _ k25 h hR
def d_X2_init (v0 : Nat) (M : Mem) : Option (Int × Mem) :=
  if m_sz M + 0 = v0 + 1 then 
  if x_whole (m_nw (m_nw (m_nw (m_nw (m_nw (m_nw (m_nw (m_nw (m_nw (m_nw (m_nw (m_nw M 10202) 10203) 10204) 10205) 10206) 10207) 10209) 10210) 10211) 10213) 10214) 10215) v0 2 = true then 
  some (0, (m_se (m_nw (m_nw (m_nw (m_nw (m_nw (m_nw (m_nw (m_nw (m_nw (m_nw (m_nw (m_nw M 10202) 10203) 10204) 10205) 10206) 10207) 10209) 10210) 10211) 10213) 10214) 10215) v0 2)) else none else none
theorem ct_X2_init {l : Launch} {S0 : State} {D : va_G} {cA : Nat → ClassId} (hG : x_G l S0 D cA) (v0 : Nat) (M : Mem) (r : Int) (M' : Mem) (hv0 : m_kd M v0 = 102) (h : d_X2_init v0 M = some (r, M')) : x_Me l S0 D cA yX2_init cX2_init 1 none [] ({ frames := 1, cells := 12, slots := 3808, locals := 24 }) [.ref v0] M (.returned none) M' := by
  refine x_begin (F := 1) (Lo := 24) (mc := 12) (ms := 3808) hG (Nat.le_of_ble_eq_true rfl) (lv := [(0, .ref v0)]) rfl rfl rfl rfl rfl (fun X e1 e2 e3 e4 e5 C => ?_)
  have hR : _ ∧ _ := ⟨Nat.le_of_eq (congrArg Room.cells e5).symm, Nat.le_of_eq (congrArg Room.slots e5).symm⟩
  unfold d_X2_init at h
  refine z_aload_n (pc := 0) C 0 rfl dX2_init_0 ?_
  refine z_obj (pc := 1) C q147 q139 q140 (by decide) (by decide) (by decide) dX2_init_1 ?_
  refine z_aload_n (pc := 4) C 0 rfl dX2_init_4 ?_
  refine z_bipush (pc := 5) C (by decide +kernel) dX2_init_5 ?_
  obtain ⟨c1, h⟩ := ifn h
  refine aX2_202 (pc := 7) C rfl rfl hv0 (show m_sz M + 0 = v0 + 1 from by have := c1; omega) (Nat.le_trans (show 1 ≤ 12 from by decide) hR.1) (Nat.le_trans (show 20 ≤ 3808 from by decide) hR.2) dX2_init_7 dX2_init_9 (c2 := 1) (s2 := 20) rfl rfl (fun x2 => ?_)
  have k3 := x2.k hv0 (by decide)
  refine z_aload_n (pc := 12) C 0 rfl dX2_init_12 ?_
  refine z_bipush (pc := 13) C (by decide +kernel) dX2_init_13 ?_
  refine aX2_203 (pc := 15) C rfl rfl k3 (show m_sz M + 1 = v0 + 2 from by have := c1; omega) (Nat.le_trans (show 2 ≤ 12 from by decide) hR.1) (Nat.le_trans (show 40 ≤ 3808 from by decide) hR.2) dX2_init_15 dX2_init_17 (c2 := 2) (s2 := 40) rfl rfl (fun x4 => ?_)
  have k5 := x4.k k3 (by decide)
  refine z_aload_n (pc := 20) C 0 rfl dX2_init_20 ?_
  refine z_bipush (pc := 21) C (by decide +kernel) dX2_init_21 ?_
  refine aX2_204 (pc := 23) C rfl rfl k5 (show m_sz M + 2 = v0 + 3 from by have := c1; omega) (Nat.le_trans (show 3 ≤ 12 from by decide) hR.1) (Nat.le_trans (show 60 ≤ 3808 from by decide) hR.2) dX2_init_23 dX2_init_25 (c2 := 3) (s2 := 60) rfl rfl (fun x6 => ?_)
  have k7 := x6.k k5 (by decide)
  refine z_aload_n (pc := 28) C 0 rfl dX2_init_28 ?_
  refine z_bipush (pc := 29) C (by decide +kernel) dX2_init_29 ?_
  refine aX2_205 (pc := 31) C rfl rfl k7 (show m_sz M + 3 = v0 + 4 from by have := c1; omega) (Nat.le_trans (show 4 ≤ 12 from by decide) hR.1) (Nat.le_trans (show 80 ≤ 3808 from by decide) hR.2) dX2_init_31 dX2_init_33 (c2 := 4) (s2 := 80) rfl rfl (fun x8 => ?_)
  have k9 := x8.k k7 (by decide)
  refine z_aload_n (pc := 36) C 0 rfl dX2_init_36 ?_
  refine z_bipush (pc := 37) C (by decide +kernel) dX2_init_37 ?_
  refine aX2_206 (pc := 39) C rfl rfl k9 (show m_sz M + 4 = v0 + 5 from by have := c1; omega) (Nat.le_trans (show 5 ≤ 12 from by decide) hR.1) (Nat.le_trans (show 100 ≤ 3808 from by decide) hR.2) dX2_init_39 dX2_init_41 (c2 := 5) (s2 := 100) rfl rfl (fun x10 => ?_)
  have k11 := x10.k k9 (by decide)
  refine z_aload_n (pc := 44) C 0 rfl dX2_init_44 ?_
  refine z_sipush (pc := 45) C (by decide +kernel) dX2_init_45 ?_
  refine aX2_207 (pc := 48) C rfl rfl k11 (show m_sz M + 5 = v0 + 6 from by have := c1; omega) (Nat.le_trans (show 6 ≤ 12 from by decide) hR.1) (Nat.le_trans (show 3700 ≤ 3808 from by decide) hR.2) dX2_init_48 dX2_init_50 (c2 := 6) (s2 := 3700) rfl rfl (fun x12 => ?_)
  have k13 := x12.k k11 (by decide)
  refine z_aload_n (pc := 53) C 0 rfl dX2_init_53 ?_
  refine z_bipush (pc := 54) C (by decide +kernel) dX2_init_54 ?_
  refine aX2_209 (pc := 56) C rfl rfl k13 (show m_sz M + 6 = v0 + 7 from by have := c1; omega) (Nat.le_trans (show 7 ≤ 12 from by decide) hR.1) (Nat.le_trans (show 3720 ≤ 3808 from by decide) hR.2) dX2_init_56 dX2_init_58 (c2 := 7) (s2 := 3720) rfl rfl (fun x14 => ?_)
  have k15 := x14.k k13 (by decide)
  refine z_aload_n (pc := 61) C 0 rfl dX2_init_61 ?_
  refine z_bipush (pc := 62) C (by decide +kernel) dX2_init_62 ?_
  refine aX2_210 (pc := 64) C rfl rfl k15 (show m_sz M + 7 = v0 + 8 from by have := c1; omega) (Nat.le_trans (show 8 ≤ 12 from by decide) hR.1) (Nat.le_trans (show 3740 ≤ 3808 from by decide) hR.2) dX2_init_64 dX2_init_66 (c2 := 8) (s2 := 3740) rfl rfl (fun x16 => ?_)
  have k17 := x16.k k15 (by decide)
  refine z_aload_n (pc := 69) C 0 rfl dX2_init_69 ?_
  refine z_bipush (pc := 70) C (by decide +kernel) dX2_init_70 ?_
  refine aX2_211 (pc := 72) C rfl rfl k17 (show m_sz M + 8 = v0 + 9 from by have := c1; omega) (Nat.le_trans (show 9 ≤ 12 from by decide) hR.1) (Nat.le_trans (show 3760 ≤ 3808 from by decide) hR.2) dX2_init_72 dX2_init_74 (c2 := 9) (s2 := 3760) rfl rfl (fun x18 => ?_)
  have k19 := x18.k k17 (by decide)
  refine z_aload_n (pc := 77) C 0 rfl dX2_init_77 ?_
  refine z_bipush (pc := 78) C (by decide +kernel) dX2_init_78 ?_
  refine aX2_213 (pc := 80) C rfl rfl k19 (show m_sz M + 9 = v0 + 10 from by have := c1; omega) (Nat.le_trans (show 10 ≤ 12 from by decide) hR.1) (Nat.le_trans (show 3776 ≤ 3808 from by decide) hR.2) dX2_init_80 dX2_init_82 (c2 := 10) (s2 := 3776) rfl rfl (fun x20 => ?_)
  have k21 := x20.k k19 (by decide)
  refine z_aload_n (pc := 85) C 0 rfl dX2_init_85 ?_
  refine z_bipush (pc := 86) C (by decide +kernel) dX2_init_86 ?_
  refine aX2_214 (pc := 88) C rfl rfl k21 (show m_sz M + 10 = v0 + 11 from by have := c1; omega) (Nat.le_trans (show 11 ≤ 12 from by decide) hR.1) (Nat.le_trans (show 3792 ≤ 3808 from by decide) hR.2) dX2_init_88 dX2_init_90 (c2 := 11) (s2 := 3792) rfl rfl (fun x22 => ?_)
  have k23 := x22.k k21 (by decide)
  refine z_aload_n (pc := 93) C 0 rfl dX2_init_93 ?_
  refine z_bipush (pc := 94) C (by decide +kernel) dX2_init_94 ?_
  refine aX2_215 (pc := 96) C rfl rfl k23 (show m_sz M + 11 = v0 + 12 from by have := c1; omega) (Nat.le_trans (show 12 ≤ 12 from by decide) hR.1) (Nat.le_trans (show 3808 ≤ 3808 from by decide) hR.2) dX2_init_96 dX2_init_98 (c2 := 12) (s2 := 3808) rfl rfl (fun x24 => ?_)
  have k25 := x24.k k23 (by decide)
  obtain ⟨c26, h⟩ := ifn h
  refine z_sealW (k := 2) v0 k25 (by decide) (by decide) c26 (fun k27 x28 => ?_)
  cases h
  exact z_vret (pc := 101) C rfl (show 12 ≤ 12 from by decide) (show 3808 ≤ 3808 from by decide) dX2_init_101
def B_X1_form_14  (v0 : Nat) (s0 : Int) (M : Mem) : Option ((Int ⊕ Nat) × Mem) :=
  bT (d_X1_room s0 M) fun r2 M3 => 
  bN (d_X6_init (m_sz M3) v0 (m_nw M3 106)) fun r12 M13 => 
  if m_kd M13 (m_sz M3) = 6 then 
  bC (d_X6_form (m_sz M3) M13) (fun r19 M21 =>
    if m_kd M21 r19 = 2 then 
    if inb (m_i M3 111 v0 0) 6 then 
    bN (d_X2_init (m_sz M21) (m_nw (m_si (m_sr M21 112 v0 (ixn (m_i M3 111 v0 0)) (some r19)) 115 v0 0 0) 102)) fun r31 M32 => 
    if m_kd M32 (m_sz M21) = 2 then 
    some (.inl (m_i M32 111 v0 0), (m_si (m_sr M32 113 v0 0 (some (m_sz M21))) 111 v0 0 ((m_i M32 111 v0 0) + 1))) else none else none else none) (fun q20 M21 =>
    if m_kd M21 q20 = 7 then
      some (.inl ((-1) - (m_i M21 706 q20 0)), (m_si M21 115 v0 0 0))
    else
      none) else none
def d_X1_form (v0 : Nat) (M : Mem) : Option ((Int ⊕ Nat) × Mem) :=
  if w32 6 ≤ w32 (m_i M 111 v0 0) then
    B_X1_form_14 v0 0 M
  else
    B_X1_form_14 v0 1 M
theorem cB_X1_form_14 {X : x_Ctx} {M0 : Mem} (C : x_CC X 15 470 yX1_form cX1_form 2 (some .int) [(17, 37, 40, 227)])  (v0 : Nat) (s0 : Int) (M : Mem) (r : Int ⊕ Nat) (M' : Mem) (hv0 : m_kd M v0 = 1) (h : B_X1_form_14  v0 s0 M = some (r, M')) (hR : ocN r 14 14 ≤ (XR X).cells ∧ ocN r 3829 3829 ≤ (XR X).slots) : x_Z X 0 0 (x_QF X M0 (ocI r) M' (ocN r 14 14) (ocN r 3829 3829)) M0 M 2 [(0, .ref v0)] 14 [vI s0] := by
  unfold B_X1_form_14 at h
  rcases bTs h with ⟨x6, e4, er⟩ | ⟨r2, M3, e4, h⟩
  · subst er; exact tX1_176 (pc := 14) C rfl (rm := { frames := 6, cells := 1, slots := 6, locals := 90 }) (ct_X1_room C.2.1 s0 M _ _  e4) ⟨by decide, by decide, Nat.le_trans (show 1 ≤ 14 from by decide) hR.1, Nat.le_trans (show 6 ≤ 3829 from by decide) hR.2⟩ (Nat.le_of_ble_eq_true rfl) dX1_form_14 (by decide) (show 1 ≤ 14 from by decide) (show 6 ≤ 3829 from by decide)
  refine cX1_176 (pc := 14) (st := []) (st1 := []) C rfl (rm := { frames := 6, cells := 0, slots := 0, locals := 90 }) (ct_X1_room C.2.1 s0 M _ _  e4) ⟨by decide, by decide, Nat.zero_le _, Nat.zero_le _⟩ rfl (Nat.le_of_ble_eq_true rfl) dX1_form_14 (c2 := 0) (s2 := 0) rfl rfl (fun x5 => ?_)
  have k7 := x5 _ 1 (by decide) (Or.inl (by decide)) hv0
  refine z_aload_n (pc := 17) C 0 rfl dX1_form_17 ?_
  refine gX1_112 (pc := 18) C rfl k7 dX1_form_18 ?_
  refine z_aload_n (pc := 21) C 0 rfl dX1_form_21 ?_
  refine gX1_111 (pc := 22) C rfl (Or.inl k7) rfl dX1_form_22 ?_
  refine nX1_6 (pc := 25) C rfl (a := m_sz M3) (Nat.le_trans (ocN_le (show 1 ≤ 14 from by decide) (show 1 ≤ 14 from by decide)) hR.1) (Nat.le_trans (ocN_le (show 5 ≤ 3829 from by decide) (show 5 ≤ 3829 from by decide)) hR.2) dX1_form_25 (c2 := 1) (s2 := 5) rfl rfl rfl (fun k8 x9 => ?_)
  have k10 := x9.k k7 (by decide)
  have k11 := x9.k k7 (by decide)
  refine z_dup (pc := 28) C rfl dX1_form_28 ?_
  refine z_aload_n (pc := 29) C 0 rfl dX1_form_29 ?_
  obtain ⟨r12, M13, e14, h⟩ := bNs h
  refine cX1_223 (pc := 30) (st := [.ref (m_sz M3), vI (m_i M3 111 v0 0), .ref (v0 + 8)]) C rfl (rm := { frames := 1, cells := 0, slots := 0, locals := 24 }) (ct_X6_init C.2.1 (m_sz M3) v0 (m_nw M3 106) _ _ k8 (Or.inl k11) e14) ⟨by decide, by decide, Nat.le_trans (ocN_le (show 1 ≤ 14 from by decide) (show 1 ≤ 14 from by decide)) hR.1, Nat.le_trans (ocN_le (show 5 ≤ 3829 from by decide) (show 5 ≤ 3829 from by decide)) hR.2⟩ (Nat.le_of_ble_eq_true rfl) dX1_form_30 (c2 := 1) (s2 := 5) rfl rfl (fun x15 => ?_)
  have k16 := x15 _ 1 (by decide) (Or.inl (by decide)) k10
  obtain ⟨c17, h⟩ := ifn h
  have k18 := x15 _ 1 (by decide) (Or.inl (by decide)) k11
  rcases bCs h with ⟨r19, M21, e22, h⟩ | ⟨q20, M21, e22, h⟩
  · refine cX1_224 (pc := 33) (st := [vI (m_i M3 111 v0 0), .ref (v0 + 8)]) (st1 := [.ref r19, vI (m_i M3 111 v0 0), .ref (v0 + 8)]) C rfl (rm := { frames := 14, cells := 0, slots := 0, locals := 446 }) (ct_X6_form C.2.1 (m_sz M3) M13 _ _ c17 e22) ⟨by decide, by decide, Nat.le_trans (ocN_le (show 1 ≤ 14 from by decide) (show 1 ≤ 14 from by decide)) hR.1, Nat.le_trans (ocN_le (show 5 ≤ 3829 from by decide) (show 5 ≤ 3829 from by decide)) hR.2⟩ (Or.inl c17) rfl (Nat.le_of_ble_eq_true rfl) dX1_form_33 (c2 := 1) (s2 := 5) rfl rfl (fun x23 => ?_)
    have k24 := x23 _ 1 (by decide) (Or.inl (by decide)) k16
    have k25 := x23 _ 1 (by decide) (Or.inl (by decide)) k18
    obtain ⟨c26, h⟩ := ifn h
    obtain ⟨c27, h⟩ := ifn h
    refine z_asO (pc := 36) (k := 1) (j := 12) C 112 rfl (by decide) (by decide) (by decide) rfl rfl rfl (by decide) rfl (by decide) (by decide) (by decide) rfl k24 c27 c26 (by unfold x_rk; decide) dX1_form_36 ?_
    refine z_goto (pc := 37) C dX1_form_37 (tgt := 53) (by decide) ?_
    refine z_aload_n (pc := 53) C 0 rfl dX1_form_53 ?_
    refine z_iconst (pc := 54) C dX1_form_54 ?_
    refine pX1_115 (pc := 55) C rfl (Or.inl k25) dX1_form_55 ?_
    refine z_aload_n (pc := 58) C 0 rfl dX1_form_58 ?_
    refine nX1_2 (pc := 59) C rfl (a := m_sz M21) (Nat.le_trans (ocN_le (show 2 ≤ 14 from by decide) (show 2 ≤ 14 from by decide)) hR.1) (Nat.le_trans (ocN_le (show 21 ≤ 3829 from by decide) (show 21 ≤ 3829 from by decide)) hR.2) dX1_form_59 (c2 := 2) (s2 := 21) rfl rfl rfl (fun k28 x29 => ?_)
    have k30 := x29.k k25 (by decide)
    refine z_dup (pc := 62) C rfl dX1_form_62 ?_
    obtain ⟨r31, M32, e33, h⟩ := bNs h
    refine cX1_39 (pc := 63) (st := [.ref (m_sz M21), .ref v0]) C rfl (rm := { frames := 1, cells := 12, slots := 3808, locals := 24 }) (ct_X2_init C.2.1 (m_sz M21) (m_nw (m_si (m_sr M21 112 v0 (ixn (m_i M3 111 v0 0)) (some r19)) 115 v0 0 0) 102) _ _ k28 e33) ⟨by decide, by decide, Nat.le_trans (ocN_le (show 14 ≤ 14 from by decide) (show 14 ≤ 14 from by decide)) hR.1, Nat.le_trans (ocN_le (show 3829 ≤ 3829 from by decide) (show 3829 ≤ 3829 from by decide)) hR.2⟩ (Nat.le_of_ble_eq_true rfl) dX1_form_63 (c2 := 14) (s2 := 3829) rfl rfl (fun x34 => ?_)
    have k35 := x34 _ 1 (by decide) (Or.inl (by decide)) k30
    obtain ⟨c36, h⟩ := ifn h
    refine pX1_113 (pc := 66) C rfl (Or.inl k35) (x_rkk (k := 2) c36 (by unfold x_rk; decide)) dX1_form_66 ?_
    refine z_aload_n (pc := 69) C 0 rfl dX1_form_69 ?_
    refine z_dup (pc := 70) C rfl dX1_form_70 ?_
    refine gX1_111 (pc := 71) C rfl (Or.inl k35) (x := m_i M32 111 v0 0) (m_i_sr.trans rfl) dX1_form_71 ?_
    refine z_dupx1 (pc := 74) C rfl rfl dX1_form_74 ?_
    refine z_iconst (pc := 75) C dX1_form_75 ?_
    refine z_iadd (pc := 76) C dX1_form_76 ?_
    refine pX1_111 (pc := 77) C rfl (Or.inl k35) dX1_form_77 ?_
    cases h
    exact z_iret (pc := 80) C rfl (show 14 ≤ 14 from by decide) (show 3829 ≤ 3829 from by decide) dX1_form_80
  · by_cases c37 : m_kd M21 q20 = 7
    · have h := itt c37 h
      refine kX1_224 (pc := 33) (st := [vI (m_i M3 111 v0 0), .ref (v0 + 8)]) C rfl (rm := { frames := 14, cells := 1, slots := 7, locals := 446 }) (r := q20) (ct_X6_form C.2.1 (m_sz M3) M13 _ _ c17 e22) ⟨by decide, by decide, Nat.le_trans (ocN_le (show 2 ≤ 14 from by decide) (show 2 ≤ 14 from by decide)) hR.1, Nat.le_trans (ocN_le (show 12 ≤ 3829 from by decide) (show 12 ≤ 3829 from by decide)) hR.2⟩ (Or.inl c17) (Nat.le_of_ble_eq_true rfl) dX1_form_33 (e := 7) (hpc := 40) (by decide) (Or.inl c37) (Or.inr ⟨by decide, by decide, 7, by decide, q690, Or.inl ⟨rfl, rfl⟩⟩) (c2 := 2) (s2 := 12) rfl rfl (fun x38 => ?_)
      have k39 := x38 _ 1 (by decide) (Or.inl (by decide)) k18
      refine z_astore_n (pc := 40) C (lv' := [(0, .ref v0), (1, .ref q20)]) (by decide) rfl dX1_form_40 ?_
      refine z_aload_n (pc := 41) C 0 rfl dX1_form_41 ?_
      refine z_iconst (pc := 42) C dX1_form_42 ?_
      refine pX1_115 (pc := 43) C rfl (Or.inl k39) dX1_form_43 ?_
      refine z_iconst (pc := 46) C dX1_form_46 ?_
      refine z_aload_n (pc := 47) C 1 rfl dX1_form_47 ?_
      refine gX1_706 (pc := 48) C rfl (Or.inl c37) (x := m_i M21 706 q20 0) ((m_i_ne (by decide)).trans rfl) dX1_form_48 ?_
      refine z_isub (pc := 51) C dX1_form_51 ?_
      cases h
      exact z_iret (pc := 52) C rfl (show 2 ≤ 14 from by decide) (show 12 ≤ 3829 from by decide) dX1_form_52
    · have h := itf c37 h
      cases h
theorem ct_X1_form {l : Launch} {S0 : State} {D : va_G} {cA : Nat → ClassId} (hG : x_G l S0 D cA) (v0 : Nat) (M : Mem) (r : Int ⊕ Nat) (M' : Mem) (hv0 : m_kd M v0 = 1) (h : d_X1_form v0 M = some (r, M')) : x_Me l S0 D cA yX1_form cX1_form 2 (some .int) [(17, 37, 40, 227)] ({ frames := 15, cells := (ocN r 14 14), slots := (ocN r 3829 3829), locals := 470 }) [.ref v0] M (ocI r) M' := by
  refine x_begin (F := 15) (Lo := 470) (mc := (ocN r 14 14)) (ms := (ocN r 3829 3829)) hG (Nat.le_of_ble_eq_true rfl) (lv := [(0, .ref v0)]) rfl rfl rfl rfl rfl (fun X e1 e2 e3 e4 e5 C => ?_)
  have hR : _ ∧ _ := ⟨Nat.le_of_eq (congrArg Room.cells e5).symm, Nat.le_of_eq (congrArg Room.slots e5).symm⟩
  unfold d_X1_form at h
  refine z_aload_n (pc := 0) C 0 rfl dX1_form_0 ?_
  refine gX1_111 (pc := 1) C rfl (Or.inl hv0) rfl dX1_form_1 ?_
  refine z_bipush (pc := 4) C (by decide +kernel) dX1_form_4 ?_
  refine z_ic_ge (pc := 6) C dX1_form_6 (tgt := 13) (by decide) (fun c1 => ?_) (fun c1 => ?_)
  · have h := itt c1 h
    refine z_iconst (pc := 13) C dX1_form_13 ?_
    exact cB_X1_form_14 C v0 0 M _ _ hv0 h hR
  · have h := itf c1 h
    refine z_iconst (pc := 9) C dX1_form_9 ?_
    refine z_goto (pc := 10) C dX1_form_10 (tgt := 14) (by decide) ?_
    exact cB_X1_form_14 C v0 1 M _ _ hv0 h hR
