set_option maxRecDepth 100000
def d_X5_isTable (v0 : Nat) (v1 : Int) (M : Mem) : Option Int :=
  if (d_X5_isIn (w32 v1) 0 (w32 ((m_i M 569 v0 0) - 1))) = 0 ∨ (d_X5_isIn (w32 v1) 0 (w32 ((m_i M 569 v0 0) - 1))) = 1 then 
  some (d_X5_isIn (w32 v1) 0 (w32 ((m_i M 569 v0 0) - 1))) else none
theorem ct_X5_isTable {l : Launch} {S0 : State} {D : va_G} {cA : Nat → ClassId} (hG : x_G l S0 D cA) (v0 : Nat) (v1 : Int) (M : Mem) (r : Int) (hv0 : m_kd M v0 = 5) (h : d_X5_isTable v0 v1 M = some r) : x_Me l S0 D cA yX5_isTable cX5_isTable 2 (some .boolean) [] ({ frames := 2, cells := 0, slots := 0, locals := 53 }) [.ref v0, vI v1] M (.returned (some (vI r))) M := by
  refine x_begin (F := 2) (Lo := 53) (mc := 0) (ms := 0) hG (Nat.le_of_ble_eq_true rfl) (lv := [(0, .ref v0), (1, vI v1)]) rfl rfl rfl rfl rfl (fun X e1 e2 e3 e4 e5 C => ?_)
  unfold d_X5_isTable at h
  refine z_iload_n (pc := 0) C 1 rfl dX5_isTable_0 ?_
  refine z_i2l (pc := 1) C dX5_isTable_1 ?_
  refine z_lconst (pc := 2) C (x := 0) (by decide +kernel) dX5_isTable_2 ?_
  refine z_aload_n (pc := 3) C 0 rfl dX5_isTable_3 ?_
  refine gX5_569 (pc := 4) C rfl (Or.inl hv0) rfl dX5_isTable_4 ?_
  refine z_iconst (pc := 7) C dX5_isTable_7 ?_
  refine z_isub (pc := 8) C dX5_isTable_8 ?_
  refine z_i2l (pc := 9) C dX5_isTable_9 ?_
  refine cX5_207 (pc := 10) (st := []) (st1 := [vI (d_X5_isIn (w32 v1) 0 (w32 ((m_i M 569 v0 0) - 1)))]) C rfl (rm := { frames := 1, cells := 0, slots := 0, locals := 24 }) (ct_X5_isIn C.2.1 (w32 v1) 0 (w32 ((m_i M 569 v0 0) - 1)) M _  rfl) ⟨by decide, by decide, Nat.zero_le _, Nat.zero_le _⟩ rfl (Nat.le_of_ble_eq_true rfl) dX5_isTable_10 (c2 := 0) (s2 := 0) rfl rfl (fun _ => ?_)
  obtain ⟨c2, h⟩ := ifn h
  cases h
  exact z_zret (pc := 13) C rfl c2 (show 0 ≤ 0 from by decide) (show 0 ≤ 0 from by decide) dX5_isTable_13
def B_X5_now_36  (v0 : Nat) (v3 : Int) (v4 : Int) (M : Mem) : Option Int :=
  if w32 v3 = w32 1 then
    if inb v4 144 then 
    some (m_i M 573 v0 (ixn v4)) else none
  else
    if w32 v3 = w32 2 then
      if inb v4 144 then 
      some (m_i M 574 v0 (ixn v4)) else none
    else
      if inb v4 144 then 
      some (m_i M 575 v0 (ixn v4)) else none
def d_X5_now (v0 : Nat) (v1 : Int) (v2 : Int) (v3 : Int) (M : Mem) : Option Int :=
  if w32 v3 = 0 then
    if inb ((12 * v1) + v2) 144 then 
    some (m_i M 572 v0 (ixn ((12 * v1) + v2))) else none
  else
    if w32 v3 = w32 3 then
      if inb v1 12 then 
      if w32 (m_i M 576 v0 (ixn v1)) = 0 then
        if inb ((12 * v1) + v2) 144 then 
        some (m_i M 572 v0 (ixn ((12 * v1) + v2))) else none
      else
        B_X5_now_36 v0 v3 ((12 * v1) + v2) M else none
    else
      B_X5_now_36 v0 v3 ((12 * v1) + v2) M
theorem cB_X5_now_36 {X : x_Ctx} {M0 : Mem} (C : x_CC X 1 24 yX5_now cX5_now 5 (some .int) [])  (v0 : Nat) (v3 : Int) (v4 : Int) (M : Mem) (r : Int) (hv0 : m_kd M v0 = 5) (h : B_X5_now_36  v0 v3 v4 M = some r)  : x_Z X 0 0 (x_QF X M0 (.returned (some (vI r))) M 0 0) M0 M 5 [(0, .ref v0), (3, vI v3), (4, vI v4)] 36 [] := by
  unfold B_X5_now_36 at h
  refine z_iload_n (pc := 36) C 1 rfl dX5_now_36 ?_
  refine z_iconst (pc := 37) C dX5_now_37 ?_
  refine z_ic_ne (pc := 38) C dX5_now_38 (tgt := 51) (by decide) (fun c4 => ?_) (fun c4 => ?_)
  · have h := itf c4 h
    refine z_iload_n (pc := 51) C 1 rfl dX5_now_51 ?_
    refine z_iconst (pc := 52) C dX5_now_52 ?_
    refine z_ic_ne (pc := 53) C dX5_now_53 (tgt := 66) (by decide) (fun c5 => ?_) (fun c5 => ?_)
    · have h := itf c5 h
      refine z_aload_n (pc := 66) C 0 rfl dX5_now_66 ?_
      refine gX5_575 (pc := 67) C rfl hv0 dX5_now_67 ?_
      refine z_iload (pc := 70) C 2 rfl dX5_now_70 ?_
      obtain ⟨c6, h⟩ := ifn h
      refine z_iaO (pc := 72) (k := 5) (j := 75) C 575 rfl (by decide) (by decide) (by decide) rfl rfl rfl rfl hv0 c6 rfl dX5_now_72 ?_
      cases h
      exact z_iret (pc := 73) C rfl (show 0 ≤ 0 from by decide) (show 0 ≤ 0 from by decide) dX5_now_73
    · have h := itt c5 h
      refine z_aload_n (pc := 56) C 0 rfl dX5_now_56 ?_
      refine gX5_574 (pc := 57) C rfl hv0 dX5_now_57 ?_
      refine z_iload (pc := 60) C 2 rfl dX5_now_60 ?_
      obtain ⟨c7, h⟩ := ifn h
      refine z_iaO (pc := 62) (k := 5) (j := 74) C 574 rfl (by decide) (by decide) (by decide) rfl rfl rfl rfl hv0 c7 rfl dX5_now_62 ?_
      refine z_goto (pc := 63) C dX5_now_63 (tgt := 73) (by decide) ?_
      cases h
      exact z_iret (pc := 73) C rfl (show 0 ≤ 0 from by decide) (show 0 ≤ 0 from by decide) dX5_now_73
  · have h := itt c4 h
    refine z_aload_n (pc := 41) C 0 rfl dX5_now_41 ?_
    refine gX5_573 (pc := 42) C rfl hv0 dX5_now_42 ?_
    refine z_iload (pc := 45) C 2 rfl dX5_now_45 ?_
    obtain ⟨c8, h⟩ := ifn h
    refine z_iaO (pc := 47) (k := 5) (j := 73) C 573 rfl (by decide) (by decide) (by decide) rfl rfl rfl rfl hv0 c8 rfl dX5_now_47 ?_
    refine z_goto (pc := 48) C dX5_now_48 (tgt := 73) (by decide) ?_
    cases h
    exact z_iret (pc := 73) C rfl (show 0 ≤ 0 from by decide) (show 0 ≤ 0 from by decide) dX5_now_73
theorem ct_X5_now {l : Launch} {S0 : State} {D : va_G} {cA : Nat → ClassId} (hG : x_G l S0 D cA) (v0 : Nat) (v1 : Int) (v2 : Int) (v3 : Int) (M : Mem) (r : Int) (hv0 : m_kd M v0 = 5) (h : d_X5_now v0 v1 v2 v3 M = some r) : x_Me l S0 D cA yX5_now cX5_now 5 (some .int) [] ({ frames := 1, cells := 0, slots := 0, locals := 24 }) [.ref v0, vI v1, vI v2, vI v3] M (.returned (some (vI r))) M := by
  refine x_begin (F := 1) (Lo := 24) (mc := 0) (ms := 0) hG (Nat.le_of_ble_eq_true rfl) (lv := [(0, .ref v0), (1, vI v1), (2, vI v2), (3, vI v3)]) rfl rfl rfl rfl rfl (fun X e1 e2 e3 e4 e5 C => ?_)
  unfold d_X5_now at h
  refine z_bipush (pc := 0) C (by decide +kernel) dX5_now_0 ?_
  refine z_iload_n (pc := 2) C 1 rfl dX5_now_2 ?_
  refine z_imul (pc := 3) C dX5_now_3 ?_
  refine z_iload_n (pc := 4) C 2 rfl dX5_now_4 ?_
  refine z_iadd (pc := 5) C dX5_now_5 ?_
  refine z_istore (pc := 6) C (lv' := [(0, .ref v0), (1, vI v1), (2, vI v2), (3, vI v3), (4, vI ((12 * v1) + v2))]) (by decide) rfl dX5_now_6 ?_
  refine z_iload_n (pc := 8) C 3 rfl dX5_now_8 ?_
  refine z_if_eq (pc := 9) C dX5_now_9 (tgt := 26) (by decide) (fun c1 => ?_) (fun c1 => ?_)
  · have h := itt c1 h
    refine z_aload_n (pc := 26) C 0 rfl dX5_now_26 ?_
    refine gX5_572 (pc := 27) C rfl hv0 dX5_now_27 ?_
    refine z_iload (pc := 30) C 4 rfl dX5_now_30 ?_
    obtain ⟨c2, h⟩ := ifn h
    refine z_iaO (pc := 32) (k := 5) (j := 72) C 572 rfl (by decide) (by decide) (by decide) rfl rfl rfl rfl hv0 c2 rfl dX5_now_32 ?_
    refine z_goto (pc := 33) C dX5_now_33 (tgt := 73) (by decide) ?_
    cases h
    exact z_iret (pc := 73) C rfl (show 0 ≤ 0 from by decide) (show 0 ≤ 0 from by decide) dX5_now_73
  · have h := itf c1 h
    refine z_iload_n (pc := 12) C 3 rfl dX5_now_12 ?_
    refine z_iconst (pc := 13) C dX5_now_13 ?_
    refine z_ic_ne (pc := 14) C dX5_now_14 (tgt := 36) (by decide) (fun c3 => ?_) (fun c3 => ?_)
    · have h := itf c3 h
      exact z_lv [0, 3, 4] rfl <| cB_X5_now_36 C v0 v3 ((12 * v1) + v2) M _ hv0 h
    · have h := itt c3 h
      refine z_aload_n (pc := 17) C 0 rfl dX5_now_17 ?_
      refine gX5_576 (pc := 18) C rfl hv0 dX5_now_18 ?_
      refine z_iload_n (pc := 21) C 1 rfl dX5_now_21 ?_
      obtain ⟨c9, h⟩ := ifn h
      refine z_zaO (pc := 22) (k := 5) (j := 76) C 576 rfl (by decide) (by decide) (by decide) rfl rfl rfl rfl hv0 c9 rfl dX5_now_22 ?_
      refine z_if_ne (pc := 23) C dX5_now_23 (tgt := 36) (by decide) (fun c10 => ?_) (fun c10 => ?_)
      · have h := itf c10 h
        exact z_lv [0, 3, 4] rfl <| cB_X5_now_36 C v0 v3 ((12 * v1) + v2) M _ hv0 h
      · have h := itt c10 h
        refine z_aload_n (pc := 26) C 0 rfl dX5_now_26 ?_
        refine gX5_572 (pc := 27) C rfl hv0 dX5_now_27 ?_
        refine z_iload (pc := 30) C 4 rfl dX5_now_30 ?_
        obtain ⟨c11, h⟩ := ifn h
        refine z_iaO (pc := 32) (k := 5) (j := 72) C 572 rfl (by decide) (by decide) (by decide) rfl rfl rfl rfl hv0 c11 rfl dX5_now_32 ?_
        refine z_goto (pc := 33) C dX5_now_33 (tgt := 73) (by decide) ?_
        cases h
        exact z_iret (pc := 73) C rfl (show 0 ≤ 0 from by decide) (show 0 ≤ 0 from by decide) dX5_now_73
def B_X5_cell_140 (k76 : Nat → Int → Int → Int → Int → Int → Int → Mem → Option (Int × Mem)) (v0 : Nat) (v1 : Int) (v2 : Int) (v3 : Int) (v4 : Int) (v5 : Int) (v6 : Int) (M : Mem) : Option (Int × Mem) :=
  bR (d_X5_now v0 v1 v6 v4 M) fun r24 => 
  if w32 v4 = w32 2 then
    if w32 r24 ≤ w32 v5 then
      k76 v0 v1 v2 v3 v4 v5 (v6 + 1) M
    else
      k76 v0 v1 v2 v3 v4 r24 (v6 + 1) M
  else
    k76 v0 v1 v2 v3 v4 (v5 + r24) (v6 + 1) M
def B_X5_cell_117 (k76 : Nat → Int → Int → Int → Int → Int → Int → Mem → Option (Int × Mem)) (v0 : Nat) (v1 : Int) (v2 : Int) (v3 : Int) (v4 : Int) (v5 : Int) (v6 : Int) (M : Mem) : Option (Int × Mem) :=
  if inb v1 12 then 
  if w32 v3 = w32 (m_i M 571 v0 (ixn v1)) then
    B_X5_cell_140 k76 v0 v1 v2 v3 v4 v5 v6 M
  else
    if ¬ w32 (m_i M 571 v0 (ixn v1)) = 0 then 
    if w32 (r32 v6 (m_i M 571 v0 (ixn v1))) = w32 v3 then
      B_X5_cell_140 k76 v0 v1 v2 v3 v4 v5 v6 M
    else
      k76 v0 v1 v2 v3 v4 v5 (v6 + 1) M else none else none
def B_X5_cell_76 (k76 : Nat → Int → Int → Int → Int → Int → Int → Mem → Option (Int × Mem)) (v0 : Nat) (v1 : Int) (v2 : Int) (v3 : Int) (v4 : Int) (v5 : Int) (v6 : Int) (M : Mem) : Option (Int × Mem) :=
  if inb v1 12 then 
  if w32 ((m_i M 570 v0 (ixn v1)) * (m_i M 571 v0 (ixn v1))) ≤ w32 v6 then
    some (v5, M)
  else
    if w32 v2 = w32 (m_i M 570 v0 (ixn v1)) then
      B_X5_cell_117 k76 v0 v1 v2 v3 v4 v5 v6 M
    else
      if ¬ w32 (m_i M 571 v0 (ixn v1)) = 0 then 
      if w32 (d32 v6 (m_i M 571 v0 (ixn v1))) = w32 v2 then
        B_X5_cell_117 k76 v0 v1 v2 v3 v4 v5 v6 M
      else
        k76 v0 v1 v2 v3 v4 v5 (v6 + 1) M else none else none
def L_X5_cell_76  : Nat → Nat → Int → Int → Int → Int → Int → Int → Mem → Option (Int × Mem)
  | 0, _, _, _, _, _, _, _, _ => none
  | n + 1, v0, v1, v2, v3, v4, v5, v6, M => B_X5_cell_76 (L_X5_cell_76  n) v0 v1 v2 v3 v4 v5 v6 M
def d_X5_cell (v0 : Nat) (v1 : Int) (v2 : Int) (v3 : Int) (v4 : Int) (M : Mem) : Option (Int × Mem) :=
  bR (d_X5_isTable v0 v1 (m_si M 500 v0 0 0)) fun r1 => 
  if w32 r1 = 0 then
    bN (d_X5_fail v0 1 (m_si M 500 v0 0 0)) fun r4 M5 => 
    some (r4, M5)
  else
    if inb v1 12 then 
    if w32 (d_X5_isIn (w32 v2) 0 (w32 (m_i M 570 v0 (ixn v1)))) = 0 then
      bN (d_X5_fail v0 1 (m_si M 500 v0 0 0)) fun r11 M12 => 
      some (r11, M12)
    else
      if w32 (d_X5_isIn (w32 v3) 0 (w32 (m_i M 571 v0 (ixn v1)))) = 0 then
        bN (d_X5_fail v0 1 (m_si M 500 v0 0 0)) fun r36 M37 => 
        some (r36, M37)
      else
        if w32 (d_X5_isIn (w32 v4) 0 3) = 0 then
          bN (d_X5_fail v0 2 (m_si M 500 v0 0 0)) fun r32 M33 => 
          some (r32, M33)
        else
          L_X5_cell_76 FU v0 v1 v2 v3 v4 0 0 (m_si M 500 v0 0 0) else none
theorem cB_X5_cell_140 {X : x_Ctx} {M0 : Mem} (C : x_CC X 3 78 yX5_cell cX5_cell 8 (some .int) []) {k76 : Nat → Int → Int → Int → Int → Int → Int → Mem → Option (Int × Mem)} (hk76 : ∀ (v0 : Nat) (v1 : Int) (v2 : Int) (v3 : Int) (v4 : Int) (v5 : Int) (v6 : Int) (M : Mem) (r : Int) (M' : Mem), m_kd M v0 = 5 → k76 v0 v1 v2 v3 v4 v5 v6 M = some (r, M') → x_Z X 0 0 (x_QF X M0 (.returned (some (vI r))) M' 0 0) M0 M 8 [(0, .ref v0), (1, vI v1), (2, vI v2), (3, vI v3), (4, vI v4), (5, vI v5), (6, vI v6)] 76 []) (v0 : Nat) (v1 : Int) (v2 : Int) (v3 : Int) (v4 : Int) (v5 : Int) (v6 : Int) (M : Mem) (r : Int) (M' : Mem) (hv0 : m_kd M v0 = 5) (h : B_X5_cell_140 k76 v0 v1 v2 v3 v4 v5 v6 M = some (r, M'))  : x_Z X 0 0 (x_QF X M0 (.returned (some (vI r))) M' 0 0) M0 M 8 [(0, .ref v0), (1, vI v1), (2, vI v2), (3, vI v3), (4, vI v4), (5, vI v5), (6, vI v6)] 140 [] := by
  unfold B_X5_cell_140 at h
  refine z_aload_n (pc := 140) C 0 rfl dX5_cell_140 ?_
  refine z_iload_n (pc := 141) C 1 rfl dX5_cell_141 ?_
  refine z_iload (pc := 142) C 6 rfl dX5_cell_142 ?_
  refine z_iload (pc := 144) C 4 rfl dX5_cell_144 ?_
  obtain ⟨r24, e25, h⟩ := bRs h
  refine cX5_476 (pc := 146) (st := []) (st1 := [vI r24]) C rfl (rm := { frames := 1, cells := 0, slots := 0, locals := 24 }) (ct_X5_now C.2.1 v0 v1 v6 v4 M _ hv0 e25) ⟨by decide, by decide, Nat.zero_le _, Nat.zero_le _⟩ (Or.inl hv0) rfl (Nat.le_of_ble_eq_true rfl) dX5_cell_146 (c2 := 0) (s2 := 0) rfl rfl (fun _ => ?_)
  refine z_istore (pc := 149) C (lv' := [(0, .ref v0), (1, vI v1), (2, vI v2), (3, vI v3), (4, vI v4), (5, vI v5), (6, vI v6), (7, vI r24)]) (by decide) rfl dX5_cell_149 ?_
  refine z_iload (pc := 151) C 4 rfl dX5_cell_151 ?_
  refine z_iconst (pc := 153) C dX5_cell_153 ?_
  refine z_ic_eq (pc := 154) C dX5_cell_154 (tgt := 165) (by decide) (fun c26 => ?_) (fun c26 => ?_)
  · have h := itt c26 h
    refine z_iload (pc := 165) C 7 rfl dX5_cell_165 ?_
    refine z_iload (pc := 167) C 5 rfl dX5_cell_167 ?_
    refine z_ic_le (pc := 169) C dX5_cell_169 (tgt := 177) (by decide) (fun c27 => ?_) (fun c27 => ?_)
    · have h := itt c27 h
      refine z_iload (pc := 177) C 5 rfl dX5_cell_177 ?_
      refine z_istore (pc := 179) C (lv' := [(0, .ref v0), (1, vI v1), (2, vI v2), (3, vI v3), (4, vI v4), (5, vI v5), (6, vI v6), (7, vI r24)]) (by decide) rfl dX5_cell_179 ?_
      refine z_iinc (pc := 181) C (lv' := [(0, .ref v0), (1, vI v1), (2, vI v2), (3, vI v3), (4, vI v4), (5, vI v5), (6, vI (v6 + 1)), (7, vI r24)]) 6 rfl (by decide) rfl dX5_cell_181 ?_
      refine z_goto (pc := 184) C dX5_cell_184 (tgt := 76) (by decide) ?_
      exact z_lv [0, 1, 2, 3, 4, 5, 6] rfl <| hk76 v0 v1 v2 v3 v4 v5 (v6 + 1) M _ _ hv0 h
    · have h := itf c27 h
      refine z_iload (pc := 172) C 7 rfl dX5_cell_172 ?_
      refine z_goto (pc := 174) C dX5_cell_174 (tgt := 179) (by decide) ?_
      refine z_istore (pc := 179) C (lv' := [(0, .ref v0), (1, vI v1), (2, vI v2), (3, vI v3), (4, vI v4), (5, vI r24), (6, vI v6), (7, vI r24)]) (by decide) rfl dX5_cell_179 ?_
      refine z_iinc (pc := 181) C (lv' := [(0, .ref v0), (1, vI v1), (2, vI v2), (3, vI v3), (4, vI v4), (5, vI r24), (6, vI (v6 + 1)), (7, vI r24)]) 6 rfl (by decide) rfl dX5_cell_181 ?_
      refine z_goto (pc := 184) C dX5_cell_184 (tgt := 76) (by decide) ?_
      exact z_lv [0, 1, 2, 3, 4, 5, 6] rfl <| hk76 v0 v1 v2 v3 v4 r24 (v6 + 1) M _ _ hv0 h
  · have h := itf c26 h
    refine z_iload (pc := 157) C 5 rfl dX5_cell_157 ?_
    refine z_iload (pc := 159) C 7 rfl dX5_cell_159 ?_
    refine z_iadd (pc := 161) C dX5_cell_161 ?_
    refine z_goto (pc := 162) C dX5_cell_162 (tgt := 179) (by decide) ?_
    refine z_istore (pc := 179) C (lv' := [(0, .ref v0), (1, vI v1), (2, vI v2), (3, vI v3), (4, vI v4), (5, vI (v5 + r24)), (6, vI v6), (7, vI r24)]) (by decide) rfl dX5_cell_179 ?_
    refine z_iinc (pc := 181) C (lv' := [(0, .ref v0), (1, vI v1), (2, vI v2), (3, vI v3), (4, vI v4), (5, vI (v5 + r24)), (6, vI (v6 + 1)), (7, vI r24)]) 6 rfl (by decide) rfl dX5_cell_181 ?_
    refine z_goto (pc := 184) C dX5_cell_184 (tgt := 76) (by decide) ?_
    exact z_lv [0, 1, 2, 3, 4, 5, 6] rfl <| hk76 v0 v1 v2 v3 v4 (v5 + r24) (v6 + 1) M _ _ hv0 h
theorem cB_X5_cell_117 {X : x_Ctx} {M0 : Mem} (C : x_CC X 3 78 yX5_cell cX5_cell 8 (some .int) []) {k76 : Nat → Int → Int → Int → Int → Int → Int → Mem → Option (Int × Mem)} (hk76 : ∀ (v0 : Nat) (v1 : Int) (v2 : Int) (v3 : Int) (v4 : Int) (v5 : Int) (v6 : Int) (M : Mem) (r : Int) (M' : Mem), m_kd M v0 = 5 → k76 v0 v1 v2 v3 v4 v5 v6 M = some (r, M') → x_Z X 0 0 (x_QF X M0 (.returned (some (vI r))) M' 0 0) M0 M 8 [(0, .ref v0), (1, vI v1), (2, vI v2), (3, vI v3), (4, vI v4), (5, vI v5), (6, vI v6)] 76 []) (v0 : Nat) (v1 : Int) (v2 : Int) (v3 : Int) (v4 : Int) (v5 : Int) (v6 : Int) (M : Mem) (r : Int) (M' : Mem) (hv0 : m_kd M v0 = 5) (h : B_X5_cell_117 k76 v0 v1 v2 v3 v4 v5 v6 M = some (r, M'))  : x_Z X 0 0 (x_QF X M0 (.returned (some (vI r))) M' 0 0) M0 M 8 [(0, .ref v0), (1, vI v1), (2, vI v2), (3, vI v3), (4, vI v4), (5, vI v5), (6, vI v6)] 117 [] := by
  unfold B_X5_cell_117 at h
  refine z_iload_n (pc := 117) C 3 rfl dX5_cell_117 ?_
  refine z_aload_n (pc := 118) C 0 rfl dX5_cell_118 ?_
  refine gX5_571 (pc := 119) C rfl hv0 dX5_cell_119 ?_
  refine z_iload_n (pc := 122) C 1 rfl dX5_cell_122 ?_
  obtain ⟨c22, h⟩ := ifn h
  refine z_iaO (pc := 123) (k := 5) (j := 71) C 571 rfl (by decide) (by decide) (by decide) rfl rfl rfl rfl hv0 c22 rfl dX5_cell_123 ?_
  refine z_ic_eq (pc := 124) C dX5_cell_124 (tgt := 140) (by decide) (fun c23 => ?_) (fun c23 => ?_)
  · have h := itt c23 h
    exact cB_X5_cell_140 C hk76 v0 v1 v2 v3 v4 v5 v6 M _ _ hv0 h
  · have h := itf c23 h
    refine z_iload (pc := 127) C 6 rfl dX5_cell_127 ?_
    refine z_aload_n (pc := 129) C 0 rfl dX5_cell_129 ?_
    refine gX5_571 (pc := 130) C rfl hv0 dX5_cell_130 ?_
    refine z_iload_n (pc := 133) C 1 rfl dX5_cell_133 ?_
    refine z_iaO (pc := 134) (k := 5) (j := 71) C 571 rfl (by decide) (by decide) (by decide) rfl rfl rfl rfl hv0 c22 rfl dX5_cell_134 ?_
    obtain ⟨c28, h⟩ := ifn h
    refine z_irem (pc := 135) C c28 dX5_cell_135 ?_
    refine z_iload_n (pc := 136) C 3 rfl dX5_cell_136 ?_
    refine z_ic_ne (pc := 137) C dX5_cell_137 (tgt := 181) (by decide) (fun c29 => ?_) (fun c29 => ?_)
    · have h := itf c29 h
      refine z_iinc (pc := 181) C (lv' := [(0, .ref v0), (1, vI v1), (2, vI v2), (3, vI v3), (4, vI v4), (5, vI v5), (6, vI (v6 + 1))]) 6 rfl (by decide) rfl dX5_cell_181 ?_
      refine z_goto (pc := 184) C dX5_cell_184 (tgt := 76) (by decide) ?_
      exact hk76 v0 v1 v2 v3 v4 v5 (v6 + 1) M _ _ hv0 h
    · have h := itt c29 h
      exact cB_X5_cell_140 C hk76 v0 v1 v2 v3 v4 v5 v6 M _ _ hv0 h
theorem cB_X5_cell_76 {X : x_Ctx} {M0 : Mem} (C : x_CC X 3 78 yX5_cell cX5_cell 8 (some .int) []) {k76 : Nat → Int → Int → Int → Int → Int → Int → Mem → Option (Int × Mem)} (hk76 : ∀ (v0 : Nat) (v1 : Int) (v2 : Int) (v3 : Int) (v4 : Int) (v5 : Int) (v6 : Int) (M : Mem) (r : Int) (M' : Mem), m_kd M v0 = 5 → k76 v0 v1 v2 v3 v4 v5 v6 M = some (r, M') → x_Z X 0 0 (x_QF X M0 (.returned (some (vI r))) M' 0 0) M0 M 8 [(0, .ref v0), (1, vI v1), (2, vI v2), (3, vI v3), (4, vI v4), (5, vI v5), (6, vI v6)] 76 []) (v0 : Nat) (v1 : Int) (v2 : Int) (v3 : Int) (v4 : Int) (v5 : Int) (v6 : Int) (M : Mem) (r : Int) (M' : Mem) (hv0 : m_kd M v0 = 5) (h : B_X5_cell_76 k76 v0 v1 v2 v3 v4 v5 v6 M = some (r, M'))  : x_Z X 0 0 (x_QF X M0 (.returned (some (vI r))) M' 0 0) M0 M 8 [(0, .ref v0), (1, vI v1), (2, vI v2), (3, vI v3), (4, vI v4), (5, vI v5), (6, vI v6)] 76 [] := by
  unfold B_X5_cell_76 at h
  refine z_iload (pc := 76) C 6 rfl dX5_cell_76 ?_
  refine z_aload_n (pc := 78) C 0 rfl dX5_cell_78 ?_
  refine gX5_570 (pc := 79) C rfl hv0 dX5_cell_79 ?_
  refine z_iload_n (pc := 82) C 1 rfl dX5_cell_82 ?_
  obtain ⟨c19, h⟩ := ifn h
  refine z_iaO (pc := 83) (k := 5) (j := 70) C 570 rfl (by decide) (by decide) (by decide) rfl rfl rfl rfl hv0 c19 rfl dX5_cell_83 ?_
  refine z_aload_n (pc := 84) C 0 rfl dX5_cell_84 ?_
  refine gX5_571 (pc := 85) C rfl hv0 dX5_cell_85 ?_
  refine z_iload_n (pc := 88) C 1 rfl dX5_cell_88 ?_
  refine z_iaO (pc := 89) (k := 5) (j := 71) C 571 rfl (by decide) (by decide) (by decide) rfl rfl rfl rfl hv0 c19 rfl dX5_cell_89 ?_
  refine z_imul (pc := 90) C dX5_cell_90 ?_
  refine z_ic_ge (pc := 91) C dX5_cell_91 (tgt := 187) (by decide) (fun c20 => ?_) (fun c20 => ?_)
  · have h := itt c20 h
    refine z_iload (pc := 187) C 5 rfl dX5_cell_187 ?_
    cases h
    exact z_iret (pc := 189) C rfl (show 0 ≤ 0 from by decide) (show 0 ≤ 0 from by decide) dX5_cell_189
  · have h := itf c20 h
    refine z_iload_n (pc := 94) C 2 rfl dX5_cell_94 ?_
    refine z_aload_n (pc := 95) C 0 rfl dX5_cell_95 ?_
    refine gX5_570 (pc := 96) C rfl hv0 dX5_cell_96 ?_
    refine z_iload_n (pc := 99) C 1 rfl dX5_cell_99 ?_
    refine z_iaO (pc := 100) (k := 5) (j := 70) C 570 rfl (by decide) (by decide) (by decide) rfl rfl rfl rfl hv0 c19 rfl dX5_cell_100 ?_
    refine z_ic_eq (pc := 101) C dX5_cell_101 (tgt := 117) (by decide) (fun c21 => ?_) (fun c21 => ?_)
    · have h := itt c21 h
      exact cB_X5_cell_117 C hk76 v0 v1 v2 v3 v4 v5 v6 M _ _ hv0 h
    · have h := itf c21 h
      refine z_iload (pc := 104) C 6 rfl dX5_cell_104 ?_
      refine z_aload_n (pc := 106) C 0 rfl dX5_cell_106 ?_
      refine gX5_571 (pc := 107) C rfl hv0 dX5_cell_107 ?_
      refine z_iload_n (pc := 110) C 1 rfl dX5_cell_110 ?_
      refine z_iaO (pc := 111) (k := 5) (j := 71) C 571 rfl (by decide) (by decide) (by decide) rfl rfl rfl rfl hv0 c19 rfl dX5_cell_111 ?_
      obtain ⟨c30, h⟩ := ifn h
      refine z_idiv (pc := 112) C c30 dX5_cell_112 ?_
      refine z_iload_n (pc := 113) C 2 rfl dX5_cell_113 ?_
      refine z_ic_ne (pc := 114) C dX5_cell_114 (tgt := 181) (by decide) (fun c31 => ?_) (fun c31 => ?_)
      · have h := itf c31 h
        refine z_iinc (pc := 181) C (lv' := [(0, .ref v0), (1, vI v1), (2, vI v2), (3, vI v3), (4, vI v4), (5, vI v5), (6, vI (v6 + 1))]) 6 rfl (by decide) rfl dX5_cell_181 ?_
        refine z_goto (pc := 184) C dX5_cell_184 (tgt := 76) (by decide) ?_
        exact hk76 v0 v1 v2 v3 v4 v5 (v6 + 1) M _ _ hv0 h
      · have h := itt c31 h
        exact cB_X5_cell_117 C hk76 v0 v1 v2 v3 v4 v5 v6 M _ _ hv0 h
theorem cL_X5_cell_76 {X : x_Ctx} {M0 : Mem} (C : x_CC X 3 78 yX5_cell cX5_cell 8 (some .int) [])  : ∀ (n : Nat) (v0 : Nat) (v1 : Int) (v2 : Int) (v3 : Int) (v4 : Int) (v5 : Int) (v6 : Int) (M : Mem) (r : Int) (M' : Mem) (hv0 : m_kd M v0 = 5) (h : L_X5_cell_76  n v0 v1 v2 v3 v4 v5 v6 M = some (r, M')) , x_Z X 0 0 (x_QF X M0 (.returned (some (vI r))) M' 0 0) M0 M 8 [(0, .ref v0), (1, vI v1), (2, vI v2), (3, vI v3), (4, vI v4), (5, vI v5), (6, vI v6)] 76 [] := by
  intro n
  induction n with
  | zero => intro v0 v1 v2 v3 v4 v5 v6 M r M' hv0 h ; cases h
  | succ n ih => intro v0 v1 v2 v3 v4 v5 v6 M r M' hv0 h ; exact cB_X5_cell_76 C (fun v0 v1 v2 v3 v4 v5 v6 M r M' hv0 h  => ih v0 v1 v2 v3 v4 v5 v6 M r M' hv0 h ) v0 v1 v2 v3 v4 v5 v6 M r M' hv0 h 
theorem ct_X5_cell {l : Launch} {S0 : State} {D : va_G} {cA : Nat → ClassId} (hG : x_G l S0 D cA) (v0 : Nat) (v1 : Int) (v2 : Int) (v3 : Int) (v4 : Int) (M : Mem) (r : Int) (M' : Mem) (hv0 : m_kd M v0 = 5) (h : d_X5_cell v0 v1 v2 v3 v4 M = some (r, M')) : x_Me l S0 D cA yX5_cell cX5_cell 8 (some .int) [] ({ frames := 3, cells := 0, slots := 0, locals := 78 }) [.ref v0, vI v1, vI v2, vI v3, vI v4] M (.returned (some (vI r))) M' := by
  refine x_begin (F := 3) (Lo := 78) (mc := 0) (ms := 0) hG (Nat.le_of_ble_eq_true rfl) (lv := [(0, .ref v0), (1, vI v1), (2, vI v2), (3, vI v3), (4, vI v4)]) rfl rfl rfl rfl rfl (fun X e1 e2 e3 e4 e5 C => ?_)
  unfold d_X5_cell at h
  refine z_aload_n (pc := 0) C 0 rfl dX5_cell_0 ?_
  refine z_iconst (pc := 1) C dX5_cell_1 ?_
  refine pX5_500 (pc := 2) C rfl (Or.inl hv0) dX5_cell_2 ?_
  refine z_aload_n (pc := 5) C 0 rfl dX5_cell_5 ?_
  refine z_iload_n (pc := 6) C 1 rfl dX5_cell_6 ?_
  obtain ⟨r1, e2, h⟩ := bRs h
  refine cX5_473 (pc := 7) (st := []) (st1 := [vI r1]) C rfl (rm := { frames := 2, cells := 0, slots := 0, locals := 53 }) (ct_X5_isTable C.2.1 v0 v1 (m_si M 500 v0 0 0) _ hv0 e2) ⟨by decide, by decide, Nat.zero_le _, Nat.zero_le _⟩ (Or.inl hv0) rfl (Nat.le_of_ble_eq_true rfl) dX5_cell_7 (c2 := 0) (s2 := 0) rfl rfl (fun _ => ?_)
  refine z_if_eq (pc := 10) C dX5_cell_10 (tgt := 45) (by decide) (fun c3 => ?_) (fun c3 => ?_)
  · have h := itt c3 h
    refine z_aload_n (pc := 45) C 0 rfl dX5_cell_45 ?_
    refine z_iconst (pc := 46) C dX5_cell_46 ?_
    obtain ⟨r4, M5, e6, h⟩ := bNs h
    refine cX5_213 (pc := 47) (st := []) (st1 := [vI r4]) C rfl (rm := { frames := 1, cells := 0, slots := 0, locals := 24 }) (ct_X5_fail C.2.1 v0 1 (m_si M 500 v0 0 0) _ _ hv0 e6) ⟨by decide, by decide, Nat.zero_le _, Nat.zero_le _⟩ (Or.inl hv0) rfl (Nat.le_of_ble_eq_true rfl) dX5_cell_47 (c2 := 0) (s2 := 0) rfl rfl (fun x7 => ?_)
    cases h
    exact z_iret (pc := 50) C rfl (show 0 ≤ 0 from by decide) (show 0 ≤ 0 from by decide) dX5_cell_50
  · have h := itf c3 h
    refine z_iload_n (pc := 13) C 2 rfl dX5_cell_13 ?_
    refine z_i2l (pc := 14) C dX5_cell_14 ?_
    refine z_lconst (pc := 15) C (x := 0) (by decide +kernel) dX5_cell_15 ?_
    refine z_aload_n (pc := 16) C 0 rfl dX5_cell_16 ?_
    refine gX5_570 (pc := 17) C rfl hv0 dX5_cell_17 ?_
    refine z_iload_n (pc := 20) C 1 rfl dX5_cell_20 ?_
    obtain ⟨c8, h⟩ := ifn h
    refine z_iaO (pc := 21) (k := 5) (j := 70) C 570 rfl (by decide) (by decide) (by decide) rfl rfl rfl rfl hv0 c8 (x := m_i M 570 v0 (ixn v1)) ((m_i_ne (by decide)).trans rfl) dX5_cell_21 ?_
    refine z_i2l (pc := 22) C dX5_cell_22 ?_
    refine cX5_207 (pc := 23) (st := []) (st1 := [vI (d_X5_isIn (w32 v2) 0 (w32 (m_i M 570 v0 (ixn v1))))]) C rfl (rm := { frames := 1, cells := 0, slots := 0, locals := 24 }) (ct_X5_isIn C.2.1 (w32 v2) 0 (w32 (m_i M 570 v0 (ixn v1))) (m_si M 500 v0 0 0) _  rfl) ⟨by decide, by decide, Nat.zero_le _, Nat.zero_le _⟩ rfl (Nat.le_of_ble_eq_true rfl) dX5_cell_23 (c2 := 0) (s2 := 0) rfl rfl (fun _ => ?_)
    refine z_if_eq (pc := 26) C dX5_cell_26 (tgt := 45) (by decide) (fun c10 => ?_) (fun c10 => ?_)
    · have h := itt c10 h
      refine z_aload_n (pc := 45) C 0 rfl dX5_cell_45 ?_
      refine z_iconst (pc := 46) C dX5_cell_46 ?_
      obtain ⟨r11, M12, e13, h⟩ := bNs h
      refine cX5_213 (pc := 47) (st := []) (st1 := [vI r11]) C rfl (rm := { frames := 1, cells := 0, slots := 0, locals := 24 }) (ct_X5_fail C.2.1 v0 1 (m_si M 500 v0 0 0) _ _ hv0 e13) ⟨by decide, by decide, Nat.zero_le _, Nat.zero_le _⟩ (Or.inl hv0) rfl (Nat.le_of_ble_eq_true rfl) dX5_cell_47 (c2 := 0) (s2 := 0) rfl rfl (fun x14 => ?_)
      cases h
      exact z_iret (pc := 50) C rfl (show 0 ≤ 0 from by decide) (show 0 ≤ 0 from by decide) dX5_cell_50
    · have h := itf c10 h
      refine z_iload_n (pc := 29) C 3 rfl dX5_cell_29 ?_
      refine z_i2l (pc := 30) C dX5_cell_30 ?_
      refine z_lconst (pc := 31) C (x := 0) (by decide +kernel) dX5_cell_31 ?_
      refine z_aload_n (pc := 32) C 0 rfl dX5_cell_32 ?_
      refine gX5_571 (pc := 33) C rfl hv0 dX5_cell_33 ?_
      refine z_iload_n (pc := 36) C 1 rfl dX5_cell_36 ?_
      refine z_iaO (pc := 37) (k := 5) (j := 71) C 571 rfl (by decide) (by decide) (by decide) rfl rfl rfl rfl hv0 c8 (x := m_i M 571 v0 (ixn v1)) ((m_i_ne (by decide)).trans rfl) dX5_cell_37 ?_
      refine z_i2l (pc := 38) C dX5_cell_38 ?_
      refine cX5_207 (pc := 39) (st := []) (st1 := [vI (d_X5_isIn (w32 v3) 0 (w32 (m_i M 571 v0 (ixn v1))))]) C rfl (rm := { frames := 1, cells := 0, slots := 0, locals := 24 }) (ct_X5_isIn C.2.1 (w32 v3) 0 (w32 (m_i M 571 v0 (ixn v1))) (m_si M 500 v0 0 0) _  rfl) ⟨by decide, by decide, Nat.zero_le _, Nat.zero_le _⟩ rfl (Nat.le_of_ble_eq_true rfl) dX5_cell_39 (c2 := 0) (s2 := 0) rfl rfl (fun _ => ?_)
      refine z_if_ne (pc := 42) C dX5_cell_42 (tgt := 51) (by decide) (fun c16 => ?_) (fun c16 => ?_)
      · have h := itf c16 h
        refine z_iload (pc := 51) C 4 rfl dX5_cell_51 ?_
        refine z_i2l (pc := 53) C dX5_cell_53 ?_
        refine z_lconst (pc := 54) C (x := 0) (by decide +kernel) dX5_cell_54 ?_
        refine z_ldc2 (pc := 55) C (x := 3) q1924 (by decide +kernel) dX5_cell_55 ?_
        refine cX5_207 (pc := 58) (st := []) (st1 := [vI (d_X5_isIn (w32 v4) 0 3)]) C rfl (rm := { frames := 1, cells := 0, slots := 0, locals := 24 }) (ct_X5_isIn C.2.1 (w32 v4) 0 3 (m_si M 500 v0 0 0) _  rfl) ⟨by decide, by decide, Nat.zero_le _, Nat.zero_le _⟩ rfl (Nat.le_of_ble_eq_true rfl) dX5_cell_58 (c2 := 0) (s2 := 0) rfl rfl (fun _ => ?_)
        refine z_if_ne (pc := 61) C dX5_cell_61 (tgt := 70) (by decide) (fun c18 => ?_) (fun c18 => ?_)
        · have h := itf c18 h
          refine z_iconst (pc := 70) C dX5_cell_70 ?_
          refine z_istore (pc := 71) C (lv' := [(0, .ref v0), (1, vI v1), (2, vI v2), (3, vI v3), (4, vI v4), (5, vI 0)]) (by decide) rfl dX5_cell_71 ?_
          refine z_iconst (pc := 73) C dX5_cell_73 ?_
          refine z_istore (pc := 74) C (lv' := [(0, .ref v0), (1, vI v1), (2, vI v2), (3, vI v3), (4, vI v4), (5, vI 0), (6, vI 0)]) (by decide) rfl dX5_cell_74 ?_
          exact cL_X5_cell_76 C FU v0 v1 v2 v3 v4 0 0 (m_si M 500 v0 0 0) _ _ hv0 h
        · have h := itt c18 h
          refine z_aload_n (pc := 64) C 0 rfl dX5_cell_64 ?_
          refine z_iconst (pc := 65) C dX5_cell_65 ?_
          obtain ⟨r32, M33, e34, h⟩ := bNs h
          refine cX5_213 (pc := 66) (st := []) (st1 := [vI r32]) C rfl (rm := { frames := 1, cells := 0, slots := 0, locals := 24 }) (ct_X5_fail C.2.1 v0 2 (m_si M 500 v0 0 0) _ _ hv0 e34) ⟨by decide, by decide, Nat.zero_le _, Nat.zero_le _⟩ (Or.inl hv0) rfl (Nat.le_of_ble_eq_true rfl) dX5_cell_66 (c2 := 0) (s2 := 0) rfl rfl (fun x35 => ?_)
          cases h
          exact z_iret (pc := 69) C rfl (show 0 ≤ 0 from by decide) (show 0 ≤ 0 from by decide) dX5_cell_69
      · have h := itt c16 h
        refine z_aload_n (pc := 45) C 0 rfl dX5_cell_45 ?_
        refine z_iconst (pc := 46) C dX5_cell_46 ?_
        obtain ⟨r36, M37, e38, h⟩ := bNs h
        refine cX5_213 (pc := 47) (st := []) (st1 := [vI r36]) C rfl (rm := { frames := 1, cells := 0, slots := 0, locals := 24 }) (ct_X5_fail C.2.1 v0 1 (m_si M 500 v0 0 0) _ _ hv0 e38) ⟨by decide, by decide, Nat.zero_le _, Nat.zero_le _⟩ (Or.inl hv0) rfl (Nat.le_of_ble_eq_true rfl) dX5_cell_47 (c2 := 0) (s2 := 0) rfl rfl (fun x39 => ?_)
        cases h
        exact z_iret (pc := 50) C rfl (show 0 ≤ 0 from by decide) (show 0 ≤ 0 from by decide) dX5_cell_50
def B_X5_most_232 (k39 : Nat → Int → Int → Int → Int → Int → Int → Int → Int → Int → Int → Mem → Option Int) (k131 : Nat → Int → Int → Int → Int → Int → Int → Int → Int → Int → Int → Int → Int → Int → Mem → Option Int) (v0 : Nat) (v1 : Int) (v2 : Int) (v3 : Int) (v4 : Int) (v5 : Int) (v6 : Int) (v7 : Int) (v8 : Int) (v9 : Int) (v11 : Int) (v14 : Int) (v17 : Int) (v18 : Int) (v19 : Int) (s0 : Int) (M : Mem) : Option Int :=
  if w32 v19 = 0 then
    k131 v0 v1 v2 v3 v4 v5 v6 v7 v8 v9 v11 (v14 + 0) s0 (v17 + 1) M
  else
    if w32 v18 = 0 then
      if inb ((12 * v1) + v17) 144 then 
      k131 v0 v1 v2 v3 v4 v5 v6 v7 v8 v9 v11 (v14 + (w32 (m_i M 572 v0 (ixn ((12 * v1) + v17))))) s0 (v17 + 1) M else none
    else
      k131 v0 v1 v2 v3 v4 v5 v6 v7 v8 v9 v11 (v14 + 0) s0 (v17 + 1) M
def B_X5_most_231 (k39 : Nat → Int → Int → Int → Int → Int → Int → Int → Int → Int → Int → Mem → Option Int) (k131 : Nat → Int → Int → Int → Int → Int → Int → Int → Int → Int → Int → Int → Int → Int → Mem → Option Int) (v0 : Nat) (v1 : Int) (v2 : Int) (v3 : Int) (v4 : Int) (v5 : Int) (v6 : Int) (v7 : Int) (v8 : Int) (v9 : Int) (v11 : Int) (v14 : Int) (v17 : Int) (v18 : Int) (v19 : Int) (M : Mem) : Option Int :=
  B_X5_most_232 k39 k131 v0 v1 v2 v3 v4 v5 v6 v7 v8 v9 v11 v14 v17 v18 v19 0 M
def B_X5_most_227 (k39 : Nat → Int → Int → Int → Int → Int → Int → Int → Int → Int → Int → Mem → Option Int) (k131 : Nat → Int → Int → Int → Int → Int → Int → Int → Int → Int → Int → Int → Int → Int → Mem → Option Int) (v0 : Nat) (v1 : Int) (v2 : Int) (v3 : Int) (v4 : Int) (v5 : Int) (v6 : Int) (v7 : Int) (v8 : Int) (v9 : Int) (v11 : Int) (v14 : Int) (v17 : Int) (v18 : Int) (v19 : Int) (M : Mem) : Option Int :=
  B_X5_most_232 k39 k131 v0 v1 v2 v3 v4 v5 v6 v7 v8 v9 v11 v14 v17 v18 v19 1 M
def B_X5_most_210 (k39 : Nat → Int → Int → Int → Int → Int → Int → Int → Int → Int → Int → Mem → Option Int) (k131 : Nat → Int → Int → Int → Int → Int → Int → Int → Int → Int → Int → Int → Int → Int → Mem → Option Int) (v0 : Nat) (v1 : Int) (v2 : Int) (v3 : Int) (v4 : Int) (v5 : Int) (v6 : Int) (v7 : Int) (v8 : Int) (v9 : Int) (v11 : Int) (v14 : Int) (v16 : Int) (v17 : Int) (v18 : Int) (s0 : Int) (M : Mem) : Option Int :=
  if w32 v16 = 0 then
    B_X5_most_231 k39 k131 v0 v1 v2 v3 v4 v5 v6 v7 v8 v9 v11 v14 v17 v18 s0 M
  else
    if w32 v18 = 0 then
      B_X5_most_227 k39 k131 v0 v1 v2 v3 v4 v5 v6 v7 v8 v9 v11 v14 v17 v18 s0 M
    else
      if w32 s0 = 0 then
        B_X5_most_231 k39 k131 v0 v1 v2 v3 v4 v5 v6 v7 v8 v9 v11 v14 v17 v18 s0 M
      else
        B_X5_most_227 k39 k131 v0 v1 v2 v3 v4 v5 v6 v7 v8 v9 v11 v14 v17 v18 s0 M
def B_X5_most_182 (k39 : Nat → Int → Int → Int → Int → Int → Int → Int → Int → Int → Int → Mem → Option Int) (k131 : Nat → Int → Int → Int → Int → Int → Int → Int → Int → Int → Int → Int → Int → Int → Mem → Option Int) (v0 : Nat) (v1 : Int) (v2 : Int) (v3 : Int) (v4 : Int) (v5 : Int) (v6 : Int) (v7 : Int) (v8 : Int) (v9 : Int) (v11 : Int) (v14 : Int) (v16 : Int) (v17 : Int) (s0 : Int) (M : Mem) : Option Int :=
  if inb v1 12 then 
  if ¬ w32 v5 = 0 then 
  if w32 (a32 (s32 v11 ((m_i M 570 v0 (ixn v1)) + (r32 v17 v5))) 1) = w32 1 then
    B_X5_most_210 k39 k131 v0 v1 v2 v3 v4 v5 v6 v7 v8 v9 v11 v14 v16 v17 s0 1 M
  else
    B_X5_most_210 k39 k131 v0 v1 v2 v3 v4 v5 v6 v7 v8 v9 v11 v14 v16 v17 s0 0 M else none else none
def B_X5_most_131 (k39 : Nat → Int → Int → Int → Int → Int → Int → Int → Int → Int → Int → Mem → Option Int) (k131 : Nat → Int → Int → Int → Int → Int → Int → Int → Int → Int → Int → Int → Int → Int → Mem → Option Int) (v0 : Nat) (v1 : Int) (v2 : Int) (v3 : Int) (v4 : Int) (v5 : Int) (v6 : Int) (v7 : Int) (v8 : Int) (v9 : Int) (v11 : Int) (v14 : Int) (v16 : Int) (v17 : Int) (M : Mem) : Option Int :=
  if inb v1 12 then 
  if w32 ((m_i M 570 v0 (ixn v1)) * v5) ≤ w32 v17 then
    if w32 v16 = 0 then
      k39 v0 v1 v2 v3 v4 v5 v6 v7 v8 v9 (v11 + 1) M
    else
      if w64 v9 < w64 0 then
        k39 v0 v1 v2 v3 v4 v5 v6 v7 v8 v14 (v11 + 1) M
      else
        if w64 v9 ≤ w64 v14 then
          k39 v0 v1 v2 v3 v4 v5 v6 v7 v8 v9 (v11 + 1) M
        else
          k39 v0 v1 v2 v3 v4 v5 v6 v7 v8 v14 (v11 + 1) M
  else
    if w32 v17 = w32 v3 then
      k131 v0 v1 v2 v3 v4 v5 v6 v7 v8 v9 v11 v14 v16 (v17 + 1) M
    else
      if w32 (a32 (s32 v2 v17) 1) = 0 then
        k131 v0 v1 v2 v3 v4 v5 v6 v7 v8 v9 v11 v14 v16 (v17 + 1) M
      else
        if ¬ w32 v5 = 0 then 
        if w32 (a32 (s32 v11 (d32 v17 v5)) 1) = w32 1 then
          B_X5_most_182 k39 k131 v0 v1 v2 v3 v4 v5 v6 v7 v8 v9 v11 v14 v16 v17 1 M
        else
          B_X5_most_182 k39 k131 v0 v1 v2 v3 v4 v5 v6 v7 v8 v9 v11 v14 v16 v17 0 M else none else none
def L_X5_most_131 (k39 : Nat → Int → Int → Int → Int → Int → Int → Int → Int → Int → Int → Mem → Option Int) : Nat → Nat → Int → Int → Int → Int → Int → Int → Int → Int → Int → Int → Int → Int → Int → Mem → Option Int
  | 0, _, _, _, _, _, _, _, _, _, _, _, _, _, _, _ => none
  | n + 1, v0, v1, v2, v3, v4, v5, v6, v7, v8, v9, v11, v14, v16, v17, M => B_X5_most_131 k39 (L_X5_most_131 k39 n) v0 v1 v2 v3 v4 v5 v6 v7 v8 v9 v11 v14 v16 v17 M
def B_X5_most_89 (k39 : Nat → Int → Int → Int → Int → Int → Int → Int → Int → Int → Int → Mem → Option Int) (v0 : Nat) (v1 : Int) (v2 : Int) (v3 : Int) (v4 : Int) (v5 : Int) (v6 : Int) (v7 : Int) (v8 : Int) (v9 : Int) (v11 : Int) (v12 : Int) (s0 : Int) (M : Mem) : Option Int :=
  if w32 v4 = 0 then
    if w32 s0 = 0 then
      if w32 v12 = 0 then
        k39 v0 v1 v2 v3 v4 v5 v6 v7 v8 v9 (v11 + 1) M
      else
        L_X5_most_131 k39 FU v0 v1 v2 v3 v4 v5 v6 v7 v8 v9 v11 0 1 0 M
    else
      k39 v0 v1 v2 v3 v4 v5 v6 v7 v8 v9 (v11 + 1) M
  else
    if w32 v12 = 0 then
      if w32 s0 = 0 then
        k39 v0 v1 v2 v3 v4 v5 v6 v7 v8 v9 (v11 + 1) M
      else
        L_X5_most_131 k39 FU v0 v1 v2 v3 v4 v5 v6 v7 v8 v9 v11 0 1 0 M
    else
      k39 v0 v1 v2 v3 v4 v5 v6 v7 v8 v9 (v11 + 1) M
def B_X5_most_64 (k39 : Nat → Int → Int → Int → Int → Int → Int → Int → Int → Int → Int → Mem → Option Int) (v0 : Nat) (v1 : Int) (v2 : Int) (v3 : Int) (v4 : Int) (v5 : Int) (v6 : Int) (v7 : Int) (v8 : Int) (v9 : Int) (v11 : Int) (s0 : Int) (M : Mem) : Option Int :=
  if inb v1 12 then 
  if w32 (a32 (s32 v11 ((m_i M 570 v0 (ixn v1)) + v7)) 1) = w32 1 then
    B_X5_most_89 k39 v0 v1 v2 v3 v4 v5 v6 v7 v8 v9 v11 s0 1 M
  else
    B_X5_most_89 k39 v0 v1 v2 v3 v4 v5 v6 v7 v8 v9 v11 s0 0 M else none
def B_X5_most_39 (k39 : Nat → Int → Int → Int → Int → Int → Int → Int → Int → Int → Int → Mem → Option Int) (v0 : Nat) (v1 : Int) (v2 : Int) (v3 : Int) (v4 : Int) (v5 : Int) (v6 : Int) (v7 : Int) (v8 : Int) (v9 : Int) (v11 : Int) (M : Mem) : Option Int :=
  if w32 (l32 1 v8) ≤ w32 v11 then
    if inb ((12 * v1) + v3) 144 then 
    if w32 v4 = 0 then
      if w64 (w32 (m_i M 572 v0 (ixn ((12 * v1) + v3)))) ≤ w64 v9 then
        some (m_i M 572 v0 (ixn ((12 * v1) + v3)))
      else
        some v9
    else
      some v9 else none
  else
    if w32 (a32 (s32 v11 v6) 1) = w32 1 then
      B_X5_most_64 k39 v0 v1 v2 v3 v4 v5 v6 v7 v8 v9 v11 1 M
    else
      B_X5_most_64 k39 v0 v1 v2 v3 v4 v5 v6 v7 v8 v9 v11 0 M
def L_X5_most_39  : Nat → Nat → Int → Int → Int → Int → Int → Int → Int → Int → Int → Int → Mem → Option Int
  | 0, _, _, _, _, _, _, _, _, _, _, _, _ => none
  | n + 1, v0, v1, v2, v3, v4, v5, v6, v7, v8, v9, v11, M => B_X5_most_39 (L_X5_most_39  n) v0 v1 v2 v3 v4 v5 v6 v7 v8 v9 v11 M
def d_X5_most (v0 : Nat) (v1 : Int) (v2 : Int) (v3 : Int) (v4 : Int) (M : Mem) : Option Int :=
  if inb v1 12 then 
  if ¬ w32 (m_i M 571 v0 (ixn v1)) = 0 then 
  L_X5_most_39 FU v0 v1 v2 v3 v4 (m_i M 571 v0 (ixn v1)) (d32 v3 (m_i M 571 v0 (ixn v1))) (r32 v3 (m_i M 571 v0 (ixn v1))) ((m_i M 570 v0 (ixn v1)) + (m_i M 571 v0 (ixn v1))) (-1) 0 M else none else none
theorem cB_X5_most_232 {X : x_Ctx} {M0 : Mem} (C : x_CC X 1 24 yX5_most cX5_most 20 (some .int) []) {k39 : Nat → Int → Int → Int → Int → Int → Int → Int → Int → Int → Int → Mem → Option Int} (hk39 : ∀ (v0 : Nat) (v1 : Int) (v2 : Int) (v3 : Int) (v4 : Int) (v5 : Int) (v6 : Int) (v7 : Int) (v8 : Int) (v9 : Int) (v11 : Int) (M : Mem) (r : Int), m_kd M v0 = 5 → k39 v0 v1 v2 v3 v4 v5 v6 v7 v8 v9 v11 M = some r → x_Z X 0 0 (x_QF X M0 (.returned (some (vI r))) M 0 0) M0 M 20 [(0, .ref v0), (1, vI v1), (2, vI v2), (3, vI v3), (4, vI v4), (5, vI v5), (6, vI v6), (7, vI v7), (8, vI v8), (9, vL v9), (11, vI v11)] 39 []) {k131 : Nat → Int → Int → Int → Int → Int → Int → Int → Int → Int → Int → Int → Int → Int → Mem → Option Int} (hk131 : ∀ (v0 : Nat) (v1 : Int) (v2 : Int) (v3 : Int) (v4 : Int) (v5 : Int) (v6 : Int) (v7 : Int) (v8 : Int) (v9 : Int) (v11 : Int) (v14 : Int) (v16 : Int) (v17 : Int) (M : Mem) (r : Int), m_kd M v0 = 5 → k131 v0 v1 v2 v3 v4 v5 v6 v7 v8 v9 v11 v14 v16 v17 M = some r → x_Z X 0 0 (x_QF X M0 (.returned (some (vI r))) M 0 0) M0 M 20 [(0, .ref v0), (1, vI v1), (2, vI v2), (3, vI v3), (4, vI v4), (5, vI v5), (6, vI v6), (7, vI v7), (8, vI v8), (9, vL v9), (11, vI v11), (14, vL v14), (16, vI v16), (17, vI v17)] 131 []) (v0 : Nat) (v1 : Int) (v2 : Int) (v3 : Int) (v4 : Int) (v5 : Int) (v6 : Int) (v7 : Int) (v8 : Int) (v9 : Int) (v11 : Int) (v14 : Int) (v17 : Int) (v18 : Int) (v19 : Int) (s0 : Int) (M : Mem) (r : Int) (hv0 : m_kd M v0 = 5) (h : B_X5_most_232 k39 k131 v0 v1 v2 v3 v4 v5 v6 v7 v8 v9 v11 v14 v17 v18 v19 s0 M = some r)  : x_Z X 0 0 (x_QF X M0 (.returned (some (vI r))) M 0 0) M0 M 20 [(0, .ref v0), (1, vI v1), (2, vI v2), (3, vI v3), (4, vI v4), (5, vI v5), (6, vI v6), (7, vI v7), (8, vI v8), (9, vL v9), (11, vI v11), (14, vL v14), (17, vI v17), (18, vI v18), (19, vI v19)] 232 [vI s0] := by
  unfold B_X5_most_232 at h
  refine z_istore (pc := 232) C (lv' := [(0, .ref v0), (1, vI v1), (2, vI v2), (3, vI v3), (4, vI v4), (5, vI v5), (6, vI v6), (7, vI v7), (8, vI v8), (9, vL v9), (11, vI v11), (14, vL v14), (16, vI s0), (17, vI v17), (18, vI v18), (19, vI v19)]) (by decide) rfl dX5_most_232 ?_
  refine z_lload (pc := 234) C 11 rfl dX5_most_234 ?_
  refine z_iload (pc := 236) C 15 rfl dX5_most_236 ?_
  refine z_if_eq (pc := 238) C dX5_most_238 (tgt := 262) (by decide) (fun c26 => ?_) (fun c26 => ?_)
  · have h := itt c26 h
    refine z_lconst (pc := 262) C (x := 0) (by decide +kernel) dX5_most_262 ?_
    refine z_ladd (pc := 263) C dX5_most_263 ?_
    refine z_lstore (pc := 264) C (lv' := [(0, .ref v0), (1, vI v1), (2, vI v2), (3, vI v3), (4, vI v4), (5, vI v5), (6, vI v6), (7, vI v7), (8, vI v8), (9, vL v9), (11, vI v11), (14, vL (v14 + 0)), (16, vI s0), (17, vI v17), (18, vI v18), (19, vI v19)]) (by decide) rfl dX5_most_264 ?_
    refine z_iinc (pc := 266) C (lv' := [(0, .ref v0), (1, vI v1), (2, vI v2), (3, vI v3), (4, vI v4), (5, vI v5), (6, vI v6), (7, vI v7), (8, vI v8), (9, vL v9), (11, vI v11), (14, vL (v14 + 0)), (16, vI s0), (17, vI (v17 + 1)), (18, vI v18), (19, vI v19)]) 13 rfl (by decide) rfl dX5_most_266 ?_
    refine z_goto (pc := 269) C dX5_most_269 (tgt := 131) (by decide) ?_
    exact z_lv [0, 1, 2, 3, 4, 5, 6, 7, 8, 9, 10, 11, 12, 13] rfl <| hk131 v0 v1 v2 v3 v4 v5 v6 v7 v8 v9 v11 (v14 + 0) s0 (v17 + 1) M _ hv0 h
  · have h := itf c26 h
    refine z_iload (pc := 241) C 14 rfl dX5_most_241 ?_
    refine z_if_ne (pc := 243) C dX5_most_243 (tgt := 262) (by decide) (fun c27 => ?_) (fun c27 => ?_)
    · have h := itf c27 h
      refine z_lconst (pc := 262) C (x := 0) (by decide +kernel) dX5_most_262 ?_
      refine z_ladd (pc := 263) C dX5_most_263 ?_
      refine z_lstore (pc := 264) C (lv' := [(0, .ref v0), (1, vI v1), (2, vI v2), (3, vI v3), (4, vI v4), (5, vI v5), (6, vI v6), (7, vI v7), (8, vI v8), (9, vL v9), (11, vI v11), (14, vL (v14 + 0)), (16, vI s0), (17, vI v17), (18, vI v18), (19, vI v19)]) (by decide) rfl dX5_most_264 ?_
      refine z_iinc (pc := 266) C (lv' := [(0, .ref v0), (1, vI v1), (2, vI v2), (3, vI v3), (4, vI v4), (5, vI v5), (6, vI v6), (7, vI v7), (8, vI v8), (9, vL v9), (11, vI v11), (14, vL (v14 + 0)), (16, vI s0), (17, vI (v17 + 1)), (18, vI v18), (19, vI v19)]) 13 rfl (by decide) rfl dX5_most_266 ?_
      refine z_goto (pc := 269) C dX5_most_269 (tgt := 131) (by decide) ?_
      exact z_lv [0, 1, 2, 3, 4, 5, 6, 7, 8, 9, 10, 11, 12, 13] rfl <| hk131 v0 v1 v2 v3 v4 v5 v6 v7 v8 v9 v11 (v14 + 0) s0 (v17 + 1) M _ hv0 h
    · have h := itt c27 h
      refine z_aload_n (pc := 246) C 0 rfl dX5_most_246 ?_
      refine gX5_572 (pc := 247) C rfl hv0 dX5_most_247 ?_
      refine z_bipush (pc := 250) C (by decide +kernel) dX5_most_250 ?_
      refine z_iload_n (pc := 252) C 1 rfl dX5_most_252 ?_
      refine z_imul (pc := 253) C dX5_most_253 ?_
      refine z_iload (pc := 254) C 13 rfl dX5_most_254 ?_
      refine z_iadd (pc := 256) C dX5_most_256 ?_
      obtain ⟨c28, h⟩ := ifn h
      refine z_iaO (pc := 257) (k := 5) (j := 72) C 572 rfl (by decide) (by decide) (by decide) rfl rfl rfl rfl hv0 c28 rfl dX5_most_257 ?_
      refine z_i2l (pc := 258) C dX5_most_258 ?_
      refine z_goto (pc := 259) C dX5_most_259 (tgt := 263) (by decide) ?_
      refine z_ladd (pc := 263) C dX5_most_263 ?_
      refine z_lstore (pc := 264) C (lv' := [(0, .ref v0), (1, vI v1), (2, vI v2), (3, vI v3), (4, vI v4), (5, vI v5), (6, vI v6), (7, vI v7), (8, vI v8), (9, vL v9), (11, vI v11), (14, vL (v14 + (w32 (m_i M 572 v0 (ixn ((12 * v1) + v17)))))), (16, vI s0), (17, vI v17), (18, vI v18), (19, vI v19)]) (by decide) rfl dX5_most_264 ?_
      refine z_iinc (pc := 266) C (lv' := [(0, .ref v0), (1, vI v1), (2, vI v2), (3, vI v3), (4, vI v4), (5, vI v5), (6, vI v6), (7, vI v7), (8, vI v8), (9, vL v9), (11, vI v11), (14, vL (v14 + (w32 (m_i M 572 v0 (ixn ((12 * v1) + v17)))))), (16, vI s0), (17, vI (v17 + 1)), (18, vI v18), (19, vI v19)]) 13 rfl (by decide) rfl dX5_most_266 ?_
      refine z_goto (pc := 269) C dX5_most_269 (tgt := 131) (by decide) ?_
      exact z_lv [0, 1, 2, 3, 4, 5, 6, 7, 8, 9, 10, 11, 12, 13] rfl <| hk131 v0 v1 v2 v3 v4 v5 v6 v7 v8 v9 v11 (v14 + (w32 (m_i M 572 v0 (ixn ((12 * v1) + v17))))) s0 (v17 + 1) M _ hv0 h
theorem cB_X5_most_231 {X : x_Ctx} {M0 : Mem} (C : x_CC X 1 24 yX5_most cX5_most 20 (some .int) []) {k39 : Nat → Int → Int → Int → Int → Int → Int → Int → Int → Int → Int → Mem → Option Int} (hk39 : ∀ (v0 : Nat) (v1 : Int) (v2 : Int) (v3 : Int) (v4 : Int) (v5 : Int) (v6 : Int) (v7 : Int) (v8 : Int) (v9 : Int) (v11 : Int) (M : Mem) (r : Int), m_kd M v0 = 5 → k39 v0 v1 v2 v3 v4 v5 v6 v7 v8 v9 v11 M = some r → x_Z X 0 0 (x_QF X M0 (.returned (some (vI r))) M 0 0) M0 M 20 [(0, .ref v0), (1, vI v1), (2, vI v2), (3, vI v3), (4, vI v4), (5, vI v5), (6, vI v6), (7, vI v7), (8, vI v8), (9, vL v9), (11, vI v11)] 39 []) {k131 : Nat → Int → Int → Int → Int → Int → Int → Int → Int → Int → Int → Int → Int → Int → Mem → Option Int} (hk131 : ∀ (v0 : Nat) (v1 : Int) (v2 : Int) (v3 : Int) (v4 : Int) (v5 : Int) (v6 : Int) (v7 : Int) (v8 : Int) (v9 : Int) (v11 : Int) (v14 : Int) (v16 : Int) (v17 : Int) (M : Mem) (r : Int), m_kd M v0 = 5 → k131 v0 v1 v2 v3 v4 v5 v6 v7 v8 v9 v11 v14 v16 v17 M = some r → x_Z X 0 0 (x_QF X M0 (.returned (some (vI r))) M 0 0) M0 M 20 [(0, .ref v0), (1, vI v1), (2, vI v2), (3, vI v3), (4, vI v4), (5, vI v5), (6, vI v6), (7, vI v7), (8, vI v8), (9, vL v9), (11, vI v11), (14, vL v14), (16, vI v16), (17, vI v17)] 131 []) (v0 : Nat) (v1 : Int) (v2 : Int) (v3 : Int) (v4 : Int) (v5 : Int) (v6 : Int) (v7 : Int) (v8 : Int) (v9 : Int) (v11 : Int) (v14 : Int) (v17 : Int) (v18 : Int) (v19 : Int) (M : Mem) (r : Int) (hv0 : m_kd M v0 = 5) (h : B_X5_most_231 k39 k131 v0 v1 v2 v3 v4 v5 v6 v7 v8 v9 v11 v14 v17 v18 v19 M = some r)  : x_Z X 0 0 (x_QF X M0 (.returned (some (vI r))) M 0 0) M0 M 20 [(0, .ref v0), (1, vI v1), (2, vI v2), (3, vI v3), (4, vI v4), (5, vI v5), (6, vI v6), (7, vI v7), (8, vI v8), (9, vL v9), (11, vI v11), (14, vL v14), (17, vI v17), (18, vI v18), (19, vI v19)] 231 [] := by
  unfold B_X5_most_231 at h
  refine z_iconst (pc := 231) C dX5_most_231 ?_
  exact cB_X5_most_232 C hk39 hk131 v0 v1 v2 v3 v4 v5 v6 v7 v8 v9 v11 v14 v17 v18 v19 0 M _ hv0 h
theorem cB_X5_most_227 {X : x_Ctx} {M0 : Mem} (C : x_CC X 1 24 yX5_most cX5_most 20 (some .int) []) {k39 : Nat → Int → Int → Int → Int → Int → Int → Int → Int → Int → Int → Mem → Option Int} (hk39 : ∀ (v0 : Nat) (v1 : Int) (v2 : Int) (v3 : Int) (v4 : Int) (v5 : Int) (v6 : Int) (v7 : Int) (v8 : Int) (v9 : Int) (v11 : Int) (M : Mem) (r : Int), m_kd M v0 = 5 → k39 v0 v1 v2 v3 v4 v5 v6 v7 v8 v9 v11 M = some r → x_Z X 0 0 (x_QF X M0 (.returned (some (vI r))) M 0 0) M0 M 20 [(0, .ref v0), (1, vI v1), (2, vI v2), (3, vI v3), (4, vI v4), (5, vI v5), (6, vI v6), (7, vI v7), (8, vI v8), (9, vL v9), (11, vI v11)] 39 []) {k131 : Nat → Int → Int → Int → Int → Int → Int → Int → Int → Int → Int → Int → Int → Int → Mem → Option Int} (hk131 : ∀ (v0 : Nat) (v1 : Int) (v2 : Int) (v3 : Int) (v4 : Int) (v5 : Int) (v6 : Int) (v7 : Int) (v8 : Int) (v9 : Int) (v11 : Int) (v14 : Int) (v16 : Int) (v17 : Int) (M : Mem) (r : Int), m_kd M v0 = 5 → k131 v0 v1 v2 v3 v4 v5 v6 v7 v8 v9 v11 v14 v16 v17 M = some r → x_Z X 0 0 (x_QF X M0 (.returned (some (vI r))) M 0 0) M0 M 20 [(0, .ref v0), (1, vI v1), (2, vI v2), (3, vI v3), (4, vI v4), (5, vI v5), (6, vI v6), (7, vI v7), (8, vI v8), (9, vL v9), (11, vI v11), (14, vL v14), (16, vI v16), (17, vI v17)] 131 []) (v0 : Nat) (v1 : Int) (v2 : Int) (v3 : Int) (v4 : Int) (v5 : Int) (v6 : Int) (v7 : Int) (v8 : Int) (v9 : Int) (v11 : Int) (v14 : Int) (v17 : Int) (v18 : Int) (v19 : Int) (M : Mem) (r : Int) (hv0 : m_kd M v0 = 5) (h : B_X5_most_227 k39 k131 v0 v1 v2 v3 v4 v5 v6 v7 v8 v9 v11 v14 v17 v18 v19 M = some r)  : x_Z X 0 0 (x_QF X M0 (.returned (some (vI r))) M 0 0) M0 M 20 [(0, .ref v0), (1, vI v1), (2, vI v2), (3, vI v3), (4, vI v4), (5, vI v5), (6, vI v6), (7, vI v7), (8, vI v8), (9, vL v9), (11, vI v11), (14, vL v14), (17, vI v17), (18, vI v18), (19, vI v19)] 227 [] := by
  unfold B_X5_most_227 at h
  refine z_iconst (pc := 227) C dX5_most_227 ?_
  refine z_goto (pc := 228) C dX5_most_228 (tgt := 232) (by decide) ?_
  exact cB_X5_most_232 C hk39 hk131 v0 v1 v2 v3 v4 v5 v6 v7 v8 v9 v11 v14 v17 v18 v19 1 M _ hv0 h
theorem cB_X5_most_210 {X : x_Ctx} {M0 : Mem} (C : x_CC X 1 24 yX5_most cX5_most 20 (some .int) []) {k39 : Nat → Int → Int → Int → Int → Int → Int → Int → Int → Int → Int → Mem → Option Int} (hk39 : ∀ (v0 : Nat) (v1 : Int) (v2 : Int) (v3 : Int) (v4 : Int) (v5 : Int) (v6 : Int) (v7 : Int) (v8 : Int) (v9 : Int) (v11 : Int) (M : Mem) (r : Int), m_kd M v0 = 5 → k39 v0 v1 v2 v3 v4 v5 v6 v7 v8 v9 v11 M = some r → x_Z X 0 0 (x_QF X M0 (.returned (some (vI r))) M 0 0) M0 M 20 [(0, .ref v0), (1, vI v1), (2, vI v2), (3, vI v3), (4, vI v4), (5, vI v5), (6, vI v6), (7, vI v7), (8, vI v8), (9, vL v9), (11, vI v11)] 39 []) {k131 : Nat → Int → Int → Int → Int → Int → Int → Int → Int → Int → Int → Int → Int → Int → Mem → Option Int} (hk131 : ∀ (v0 : Nat) (v1 : Int) (v2 : Int) (v3 : Int) (v4 : Int) (v5 : Int) (v6 : Int) (v7 : Int) (v8 : Int) (v9 : Int) (v11 : Int) (v14 : Int) (v16 : Int) (v17 : Int) (M : Mem) (r : Int), m_kd M v0 = 5 → k131 v0 v1 v2 v3 v4 v5 v6 v7 v8 v9 v11 v14 v16 v17 M = some r → x_Z X 0 0 (x_QF X M0 (.returned (some (vI r))) M 0 0) M0 M 20 [(0, .ref v0), (1, vI v1), (2, vI v2), (3, vI v3), (4, vI v4), (5, vI v5), (6, vI v6), (7, vI v7), (8, vI v8), (9, vL v9), (11, vI v11), (14, vL v14), (16, vI v16), (17, vI v17)] 131 []) (v0 : Nat) (v1 : Int) (v2 : Int) (v3 : Int) (v4 : Int) (v5 : Int) (v6 : Int) (v7 : Int) (v8 : Int) (v9 : Int) (v11 : Int) (v14 : Int) (v16 : Int) (v17 : Int) (v18 : Int) (s0 : Int) (M : Mem) (r : Int) (hv0 : m_kd M v0 = 5) (h : B_X5_most_210 k39 k131 v0 v1 v2 v3 v4 v5 v6 v7 v8 v9 v11 v14 v16 v17 v18 s0 M = some r)  : x_Z X 0 0 (x_QF X M0 (.returned (some (vI r))) M 0 0) M0 M 20 [(0, .ref v0), (1, vI v1), (2, vI v2), (3, vI v3), (4, vI v4), (5, vI v5), (6, vI v6), (7, vI v7), (8, vI v8), (9, vL v9), (11, vI v11), (14, vL v14), (16, vI v16), (17, vI v17), (18, vI v18)] 210 [vI s0] := by
  unfold B_X5_most_210 at h
  refine z_istore (pc := 210) C (lv' := [(0, .ref v0), (1, vI v1), (2, vI v2), (3, vI v3), (4, vI v4), (5, vI v5), (6, vI v6), (7, vI v7), (8, vI v8), (9, vL v9), (11, vI v11), (14, vL v14), (16, vI v16), (17, vI v17), (18, vI v18), (19, vI s0)]) (by decide) rfl dX5_most_210 ?_
  refine z_iload (pc := 212) C 12 rfl dX5_most_212 ?_
  refine z_if_eq (pc := 214) C dX5_most_214 (tgt := 231) (by decide) (fun c25 => ?_) (fun c25 => ?_)
  · have h := itt c25 h
    exact z_lv [0, 1, 2, 3, 4, 5, 6, 7, 8, 9, 10, 11, 13, 14, 15] rfl <| cB_X5_most_231 C hk39 hk131 v0 v1 v2 v3 v4 v5 v6 v7 v8 v9 v11 v14 v17 v18 s0 M _ hv0 h
  · have h := itf c25 h
    refine z_iload (pc := 217) C 14 rfl dX5_most_217 ?_
    refine z_if_eq (pc := 219) C dX5_most_219 (tgt := 227) (by decide) (fun c29 => ?_) (fun c29 => ?_)
    · have h := itt c29 h
      exact z_lv [0, 1, 2, 3, 4, 5, 6, 7, 8, 9, 10, 11, 13, 14, 15] rfl <| cB_X5_most_227 C hk39 hk131 v0 v1 v2 v3 v4 v5 v6 v7 v8 v9 v11 v14 v17 v18 s0 M _ hv0 h
    · have h := itf c29 h
      refine z_iload (pc := 222) C 15 rfl dX5_most_222 ?_
      refine z_if_eq (pc := 224) C dX5_most_224 (tgt := 231) (by decide) (fun c30 => ?_) (fun c30 => ?_)
      · have h := itt c30 h
        exact z_lv [0, 1, 2, 3, 4, 5, 6, 7, 8, 9, 10, 11, 13, 14, 15] rfl <| cB_X5_most_231 C hk39 hk131 v0 v1 v2 v3 v4 v5 v6 v7 v8 v9 v11 v14 v17 v18 s0 M _ hv0 h
      · have h := itf c30 h
        exact z_lv [0, 1, 2, 3, 4, 5, 6, 7, 8, 9, 10, 11, 13, 14, 15] rfl <| cB_X5_most_227 C hk39 hk131 v0 v1 v2 v3 v4 v5 v6 v7 v8 v9 v11 v14 v17 v18 s0 M _ hv0 h
theorem cB_X5_most_182 {X : x_Ctx} {M0 : Mem} (C : x_CC X 1 24 yX5_most cX5_most 20 (some .int) []) {k39 : Nat → Int → Int → Int → Int → Int → Int → Int → Int → Int → Int → Mem → Option Int} (hk39 : ∀ (v0 : Nat) (v1 : Int) (v2 : Int) (v3 : Int) (v4 : Int) (v5 : Int) (v6 : Int) (v7 : Int) (v8 : Int) (v9 : Int) (v11 : Int) (M : Mem) (r : Int), m_kd M v0 = 5 → k39 v0 v1 v2 v3 v4 v5 v6 v7 v8 v9 v11 M = some r → x_Z X 0 0 (x_QF X M0 (.returned (some (vI r))) M 0 0) M0 M 20 [(0, .ref v0), (1, vI v1), (2, vI v2), (3, vI v3), (4, vI v4), (5, vI v5), (6, vI v6), (7, vI v7), (8, vI v8), (9, vL v9), (11, vI v11)] 39 []) {k131 : Nat → Int → Int → Int → Int → Int → Int → Int → Int → Int → Int → Int → Int → Int → Mem → Option Int} (hk131 : ∀ (v0 : Nat) (v1 : Int) (v2 : Int) (v3 : Int) (v4 : Int) (v5 : Int) (v6 : Int) (v7 : Int) (v8 : Int) (v9 : Int) (v11 : Int) (v14 : Int) (v16 : Int) (v17 : Int) (M : Mem) (r : Int), m_kd M v0 = 5 → k131 v0 v1 v2 v3 v4 v5 v6 v7 v8 v9 v11 v14 v16 v17 M = some r → x_Z X 0 0 (x_QF X M0 (.returned (some (vI r))) M 0 0) M0 M 20 [(0, .ref v0), (1, vI v1), (2, vI v2), (3, vI v3), (4, vI v4), (5, vI v5), (6, vI v6), (7, vI v7), (8, vI v8), (9, vL v9), (11, vI v11), (14, vL v14), (16, vI v16), (17, vI v17)] 131 []) (v0 : Nat) (v1 : Int) (v2 : Int) (v3 : Int) (v4 : Int) (v5 : Int) (v6 : Int) (v7 : Int) (v8 : Int) (v9 : Int) (v11 : Int) (v14 : Int) (v16 : Int) (v17 : Int) (s0 : Int) (M : Mem) (r : Int) (hv0 : m_kd M v0 = 5) (h : B_X5_most_182 k39 k131 v0 v1 v2 v3 v4 v5 v6 v7 v8 v9 v11 v14 v16 v17 s0 M = some r)  : x_Z X 0 0 (x_QF X M0 (.returned (some (vI r))) M 0 0) M0 M 20 [(0, .ref v0), (1, vI v1), (2, vI v2), (3, vI v3), (4, vI v4), (5, vI v5), (6, vI v6), (7, vI v7), (8, vI v8), (9, vL v9), (11, vI v11), (14, vL v14), (16, vI v16), (17, vI v17)] 182 [vI s0] := by
  unfold B_X5_most_182 at h
  refine z_istore (pc := 182) C (lv' := [(0, .ref v0), (1, vI v1), (2, vI v2), (3, vI v3), (4, vI v4), (5, vI v5), (6, vI v6), (7, vI v7), (8, vI v8), (9, vL v9), (11, vI v11), (14, vL v14), (16, vI v16), (17, vI v17), (18, vI s0)]) (by decide) rfl dX5_most_182 ?_
  refine z_iload (pc := 184) C 10 rfl dX5_most_184 ?_
  refine z_aload_n (pc := 186) C 0 rfl dX5_most_186 ?_
  refine gX5_570 (pc := 187) C rfl hv0 dX5_most_187 ?_
  refine z_iload_n (pc := 190) C 1 rfl dX5_most_190 ?_
  obtain ⟨c22, h⟩ := ifn h
  refine z_iaO (pc := 191) (k := 5) (j := 70) C 570 rfl (by decide) (by decide) (by decide) rfl rfl rfl rfl hv0 c22 rfl dX5_most_191 ?_
  refine z_iload (pc := 192) C 13 rfl dX5_most_192 ?_
  refine z_iload (pc := 194) C 5 rfl dX5_most_194 ?_
  obtain ⟨c23, h⟩ := ifn h
  refine z_irem (pc := 196) C c23 dX5_most_196 ?_
  refine z_iadd (pc := 197) C dX5_most_197 ?_
  refine z_ishr (pc := 198) C dX5_most_198 ?_
  refine z_iconst (pc := 199) C dX5_most_199 ?_
  refine z_iand (pc := 200) C dX5_most_200 ?_
  refine z_iconst (pc := 201) C dX5_most_201 ?_
  refine z_ic_ne (pc := 202) C dX5_most_202 (tgt := 209) (by decide) (fun c24 => ?_) (fun c24 => ?_)
  · have h := itf c24 h
    refine z_iconst (pc := 209) C dX5_most_209 ?_
    exact cB_X5_most_210 C hk39 hk131 v0 v1 v2 v3 v4 v5 v6 v7 v8 v9 v11 v14 v16 v17 s0 0 M _ hv0 h
  · have h := itt c24 h
    refine z_iconst (pc := 205) C dX5_most_205 ?_
    refine z_goto (pc := 206) C dX5_most_206 (tgt := 210) (by decide) ?_
    exact cB_X5_most_210 C hk39 hk131 v0 v1 v2 v3 v4 v5 v6 v7 v8 v9 v11 v14 v16 v17 s0 1 M _ hv0 h
theorem cB_X5_most_131 {X : x_Ctx} {M0 : Mem} (C : x_CC X 1 24 yX5_most cX5_most 20 (some .int) []) {k39 : Nat → Int → Int → Int → Int → Int → Int → Int → Int → Int → Int → Mem → Option Int} (hk39 : ∀ (v0 : Nat) (v1 : Int) (v2 : Int) (v3 : Int) (v4 : Int) (v5 : Int) (v6 : Int) (v7 : Int) (v8 : Int) (v9 : Int) (v11 : Int) (M : Mem) (r : Int), m_kd M v0 = 5 → k39 v0 v1 v2 v3 v4 v5 v6 v7 v8 v9 v11 M = some r → x_Z X 0 0 (x_QF X M0 (.returned (some (vI r))) M 0 0) M0 M 20 [(0, .ref v0), (1, vI v1), (2, vI v2), (3, vI v3), (4, vI v4), (5, vI v5), (6, vI v6), (7, vI v7), (8, vI v8), (9, vL v9), (11, vI v11)] 39 []) {k131 : Nat → Int → Int → Int → Int → Int → Int → Int → Int → Int → Int → Int → Int → Int → Mem → Option Int} (hk131 : ∀ (v0 : Nat) (v1 : Int) (v2 : Int) (v3 : Int) (v4 : Int) (v5 : Int) (v6 : Int) (v7 : Int) (v8 : Int) (v9 : Int) (v11 : Int) (v14 : Int) (v16 : Int) (v17 : Int) (M : Mem) (r : Int), m_kd M v0 = 5 → k131 v0 v1 v2 v3 v4 v5 v6 v7 v8 v9 v11 v14 v16 v17 M = some r → x_Z X 0 0 (x_QF X M0 (.returned (some (vI r))) M 0 0) M0 M 20 [(0, .ref v0), (1, vI v1), (2, vI v2), (3, vI v3), (4, vI v4), (5, vI v5), (6, vI v6), (7, vI v7), (8, vI v8), (9, vL v9), (11, vI v11), (14, vL v14), (16, vI v16), (17, vI v17)] 131 []) (v0 : Nat) (v1 : Int) (v2 : Int) (v3 : Int) (v4 : Int) (v5 : Int) (v6 : Int) (v7 : Int) (v8 : Int) (v9 : Int) (v11 : Int) (v14 : Int) (v16 : Int) (v17 : Int) (M : Mem) (r : Int) (hv0 : m_kd M v0 = 5) (h : B_X5_most_131 k39 k131 v0 v1 v2 v3 v4 v5 v6 v7 v8 v9 v11 v14 v16 v17 M = some r)  : x_Z X 0 0 (x_QF X M0 (.returned (some (vI r))) M 0 0) M0 M 20 [(0, .ref v0), (1, vI v1), (2, vI v2), (3, vI v3), (4, vI v4), (5, vI v5), (6, vI v6), (7, vI v7), (8, vI v8), (9, vL v9), (11, vI v11), (14, vL v14), (16, vI v16), (17, vI v17)] 131 [] := by
  unfold B_X5_most_131 at h
  refine z_iload (pc := 131) C 13 rfl dX5_most_131 ?_
  refine z_aload_n (pc := 133) C 0 rfl dX5_most_133 ?_
  refine gX5_570 (pc := 134) C rfl hv0 dX5_most_134 ?_
  refine z_iload_n (pc := 137) C 1 rfl dX5_most_137 ?_
  obtain ⟨c13, h⟩ := ifn h
  refine z_iaO (pc := 138) (k := 5) (j := 70) C 570 rfl (by decide) (by decide) (by decide) rfl rfl rfl rfl hv0 c13 rfl dX5_most_138 ?_
  refine z_iload (pc := 139) C 5 rfl dX5_most_139 ?_
  refine z_imul (pc := 141) C dX5_most_141 ?_
  refine z_ic_ge (pc := 142) C dX5_most_142 (tgt := 272) (by decide) (fun c14 => ?_) (fun c14 => ?_)
  · have h := itt c14 h
    refine z_iload (pc := 272) C 12 rfl dX5_most_272 ?_
    refine z_if_eq (pc := 274) C dX5_most_274 (tgt := 296) (by decide) (fun c15 => ?_) (fun c15 => ?_)
    · have h := itt c15 h
      refine z_iinc (pc := 296) C (lv' := [(0, .ref v0), (1, vI v1), (2, vI v2), (3, vI v3), (4, vI v4), (5, vI v5), (6, vI v6), (7, vI v7), (8, vI v8), (9, vL v9), (11, vI (v11 + 1)), (14, vL v14), (16, vI v16), (17, vI v17)]) 10 rfl (by decide) rfl dX5_most_296 ?_
      refine z_goto (pc := 299) C dX5_most_299 (tgt := 39) (by decide) ?_
      exact z_lv [0, 1, 2, 3, 4, 5, 6, 7, 8, 9, 10] rfl <| hk39 v0 v1 v2 v3 v4 v5 v6 v7 v8 v9 (v11 + 1) M _ hv0 h
    · have h := itf c15 h
      refine z_lload (pc := 277) C 9 rfl dX5_most_277 ?_
      refine z_lconst (pc := 279) C (x := 0) (by decide +kernel) dX5_most_279 ?_
      refine z_lc_lt (pc := 280) C dX5_most_280 dX5_most_281 (tgt := 292) (by decide) (fun c16 => ?_) (fun c16 => ?_)
      · have h := itt c16 h
        refine z_lload (pc := 292) C 11 rfl dX5_most_292 ?_
        refine z_lstore (pc := 294) C (lv' := [(0, .ref v0), (1, vI v1), (2, vI v2), (3, vI v3), (4, vI v4), (5, vI v5), (6, vI v6), (7, vI v7), (8, vI v8), (9, vL v14), (11, vI v11), (14, vL v14), (16, vI v16), (17, vI v17)]) (by decide) rfl dX5_most_294 ?_
        refine z_iinc (pc := 296) C (lv' := [(0, .ref v0), (1, vI v1), (2, vI v2), (3, vI v3), (4, vI v4), (5, vI v5), (6, vI v6), (7, vI v7), (8, vI v8), (9, vL v14), (11, vI (v11 + 1)), (14, vL v14), (16, vI v16), (17, vI v17)]) 10 rfl (by decide) rfl dX5_most_296 ?_
        refine z_goto (pc := 299) C dX5_most_299 (tgt := 39) (by decide) ?_
        exact z_lv [0, 1, 2, 3, 4, 5, 6, 7, 8, 9, 10] rfl <| hk39 v0 v1 v2 v3 v4 v5 v6 v7 v8 v14 (v11 + 1) M _ hv0 h
      · have h := itf c16 h
        refine z_lload (pc := 284) C 11 rfl dX5_most_284 ?_
        refine z_lload (pc := 286) C 9 rfl dX5_most_286 ?_
        refine z_lc_ge (pc := 288) C dX5_most_288 dX5_most_289 (tgt := 296) (by decide) (fun c17 => ?_) (fun c17 => ?_)
        · have h := itt c17 h
          refine z_iinc (pc := 296) C (lv' := [(0, .ref v0), (1, vI v1), (2, vI v2), (3, vI v3), (4, vI v4), (5, vI v5), (6, vI v6), (7, vI v7), (8, vI v8), (9, vL v9), (11, vI (v11 + 1)), (14, vL v14), (16, vI v16), (17, vI v17)]) 10 rfl (by decide) rfl dX5_most_296 ?_
          refine z_goto (pc := 299) C dX5_most_299 (tgt := 39) (by decide) ?_
          exact z_lv [0, 1, 2, 3, 4, 5, 6, 7, 8, 9, 10] rfl <| hk39 v0 v1 v2 v3 v4 v5 v6 v7 v8 v9 (v11 + 1) M _ hv0 h
        · have h := itf c17 h
          refine z_lload (pc := 292) C 11 rfl dX5_most_292 ?_
          refine z_lstore (pc := 294) C (lv' := [(0, .ref v0), (1, vI v1), (2, vI v2), (3, vI v3), (4, vI v4), (5, vI v5), (6, vI v6), (7, vI v7), (8, vI v8), (9, vL v14), (11, vI v11), (14, vL v14), (16, vI v16), (17, vI v17)]) (by decide) rfl dX5_most_294 ?_
          refine z_iinc (pc := 296) C (lv' := [(0, .ref v0), (1, vI v1), (2, vI v2), (3, vI v3), (4, vI v4), (5, vI v5), (6, vI v6), (7, vI v7), (8, vI v8), (9, vL v14), (11, vI (v11 + 1)), (14, vL v14), (16, vI v16), (17, vI v17)]) 10 rfl (by decide) rfl dX5_most_296 ?_
          refine z_goto (pc := 299) C dX5_most_299 (tgt := 39) (by decide) ?_
          exact z_lv [0, 1, 2, 3, 4, 5, 6, 7, 8, 9, 10] rfl <| hk39 v0 v1 v2 v3 v4 v5 v6 v7 v8 v14 (v11 + 1) M _ hv0 h
  · have h := itf c14 h
    refine z_iload (pc := 145) C 13 rfl dX5_most_145 ?_
    refine z_iload_n (pc := 147) C 3 rfl dX5_most_147 ?_
    refine z_ic_eq (pc := 148) C dX5_most_148 (tgt := 266) (by decide) (fun c18 => ?_) (fun c18 => ?_)
    · have h := itt c18 h
      refine z_iinc (pc := 266) C (lv' := [(0, .ref v0), (1, vI v1), (2, vI v2), (3, vI v3), (4, vI v4), (5, vI v5), (6, vI v6), (7, vI v7), (8, vI v8), (9, vL v9), (11, vI v11), (14, vL v14), (16, vI v16), (17, vI (v17 + 1))]) 13 rfl (by decide) rfl dX5_most_266 ?_
      refine z_goto (pc := 269) C dX5_most_269 (tgt := 131) (by decide) ?_
      exact hk131 v0 v1 v2 v3 v4 v5 v6 v7 v8 v9 v11 v14 v16 (v17 + 1) M _ hv0 h
    · have h := itf c18 h
      refine z_iload_n (pc := 151) C 2 rfl dX5_most_151 ?_
      refine z_iload (pc := 152) C 13 rfl dX5_most_152 ?_
      refine z_ishr (pc := 154) C dX5_most_154 ?_
      refine z_iconst (pc := 155) C dX5_most_155 ?_
      refine z_iand (pc := 156) C dX5_most_156 ?_
      refine z_if_ne (pc := 157) C dX5_most_157 (tgt := 163) (by decide) (fun c19 => ?_) (fun c19 => ?_)
      · have h := itf c19 h
        refine z_iload (pc := 163) C 10 rfl dX5_most_163 ?_
        refine z_iload (pc := 165) C 13 rfl dX5_most_165 ?_
        refine z_iload (pc := 167) C 5 rfl dX5_most_167 ?_
        obtain ⟨c20, h⟩ := ifn h
        refine z_idiv (pc := 169) C c20 dX5_most_169 ?_
        refine z_ishr (pc := 170) C dX5_most_170 ?_
        refine z_iconst (pc := 171) C dX5_most_171 ?_
        refine z_iand (pc := 172) C dX5_most_172 ?_
        refine z_iconst (pc := 173) C dX5_most_173 ?_
        refine z_ic_ne (pc := 174) C dX5_most_174 (tgt := 181) (by decide) (fun c21 => ?_) (fun c21 => ?_)
        · have h := itf c21 h
          refine z_iconst (pc := 181) C dX5_most_181 ?_
          exact cB_X5_most_182 C hk39 hk131 v0 v1 v2 v3 v4 v5 v6 v7 v8 v9 v11 v14 v16 v17 0 M _ hv0 h
        · have h := itt c21 h
          refine z_iconst (pc := 177) C dX5_most_177 ?_
          refine z_goto (pc := 178) C dX5_most_178 (tgt := 182) (by decide) ?_
          exact cB_X5_most_182 C hk39 hk131 v0 v1 v2 v3 v4 v5 v6 v7 v8 v9 v11 v14 v16 v17 1 M _ hv0 h
      · have h := itt c19 h
        refine z_goto (pc := 160) C dX5_most_160 (tgt := 266) (by decide) ?_
        refine z_iinc (pc := 266) C (lv' := [(0, .ref v0), (1, vI v1), (2, vI v2), (3, vI v3), (4, vI v4), (5, vI v5), (6, vI v6), (7, vI v7), (8, vI v8), (9, vL v9), (11, vI v11), (14, vL v14), (16, vI v16), (17, vI (v17 + 1))]) 13 rfl (by decide) rfl dX5_most_266 ?_
        refine z_goto (pc := 269) C dX5_most_269 (tgt := 131) (by decide) ?_
        exact hk131 v0 v1 v2 v3 v4 v5 v6 v7 v8 v9 v11 v14 v16 (v17 + 1) M _ hv0 h
theorem cL_X5_most_131 {X : x_Ctx} {M0 : Mem} (C : x_CC X 1 24 yX5_most cX5_most 20 (some .int) []) {k39 : Nat → Int → Int → Int → Int → Int → Int → Int → Int → Int → Int → Mem → Option Int} (hk39 : ∀ (v0 : Nat) (v1 : Int) (v2 : Int) (v3 : Int) (v4 : Int) (v5 : Int) (v6 : Int) (v7 : Int) (v8 : Int) (v9 : Int) (v11 : Int) (M : Mem) (r : Int), m_kd M v0 = 5 → k39 v0 v1 v2 v3 v4 v5 v6 v7 v8 v9 v11 M = some r → x_Z X 0 0 (x_QF X M0 (.returned (some (vI r))) M 0 0) M0 M 20 [(0, .ref v0), (1, vI v1), (2, vI v2), (3, vI v3), (4, vI v4), (5, vI v5), (6, vI v6), (7, vI v7), (8, vI v8), (9, vL v9), (11, vI v11)] 39 []) : ∀ (n : Nat) (v0 : Nat) (v1 : Int) (v2 : Int) (v3 : Int) (v4 : Int) (v5 : Int) (v6 : Int) (v7 : Int) (v8 : Int) (v9 : Int) (v11 : Int) (v14 : Int) (v16 : Int) (v17 : Int) (M : Mem) (r : Int) (hv0 : m_kd M v0 = 5) (h : L_X5_most_131 k39 n v0 v1 v2 v3 v4 v5 v6 v7 v8 v9 v11 v14 v16 v17 M = some r) , x_Z X 0 0 (x_QF X M0 (.returned (some (vI r))) M 0 0) M0 M 20 [(0, .ref v0), (1, vI v1), (2, vI v2), (3, vI v3), (4, vI v4), (5, vI v5), (6, vI v6), (7, vI v7), (8, vI v8), (9, vL v9), (11, vI v11), (14, vL v14), (16, vI v16), (17, vI v17)] 131 [] := by
  intro n
  induction n with
  | zero => intro v0 v1 v2 v3 v4 v5 v6 v7 v8 v9 v11 v14 v16 v17 M r hv0 h ; cases h
  | succ n ih => intro v0 v1 v2 v3 v4 v5 v6 v7 v8 v9 v11 v14 v16 v17 M r hv0 h ; exact cB_X5_most_131 C hk39 (fun v0 v1 v2 v3 v4 v5 v6 v7 v8 v9 v11 v14 v16 v17 M r hv0 h  => ih v0 v1 v2 v3 v4 v5 v6 v7 v8 v9 v11 v14 v16 v17 M r hv0 h ) v0 v1 v2 v3 v4 v5 v6 v7 v8 v9 v11 v14 v16 v17 M r hv0 h 
theorem cB_X5_most_89 {X : x_Ctx} {M0 : Mem} (C : x_CC X 1 24 yX5_most cX5_most 20 (some .int) []) {k39 : Nat → Int → Int → Int → Int → Int → Int → Int → Int → Int → Int → Mem → Option Int} (hk39 : ∀ (v0 : Nat) (v1 : Int) (v2 : Int) (v3 : Int) (v4 : Int) (v5 : Int) (v6 : Int) (v7 : Int) (v8 : Int) (v9 : Int) (v11 : Int) (M : Mem) (r : Int), m_kd M v0 = 5 → k39 v0 v1 v2 v3 v4 v5 v6 v7 v8 v9 v11 M = some r → x_Z X 0 0 (x_QF X M0 (.returned (some (vI r))) M 0 0) M0 M 20 [(0, .ref v0), (1, vI v1), (2, vI v2), (3, vI v3), (4, vI v4), (5, vI v5), (6, vI v6), (7, vI v7), (8, vI v8), (9, vL v9), (11, vI v11)] 39 []) (v0 : Nat) (v1 : Int) (v2 : Int) (v3 : Int) (v4 : Int) (v5 : Int) (v6 : Int) (v7 : Int) (v8 : Int) (v9 : Int) (v11 : Int) (v12 : Int) (s0 : Int) (M : Mem) (r : Int) (hv0 : m_kd M v0 = 5) (h : B_X5_most_89 k39 v0 v1 v2 v3 v4 v5 v6 v7 v8 v9 v11 v12 s0 M = some r)  : x_Z X 0 0 (x_QF X M0 (.returned (some (vI r))) M 0 0) M0 M 20 [(0, .ref v0), (1, vI v1), (2, vI v2), (3, vI v3), (4, vI v4), (5, vI v5), (6, vI v6), (7, vI v7), (8, vI v8), (9, vL v9), (11, vI v11), (12, vI v12)] 89 [vI s0] := by
  unfold B_X5_most_89 at h
  refine z_istore (pc := 89) C (lv' := [(0, .ref v0), (1, vI v1), (2, vI v2), (3, vI v3), (4, vI v4), (5, vI v5), (6, vI v6), (7, vI v7), (8, vI v8), (9, vL v9), (11, vI v11), (12, vI v12), (13, vI s0)]) (by decide) rfl dX5_most_89 ?_
  refine z_iload (pc := 91) C 4 rfl dX5_most_91 ?_
  refine z_if_eq (pc := 93) C dX5_most_93 (tgt := 109) (by decide) (fun c10 => ?_) (fun c10 => ?_)
  · have h := itt c10 h
    refine z_iload (pc := 109) C 12 rfl dX5_most_109 ?_
    refine z_if_ne (pc := 111) C dX5_most_111 (tgt := 296) (by decide) (fun c11 => ?_) (fun c11 => ?_)
    · have h := itf c11 h
      refine z_iinc (pc := 296) C (lv' := [(0, .ref v0), (1, vI v1), (2, vI v2), (3, vI v3), (4, vI v4), (5, vI v5), (6, vI v6), (7, vI v7), (8, vI v8), (9, vL v9), (11, vI (v11 + 1)), (12, vI v12), (13, vI s0)]) 10 rfl (by decide) rfl dX5_most_296 ?_
      refine z_goto (pc := 299) C dX5_most_299 (tgt := 39) (by decide) ?_
      exact z_lv [0, 1, 2, 3, 4, 5, 6, 7, 8, 9, 10] rfl <| hk39 v0 v1 v2 v3 v4 v5 v6 v7 v8 v9 (v11 + 1) M _ hv0 h
    · have h := itt c11 h
      refine z_iload (pc := 114) C 11 rfl dX5_most_114 ?_
      refine z_if_ne (pc := 116) C dX5_most_116 (tgt := 122) (by decide) (fun c12 => ?_) (fun c12 => ?_)
      · have h := itf c12 h
        refine z_lconst (pc := 122) C (x := 0) (by decide +kernel) dX5_most_122 ?_
        refine z_lstore (pc := 123) C (lv' := [(0, .ref v0), (1, vI v1), (2, vI v2), (3, vI v3), (4, vI v4), (5, vI v5), (6, vI v6), (7, vI v7), (8, vI v8), (9, vL v9), (11, vI v11), (12, vI v12), (13, vI s0), (14, vL 0)]) (by decide) rfl dX5_most_123 ?_
        refine z_iconst (pc := 125) C dX5_most_125 ?_
        refine z_istore (pc := 126) C (lv' := [(0, .ref v0), (1, vI v1), (2, vI v2), (3, vI v3), (4, vI v4), (5, vI v5), (6, vI v6), (7, vI v7), (8, vI v8), (9, vL v9), (11, vI v11), (12, vI v12), (13, vI s0), (14, vL 0), (16, vI 1)]) (by decide) rfl dX5_most_126 ?_
        refine z_iconst (pc := 128) C dX5_most_128 ?_
        refine z_istore (pc := 129) C (lv' := [(0, .ref v0), (1, vI v1), (2, vI v2), (3, vI v3), (4, vI v4), (5, vI v5), (6, vI v6), (7, vI v7), (8, vI v8), (9, vL v9), (11, vI v11), (12, vI v12), (13, vI s0), (14, vL 0), (16, vI 1), (17, vI 0)]) (by decide) rfl dX5_most_129 ?_
        exact z_lv [0, 1, 2, 3, 4, 5, 6, 7, 8, 9, 10, 13, 14, 15] rfl <| cL_X5_most_131 C hk39 FU v0 v1 v2 v3 v4 v5 v6 v7 v8 v9 v11 0 1 0 M _ hv0 h
      · have h := itt c12 h
        refine z_goto (pc := 119) C dX5_most_119 (tgt := 296) (by decide) ?_
        refine z_iinc (pc := 296) C (lv' := [(0, .ref v0), (1, vI v1), (2, vI v2), (3, vI v3), (4, vI v4), (5, vI v5), (6, vI v6), (7, vI v7), (8, vI v8), (9, vL v9), (11, vI (v11 + 1)), (12, vI v12), (13, vI s0)]) 10 rfl (by decide) rfl dX5_most_296 ?_
        refine z_goto (pc := 299) C dX5_most_299 (tgt := 39) (by decide) ?_
        exact z_lv [0, 1, 2, 3, 4, 5, 6, 7, 8, 9, 10] rfl <| hk39 v0 v1 v2 v3 v4 v5 v6 v7 v8 v9 (v11 + 1) M _ hv0 h
  · have h := itf c10 h
    refine z_iload (pc := 96) C 11 rfl dX5_most_96 ?_
    refine z_if_ne (pc := 98) C dX5_most_98 (tgt := 296) (by decide) (fun c31 => ?_) (fun c31 => ?_)
    · have h := itf c31 h
      refine z_iinc (pc := 296) C (lv' := [(0, .ref v0), (1, vI v1), (2, vI v2), (3, vI v3), (4, vI v4), (5, vI v5), (6, vI v6), (7, vI v7), (8, vI v8), (9, vL v9), (11, vI (v11 + 1)), (12, vI v12), (13, vI s0)]) 10 rfl (by decide) rfl dX5_most_296 ?_
      refine z_goto (pc := 299) C dX5_most_299 (tgt := 39) (by decide) ?_
      exact z_lv [0, 1, 2, 3, 4, 5, 6, 7, 8, 9, 10] rfl <| hk39 v0 v1 v2 v3 v4 v5 v6 v7 v8 v9 (v11 + 1) M _ hv0 h
    · have h := itt c31 h
      refine z_iload (pc := 101) C 12 rfl dX5_most_101 ?_
      refine z_if_ne (pc := 103) C dX5_most_103 (tgt := 122) (by decide) (fun c32 => ?_) (fun c32 => ?_)
      · have h := itf c32 h
        refine z_lconst (pc := 122) C (x := 0) (by decide +kernel) dX5_most_122 ?_
        refine z_lstore (pc := 123) C (lv' := [(0, .ref v0), (1, vI v1), (2, vI v2), (3, vI v3), (4, vI v4), (5, vI v5), (6, vI v6), (7, vI v7), (8, vI v8), (9, vL v9), (11, vI v11), (12, vI v12), (13, vI s0), (14, vL 0)]) (by decide) rfl dX5_most_123 ?_
        refine z_iconst (pc := 125) C dX5_most_125 ?_
        refine z_istore (pc := 126) C (lv' := [(0, .ref v0), (1, vI v1), (2, vI v2), (3, vI v3), (4, vI v4), (5, vI v5), (6, vI v6), (7, vI v7), (8, vI v8), (9, vL v9), (11, vI v11), (12, vI v12), (13, vI s0), (14, vL 0), (16, vI 1)]) (by decide) rfl dX5_most_126 ?_
        refine z_iconst (pc := 128) C dX5_most_128 ?_
        refine z_istore (pc := 129) C (lv' := [(0, .ref v0), (1, vI v1), (2, vI v2), (3, vI v3), (4, vI v4), (5, vI v5), (6, vI v6), (7, vI v7), (8, vI v8), (9, vL v9), (11, vI v11), (12, vI v12), (13, vI s0), (14, vL 0), (16, vI 1), (17, vI 0)]) (by decide) rfl dX5_most_129 ?_
        exact z_lv [0, 1, 2, 3, 4, 5, 6, 7, 8, 9, 10, 13, 14, 15] rfl <| cL_X5_most_131 C hk39 FU v0 v1 v2 v3 v4 v5 v6 v7 v8 v9 v11 0 1 0 M _ hv0 h
      · have h := itt c32 h
        refine z_goto (pc := 106) C dX5_most_106 (tgt := 296) (by decide) ?_
        refine z_iinc (pc := 296) C (lv' := [(0, .ref v0), (1, vI v1), (2, vI v2), (3, vI v3), (4, vI v4), (5, vI v5), (6, vI v6), (7, vI v7), (8, vI v8), (9, vL v9), (11, vI (v11 + 1)), (12, vI v12), (13, vI s0)]) 10 rfl (by decide) rfl dX5_most_296 ?_
        refine z_goto (pc := 299) C dX5_most_299 (tgt := 39) (by decide) ?_
        exact z_lv [0, 1, 2, 3, 4, 5, 6, 7, 8, 9, 10] rfl <| hk39 v0 v1 v2 v3 v4 v5 v6 v7 v8 v9 (v11 + 1) M _ hv0 h
theorem cB_X5_most_64 {X : x_Ctx} {M0 : Mem} (C : x_CC X 1 24 yX5_most cX5_most 20 (some .int) []) {k39 : Nat → Int → Int → Int → Int → Int → Int → Int → Int → Int → Int → Mem → Option Int} (hk39 : ∀ (v0 : Nat) (v1 : Int) (v2 : Int) (v3 : Int) (v4 : Int) (v5 : Int) (v6 : Int) (v7 : Int) (v8 : Int) (v9 : Int) (v11 : Int) (M : Mem) (r : Int), m_kd M v0 = 5 → k39 v0 v1 v2 v3 v4 v5 v6 v7 v8 v9 v11 M = some r → x_Z X 0 0 (x_QF X M0 (.returned (some (vI r))) M 0 0) M0 M 20 [(0, .ref v0), (1, vI v1), (2, vI v2), (3, vI v3), (4, vI v4), (5, vI v5), (6, vI v6), (7, vI v7), (8, vI v8), (9, vL v9), (11, vI v11)] 39 []) (v0 : Nat) (v1 : Int) (v2 : Int) (v3 : Int) (v4 : Int) (v5 : Int) (v6 : Int) (v7 : Int) (v8 : Int) (v9 : Int) (v11 : Int) (s0 : Int) (M : Mem) (r : Int) (hv0 : m_kd M v0 = 5) (h : B_X5_most_64 k39 v0 v1 v2 v3 v4 v5 v6 v7 v8 v9 v11 s0 M = some r)  : x_Z X 0 0 (x_QF X M0 (.returned (some (vI r))) M 0 0) M0 M 20 [(0, .ref v0), (1, vI v1), (2, vI v2), (3, vI v3), (4, vI v4), (5, vI v5), (6, vI v6), (7, vI v7), (8, vI v8), (9, vL v9), (11, vI v11)] 64 [vI s0] := by
  unfold B_X5_most_64 at h
  refine z_istore (pc := 64) C (lv' := [(0, .ref v0), (1, vI v1), (2, vI v2), (3, vI v3), (4, vI v4), (5, vI v5), (6, vI v6), (7, vI v7), (8, vI v8), (9, vL v9), (11, vI v11), (12, vI s0)]) (by decide) rfl dX5_most_64 ?_
  refine z_iload (pc := 66) C 10 rfl dX5_most_66 ?_
  refine z_aload_n (pc := 68) C 0 rfl dX5_most_68 ?_
  refine gX5_570 (pc := 69) C rfl hv0 dX5_most_69 ?_
  refine z_iload_n (pc := 72) C 1 rfl dX5_most_72 ?_
  obtain ⟨c8, h⟩ := ifn h
  refine z_iaO (pc := 73) (k := 5) (j := 70) C 570 rfl (by decide) (by decide) (by decide) rfl rfl rfl rfl hv0 c8 rfl dX5_most_73 ?_
  refine z_iload (pc := 74) C 7 rfl dX5_most_74 ?_
  refine z_iadd (pc := 76) C dX5_most_76 ?_
  refine z_ishr (pc := 77) C dX5_most_77 ?_
  refine z_iconst (pc := 78) C dX5_most_78 ?_
  refine z_iand (pc := 79) C dX5_most_79 ?_
  refine z_iconst (pc := 80) C dX5_most_80 ?_
  refine z_ic_ne (pc := 81) C dX5_most_81 (tgt := 88) (by decide) (fun c9 => ?_) (fun c9 => ?_)
  · have h := itf c9 h
    refine z_iconst (pc := 88) C dX5_most_88 ?_
    exact cB_X5_most_89 C hk39 v0 v1 v2 v3 v4 v5 v6 v7 v8 v9 v11 s0 0 M _ hv0 h
  · have h := itt c9 h
    refine z_iconst (pc := 84) C dX5_most_84 ?_
    refine z_goto (pc := 85) C dX5_most_85 (tgt := 89) (by decide) ?_
    exact cB_X5_most_89 C hk39 v0 v1 v2 v3 v4 v5 v6 v7 v8 v9 v11 s0 1 M _ hv0 h
theorem cB_X5_most_39 {X : x_Ctx} {M0 : Mem} (C : x_CC X 1 24 yX5_most cX5_most 20 (some .int) []) {k39 : Nat → Int → Int → Int → Int → Int → Int → Int → Int → Int → Int → Mem → Option Int} (hk39 : ∀ (v0 : Nat) (v1 : Int) (v2 : Int) (v3 : Int) (v4 : Int) (v5 : Int) (v6 : Int) (v7 : Int) (v8 : Int) (v9 : Int) (v11 : Int) (M : Mem) (r : Int), m_kd M v0 = 5 → k39 v0 v1 v2 v3 v4 v5 v6 v7 v8 v9 v11 M = some r → x_Z X 0 0 (x_QF X M0 (.returned (some (vI r))) M 0 0) M0 M 20 [(0, .ref v0), (1, vI v1), (2, vI v2), (3, vI v3), (4, vI v4), (5, vI v5), (6, vI v6), (7, vI v7), (8, vI v8), (9, vL v9), (11, vI v11)] 39 []) (v0 : Nat) (v1 : Int) (v2 : Int) (v3 : Int) (v4 : Int) (v5 : Int) (v6 : Int) (v7 : Int) (v8 : Int) (v9 : Int) (v11 : Int) (M : Mem) (r : Int) (hv0 : m_kd M v0 = 5) (h : B_X5_most_39 k39 v0 v1 v2 v3 v4 v5 v6 v7 v8 v9 v11 M = some r)  : x_Z X 0 0 (x_QF X M0 (.returned (some (vI r))) M 0 0) M0 M 20 [(0, .ref v0), (1, vI v1), (2, vI v2), (3, vI v3), (4, vI v4), (5, vI v5), (6, vI v6), (7, vI v7), (8, vI v8), (9, vL v9), (11, vI v11)] 39 [] := by
  unfold B_X5_most_39 at h
  refine z_iload (pc := 39) C 10 rfl dX5_most_39 ?_
  refine z_iconst (pc := 41) C dX5_most_41 ?_
  refine z_iload (pc := 42) C 8 rfl dX5_most_42 ?_
  refine z_ishl (pc := 44) C dX5_most_44 ?_
  refine z_ic_ge (pc := 45) C dX5_most_45 (tgt := 302) (by decide) (fun c3 => ?_) (fun c3 => ?_)
  · have h := itt c3 h
    refine z_aload_n (pc := 302) C 0 rfl dX5_most_302 ?_
    refine gX5_572 (pc := 303) C rfl hv0 dX5_most_303 ?_
    refine z_bipush (pc := 306) C (by decide +kernel) dX5_most_306 ?_
    refine z_iload_n (pc := 308) C 1 rfl dX5_most_308 ?_
    refine z_imul (pc := 309) C dX5_most_309 ?_
    refine z_iload_n (pc := 310) C 3 rfl dX5_most_310 ?_
    refine z_iadd (pc := 311) C dX5_most_311 ?_
    obtain ⟨c4, h⟩ := ifn h
    refine z_iaO (pc := 312) (k := 5) (j := 72) C 572 rfl (by decide) (by decide) (by decide) rfl rfl rfl rfl hv0 c4 rfl dX5_most_312 ?_
    refine z_istore (pc := 313) C (lv' := [(0, .ref v0), (1, vI v1), (2, vI v2), (3, vI v3), (4, vI v4), (5, vI v5), (6, vI v6), (7, vI v7), (8, vI v8), (9, vL v9), (11, vI (m_i M 572 v0 (ixn ((12 * v1) + v3))))]) (by decide) rfl dX5_most_313 ?_
    refine z_iload (pc := 315) C 4 rfl dX5_most_315 ?_
    refine z_if_ne (pc := 317) C dX5_most_317 (tgt := 329) (by decide) (fun c5 => ?_) (fun c5 => ?_)
    · have h := itf c5 h
      refine z_lload (pc := 329) C 9 rfl dX5_most_329 ?_
      refine z_l2i (pc := 331) C dX5_most_331 ?_
      refine z_goto (pc := 332) C dX5_most_332 (tgt := 337) (by decide) ?_
      cases h
      exact z_iret (pc := 337) C rfl (show 0 ≤ 0 from by decide) (show 0 ≤ 0 from by decide) dX5_most_337
    · have h := itt c5 h
      refine z_lload (pc := 320) C 9 rfl dX5_most_320 ?_
      refine z_iload (pc := 322) C 10 rfl dX5_most_322 ?_
      refine z_i2l (pc := 324) C dX5_most_324 ?_
      refine z_lc_ge (pc := 325) C dX5_most_325 dX5_most_326 (tgt := 335) (by decide) (fun c6 => ?_) (fun c6 => ?_)
      · have h := itt c6 h
        refine z_iload (pc := 335) C 10 rfl dX5_most_335 ?_
        cases h
        exact z_iret (pc := 337) C rfl (show 0 ≤ 0 from by decide) (show 0 ≤ 0 from by decide) dX5_most_337
      · have h := itf c6 h
        refine z_lload (pc := 329) C 9 rfl dX5_most_329 ?_
        refine z_l2i (pc := 331) C dX5_most_331 ?_
        refine z_goto (pc := 332) C dX5_most_332 (tgt := 337) (by decide) ?_
        cases h
        exact z_iret (pc := 337) C rfl (show 0 ≤ 0 from by decide) (show 0 ≤ 0 from by decide) dX5_most_337
  · have h := itf c3 h
    refine z_iload (pc := 48) C 10 rfl dX5_most_48 ?_
    refine z_iload (pc := 50) C 6 rfl dX5_most_50 ?_
    refine z_ishr (pc := 52) C dX5_most_52 ?_
    refine z_iconst (pc := 53) C dX5_most_53 ?_
    refine z_iand (pc := 54) C dX5_most_54 ?_
    refine z_iconst (pc := 55) C dX5_most_55 ?_
    refine z_ic_ne (pc := 56) C dX5_most_56 (tgt := 63) (by decide) (fun c7 => ?_) (fun c7 => ?_)
    · have h := itf c7 h
      refine z_iconst (pc := 63) C dX5_most_63 ?_
      exact cB_X5_most_64 C hk39 v0 v1 v2 v3 v4 v5 v6 v7 v8 v9 v11 0 M _ hv0 h
    · have h := itt c7 h
      refine z_iconst (pc := 59) C dX5_most_59 ?_
      refine z_goto (pc := 60) C dX5_most_60 (tgt := 64) (by decide) ?_
      exact cB_X5_most_64 C hk39 v0 v1 v2 v3 v4 v5 v6 v7 v8 v9 v11 1 M _ hv0 h
theorem cL_X5_most_39 {X : x_Ctx} {M0 : Mem} (C : x_CC X 1 24 yX5_most cX5_most 20 (some .int) [])  : ∀ (n : Nat) (v0 : Nat) (v1 : Int) (v2 : Int) (v3 : Int) (v4 : Int) (v5 : Int) (v6 : Int) (v7 : Int) (v8 : Int) (v9 : Int) (v11 : Int) (M : Mem) (r : Int) (hv0 : m_kd M v0 = 5) (h : L_X5_most_39  n v0 v1 v2 v3 v4 v5 v6 v7 v8 v9 v11 M = some r) , x_Z X 0 0 (x_QF X M0 (.returned (some (vI r))) M 0 0) M0 M 20 [(0, .ref v0), (1, vI v1), (2, vI v2), (3, vI v3), (4, vI v4), (5, vI v5), (6, vI v6), (7, vI v7), (8, vI v8), (9, vL v9), (11, vI v11)] 39 [] := by
  intro n
  induction n with
  | zero => intro v0 v1 v2 v3 v4 v5 v6 v7 v8 v9 v11 M r hv0 h ; cases h
  | succ n ih => intro v0 v1 v2 v3 v4 v5 v6 v7 v8 v9 v11 M r hv0 h ; exact cB_X5_most_39 C (fun v0 v1 v2 v3 v4 v5 v6 v7 v8 v9 v11 M r hv0 h  => ih v0 v1 v2 v3 v4 v5 v6 v7 v8 v9 v11 M r hv0 h ) v0 v1 v2 v3 v4 v5 v6 v7 v8 v9 v11 M r hv0 h 
theorem ct_X5_most {l : Launch} {S0 : State} {D : va_G} {cA : Nat → ClassId} (hG : x_G l S0 D cA) (v0 : Nat) (v1 : Int) (v2 : Int) (v3 : Int) (v4 : Int) (M : Mem) (r : Int) (hv0 : m_kd M v0 = 5) (h : d_X5_most v0 v1 v2 v3 v4 M = some r) : x_Me l S0 D cA yX5_most cX5_most 20 (some .int) [] ({ frames := 1, cells := 0, slots := 0, locals := 24 }) [.ref v0, vI v1, vI v2, vI v3, vI v4] M (.returned (some (vI r))) M := by
  refine x_begin (F := 1) (Lo := 24) (mc := 0) (ms := 0) hG (Nat.le_of_ble_eq_true rfl) (lv := [(0, .ref v0), (1, vI v1), (2, vI v2), (3, vI v3), (4, vI v4)]) rfl rfl rfl rfl rfl (fun X e1 e2 e3 e4 e5 C => ?_)
  unfold d_X5_most at h
  refine z_aload_n (pc := 0) C 0 rfl dX5_most_0 ?_
  refine gX5_571 (pc := 1) C rfl hv0 dX5_most_1 ?_
  refine z_iload_n (pc := 4) C 1 rfl dX5_most_4 ?_
  obtain ⟨c1, h⟩ := ifn h
  refine z_iaO (pc := 5) (k := 5) (j := 71) C 571 rfl (by decide) (by decide) (by decide) rfl rfl rfl rfl hv0 c1 rfl dX5_most_5 ?_
  refine z_istore (pc := 6) C (lv' := [(0, .ref v0), (1, vI v1), (2, vI v2), (3, vI v3), (4, vI v4), (5, vI (m_i M 571 v0 (ixn v1)))]) (by decide) rfl dX5_most_6 ?_
  refine z_iload_n (pc := 8) C 3 rfl dX5_most_8 ?_
  refine z_iload (pc := 9) C 5 rfl dX5_most_9 ?_
  obtain ⟨c2, h⟩ := ifn h
  refine z_idiv (pc := 11) C c2 dX5_most_11 ?_
  refine z_istore (pc := 12) C (lv' := [(0, .ref v0), (1, vI v1), (2, vI v2), (3, vI v3), (4, vI v4), (5, vI (m_i M 571 v0 (ixn v1))), (6, vI (d32 v3 (m_i M 571 v0 (ixn v1))))]) (by decide) rfl dX5_most_12 ?_
  refine z_iload_n (pc := 14) C 3 rfl dX5_most_14 ?_
  refine z_iload (pc := 15) C 5 rfl dX5_most_15 ?_
  refine z_irem (pc := 17) C c2 dX5_most_17 ?_
  refine z_istore (pc := 18) C (lv' := [(0, .ref v0), (1, vI v1), (2, vI v2), (3, vI v3), (4, vI v4), (5, vI (m_i M 571 v0 (ixn v1))), (6, vI (d32 v3 (m_i M 571 v0 (ixn v1)))), (7, vI (r32 v3 (m_i M 571 v0 (ixn v1))))]) (by decide) rfl dX5_most_18 ?_
  refine z_aload_n (pc := 20) C 0 rfl dX5_most_20 ?_
  refine gX5_570 (pc := 21) C rfl hv0 dX5_most_21 ?_
  refine z_iload_n (pc := 24) C 1 rfl dX5_most_24 ?_
  refine z_iaO (pc := 25) (k := 5) (j := 70) C 570 rfl (by decide) (by decide) (by decide) rfl rfl rfl rfl hv0 c1 rfl dX5_most_25 ?_
  refine z_iload (pc := 26) C 5 rfl dX5_most_26 ?_
  refine z_iadd (pc := 28) C dX5_most_28 ?_
  refine z_istore (pc := 29) C (lv' := [(0, .ref v0), (1, vI v1), (2, vI v2), (3, vI v3), (4, vI v4), (5, vI (m_i M 571 v0 (ixn v1))), (6, vI (d32 v3 (m_i M 571 v0 (ixn v1)))), (7, vI (r32 v3 (m_i M 571 v0 (ixn v1)))), (8, vI ((m_i M 570 v0 (ixn v1)) + (m_i M 571 v0 (ixn v1))))]) (by decide) rfl dX5_most_29 ?_
  refine z_ldc2 (pc := 31) C (x := -1) q2109 (by decide +kernel) dX5_most_31 ?_
  refine z_lstore (pc := 34) C (lv' := [(0, .ref v0), (1, vI v1), (2, vI v2), (3, vI v3), (4, vI v4), (5, vI (m_i M 571 v0 (ixn v1))), (6, vI (d32 v3 (m_i M 571 v0 (ixn v1)))), (7, vI (r32 v3 (m_i M 571 v0 (ixn v1)))), (8, vI ((m_i M 570 v0 (ixn v1)) + (m_i M 571 v0 (ixn v1)))), (9, vL (-1))]) (by decide) rfl dX5_most_34 ?_
  refine z_iconst (pc := 36) C dX5_most_36 ?_
  refine z_istore (pc := 37) C (lv' := [(0, .ref v0), (1, vI v1), (2, vI v2), (3, vI v3), (4, vI v4), (5, vI (m_i M 571 v0 (ixn v1))), (6, vI (d32 v3 (m_i M 571 v0 (ixn v1)))), (7, vI (r32 v3 (m_i M 571 v0 (ixn v1)))), (8, vI ((m_i M 570 v0 (ixn v1)) + (m_i M 571 v0 (ixn v1)))), (9, vL (-1)), (11, vI 0)]) (by decide) rfl dX5_most_37 ?_
  exact cL_X5_most_39 C FU v0 v1 v2 v3 v4 (m_i M 571 v0 (ixn v1)) (d32 v3 (m_i M 571 v0 (ixn v1))) (r32 v3 (m_i M 571 v0 (ixn v1))) ((m_i M 570 v0 (ixn v1)) + (m_i M 571 v0 (ixn v1))) (-1) 0 M _ hv0 h
def B_X5_isGood_62 (k3 : Nat → Int → Int → Int → Int → Mem → Option Int) (v0 : Nat) (v1 : Int) (v2 : Int) (v3 : Int) (v4 : Int) (s0 : Int) (M : Mem) : Option Int :=
  bR (d_X5_most v0 v1 v2 v4 1 M) fun r6 => 
  if w32 r6 < w32 v3 then
    some 0
  else
    bR (d_X5_most v0 v1 v2 v4 0 M) fun r9 => 
    if w32 s0 ≤ w32 r9 then
      k3 v0 v1 v2 v3 (v4 + 1) M
    else
      some 0
def B_X5_isGood_3 (k3 : Nat → Int → Int → Int → Int → Mem → Option Int) (v0 : Nat) (v1 : Int) (v2 : Int) (v3 : Int) (v4 : Int) (M : Mem) : Option Int :=
  if inb v1 12 then 
  if w32 ((m_i M 570 v0 (ixn v1)) * (m_i M 571 v0 (ixn v1))) ≤ w32 v4 then
    some 1
  else
    if w32 (a32 (s32 (m_i M 578 v0 (ixn v1)) v4) 1) = w32 1 then
      if inb ((12 * v1) + v4) 144 then 
      if w32 v3 ≤ w32 (m_i M 572 v0 (ixn ((12 * v1) + v4))) then
        B_X5_isGood_62 k3 v0 v1 v2 v3 v4 v3 M
      else
        B_X5_isGood_62 k3 v0 v1 v2 v3 v4 (m_i M 572 v0 (ixn ((12 * v1) + v4))) M else none
    else
      k3 v0 v1 v2 v3 (v4 + 1) M else none
def L_X5_isGood_3  : Nat → Nat → Int → Int → Int → Int → Mem → Option Int
  | 0, _, _, _, _, _, _ => none
  | n + 1, v0, v1, v2, v3, v4, M => B_X5_isGood_3 (L_X5_isGood_3  n) v0 v1 v2 v3 v4 M
def d_X5_isGood (v0 : Nat) (v1 : Int) (v2 : Int) (v3 : Int) (M : Mem) : Option Int :=
  L_X5_isGood_3 FU v0 v1 v2 v3 0 M
theorem cB_X5_isGood_62 {X : x_Ctx} {M0 : Mem} (C : x_CC X 2 67 yX5_isGood cX5_isGood 7 (some .boolean) []) {k3 : Nat → Int → Int → Int → Int → Mem → Option Int} (hk3 : ∀ (v0 : Nat) (v1 : Int) (v2 : Int) (v3 : Int) (v4 : Int) (M : Mem) (r : Int), m_kd M v0 = 5 → k3 v0 v1 v2 v3 v4 M = some r → x_Z X 0 0 (x_QF X M0 (.returned (some (vI r))) M 0 0) M0 M 7 [(0, .ref v0), (1, vI v1), (2, vI v2), (3, vI v3), (4, vI v4)] 3 []) (v0 : Nat) (v1 : Int) (v2 : Int) (v3 : Int) (v4 : Int) (s0 : Int) (M : Mem) (r : Int) (hv0 : m_kd M v0 = 5) (h : B_X5_isGood_62 k3 v0 v1 v2 v3 v4 s0 M = some r)  : x_Z X 0 0 (x_QF X M0 (.returned (some (vI r))) M 0 0) M0 M 7 [(0, .ref v0), (1, vI v1), (2, vI v2), (3, vI v3), (4, vI v4)] 62 [vI s0] := by
  unfold B_X5_isGood_62 at h
  refine z_istore (pc := 62) C (lv' := [(0, .ref v0), (1, vI v1), (2, vI v2), (3, vI v3), (4, vI v4), (6, vI s0)]) (by decide) rfl dX5_isGood_62 ?_
  refine z_aload_n (pc := 64) C 0 rfl dX5_isGood_64 ?_
  refine z_iload_n (pc := 65) C 1 rfl dX5_isGood_65 ?_
  refine z_iload_n (pc := 66) C 2 rfl dX5_isGood_66 ?_
  refine z_iload (pc := 67) C 4 rfl dX5_isGood_67 ?_
  refine z_iconst (pc := 69) C dX5_isGood_69 ?_
  obtain ⟨r6, e7, h⟩ := bRs h
  refine cX5_481 (pc := 70) (st := []) (st1 := [vI r6]) C rfl (rm := { frames := 1, cells := 0, slots := 0, locals := 24 }) (ct_X5_most C.2.1 v0 v1 v2 v4 1 M _ hv0 e7) ⟨by decide, by decide, Nat.zero_le _, Nat.zero_le _⟩ (Or.inl hv0) rfl (Nat.le_of_ble_eq_true rfl) dX5_isGood_70 (c2 := 0) (s2 := 0) rfl rfl (fun _ => ?_)
  refine z_iload_n (pc := 73) C 3 rfl dX5_isGood_73 ?_
  refine z_ic_lt (pc := 74) C dX5_isGood_74 (tgt := 91) (by decide) (fun c8 => ?_) (fun c8 => ?_)
  · have h := itt c8 h
    refine z_iconst (pc := 91) C dX5_isGood_91 ?_
    cases h
    exact z_zret (pc := 92) C rfl (Or.inl rfl) (show 0 ≤ 0 from by decide) (show 0 ≤ 0 from by decide) dX5_isGood_92
  · have h := itf c8 h
    refine z_aload_n (pc := 77) C 0 rfl dX5_isGood_77 ?_
    refine z_iload_n (pc := 78) C 1 rfl dX5_isGood_78 ?_
    refine z_iload_n (pc := 79) C 2 rfl dX5_isGood_79 ?_
    refine z_iload (pc := 80) C 4 rfl dX5_isGood_80 ?_
    refine z_iconst (pc := 82) C dX5_isGood_82 ?_
    obtain ⟨r9, e10, h⟩ := bRs h
    refine cX5_481 (pc := 83) (st := []) (st1 := [vI r9]) C rfl (rm := { frames := 1, cells := 0, slots := 0, locals := 24 }) (ct_X5_most C.2.1 v0 v1 v2 v4 0 M _ hv0 e10) ⟨by decide, by decide, Nat.zero_le _, Nat.zero_le _⟩ (Or.inl hv0) rfl (Nat.le_of_ble_eq_true rfl) dX5_isGood_83 (c2 := 0) (s2 := 0) rfl rfl (fun _ => ?_)
    refine z_iload (pc := 86) C 5 rfl dX5_isGood_86 ?_
    refine z_ic_ge (pc := 88) C dX5_isGood_88 (tgt := 93) (by decide) (fun c11 => ?_) (fun c11 => ?_)
    · have h := itt c11 h
      refine z_iinc (pc := 93) C (lv' := [(0, .ref v0), (1, vI v1), (2, vI v2), (3, vI v3), (4, vI (v4 + 1)), (6, vI s0)]) 4 rfl (by decide) rfl dX5_isGood_93 ?_
      refine z_goto (pc := 96) C dX5_isGood_96 (tgt := 3) (by decide) ?_
      exact z_lv [0, 1, 2, 3, 4] rfl <| hk3 v0 v1 v2 v3 (v4 + 1) M _ hv0 h
    · have h := itf c11 h
      refine z_iconst (pc := 91) C dX5_isGood_91 ?_
      cases h
      exact z_zret (pc := 92) C rfl (Or.inl rfl) (show 0 ≤ 0 from by decide) (show 0 ≤ 0 from by decide) dX5_isGood_92
theorem cB_X5_isGood_3 {X : x_Ctx} {M0 : Mem} (C : x_CC X 2 67 yX5_isGood cX5_isGood 7 (some .boolean) []) {k3 : Nat → Int → Int → Int → Int → Mem → Option Int} (hk3 : ∀ (v0 : Nat) (v1 : Int) (v2 : Int) (v3 : Int) (v4 : Int) (M : Mem) (r : Int), m_kd M v0 = 5 → k3 v0 v1 v2 v3 v4 M = some r → x_Z X 0 0 (x_QF X M0 (.returned (some (vI r))) M 0 0) M0 M 7 [(0, .ref v0), (1, vI v1), (2, vI v2), (3, vI v3), (4, vI v4)] 3 []) (v0 : Nat) (v1 : Int) (v2 : Int) (v3 : Int) (v4 : Int) (M : Mem) (r : Int) (hv0 : m_kd M v0 = 5) (h : B_X5_isGood_3 k3 v0 v1 v2 v3 v4 M = some r)  : x_Z X 0 0 (x_QF X M0 (.returned (some (vI r))) M 0 0) M0 M 7 [(0, .ref v0), (1, vI v1), (2, vI v2), (3, vI v3), (4, vI v4)] 3 [] := by
  unfold B_X5_isGood_3 at h
  refine z_iload (pc := 3) C 4 rfl dX5_isGood_3 ?_
  refine z_aload_n (pc := 5) C 0 rfl dX5_isGood_5 ?_
  refine gX5_570 (pc := 6) C rfl hv0 dX5_isGood_6 ?_
  refine z_iload_n (pc := 9) C 1 rfl dX5_isGood_9 ?_
  obtain ⟨c1, h⟩ := ifn h
  refine z_iaO (pc := 10) (k := 5) (j := 70) C 570 rfl (by decide) (by decide) (by decide) rfl rfl rfl rfl hv0 c1 rfl dX5_isGood_10 ?_
  refine z_aload_n (pc := 11) C 0 rfl dX5_isGood_11 ?_
  refine gX5_571 (pc := 12) C rfl hv0 dX5_isGood_12 ?_
  refine z_iload_n (pc := 15) C 1 rfl dX5_isGood_15 ?_
  refine z_iaO (pc := 16) (k := 5) (j := 71) C 571 rfl (by decide) (by decide) (by decide) rfl rfl rfl rfl hv0 c1 rfl dX5_isGood_16 ?_
  refine z_imul (pc := 17) C dX5_isGood_17 ?_
  refine z_ic_ge (pc := 18) C dX5_isGood_18 (tgt := 99) (by decide) (fun c2 => ?_) (fun c2 => ?_)
  · have h := itt c2 h
    refine z_iconst (pc := 99) C dX5_isGood_99 ?_
    cases h
    exact z_zret (pc := 100) C rfl (Or.inr rfl) (show 0 ≤ 0 from by decide) (show 0 ≤ 0 from by decide) dX5_isGood_100
  · have h := itf c2 h
    refine z_aload_n (pc := 21) C 0 rfl dX5_isGood_21 ?_
    refine gX5_578 (pc := 22) C rfl hv0 dX5_isGood_22 ?_
    refine z_iload_n (pc := 25) C 1 rfl dX5_isGood_25 ?_
    refine z_iaO (pc := 26) (k := 5) (j := 78) C 578 rfl (by decide) (by decide) (by decide) rfl rfl rfl rfl hv0 c1 rfl dX5_isGood_26 ?_
    refine z_iload (pc := 27) C 4 rfl dX5_isGood_27 ?_
    refine z_ishr (pc := 29) C dX5_isGood_29 ?_
    refine z_iconst (pc := 30) C dX5_isGood_30 ?_
    refine z_iand (pc := 31) C dX5_isGood_31 ?_
    refine z_iconst (pc := 32) C dX5_isGood_32 ?_
    refine z_ic_ne (pc := 33) C dX5_isGood_33 (tgt := 93) (by decide) (fun c3 => ?_) (fun c3 => ?_)
    · have h := itf c3 h
      refine z_iinc (pc := 93) C (lv' := [(0, .ref v0), (1, vI v1), (2, vI v2), (3, vI v3), (4, vI (v4 + 1))]) 4 rfl (by decide) rfl dX5_isGood_93 ?_
      refine z_goto (pc := 96) C dX5_isGood_96 (tgt := 3) (by decide) ?_
      exact hk3 v0 v1 v2 v3 (v4 + 1) M _ hv0 h
    · have h := itt c3 h
      refine z_aload_n (pc := 36) C 0 rfl dX5_isGood_36 ?_
      refine gX5_572 (pc := 37) C rfl hv0 dX5_isGood_37 ?_
      refine z_bipush (pc := 40) C (by decide +kernel) dX5_isGood_40 ?_
      refine z_iload_n (pc := 42) C 1 rfl dX5_isGood_42 ?_
      refine z_imul (pc := 43) C dX5_isGood_43 ?_
      refine z_iload (pc := 44) C 4 rfl dX5_isGood_44 ?_
      refine z_iadd (pc := 46) C dX5_isGood_46 ?_
      obtain ⟨c4, h⟩ := ifn h
      refine z_iaO (pc := 47) (k := 5) (j := 72) C 572 rfl (by decide) (by decide) (by decide) rfl rfl rfl rfl hv0 c4 rfl dX5_isGood_47 ?_
      refine z_istore (pc := 48) C (lv' := [(0, .ref v0), (1, vI v1), (2, vI v2), (3, vI v3), (4, vI v4), (5, vI (m_i M 572 v0 (ixn ((12 * v1) + v4))))]) (by decide) rfl dX5_isGood_48 ?_
      refine z_iload (pc := 50) C 5 rfl dX5_isGood_50 ?_
      refine z_iload_n (pc := 52) C 3 rfl dX5_isGood_52 ?_
      refine z_ic_ge (pc := 53) C dX5_isGood_53 (tgt := 61) (by decide) (fun c5 => ?_) (fun c5 => ?_)
      · have h := itt c5 h
        refine z_iload_n (pc := 61) C 3 rfl dX5_isGood_61 ?_
        exact z_lv [0, 1, 2, 3, 4] rfl <| cB_X5_isGood_62 C hk3 v0 v1 v2 v3 v4 v3 M _ hv0 h
      · have h := itf c5 h
        refine z_iload (pc := 56) C 5 rfl dX5_isGood_56 ?_
        refine z_goto (pc := 58) C dX5_isGood_58 (tgt := 62) (by decide) ?_
        exact z_lv [0, 1, 2, 3, 4] rfl <| cB_X5_isGood_62 C hk3 v0 v1 v2 v3 v4 (m_i M 572 v0 (ixn ((12 * v1) + v4))) M _ hv0 h
theorem cL_X5_isGood_3 {X : x_Ctx} {M0 : Mem} (C : x_CC X 2 67 yX5_isGood cX5_isGood 7 (some .boolean) [])  : ∀ (n : Nat) (v0 : Nat) (v1 : Int) (v2 : Int) (v3 : Int) (v4 : Int) (M : Mem) (r : Int) (hv0 : m_kd M v0 = 5) (h : L_X5_isGood_3  n v0 v1 v2 v3 v4 M = some r) , x_Z X 0 0 (x_QF X M0 (.returned (some (vI r))) M 0 0) M0 M 7 [(0, .ref v0), (1, vI v1), (2, vI v2), (3, vI v3), (4, vI v4)] 3 [] := by
  intro n
  induction n with
  | zero => intro v0 v1 v2 v3 v4 M r hv0 h ; cases h
  | succ n ih => intro v0 v1 v2 v3 v4 M r hv0 h ; exact cB_X5_isGood_3 C (fun v0 v1 v2 v3 v4 M r hv0 h  => ih v0 v1 v2 v3 v4 M r hv0 h ) v0 v1 v2 v3 v4 M r hv0 h 
theorem ct_X5_isGood {l : Launch} {S0 : State} {D : va_G} {cA : Nat → ClassId} (hG : x_G l S0 D cA) (v0 : Nat) (v1 : Int) (v2 : Int) (v3 : Int) (M : Mem) (r : Int) (hv0 : m_kd M v0 = 5) (h : d_X5_isGood v0 v1 v2 v3 M = some r) : x_Me l S0 D cA yX5_isGood cX5_isGood 7 (some .boolean) [] ({ frames := 2, cells := 0, slots := 0, locals := 67 }) [.ref v0, vI v1, vI v2, vI v3] M (.returned (some (vI r))) M := by
  refine x_begin (F := 2) (Lo := 67) (mc := 0) (ms := 0) hG (Nat.le_of_ble_eq_true rfl) (lv := [(0, .ref v0), (1, vI v1), (2, vI v2), (3, vI v3)]) rfl rfl rfl rfl rfl (fun X e1 e2 e3 e4 e5 C => ?_)
  unfold d_X5_isGood at h
  refine z_iconst (pc := 0) C dX5_isGood_0 ?_
  refine z_istore (pc := 1) C (lv' := [(0, .ref v0), (1, vI v1), (2, vI v2), (3, vI v3), (4, vI 0)]) (by decide) rfl dX5_isGood_1 ?_
  exact cL_X5_isGood_3 C FU v0 v1 v2 v3 0 M _ hv0 h
def B_X5_secrecy_305 (k195 : Nat → Int → Int → Int → Int → Int → Mem → Option (Int × Mem)) (v0 : Nat) (v1 : Int) (v4 : Int) (v5 : Int) (v6 : Int) (v8 : Int) (v9 : Int) (M : Mem) : Option (Int × Mem) :=
  bR (d_X5_isGood v0 v1 v8 v4 M) fun r27 => 
  if w32 r27 = 0 then
    k195 v0 v1 v4 v5 v6 (v8 + 1) M
  else
    if inb v1 12 then 
    k195 v0 v1 v4 v5 v9 (v8 + 1) (m_si M 577 v0 (ixn v1) v8) else none
def B_X5_secrecy_210 (k195 : Nat → Int → Int → Int → Int → Int → Mem → Option (Int × Mem)) (k210 : Nat → Int → Int → Int → Int → Int → Int → Int → Mem → Option (Int × Mem)) (v0 : Nat) (v1 : Int) (v4 : Int) (v5 : Int) (v6 : Int) (v8 : Int) (v9 : Int) (v11 : Int) (M : Mem) : Option (Int × Mem) :=
  if w32 v5 ≤ w32 v11 then
    if inb v1 12 then 
    if w32 (a32 v8 (m_i M 578 v0 (ixn v1))) = w32 (m_i M 578 v0 (ixn v1)) then
      if w64 v6 < w64 0 then
        B_X5_secrecy_305 k195 v0 v1 v4 v5 v6 v8 v9 M
      else
        if w64 v6 ≤ w64 v9 then
          k195 v0 v1 v4 v5 v6 (v8 + 1) M
        else
          B_X5_secrecy_305 k195 v0 v1 v4 v5 v6 v8 v9 M
    else
      k195 v0 v1 v4 v5 v6 (v8 + 1) M else none
  else
    if w32 (a32 (s32 v8 v11) 1) = w32 1 then
      if inb v1 12 then 
      if w32 (a32 (s32 (m_i M 578 v0 (ixn v1)) v11) 1) = 0 then
        if inb ((12 * v1) + v11) 144 then 
        k210 v0 v1 v4 v5 v6 v8 (v9 + ((w32 (m_i M 572 v0 (ixn ((12 * v1) + v11)))) + 1)) (v11 + 1) M else none
      else
        k210 v0 v1 v4 v5 v6 v8 (v9 + 0) (v11 + 1) M else none
    else
      k210 v0 v1 v4 v5 v6 v8 (v9 + 0) (v11 + 1) M
def L_X5_secrecy_210 (k195 : Nat → Int → Int → Int → Int → Int → Mem → Option (Int × Mem)) : Nat → Nat → Int → Int → Int → Int → Int → Int → Int → Mem → Option (Int × Mem)
  | 0, _, _, _, _, _, _, _, _, _ => none
  | n + 1, v0, v1, v4, v5, v6, v8, v9, v11, M => B_X5_secrecy_210 k195 (L_X5_secrecy_210 k195 n) v0 v1 v4 v5 v6 v8 v9 v11 M
def B_X5_secrecy_195 (k195 : Nat → Int → Int → Int → Int → Int → Mem → Option (Int × Mem)) (v0 : Nat) (v1 : Int) (v4 : Int) (v5 : Int) (v6 : Int) (v8 : Int) (M : Mem) : Option (Int × Mem) :=
  if w32 (l32 1 v5) ≤ w32 v8 then
    if w64 0 ≤ w64 v6 then
      some (v6, M)
    else
      if inb v1 12 then 
      some (v6, (m_si M 577 v0 (ixn v1) ((l32 1 v5) - 1))) else none
  else
    L_X5_secrecy_210 k195 FU v0 v1 v4 v5 v6 v8 0 0 M
def L_X5_secrecy_195  : Nat → Nat → Int → Int → Int → Int → Int → Mem → Option (Int × Mem)
  | 0, _, _, _, _, _, _, _ => none
  | n + 1, v0, v1, v4, v5, v6, v8, M => B_X5_secrecy_195 (L_X5_secrecy_195  n) v0 v1 v4 v5 v6 v8 M
def B_X5_secrecy_157 (k87 : Nat → Int → Int → Int → Int → Int → Int → Mem → Option (Int × Mem)) (v0 : Nat) (v1 : Int) (v2 : Int) (v3 : Int) (v4 : Int) (v5 : Int) (v6 : Int) (s0 : Int) (M : Mem) : Option (Int × Mem) :=
  if inb v1 12 then 
  if w32 s0 = 0 then
    k87 v0 v1 v2 v3 v4 v5 (v6 + 1) (m_si M 578 v0 (ixn v1) (o32 (m_i M 578 v0 (ixn v1)) 0))
  else
    k87 v0 v1 v2 v3 v4 v5 (v6 + 1) (m_si M 578 v0 (ixn v1) (o32 (m_i M 578 v0 (ixn v1)) (l32 1 v6))) else none
def B_X5_secrecy_152 (k87 : Nat → Int → Int → Int → Int → Int → Int → Mem → Option (Int × Mem)) (v0 : Nat) (v1 : Int) (v2 : Int) (v3 : Int) (v4 : Int) (v5 : Int) (v6 : Int) (M : Mem) : Option (Int × Mem) :=
  B_X5_secrecy_157 k87 v0 v1 v2 v3 v4 v5 v6 1 M
def B_X5_secrecy_125 (k87 : Nat → Int → Int → Int → Int → Int → Int → Mem → Option (Int × Mem)) (v0 : Nat) (v1 : Int) (v2 : Int) (v3 : Int) (v4 : Int) (v5 : Int) (v6 : Int) (v7 : Int) (M : Mem) : Option (Int × Mem) :=
  if inb v7 144 then 
  if w64 (100 * (w32 (m_i M 574 v0 (ixn v7)))) ≤ w64 ((w32 v3) * (w32 (m_i M 572 v0 (ixn v7)))) then
    B_X5_secrecy_157 k87 v0 v1 v2 v3 v4 v5 v6 0 M
  else
    B_X5_secrecy_152 k87 v0 v1 v2 v3 v4 v5 v6 M else none
def B_X5_secrecy_87 (k87 : Nat → Int → Int → Int → Int → Int → Int → Mem → Option (Int × Mem)) (v0 : Nat) (v1 : Int) (v2 : Int) (v3 : Int) (v4 : Int) (v5 : Int) (v6 : Int) (M : Mem) : Option (Int × Mem) :=
  if w32 v5 ≤ w32 v6 then
    L_X5_secrecy_195 FU v0 v1 v4 v5 (-1) 0 M
  else
    if inb ((12 * v1) + v6) 144 then 
    if w32 (m_i M 573 v0 (ixn ((12 * v1) + v6))) < w32 1 then
      B_X5_secrecy_125 k87 v0 v1 v2 v3 v4 v5 v6 ((12 * v1) + v6) M
    else
      if w32 (m_i M 573 v0 (ixn ((12 * v1) + v6))) < w32 v2 then
        B_X5_secrecy_152 k87 v0 v1 v2 v3 v4 v5 v6 M
      else
        B_X5_secrecy_125 k87 v0 v1 v2 v3 v4 v5 v6 ((12 * v1) + v6) M else none
def L_X5_secrecy_87  : Nat → Nat → Int → Int → Int → Int → Int → Int → Mem → Option (Int × Mem)
  | 0, _, _, _, _, _, _, _, _ => none
  | n + 1, v0, v1, v2, v3, v4, v5, v6, M => B_X5_secrecy_87 (L_X5_secrecy_87  n) v0 v1 v2 v3 v4 v5 v6 M
def d_X5_secrecy (v0 : Nat) (v1 : Int) (v2 : Int) (v3 : Int) (v4 : Int) (M : Mem) : Option (Int × Mem) :=
  bR (d_X5_isTable v0 v1 (m_si M 500 v0 0 0)) fun r1 => 
  if w32 r1 = 0 then
    bN (d_X5_fail v0 1 (m_si M 500 v0 0 0)) fun r47 M48 => 
    some (r47, M48)
  else
    if w32 (d_X5_isIn (w32 v2) 0 100) = 0 then
      bN (d_X5_fail v0 2 (m_si M 500 v0 0 0)) fun r6 M7 => 
      some (r6, M7)
    else
      if w32 (d_X5_isIn (w32 v3) 0 100) = 0 then
        bN (d_X5_fail v0 2 (m_si M 500 v0 0 0)) fun r12 M13 => 
        some (r12, M13)
      else
        if w32 (d_X5_isIn (w32 v4) 0 1000000) = 0 then
          bN (d_X5_fail v0 2 (m_si M 500 v0 0 0)) fun r43 M44 => 
          some (r43, M44)
        else
          if inb v1 12 then 
          L_X5_secrecy_87 FU v0 v1 v2 v3 v4 ((m_i M 570 v0 (ixn v1)) * (m_i M 571 v0 (ixn v1))) 0 (m_si (m_si M 500 v0 0 0) 578 v0 (ixn v1) 0) else none
theorem cB_X5_secrecy_305 {X : x_Ctx} {M0 : Mem} (C : x_CC X 3 97 yX5_secrecy cX5_secrecy 12 (some .int) []) {k195 : Nat → Int → Int → Int → Int → Int → Mem → Option (Int × Mem)} (hk195 : ∀ (v0 : Nat) (v1 : Int) (v4 : Int) (v5 : Int) (v6 : Int) (v8 : Int) (M : Mem) (r : Int) (M' : Mem), m_kd M v0 = 5 → k195 v0 v1 v4 v5 v6 v8 M = some (r, M') → x_Z X 0 0 (x_QF X M0 (.returned (some (vI r))) M' 0 0) M0 M 12 [(0, .ref v0), (1, vI v1), (4, vI v4), (5, vI v5), (6, vL v6), (8, vI v8)] 195 []) (v0 : Nat) (v1 : Int) (v4 : Int) (v5 : Int) (v6 : Int) (v8 : Int) (v9 : Int) (M : Mem) (r : Int) (M' : Mem) (hv0 : m_kd M v0 = 5) (h : B_X5_secrecy_305 k195 v0 v1 v4 v5 v6 v8 v9 M = some (r, M'))  : x_Z X 0 0 (x_QF X M0 (.returned (some (vI r))) M' 0 0) M0 M 12 [(0, .ref v0), (1, vI v1), (4, vI v4), (5, vI v5), (6, vL v6), (8, vI v8), (9, vL v9)] 305 [] := by
  unfold B_X5_secrecy_305 at h
  refine z_aload_n (pc := 305) C 0 rfl dX5_secrecy_305 ?_
  refine z_iload_n (pc := 306) C 1 rfl dX5_secrecy_306 ?_
  refine z_iload (pc := 307) C 5 rfl dX5_secrecy_307 ?_
  refine z_iload (pc := 309) C 2 rfl dX5_secrecy_309 ?_
  obtain ⟨r27, e28, h⟩ := bRs h
  refine cX5_484 (pc := 311) (st := []) (st1 := [vI r27]) C rfl (rm := { frames := 2, cells := 0, slots := 0, locals := 67 }) (ct_X5_isGood C.2.1 v0 v1 v8 v4 M _ hv0 e28) ⟨by decide, by decide, Nat.zero_le _, Nat.zero_le _⟩ (Or.inl hv0) rfl (Nat.le_of_ble_eq_true rfl) dX5_secrecy_311 (c2 := 0) (s2 := 0) rfl rfl (fun _ => ?_)
  refine z_if_eq (pc := 314) C dX5_secrecy_314 (tgt := 329) (by decide) (fun c29 => ?_) (fun c29 => ?_)
  · have h := itt c29 h
    refine z_iinc (pc := 329) C (lv' := [(0, .ref v0), (1, vI v1), (4, vI v4), (5, vI v5), (6, vL v6), (8, vI (v8 + 1)), (9, vL v9)]) 5 rfl (by decide) rfl dX5_secrecy_329 ?_
    refine z_goto (pc := 332) C dX5_secrecy_332 (tgt := 195) (by decide) ?_
    exact z_lv [0, 1, 2, 3, 4, 5] rfl <| hk195 v0 v1 v4 v5 v6 (v8 + 1) M _ _ hv0 h
  · have h := itf c29 h
    refine z_lload (pc := 317) C 6 rfl dX5_secrecy_317 ?_
    refine z_lstore (pc := 319) C (lv' := [(0, .ref v0), (1, vI v1), (4, vI v4), (5, vI v5), (6, vL v9), (8, vI v8), (9, vL v9)]) (by decide) rfl dX5_secrecy_319 ?_
    refine z_aload_n (pc := 321) C 0 rfl dX5_secrecy_321 ?_
    refine gX5_577 (pc := 322) C rfl hv0 dX5_secrecy_322 ?_
    refine z_iload_n (pc := 325) C 1 rfl dX5_secrecy_325 ?_
    refine z_iload (pc := 326) C 5 rfl dX5_secrecy_326 ?_
    obtain ⟨c30, h⟩ := ifn h
    refine z_isO (pc := 328) (k := 5) (j := 77) C 577 rfl (by decide) (by decide) (by decide) rfl rfl rfl rfl hv0 c30 dX5_secrecy_328 ?_
    refine z_iinc (pc := 329) C (lv' := [(0, .ref v0), (1, vI v1), (4, vI v4), (5, vI v5), (6, vL v9), (8, vI (v8 + 1)), (9, vL v9)]) 5 rfl (by decide) rfl dX5_secrecy_329 ?_
    refine z_goto (pc := 332) C dX5_secrecy_332 (tgt := 195) (by decide) ?_
    exact z_lv [0, 1, 2, 3, 4, 5] rfl <| hk195 v0 v1 v4 v5 v9 (v8 + 1) (m_si M 577 v0 (ixn v1) v8) _ _ hv0 h
theorem cB_X5_secrecy_210 {X : x_Ctx} {M0 : Mem} (C : x_CC X 3 97 yX5_secrecy cX5_secrecy 12 (some .int) []) {k195 : Nat → Int → Int → Int → Int → Int → Mem → Option (Int × Mem)} (hk195 : ∀ (v0 : Nat) (v1 : Int) (v4 : Int) (v5 : Int) (v6 : Int) (v8 : Int) (M : Mem) (r : Int) (M' : Mem), m_kd M v0 = 5 → k195 v0 v1 v4 v5 v6 v8 M = some (r, M') → x_Z X 0 0 (x_QF X M0 (.returned (some (vI r))) M' 0 0) M0 M 12 [(0, .ref v0), (1, vI v1), (4, vI v4), (5, vI v5), (6, vL v6), (8, vI v8)] 195 []) {k210 : Nat → Int → Int → Int → Int → Int → Int → Int → Mem → Option (Int × Mem)} (hk210 : ∀ (v0 : Nat) (v1 : Int) (v4 : Int) (v5 : Int) (v6 : Int) (v8 : Int) (v9 : Int) (v11 : Int) (M : Mem) (r : Int) (M' : Mem), m_kd M v0 = 5 → k210 v0 v1 v4 v5 v6 v8 v9 v11 M = some (r, M') → x_Z X 0 0 (x_QF X M0 (.returned (some (vI r))) M' 0 0) M0 M 12 [(0, .ref v0), (1, vI v1), (4, vI v4), (5, vI v5), (6, vL v6), (8, vI v8), (9, vL v9), (11, vI v11)] 210 []) (v0 : Nat) (v1 : Int) (v4 : Int) (v5 : Int) (v6 : Int) (v8 : Int) (v9 : Int) (v11 : Int) (M : Mem) (r : Int) (M' : Mem) (hv0 : m_kd M v0 = 5) (h : B_X5_secrecy_210 k195 k210 v0 v1 v4 v5 v6 v8 v9 v11 M = some (r, M'))  : x_Z X 0 0 (x_QF X M0 (.returned (some (vI r))) M' 0 0) M0 M 12 [(0, .ref v0), (1, vI v1), (4, vI v4), (5, vI v5), (6, vL v6), (8, vI v8), (9, vL v9), (11, vI v11)] 210 [] := by
  unfold B_X5_secrecy_210 at h
  refine z_iload (pc := 210) C 7 rfl dX5_secrecy_210 ?_
  refine z_iload (pc := 212) C 3 rfl dX5_secrecy_212 ?_
  refine z_ic_ge (pc := 214) C dX5_secrecy_214 (tgt := 272) (by decide) (fun c23 => ?_) (fun c23 => ?_)
  · have h := itt c23 h
    refine z_iload (pc := 272) C 5 rfl dX5_secrecy_272 ?_
    refine z_aload_n (pc := 274) C 0 rfl dX5_secrecy_274 ?_
    refine gX5_578 (pc := 275) C rfl hv0 dX5_secrecy_275 ?_
    refine z_iload_n (pc := 278) C 1 rfl dX5_secrecy_278 ?_
    obtain ⟨c24, h⟩ := ifn h
    refine z_iaO (pc := 279) (k := 5) (j := 78) C 578 rfl (by decide) (by decide) (by decide) rfl rfl rfl rfl hv0 c24 rfl dX5_secrecy_279 ?_
    refine z_iand (pc := 280) C dX5_secrecy_280 ?_
    refine z_aload_n (pc := 281) C 0 rfl dX5_secrecy_281 ?_
    refine gX5_578 (pc := 282) C rfl hv0 dX5_secrecy_282 ?_
    refine z_iload_n (pc := 285) C 1 rfl dX5_secrecy_285 ?_
    refine z_iaO (pc := 286) (k := 5) (j := 78) C 578 rfl (by decide) (by decide) (by decide) rfl rfl rfl rfl hv0 c24 rfl dX5_secrecy_286 ?_
    refine z_ic_ne (pc := 287) C dX5_secrecy_287 (tgt := 329) (by decide) (fun c25 => ?_) (fun c25 => ?_)
    · have h := itf c25 h
      refine z_iinc (pc := 329) C (lv' := [(0, .ref v0), (1, vI v1), (4, vI v4), (5, vI v5), (6, vL v6), (8, vI (v8 + 1)), (9, vL v9), (11, vI v11)]) 5 rfl (by decide) rfl dX5_secrecy_329 ?_
      refine z_goto (pc := 332) C dX5_secrecy_332 (tgt := 195) (by decide) ?_
      exact z_lv [0, 1, 2, 3, 4, 5] rfl <| hk195 v0 v1 v4 v5 v6 (v8 + 1) M _ _ hv0 h
    · have h := itt c25 h
      refine z_lload (pc := 290) C 4 rfl dX5_secrecy_290 ?_
      refine z_lconst (pc := 292) C (x := 0) (by decide +kernel) dX5_secrecy_292 ?_
      refine z_lc_lt (pc := 293) C dX5_secrecy_293 dX5_secrecy_294 (tgt := 305) (by decide) (fun c26 => ?_) (fun c26 => ?_)
      · have h := itt c26 h
        exact z_lv [0, 1, 2, 3, 4, 5, 6] rfl <| cB_X5_secrecy_305 C hk195 v0 v1 v4 v5 v6 v8 v9 M _ _ hv0 h
      · have h := itf c26 h
        refine z_lload (pc := 297) C 6 rfl dX5_secrecy_297 ?_
        refine z_lload (pc := 299) C 4 rfl dX5_secrecy_299 ?_
        refine z_lc_ge (pc := 301) C dX5_secrecy_301 dX5_secrecy_302 (tgt := 329) (by decide) (fun c31 => ?_) (fun c31 => ?_)
        · have h := itt c31 h
          refine z_iinc (pc := 329) C (lv' := [(0, .ref v0), (1, vI v1), (4, vI v4), (5, vI v5), (6, vL v6), (8, vI (v8 + 1)), (9, vL v9), (11, vI v11)]) 5 rfl (by decide) rfl dX5_secrecy_329 ?_
          refine z_goto (pc := 332) C dX5_secrecy_332 (tgt := 195) (by decide) ?_
          exact z_lv [0, 1, 2, 3, 4, 5] rfl <| hk195 v0 v1 v4 v5 v6 (v8 + 1) M _ _ hv0 h
        · have h := itf c31 h
          exact z_lv [0, 1, 2, 3, 4, 5, 6] rfl <| cB_X5_secrecy_305 C hk195 v0 v1 v4 v5 v6 v8 v9 M _ _ hv0 h
  · have h := itf c23 h
    refine z_lload (pc := 217) C 6 rfl dX5_secrecy_217 ?_
    refine z_iload (pc := 219) C 5 rfl dX5_secrecy_219 ?_
    refine z_iload (pc := 221) C 7 rfl dX5_secrecy_221 ?_
    refine z_ishr (pc := 223) C dX5_secrecy_223 ?_
    refine z_iconst (pc := 224) C dX5_secrecy_224 ?_
    refine z_iand (pc := 225) C dX5_secrecy_225 ?_
    refine z_iconst (pc := 226) C dX5_secrecy_226 ?_
    refine z_ic_ne (pc := 227) C dX5_secrecy_227 (tgt := 262) (by decide) (fun c32 => ?_) (fun c32 => ?_)
    · have h := itf c32 h
      refine z_lconst (pc := 262) C (x := 0) (by decide +kernel) dX5_secrecy_262 ?_
      refine z_ladd (pc := 263) C dX5_secrecy_263 ?_
      refine z_lstore (pc := 264) C (lv' := [(0, .ref v0), (1, vI v1), (4, vI v4), (5, vI v5), (6, vL v6), (8, vI v8), (9, vL (v9 + 0)), (11, vI v11)]) (by decide) rfl dX5_secrecy_264 ?_
      refine z_iinc (pc := 266) C (lv' := [(0, .ref v0), (1, vI v1), (4, vI v4), (5, vI v5), (6, vL v6), (8, vI v8), (9, vL (v9 + 0)), (11, vI (v11 + 1))]) 7 rfl (by decide) rfl dX5_secrecy_266 ?_
      refine z_goto (pc := 269) C dX5_secrecy_269 (tgt := 210) (by decide) ?_
      exact hk210 v0 v1 v4 v5 v6 v8 (v9 + 0) (v11 + 1) M _ _ hv0 h
    · have h := itt c32 h
      refine z_aload_n (pc := 230) C 0 rfl dX5_secrecy_230 ?_
      refine gX5_578 (pc := 231) C rfl hv0 dX5_secrecy_231 ?_
      refine z_iload_n (pc := 234) C 1 rfl dX5_secrecy_234 ?_
      obtain ⟨c33, h⟩ := ifn h
      refine z_iaO (pc := 235) (k := 5) (j := 78) C 578 rfl (by decide) (by decide) (by decide) rfl rfl rfl rfl hv0 c33 rfl dX5_secrecy_235 ?_
      refine z_iload (pc := 236) C 7 rfl dX5_secrecy_236 ?_
      refine z_ishr (pc := 238) C dX5_secrecy_238 ?_
      refine z_iconst (pc := 239) C dX5_secrecy_239 ?_
      refine z_iand (pc := 240) C dX5_secrecy_240 ?_
      refine z_if_ne (pc := 241) C dX5_secrecy_241 (tgt := 262) (by decide) (fun c34 => ?_) (fun c34 => ?_)
      · have h := itf c34 h
        refine z_lconst (pc := 262) C (x := 0) (by decide +kernel) dX5_secrecy_262 ?_
        refine z_ladd (pc := 263) C dX5_secrecy_263 ?_
        refine z_lstore (pc := 264) C (lv' := [(0, .ref v0), (1, vI v1), (4, vI v4), (5, vI v5), (6, vL v6), (8, vI v8), (9, vL (v9 + 0)), (11, vI v11)]) (by decide) rfl dX5_secrecy_264 ?_
        refine z_iinc (pc := 266) C (lv' := [(0, .ref v0), (1, vI v1), (4, vI v4), (5, vI v5), (6, vL v6), (8, vI v8), (9, vL (v9 + 0)), (11, vI (v11 + 1))]) 7 rfl (by decide) rfl dX5_secrecy_266 ?_
        refine z_goto (pc := 269) C dX5_secrecy_269 (tgt := 210) (by decide) ?_
        exact hk210 v0 v1 v4 v5 v6 v8 (v9 + 0) (v11 + 1) M _ _ hv0 h
      · have h := itt c34 h
        refine z_aload_n (pc := 244) C 0 rfl dX5_secrecy_244 ?_
        refine gX5_572 (pc := 245) C rfl hv0 dX5_secrecy_245 ?_
        refine z_bipush (pc := 248) C (by decide +kernel) dX5_secrecy_248 ?_
        refine z_iload_n (pc := 250) C 1 rfl dX5_secrecy_250 ?_
        refine z_imul (pc := 251) C dX5_secrecy_251 ?_
        refine z_iload (pc := 252) C 7 rfl dX5_secrecy_252 ?_
        refine z_iadd (pc := 254) C dX5_secrecy_254 ?_
        obtain ⟨c35, h⟩ := ifn h
        refine z_iaO (pc := 255) (k := 5) (j := 72) C 572 rfl (by decide) (by decide) (by decide) rfl rfl rfl rfl hv0 c35 rfl dX5_secrecy_255 ?_
        refine z_i2l (pc := 256) C dX5_secrecy_256 ?_
        refine z_lconst (pc := 257) C (x := 1) (by decide +kernel) dX5_secrecy_257 ?_
        refine z_ladd (pc := 258) C dX5_secrecy_258 ?_
        refine z_goto (pc := 259) C dX5_secrecy_259 (tgt := 263) (by decide) ?_
        refine z_ladd (pc := 263) C dX5_secrecy_263 ?_
        refine z_lstore (pc := 264) C (lv' := [(0, .ref v0), (1, vI v1), (4, vI v4), (5, vI v5), (6, vL v6), (8, vI v8), (9, vL (v9 + ((w32 (m_i M 572 v0 (ixn ((12 * v1) + v11)))) + 1))), (11, vI v11)]) (by decide) rfl dX5_secrecy_264 ?_
        refine z_iinc (pc := 266) C (lv' := [(0, .ref v0), (1, vI v1), (4, vI v4), (5, vI v5), (6, vL v6), (8, vI v8), (9, vL (v9 + ((w32 (m_i M 572 v0 (ixn ((12 * v1) + v11)))) + 1))), (11, vI (v11 + 1))]) 7 rfl (by decide) rfl dX5_secrecy_266 ?_
        refine z_goto (pc := 269) C dX5_secrecy_269 (tgt := 210) (by decide) ?_
        exact hk210 v0 v1 v4 v5 v6 v8 (v9 + ((w32 (m_i M 572 v0 (ixn ((12 * v1) + v11)))) + 1)) (v11 + 1) M _ _ hv0 h
theorem cL_X5_secrecy_210 {X : x_Ctx} {M0 : Mem} (C : x_CC X 3 97 yX5_secrecy cX5_secrecy 12 (some .int) []) {k195 : Nat → Int → Int → Int → Int → Int → Mem → Option (Int × Mem)} (hk195 : ∀ (v0 : Nat) (v1 : Int) (v4 : Int) (v5 : Int) (v6 : Int) (v8 : Int) (M : Mem) (r : Int) (M' : Mem), m_kd M v0 = 5 → k195 v0 v1 v4 v5 v6 v8 M = some (r, M') → x_Z X 0 0 (x_QF X M0 (.returned (some (vI r))) M' 0 0) M0 M 12 [(0, .ref v0), (1, vI v1), (4, vI v4), (5, vI v5), (6, vL v6), (8, vI v8)] 195 []) : ∀ (n : Nat) (v0 : Nat) (v1 : Int) (v4 : Int) (v5 : Int) (v6 : Int) (v8 : Int) (v9 : Int) (v11 : Int) (M : Mem) (r : Int) (M' : Mem) (hv0 : m_kd M v0 = 5) (h : L_X5_secrecy_210 k195 n v0 v1 v4 v5 v6 v8 v9 v11 M = some (r, M')) , x_Z X 0 0 (x_QF X M0 (.returned (some (vI r))) M' 0 0) M0 M 12 [(0, .ref v0), (1, vI v1), (4, vI v4), (5, vI v5), (6, vL v6), (8, vI v8), (9, vL v9), (11, vI v11)] 210 [] := by
  intro n
  induction n with
  | zero => intro v0 v1 v4 v5 v6 v8 v9 v11 M r M' hv0 h ; cases h
  | succ n ih => intro v0 v1 v4 v5 v6 v8 v9 v11 M r M' hv0 h ; exact cB_X5_secrecy_210 C hk195 (fun v0 v1 v4 v5 v6 v8 v9 v11 M r M' hv0 h  => ih v0 v1 v4 v5 v6 v8 v9 v11 M r M' hv0 h ) v0 v1 v4 v5 v6 v8 v9 v11 M r M' hv0 h 
theorem cB_X5_secrecy_195 {X : x_Ctx} {M0 : Mem} (C : x_CC X 3 97 yX5_secrecy cX5_secrecy 12 (some .int) []) {k195 : Nat → Int → Int → Int → Int → Int → Mem → Option (Int × Mem)} (hk195 : ∀ (v0 : Nat) (v1 : Int) (v4 : Int) (v5 : Int) (v6 : Int) (v8 : Int) (M : Mem) (r : Int) (M' : Mem), m_kd M v0 = 5 → k195 v0 v1 v4 v5 v6 v8 M = some (r, M') → x_Z X 0 0 (x_QF X M0 (.returned (some (vI r))) M' 0 0) M0 M 12 [(0, .ref v0), (1, vI v1), (4, vI v4), (5, vI v5), (6, vL v6), (8, vI v8)] 195 []) (v0 : Nat) (v1 : Int) (v4 : Int) (v5 : Int) (v6 : Int) (v8 : Int) (M : Mem) (r : Int) (M' : Mem) (hv0 : m_kd M v0 = 5) (h : B_X5_secrecy_195 k195 v0 v1 v4 v5 v6 v8 M = some (r, M'))  : x_Z X 0 0 (x_QF X M0 (.returned (some (vI r))) M' 0 0) M0 M 12 [(0, .ref v0), (1, vI v1), (4, vI v4), (5, vI v5), (6, vL v6), (8, vI v8)] 195 [] := by
  unfold B_X5_secrecy_195 at h
  refine z_iload (pc := 195) C 5 rfl dX5_secrecy_195 ?_
  refine z_iconst (pc := 197) C dX5_secrecy_197 ?_
  refine z_iload (pc := 198) C 3 rfl dX5_secrecy_198 ?_
  refine z_ishl (pc := 200) C dX5_secrecy_200 ?_
  refine z_ic_ge (pc := 201) C dX5_secrecy_201 (tgt := 335) (by decide) (fun c20 => ?_) (fun c20 => ?_)
  · have h := itt c20 h
    refine z_lload (pc := 335) C 4 rfl dX5_secrecy_335 ?_
    refine z_lconst (pc := 337) C (x := 0) (by decide +kernel) dX5_secrecy_337 ?_
    refine z_lc_ge (pc := 338) C dX5_secrecy_338 dX5_secrecy_339 (tgt := 354) (by decide) (fun c21 => ?_) (fun c21 => ?_)
    · have h := itt c21 h
      refine z_lload (pc := 354) C 4 rfl dX5_secrecy_354 ?_
      refine z_l2i (pc := 356) C dX5_secrecy_356 ?_
      cases h
      exact z_iret (pc := 357) C rfl (show 0 ≤ 0 from by decide) (show 0 ≤ 0 from by decide) dX5_secrecy_357
    · have h := itf c21 h
      refine z_aload_n (pc := 342) C 0 rfl dX5_secrecy_342 ?_
      refine gX5_577 (pc := 343) C rfl hv0 dX5_secrecy_343 ?_
      refine z_iload_n (pc := 346) C 1 rfl dX5_secrecy_346 ?_
      refine z_iconst (pc := 347) C dX5_secrecy_347 ?_
      refine z_iload (pc := 348) C 3 rfl dX5_secrecy_348 ?_
      refine z_ishl (pc := 350) C dX5_secrecy_350 ?_
      refine z_iconst (pc := 351) C dX5_secrecy_351 ?_
      refine z_isub (pc := 352) C dX5_secrecy_352 ?_
      obtain ⟨c22, h⟩ := ifn h
      refine z_isO (pc := 353) (k := 5) (j := 77) C 577 rfl (by decide) (by decide) (by decide) rfl rfl rfl rfl hv0 c22 dX5_secrecy_353 ?_
      refine z_lload (pc := 354) C 4 rfl dX5_secrecy_354 ?_
      refine z_l2i (pc := 356) C dX5_secrecy_356 ?_
      cases h
      exact z_iret (pc := 357) C rfl (show 0 ≤ 0 from by decide) (show 0 ≤ 0 from by decide) dX5_secrecy_357
  · have h := itf c20 h
    refine z_lconst (pc := 204) C (x := 0) (by decide +kernel) dX5_secrecy_204 ?_
    refine z_lstore (pc := 205) C (lv' := [(0, .ref v0), (1, vI v1), (4, vI v4), (5, vI v5), (6, vL v6), (8, vI v8), (9, vL 0)]) (by decide) rfl dX5_secrecy_205 ?_
    refine z_iconst (pc := 207) C dX5_secrecy_207 ?_
    refine z_istore (pc := 208) C (lv' := [(0, .ref v0), (1, vI v1), (4, vI v4), (5, vI v5), (6, vL v6), (8, vI v8), (9, vL 0), (11, vI 0)]) (by decide) rfl dX5_secrecy_208 ?_
    exact cL_X5_secrecy_210 C hk195 FU v0 v1 v4 v5 v6 v8 0 0 M _ _ hv0 h
theorem cL_X5_secrecy_195 {X : x_Ctx} {M0 : Mem} (C : x_CC X 3 97 yX5_secrecy cX5_secrecy 12 (some .int) [])  : ∀ (n : Nat) (v0 : Nat) (v1 : Int) (v4 : Int) (v5 : Int) (v6 : Int) (v8 : Int) (M : Mem) (r : Int) (M' : Mem) (hv0 : m_kd M v0 = 5) (h : L_X5_secrecy_195  n v0 v1 v4 v5 v6 v8 M = some (r, M')) , x_Z X 0 0 (x_QF X M0 (.returned (some (vI r))) M' 0 0) M0 M 12 [(0, .ref v0), (1, vI v1), (4, vI v4), (5, vI v5), (6, vL v6), (8, vI v8)] 195 [] := by
  intro n
  induction n with
  | zero => intro v0 v1 v4 v5 v6 v8 M r M' hv0 h ; cases h
  | succ n ih => intro v0 v1 v4 v5 v6 v8 M r M' hv0 h ; exact cB_X5_secrecy_195 C (fun v0 v1 v4 v5 v6 v8 M r M' hv0 h  => ih v0 v1 v4 v5 v6 v8 M r M' hv0 h ) v0 v1 v4 v5 v6 v8 M r M' hv0 h 
theorem cB_X5_secrecy_157 {X : x_Ctx} {M0 : Mem} (C : x_CC X 3 97 yX5_secrecy cX5_secrecy 12 (some .int) []) {k87 : Nat → Int → Int → Int → Int → Int → Int → Mem → Option (Int × Mem)} (hk87 : ∀ (v0 : Nat) (v1 : Int) (v2 : Int) (v3 : Int) (v4 : Int) (v5 : Int) (v6 : Int) (M : Mem) (r : Int) (M' : Mem), m_kd M v0 = 5 → k87 v0 v1 v2 v3 v4 v5 v6 M = some (r, M') → x_Z X 0 0 (x_QF X M0 (.returned (some (vI r))) M' 0 0) M0 M 12 [(0, .ref v0), (1, vI v1), (2, vI v2), (3, vI v3), (4, vI v4), (5, vI v5), (6, vI v6)] 87 []) (v0 : Nat) (v1 : Int) (v2 : Int) (v3 : Int) (v4 : Int) (v5 : Int) (v6 : Int) (s0 : Int) (M : Mem) (r : Int) (M' : Mem) (hv0 : m_kd M v0 = 5) (h : B_X5_secrecy_157 k87 v0 v1 v2 v3 v4 v5 v6 s0 M = some (r, M'))  : x_Z X 0 0 (x_QF X M0 (.returned (some (vI r))) M' 0 0) M0 M 12 [(0, .ref v0), (1, vI v1), (2, vI v2), (3, vI v3), (4, vI v4), (5, vI v5), (6, vI v6)] 157 [vI s0] := by
  unfold B_X5_secrecy_157 at h
  refine z_istore (pc := 157) C (lv' := [(0, .ref v0), (1, vI v1), (2, vI v2), (3, vI v3), (4, vI v4), (5, vI v5), (6, vI v6), (8, vI s0)]) (by decide) rfl dX5_secrecy_157 ?_
  refine z_aload_n (pc := 159) C 0 rfl dX5_secrecy_159 ?_
  refine gX5_578 (pc := 160) C rfl hv0 dX5_secrecy_160 ?_
  refine z_iload_n (pc := 163) C 1 rfl dX5_secrecy_163 ?_
  refine z_dup2 (pc := 164) C rfl rfl dX5_secrecy_164 ?_
  obtain ⟨c40, h⟩ := ifn h
  refine z_iaO (pc := 165) (k := 5) (j := 78) C 578 rfl (by decide) (by decide) (by decide) rfl rfl rfl rfl hv0 c40 rfl dX5_secrecy_165 ?_
  refine z_iload (pc := 166) C 7 rfl dX5_secrecy_166 ?_
  refine z_if_eq (pc := 168) C dX5_secrecy_168 (tgt := 178) (by decide) (fun c41 => ?_) (fun c41 => ?_)
  · have h := itt c41 h
    refine z_iconst (pc := 178) C dX5_secrecy_178 ?_
    refine z_ior (pc := 179) C dX5_secrecy_179 ?_
    refine z_isO (pc := 180) (k := 5) (j := 78) C 578 rfl (by decide) (by decide) (by decide) rfl rfl rfl rfl hv0 c40 dX5_secrecy_180 ?_
    refine z_iinc (pc := 181) C (lv' := [(0, .ref v0), (1, vI v1), (2, vI v2), (3, vI v3), (4, vI v4), (5, vI v5), (6, vI (v6 + 1)), (8, vI s0)]) 6 rfl (by decide) rfl dX5_secrecy_181 ?_
    refine z_goto (pc := 184) C dX5_secrecy_184 (tgt := 87) (by decide) ?_
    exact z_lv [0, 1, 2, 3, 4, 5, 6] rfl <| hk87 v0 v1 v2 v3 v4 v5 (v6 + 1) (m_si M 578 v0 (ixn v1) (o32 (m_i M 578 v0 (ixn v1)) 0)) _ _ hv0 h
  · have h := itf c41 h
    refine z_iconst (pc := 171) C dX5_secrecy_171 ?_
    refine z_iload (pc := 172) C 6 rfl dX5_secrecy_172 ?_
    refine z_ishl (pc := 174) C dX5_secrecy_174 ?_
    refine z_goto (pc := 175) C dX5_secrecy_175 (tgt := 179) (by decide) ?_
    refine z_ior (pc := 179) C dX5_secrecy_179 ?_
    refine z_isO (pc := 180) (k := 5) (j := 78) C 578 rfl (by decide) (by decide) (by decide) rfl rfl rfl rfl hv0 c40 dX5_secrecy_180 ?_
    refine z_iinc (pc := 181) C (lv' := [(0, .ref v0), (1, vI v1), (2, vI v2), (3, vI v3), (4, vI v4), (5, vI v5), (6, vI (v6 + 1)), (8, vI s0)]) 6 rfl (by decide) rfl dX5_secrecy_181 ?_
    refine z_goto (pc := 184) C dX5_secrecy_184 (tgt := 87) (by decide) ?_
    exact z_lv [0, 1, 2, 3, 4, 5, 6] rfl <| hk87 v0 v1 v2 v3 v4 v5 (v6 + 1) (m_si M 578 v0 (ixn v1) (o32 (m_i M 578 v0 (ixn v1)) (l32 1 v6))) _ _ hv0 h
theorem cB_X5_secrecy_152 {X : x_Ctx} {M0 : Mem} (C : x_CC X 3 97 yX5_secrecy cX5_secrecy 12 (some .int) []) {k87 : Nat → Int → Int → Int → Int → Int → Int → Mem → Option (Int × Mem)} (hk87 : ∀ (v0 : Nat) (v1 : Int) (v2 : Int) (v3 : Int) (v4 : Int) (v5 : Int) (v6 : Int) (M : Mem) (r : Int) (M' : Mem), m_kd M v0 = 5 → k87 v0 v1 v2 v3 v4 v5 v6 M = some (r, M') → x_Z X 0 0 (x_QF X M0 (.returned (some (vI r))) M' 0 0) M0 M 12 [(0, .ref v0), (1, vI v1), (2, vI v2), (3, vI v3), (4, vI v4), (5, vI v5), (6, vI v6)] 87 []) (v0 : Nat) (v1 : Int) (v2 : Int) (v3 : Int) (v4 : Int) (v5 : Int) (v6 : Int) (M : Mem) (r : Int) (M' : Mem) (hv0 : m_kd M v0 = 5) (h : B_X5_secrecy_152 k87 v0 v1 v2 v3 v4 v5 v6 M = some (r, M'))  : x_Z X 0 0 (x_QF X M0 (.returned (some (vI r))) M' 0 0) M0 M 12 [(0, .ref v0), (1, vI v1), (2, vI v2), (3, vI v3), (4, vI v4), (5, vI v5), (6, vI v6)] 152 [] := by
  unfold B_X5_secrecy_152 at h
  refine z_iconst (pc := 152) C dX5_secrecy_152 ?_
  refine z_goto (pc := 153) C dX5_secrecy_153 (tgt := 157) (by decide) ?_
  exact cB_X5_secrecy_157 C hk87 v0 v1 v2 v3 v4 v5 v6 1 M _ _ hv0 h
theorem cB_X5_secrecy_125 {X : x_Ctx} {M0 : Mem} (C : x_CC X 3 97 yX5_secrecy cX5_secrecy 12 (some .int) []) {k87 : Nat → Int → Int → Int → Int → Int → Int → Mem → Option (Int × Mem)} (hk87 : ∀ (v0 : Nat) (v1 : Int) (v2 : Int) (v3 : Int) (v4 : Int) (v5 : Int) (v6 : Int) (M : Mem) (r : Int) (M' : Mem), m_kd M v0 = 5 → k87 v0 v1 v2 v3 v4 v5 v6 M = some (r, M') → x_Z X 0 0 (x_QF X M0 (.returned (some (vI r))) M' 0 0) M0 M 12 [(0, .ref v0), (1, vI v1), (2, vI v2), (3, vI v3), (4, vI v4), (5, vI v5), (6, vI v6)] 87 []) (v0 : Nat) (v1 : Int) (v2 : Int) (v3 : Int) (v4 : Int) (v5 : Int) (v6 : Int) (v7 : Int) (M : Mem) (r : Int) (M' : Mem) (hv0 : m_kd M v0 = 5) (h : B_X5_secrecy_125 k87 v0 v1 v2 v3 v4 v5 v6 v7 M = some (r, M'))  : x_Z X 0 0 (x_QF X M0 (.returned (some (vI r))) M' 0 0) M0 M 12 [(0, .ref v0), (1, vI v1), (2, vI v2), (3, vI v3), (4, vI v4), (5, vI v5), (6, vI v6), (7, vI v7)] 125 [] := by
  unfold B_X5_secrecy_125 at h
  refine z_ldc2 (pc := 125) C (x := 100) q2007 (by decide +kernel) dX5_secrecy_125 ?_
  refine z_aload_n (pc := 128) C 0 rfl dX5_secrecy_128 ?_
  refine gX5_574 (pc := 129) C rfl hv0 dX5_secrecy_129 ?_
  refine z_iload (pc := 132) C 7 rfl dX5_secrecy_132 ?_
  obtain ⟨c38, h⟩ := ifn h
  refine z_iaO (pc := 134) (k := 5) (j := 74) C 574 rfl (by decide) (by decide) (by decide) rfl rfl rfl rfl hv0 c38 rfl dX5_secrecy_134 ?_
  refine z_i2l (pc := 135) C dX5_secrecy_135 ?_
  refine z_lmul (pc := 136) C dX5_secrecy_136 ?_
  refine z_iload_n (pc := 137) C 3 rfl dX5_secrecy_137 ?_
  refine z_i2l (pc := 138) C dX5_secrecy_138 ?_
  refine z_aload_n (pc := 139) C 0 rfl dX5_secrecy_139 ?_
  refine gX5_572 (pc := 140) C rfl hv0 dX5_secrecy_140 ?_
  refine z_iload (pc := 143) C 7 rfl dX5_secrecy_143 ?_
  refine z_iaO (pc := 145) (k := 5) (j := 72) C 572 rfl (by decide) (by decide) (by decide) rfl rfl rfl rfl hv0 c38 rfl dX5_secrecy_145 ?_
  refine z_i2l (pc := 146) C dX5_secrecy_146 ?_
  refine z_lmul (pc := 147) C dX5_secrecy_147 ?_
  refine z_lc_le (pc := 148) C dX5_secrecy_148 dX5_secrecy_149 (tgt := 156) (by decide) (fun c39 => ?_) (fun c39 => ?_)
  · have h := itt c39 h
    refine z_iconst (pc := 156) C dX5_secrecy_156 ?_
    exact z_lv [0, 1, 2, 3, 4, 5, 6] rfl <| cB_X5_secrecy_157 C hk87 v0 v1 v2 v3 v4 v5 v6 0 M _ _ hv0 h
  · have h := itf c39 h
    exact z_lv [0, 1, 2, 3, 4, 5, 6] rfl <| cB_X5_secrecy_152 C hk87 v0 v1 v2 v3 v4 v5 v6 M _ _ hv0 h
theorem cB_X5_secrecy_87 {X : x_Ctx} {M0 : Mem} (C : x_CC X 3 97 yX5_secrecy cX5_secrecy 12 (some .int) []) {k87 : Nat → Int → Int → Int → Int → Int → Int → Mem → Option (Int × Mem)} (hk87 : ∀ (v0 : Nat) (v1 : Int) (v2 : Int) (v3 : Int) (v4 : Int) (v5 : Int) (v6 : Int) (M : Mem) (r : Int) (M' : Mem), m_kd M v0 = 5 → k87 v0 v1 v2 v3 v4 v5 v6 M = some (r, M') → x_Z X 0 0 (x_QF X M0 (.returned (some (vI r))) M' 0 0) M0 M 12 [(0, .ref v0), (1, vI v1), (2, vI v2), (3, vI v3), (4, vI v4), (5, vI v5), (6, vI v6)] 87 []) (v0 : Nat) (v1 : Int) (v2 : Int) (v3 : Int) (v4 : Int) (v5 : Int) (v6 : Int) (M : Mem) (r : Int) (M' : Mem) (hv0 : m_kd M v0 = 5) (h : B_X5_secrecy_87 k87 v0 v1 v2 v3 v4 v5 v6 M = some (r, M'))  : x_Z X 0 0 (x_QF X M0 (.returned (some (vI r))) M' 0 0) M0 M 12 [(0, .ref v0), (1, vI v1), (2, vI v2), (3, vI v3), (4, vI v4), (5, vI v5), (6, vI v6)] 87 [] := by
  unfold B_X5_secrecy_87 at h
  refine z_iload (pc := 87) C 6 rfl dX5_secrecy_87 ?_
  refine z_iload (pc := 89) C 5 rfl dX5_secrecy_89 ?_
  refine z_ic_ge (pc := 91) C dX5_secrecy_91 (tgt := 187) (by decide) (fun c19 => ?_) (fun c19 => ?_)
  · have h := itt c19 h
    refine z_ldc2 (pc := 187) C (x := -1) q2109 (by decide +kernel) dX5_secrecy_187 ?_
    refine z_lstore (pc := 190) C (lv' := [(0, .ref v0), (1, vI v1), (2, vI v2), (3, vI v3), (4, vI v4), (5, vI v5), (6, vL (-1))]) (by decide) rfl dX5_secrecy_190 ?_
    refine z_iconst (pc := 192) C dX5_secrecy_192 ?_
    refine z_istore (pc := 193) C (lv' := [(0, .ref v0), (1, vI v1), (2, vI v2), (3, vI v3), (4, vI v4), (5, vI v5), (6, vL (-1)), (8, vI 0)]) (by decide) rfl dX5_secrecy_193 ?_
    exact z_lv [0, 1, 4, 5, 6, 7] rfl <| cL_X5_secrecy_195 C FU v0 v1 v4 v5 (-1) 0 M _ _ hv0 h
  · have h := itf c19 h
    refine z_bipush (pc := 94) C (by decide +kernel) dX5_secrecy_94 ?_
    refine z_iload_n (pc := 96) C 1 rfl dX5_secrecy_96 ?_
    refine z_imul (pc := 97) C dX5_secrecy_97 ?_
    refine z_iload (pc := 98) C 6 rfl dX5_secrecy_98 ?_
    refine z_iadd (pc := 100) C dX5_secrecy_100 ?_
    refine z_istore (pc := 101) C (lv' := [(0, .ref v0), (1, vI v1), (2, vI v2), (3, vI v3), (4, vI v4), (5, vI v5), (6, vI v6), (7, vI ((12 * v1) + v6))]) (by decide) rfl dX5_secrecy_101 ?_
    refine z_aload_n (pc := 103) C 0 rfl dX5_secrecy_103 ?_
    refine gX5_573 (pc := 104) C rfl hv0 dX5_secrecy_104 ?_
    refine z_iload (pc := 107) C 7 rfl dX5_secrecy_107 ?_
    obtain ⟨c36, h⟩ := ifn h
    refine z_iaO (pc := 109) (k := 5) (j := 73) C 573 rfl (by decide) (by decide) (by decide) rfl rfl rfl rfl hv0 c36 rfl dX5_secrecy_109 ?_
    refine z_iconst (pc := 110) C dX5_secrecy_110 ?_
    refine z_ic_lt (pc := 111) C dX5_secrecy_111 (tgt := 125) (by decide) (fun c37 => ?_) (fun c37 => ?_)
    · have h := itt c37 h
      exact cB_X5_secrecy_125 C hk87 v0 v1 v2 v3 v4 v5 v6 ((12 * v1) + v6) M _ _ hv0 h
    · have h := itf c37 h
      refine z_aload_n (pc := 114) C 0 rfl dX5_secrecy_114 ?_
      refine gX5_573 (pc := 115) C rfl hv0 dX5_secrecy_115 ?_
      refine z_iload (pc := 118) C 7 rfl dX5_secrecy_118 ?_
      refine z_iaO (pc := 120) (k := 5) (j := 73) C 573 rfl (by decide) (by decide) (by decide) rfl rfl rfl rfl hv0 c36 rfl dX5_secrecy_120 ?_
      refine z_iload_n (pc := 121) C 2 rfl dX5_secrecy_121 ?_
      refine z_ic_lt (pc := 122) C dX5_secrecy_122 (tgt := 152) (by decide) (fun c42 => ?_) (fun c42 => ?_)
      · have h := itt c42 h
        exact z_lv [0, 1, 2, 3, 4, 5, 6] rfl <| cB_X5_secrecy_152 C hk87 v0 v1 v2 v3 v4 v5 v6 M _ _ hv0 h
      · have h := itf c42 h
        exact cB_X5_secrecy_125 C hk87 v0 v1 v2 v3 v4 v5 v6 ((12 * v1) + v6) M _ _ hv0 h
theorem cL_X5_secrecy_87 {X : x_Ctx} {M0 : Mem} (C : x_CC X 3 97 yX5_secrecy cX5_secrecy 12 (some .int) [])  : ∀ (n : Nat) (v0 : Nat) (v1 : Int) (v2 : Int) (v3 : Int) (v4 : Int) (v5 : Int) (v6 : Int) (M : Mem) (r : Int) (M' : Mem) (hv0 : m_kd M v0 = 5) (h : L_X5_secrecy_87  n v0 v1 v2 v3 v4 v5 v6 M = some (r, M')) , x_Z X 0 0 (x_QF X M0 (.returned (some (vI r))) M' 0 0) M0 M 12 [(0, .ref v0), (1, vI v1), (2, vI v2), (3, vI v3), (4, vI v4), (5, vI v5), (6, vI v6)] 87 [] := by
  intro n
  induction n with
  | zero => intro v0 v1 v2 v3 v4 v5 v6 M r M' hv0 h ; cases h
  | succ n ih => intro v0 v1 v2 v3 v4 v5 v6 M r M' hv0 h ; exact cB_X5_secrecy_87 C (fun v0 v1 v2 v3 v4 v5 v6 M r M' hv0 h  => ih v0 v1 v2 v3 v4 v5 v6 M r M' hv0 h ) v0 v1 v2 v3 v4 v5 v6 M r M' hv0 h 
theorem ct_X5_secrecy {l : Launch} {S0 : State} {D : va_G} {cA : Nat → ClassId} (hG : x_G l S0 D cA) (v0 : Nat) (v1 : Int) (v2 : Int) (v3 : Int) (v4 : Int) (M : Mem) (r : Int) (M' : Mem) (hv0 : m_kd M v0 = 5) (h : d_X5_secrecy v0 v1 v2 v3 v4 M = some (r, M')) : x_Me l S0 D cA yX5_secrecy cX5_secrecy 12 (some .int) [] ({ frames := 3, cells := 0, slots := 0, locals := 97 }) [.ref v0, vI v1, vI v2, vI v3, vI v4] M (.returned (some (vI r))) M' := by
  refine x_begin (F := 3) (Lo := 97) (mc := 0) (ms := 0) hG (Nat.le_of_ble_eq_true rfl) (lv := [(0, .ref v0), (1, vI v1), (2, vI v2), (3, vI v3), (4, vI v4)]) rfl rfl rfl rfl rfl (fun X e1 e2 e3 e4 e5 C => ?_)
  unfold d_X5_secrecy at h
  refine z_aload_n (pc := 0) C 0 rfl dX5_secrecy_0 ?_
  refine z_iconst (pc := 1) C dX5_secrecy_1 ?_
  refine pX5_500 (pc := 2) C rfl (Or.inl hv0) dX5_secrecy_2 ?_
  refine z_aload_n (pc := 5) C 0 rfl dX5_secrecy_5 ?_
  refine z_iload_n (pc := 6) C 1 rfl dX5_secrecy_6 ?_
  obtain ⟨r1, e2, h⟩ := bRs h
  refine cX5_473 (pc := 7) (st := []) (st1 := [vI r1]) C rfl (rm := { frames := 2, cells := 0, slots := 0, locals := 53 }) (ct_X5_isTable C.2.1 v0 v1 (m_si M 500 v0 0 0) _ hv0 e2) ⟨by decide, by decide, Nat.zero_le _, Nat.zero_le _⟩ (Or.inl hv0) rfl (Nat.le_of_ble_eq_true rfl) dX5_secrecy_7 (c2 := 0) (s2 := 0) rfl rfl (fun _ => ?_)
  refine z_if_ne (pc := 10) C dX5_secrecy_10 (tgt := 19) (by decide) (fun c3 => ?_) (fun c3 => ?_)
  · have h := itf c3 h
    refine z_iload_n (pc := 19) C 2 rfl dX5_secrecy_19 ?_
    refine z_i2l (pc := 20) C dX5_secrecy_20 ?_
    refine z_lconst (pc := 21) C (x := 0) (by decide +kernel) dX5_secrecy_21 ?_
    refine z_ldc2 (pc := 22) C (x := 100) q2007 (by decide +kernel) dX5_secrecy_22 ?_
    refine cX5_207 (pc := 25) (st := []) (st1 := [vI (d_X5_isIn (w32 v2) 0 100)]) C rfl (rm := { frames := 1, cells := 0, slots := 0, locals := 24 }) (ct_X5_isIn C.2.1 (w32 v2) 0 100 (m_si M 500 v0 0 0) _  rfl) ⟨by decide, by decide, Nat.zero_le _, Nat.zero_le _⟩ rfl (Nat.le_of_ble_eq_true rfl) dX5_secrecy_25 (c2 := 0) (s2 := 0) rfl rfl (fun _ => ?_)
    refine z_if_eq (pc := 28) C dX5_secrecy_28 (tgt := 56) (by decide) (fun c5 => ?_) (fun c5 => ?_)
    · have h := itt c5 h
      refine z_aload_n (pc := 56) C 0 rfl dX5_secrecy_56 ?_
      refine z_iconst (pc := 57) C dX5_secrecy_57 ?_
      obtain ⟨r6, M7, e8, h⟩ := bNs h
      refine cX5_213 (pc := 58) (st := []) (st1 := [vI r6]) C rfl (rm := { frames := 1, cells := 0, slots := 0, locals := 24 }) (ct_X5_fail C.2.1 v0 2 (m_si M 500 v0 0 0) _ _ hv0 e8) ⟨by decide, by decide, Nat.zero_le _, Nat.zero_le _⟩ (Or.inl hv0) rfl (Nat.le_of_ble_eq_true rfl) dX5_secrecy_58 (c2 := 0) (s2 := 0) rfl rfl (fun x9 => ?_)
      cases h
      exact z_iret (pc := 61) C rfl (show 0 ≤ 0 from by decide) (show 0 ≤ 0 from by decide) dX5_secrecy_61
    · have h := itf c5 h
      refine z_iload_n (pc := 31) C 3 rfl dX5_secrecy_31 ?_
      refine z_i2l (pc := 32) C dX5_secrecy_32 ?_
      refine z_lconst (pc := 33) C (x := 0) (by decide +kernel) dX5_secrecy_33 ?_
      refine z_ldc2 (pc := 34) C (x := 100) q2007 (by decide +kernel) dX5_secrecy_34 ?_
      refine cX5_207 (pc := 37) (st := []) (st1 := [vI (d_X5_isIn (w32 v3) 0 100)]) C rfl (rm := { frames := 1, cells := 0, slots := 0, locals := 24 }) (ct_X5_isIn C.2.1 (w32 v3) 0 100 (m_si M 500 v0 0 0) _  rfl) ⟨by decide, by decide, Nat.zero_le _, Nat.zero_le _⟩ rfl (Nat.le_of_ble_eq_true rfl) dX5_secrecy_37 (c2 := 0) (s2 := 0) rfl rfl (fun _ => ?_)
      refine z_if_eq (pc := 40) C dX5_secrecy_40 (tgt := 56) (by decide) (fun c11 => ?_) (fun c11 => ?_)
      · have h := itt c11 h
        refine z_aload_n (pc := 56) C 0 rfl dX5_secrecy_56 ?_
        refine z_iconst (pc := 57) C dX5_secrecy_57 ?_
        obtain ⟨r12, M13, e14, h⟩ := bNs h
        refine cX5_213 (pc := 58) (st := []) (st1 := [vI r12]) C rfl (rm := { frames := 1, cells := 0, slots := 0, locals := 24 }) (ct_X5_fail C.2.1 v0 2 (m_si M 500 v0 0 0) _ _ hv0 e14) ⟨by decide, by decide, Nat.zero_le _, Nat.zero_le _⟩ (Or.inl hv0) rfl (Nat.le_of_ble_eq_true rfl) dX5_secrecy_58 (c2 := 0) (s2 := 0) rfl rfl (fun x15 => ?_)
        cases h
        exact z_iret (pc := 61) C rfl (show 0 ≤ 0 from by decide) (show 0 ≤ 0 from by decide) dX5_secrecy_61
      · have h := itf c11 h
        refine z_iload (pc := 43) C 4 rfl dX5_secrecy_43 ?_
        refine z_i2l (pc := 45) C dX5_secrecy_45 ?_
        refine z_lconst (pc := 46) C (x := 0) (by decide +kernel) dX5_secrecy_46 ?_
        refine z_ldc2 (pc := 47) C (x := 1000000) q1785 (by decide +kernel) dX5_secrecy_47 ?_
        refine cX5_207 (pc := 50) (st := []) (st1 := [vI (d_X5_isIn (w32 v4) 0 1000000)]) C rfl (rm := { frames := 1, cells := 0, slots := 0, locals := 24 }) (ct_X5_isIn C.2.1 (w32 v4) 0 1000000 (m_si M 500 v0 0 0) _  rfl) ⟨by decide, by decide, Nat.zero_le _, Nat.zero_le _⟩ rfl (Nat.le_of_ble_eq_true rfl) dX5_secrecy_50 (c2 := 0) (s2 := 0) rfl rfl (fun _ => ?_)
        refine z_if_ne (pc := 53) C dX5_secrecy_53 (tgt := 62) (by decide) (fun c17 => ?_) (fun c17 => ?_)
        · have h := itf c17 h
          refine z_aload_n (pc := 62) C 0 rfl dX5_secrecy_62 ?_
          refine gX5_570 (pc := 63) C rfl hv0 dX5_secrecy_63 ?_
          refine z_iload_n (pc := 66) C 1 rfl dX5_secrecy_66 ?_
          obtain ⟨c18, h⟩ := ifn h
          refine z_iaO (pc := 67) (k := 5) (j := 70) C 570 rfl (by decide) (by decide) (by decide) rfl rfl rfl rfl hv0 c18 (x := m_i M 570 v0 (ixn v1)) ((m_i_ne (by decide)).trans rfl) dX5_secrecy_67 ?_
          refine z_aload_n (pc := 68) C 0 rfl dX5_secrecy_68 ?_
          refine gX5_571 (pc := 69) C rfl hv0 dX5_secrecy_69 ?_
          refine z_iload_n (pc := 72) C 1 rfl dX5_secrecy_72 ?_
          refine z_iaO (pc := 73) (k := 5) (j := 71) C 571 rfl (by decide) (by decide) (by decide) rfl rfl rfl rfl hv0 c18 (x := m_i M 571 v0 (ixn v1)) ((m_i_ne (by decide)).trans rfl) dX5_secrecy_73 ?_
          refine z_imul (pc := 74) C dX5_secrecy_74 ?_
          refine z_istore (pc := 75) C (lv' := [(0, .ref v0), (1, vI v1), (2, vI v2), (3, vI v3), (4, vI v4), (5, vI ((m_i M 570 v0 (ixn v1)) * (m_i M 571 v0 (ixn v1))))]) (by decide) rfl dX5_secrecy_75 ?_
          refine z_aload_n (pc := 77) C 0 rfl dX5_secrecy_77 ?_
          refine gX5_578 (pc := 78) C rfl hv0 dX5_secrecy_78 ?_
          refine z_iload_n (pc := 81) C 1 rfl dX5_secrecy_81 ?_
          refine z_iconst (pc := 82) C dX5_secrecy_82 ?_
          refine z_isO (pc := 83) (k := 5) (j := 78) C 578 rfl (by decide) (by decide) (by decide) rfl rfl rfl rfl hv0 c18 dX5_secrecy_83 ?_
          refine z_iconst (pc := 84) C dX5_secrecy_84 ?_
          refine z_istore (pc := 85) C (lv' := [(0, .ref v0), (1, vI v1), (2, vI v2), (3, vI v3), (4, vI v4), (5, vI ((m_i M 570 v0 (ixn v1)) * (m_i M 571 v0 (ixn v1)))), (6, vI 0)]) (by decide) rfl dX5_secrecy_85 ?_
          exact cL_X5_secrecy_87 C FU v0 v1 v2 v3 v4 ((m_i M 570 v0 (ixn v1)) * (m_i M 571 v0 (ixn v1))) 0 (m_si (m_si M 500 v0 0 0) 578 v0 (ixn v1) 0) _ _ hv0 h
        · have h := itt c17 h
          refine z_aload_n (pc := 56) C 0 rfl dX5_secrecy_56 ?_
          refine z_iconst (pc := 57) C dX5_secrecy_57 ?_
          obtain ⟨r43, M44, e45, h⟩ := bNs h
          refine cX5_213 (pc := 58) (st := []) (st1 := [vI r43]) C rfl (rm := { frames := 1, cells := 0, slots := 0, locals := 24 }) (ct_X5_fail C.2.1 v0 2 (m_si M 500 v0 0 0) _ _ hv0 e45) ⟨by decide, by decide, Nat.zero_le _, Nat.zero_le _⟩ (Or.inl hv0) rfl (Nat.le_of_ble_eq_true rfl) dX5_secrecy_58 (c2 := 0) (s2 := 0) rfl rfl (fun x46 => ?_)
          cases h
          exact z_iret (pc := 61) C rfl (show 0 ≤ 0 from by decide) (show 0 ≤ 0 from by decide) dX5_secrecy_61
  · have h := itt c3 h
    refine z_aload_n (pc := 13) C 0 rfl dX5_secrecy_13 ?_
    refine z_iconst (pc := 14) C dX5_secrecy_14 ?_
    obtain ⟨r47, M48, e49, h⟩ := bNs h
    refine cX5_213 (pc := 15) (st := []) (st1 := [vI r47]) C rfl (rm := { frames := 1, cells := 0, slots := 0, locals := 24 }) (ct_X5_fail C.2.1 v0 1 (m_si M 500 v0 0 0) _ _ hv0 e49) ⟨by decide, by decide, Nat.zero_le _, Nat.zero_le _⟩ (Or.inl hv0) rfl (Nat.le_of_ble_eq_true rfl) dX5_secrecy_15 (c2 := 0) (s2 := 0) rfl rfl (fun x50 => ?_)
    cases h
    exact z_iret (pc := 18) C rfl (show 0 ≤ 0 from by decide) (show 0 ≤ 0 from by decide) dX5_secrecy_18
def d_X5_isCell (v0 : Nat) (v1 : Int) (v2 : Int) (v3 : Int) (M : Mem) : Option Int :=
  bR (d_X5_isTable v0 v1 M) fun r1 => 
  if w32 r1 = 0 then
    some 0
  else
    if inb v1 12 then 
    if w32 (d_X5_isIn (w32 v2) 0 (w32 ((m_i M 570 v0 (ixn v1)) - 1))) = 0 then
      some 0
    else
      if w32 (d_X5_isIn (w32 v3) 0 (w32 ((m_i M 571 v0 (ixn v1)) - 1))) = 0 then
        some 0
      else
        some 1 else none
theorem ct_X5_isCell {l : Launch} {S0 : State} {D : va_G} {cA : Nat → ClassId} (hG : x_G l S0 D cA) (v0 : Nat) (v1 : Int) (v2 : Int) (v3 : Int) (M : Mem) (r : Int) (hv0 : m_kd M v0 = 5) (h : d_X5_isCell v0 v1 v2 v3 M = some r) : x_Me l S0 D cA yX5_isCell cX5_isCell 4 (some .boolean) [] ({ frames := 3, cells := 0, slots := 0, locals := 78 }) [.ref v0, vI v1, vI v2, vI v3] M (.returned (some (vI r))) M := by
  refine x_begin (F := 3) (Lo := 78) (mc := 0) (ms := 0) hG (Nat.le_of_ble_eq_true rfl) (lv := [(0, .ref v0), (1, vI v1), (2, vI v2), (3, vI v3)]) rfl rfl rfl rfl rfl (fun X e1 e2 e3 e4 e5 C => ?_)
  unfold d_X5_isCell at h
  refine z_aload_n (pc := 0) C 0 rfl dX5_isCell_0 ?_
  refine z_iload_n (pc := 1) C 1 rfl dX5_isCell_1 ?_
  obtain ⟨r1, e2, h⟩ := bRs h
  refine cX5_473 (pc := 2) (st := []) (st1 := [vI r1]) C rfl (rm := { frames := 2, cells := 0, slots := 0, locals := 53 }) (ct_X5_isTable C.2.1 v0 v1 M _ hv0 e2) ⟨by decide, by decide, Nat.zero_le _, Nat.zero_le _⟩ (Or.inl hv0) rfl (Nat.le_of_ble_eq_true rfl) dX5_isCell_2 (c2 := 0) (s2 := 0) rfl rfl (fun _ => ?_)
  refine z_if_eq (pc := 5) C dX5_isCell_5 (tgt := 48) (by decide) (fun c3 => ?_) (fun c3 => ?_)
  · have h := itt c3 h
    refine z_iconst (pc := 48) C dX5_isCell_48 ?_
    cases h
    exact z_zret (pc := 49) C rfl (Or.inl rfl) (show 0 ≤ 0 from by decide) (show 0 ≤ 0 from by decide) dX5_isCell_49
  · have h := itf c3 h
    refine z_iload_n (pc := 8) C 2 rfl dX5_isCell_8 ?_
    refine z_i2l (pc := 9) C dX5_isCell_9 ?_
    refine z_lconst (pc := 10) C (x := 0) (by decide +kernel) dX5_isCell_10 ?_
    refine z_aload_n (pc := 11) C 0 rfl dX5_isCell_11 ?_
    refine gX5_570 (pc := 12) C rfl hv0 dX5_isCell_12 ?_
    refine z_iload_n (pc := 15) C 1 rfl dX5_isCell_15 ?_
    obtain ⟨c4, h⟩ := ifn h
    refine z_iaO (pc := 16) (k := 5) (j := 70) C 570 rfl (by decide) (by decide) (by decide) rfl rfl rfl rfl hv0 c4 rfl dX5_isCell_16 ?_
    refine z_iconst (pc := 17) C dX5_isCell_17 ?_
    refine z_isub (pc := 18) C dX5_isCell_18 ?_
    refine z_i2l (pc := 19) C dX5_isCell_19 ?_
    refine cX5_207 (pc := 20) (st := []) (st1 := [vI (d_X5_isIn (w32 v2) 0 (w32 ((m_i M 570 v0 (ixn v1)) - 1)))]) C rfl (rm := { frames := 1, cells := 0, slots := 0, locals := 24 }) (ct_X5_isIn C.2.1 (w32 v2) 0 (w32 ((m_i M 570 v0 (ixn v1)) - 1)) M _  rfl) ⟨by decide, by decide, Nat.zero_le _, Nat.zero_le _⟩ rfl (Nat.le_of_ble_eq_true rfl) dX5_isCell_20 (c2 := 0) (s2 := 0) rfl rfl (fun _ => ?_)
    refine z_if_eq (pc := 23) C dX5_isCell_23 (tgt := 48) (by decide) (fun c6 => ?_) (fun c6 => ?_)
    · have h := itt c6 h
      refine z_iconst (pc := 48) C dX5_isCell_48 ?_
      cases h
      exact z_zret (pc := 49) C rfl (Or.inl rfl) (show 0 ≤ 0 from by decide) (show 0 ≤ 0 from by decide) dX5_isCell_49
    · have h := itf c6 h
      refine z_iload_n (pc := 26) C 3 rfl dX5_isCell_26 ?_
      refine z_i2l (pc := 27) C dX5_isCell_27 ?_
      refine z_lconst (pc := 28) C (x := 0) (by decide +kernel) dX5_isCell_28 ?_
      refine z_aload_n (pc := 29) C 0 rfl dX5_isCell_29 ?_
      refine gX5_571 (pc := 30) C rfl hv0 dX5_isCell_30 ?_
      refine z_iload_n (pc := 33) C 1 rfl dX5_isCell_33 ?_
      refine z_iaO (pc := 34) (k := 5) (j := 71) C 571 rfl (by decide) (by decide) (by decide) rfl rfl rfl rfl hv0 c4 rfl dX5_isCell_34 ?_
      refine z_iconst (pc := 35) C dX5_isCell_35 ?_
      refine z_isub (pc := 36) C dX5_isCell_36 ?_
      refine z_i2l (pc := 37) C dX5_isCell_37 ?_
      refine cX5_207 (pc := 38) (st := []) (st1 := [vI (d_X5_isIn (w32 v3) 0 (w32 ((m_i M 571 v0 (ixn v1)) - 1)))]) C rfl (rm := { frames := 1, cells := 0, slots := 0, locals := 24 }) (ct_X5_isIn C.2.1 (w32 v3) 0 (w32 ((m_i M 571 v0 (ixn v1)) - 1)) M _  rfl) ⟨by decide, by decide, Nat.zero_le _, Nat.zero_le _⟩ rfl (Nat.le_of_ble_eq_true rfl) dX5_isCell_38 (c2 := 0) (s2 := 0) rfl rfl (fun _ => ?_)
      refine z_if_eq (pc := 41) C dX5_isCell_41 (tgt := 48) (by decide) (fun c8 => ?_) (fun c8 => ?_)
      · have h := itt c8 h
        refine z_iconst (pc := 48) C dX5_isCell_48 ?_
        cases h
        exact z_zret (pc := 49) C rfl (Or.inl rfl) (show 0 ≤ 0 from by decide) (show 0 ≤ 0 from by decide) dX5_isCell_49
      · have h := itf c8 h
        refine z_iconst (pc := 44) C dX5_isCell_44 ?_
        refine z_goto (pc := 45) C dX5_isCell_45 (tgt := 49) (by decide) ?_
        cases h
        exact z_zret (pc := 49) C rfl (Or.inr rfl) (show 0 ≤ 0 from by decide) (show 0 ≤ 0 from by decide) dX5_isCell_49
def d_X5_secret (v0 : Nat) (v1 : Int) (v2 : Int) (v3 : Int) (M : Mem) : Option (Int × Mem) :=
  bR (d_X5_isCell v0 v1 v2 v3 (m_si M 500 v0 0 0)) fun r1 => 
  if w32 r1 = 0 then
    bN (d_X5_fail v0 1 (m_si M 500 v0 0 0)) fun r7 M8 => 
    some (r7, M8)
  else
    if inb v1 12 then 
    if w32 (a32 (s32 (m_i M 577 v0 (ixn v1)) ((v2 * (m_i M 571 v0 (ixn v1))) + v3)) 1) = 0 then
      some (0, (m_si M 500 v0 0 0))
    else
      if w32 (a32 (s32 (m_i M 578 v0 (ixn v1)) ((v2 * (m_i M 571 v0 (ixn v1))) + v3)) 1) = w32 1 then
        some (1, (m_si M 500 v0 0 0))
      else
        some (2, (m_si M 500 v0 0 0)) else none
theorem ct_X5_secret {l : Launch} {S0 : State} {D : va_G} {cA : Nat → ClassId} (hG : x_G l S0 D cA) (v0 : Nat) (v1 : Int) (v2 : Int) (v3 : Int) (M : Mem) (r : Int) (M' : Mem) (hv0 : m_kd M v0 = 5) (h : d_X5_secret v0 v1 v2 v3 M = some (r, M')) : x_Me l S0 D cA yX5_secret cX5_secret 5 (some .int) [] ({ frames := 4, cells := 0, slots := 0, locals := 105 }) [.ref v0, vI v1, vI v2, vI v3] M (.returned (some (vI r))) M' := by
  refine x_begin (F := 4) (Lo := 105) (mc := 0) (ms := 0) hG (Nat.le_of_ble_eq_true rfl) (lv := [(0, .ref v0), (1, vI v1), (2, vI v2), (3, vI v3)]) rfl rfl rfl rfl rfl (fun X e1 e2 e3 e4 e5 C => ?_)
  unfold d_X5_secret at h
  refine z_aload_n (pc := 0) C 0 rfl dX5_secret_0 ?_
  refine z_iconst (pc := 1) C dX5_secret_1 ?_
  refine pX5_500 (pc := 2) C rfl (Or.inl hv0) dX5_secret_2 ?_
  refine z_aload_n (pc := 5) C 0 rfl dX5_secret_5 ?_
  refine z_iload_n (pc := 6) C 1 rfl dX5_secret_6 ?_
  refine z_iload_n (pc := 7) C 2 rfl dX5_secret_7 ?_
  refine z_iload_n (pc := 8) C 3 rfl dX5_secret_8 ?_
  obtain ⟨r1, e2, h⟩ := bRs h
  refine cX5_487 (pc := 9) (st := []) (st1 := [vI r1]) C rfl (rm := { frames := 3, cells := 0, slots := 0, locals := 78 }) (ct_X5_isCell C.2.1 v0 v1 v2 v3 (m_si M 500 v0 0 0) _ hv0 e2) ⟨by decide, by decide, Nat.zero_le _, Nat.zero_le _⟩ (Or.inl hv0) rfl (Nat.le_of_ble_eq_true rfl) dX5_secret_9 (c2 := 0) (s2 := 0) rfl rfl (fun _ => ?_)
  refine z_if_ne (pc := 12) C dX5_secret_12 (tgt := 21) (by decide) (fun c3 => ?_) (fun c3 => ?_)
  · have h := itf c3 h
    refine z_iload_n (pc := 21) C 2 rfl dX5_secret_21 ?_
    refine z_aload_n (pc := 22) C 0 rfl dX5_secret_22 ?_
    refine gX5_571 (pc := 23) C rfl hv0 dX5_secret_23 ?_
    refine z_iload_n (pc := 26) C 1 rfl dX5_secret_26 ?_
    obtain ⟨c4, h⟩ := ifn h
    refine z_iaO (pc := 27) (k := 5) (j := 71) C 571 rfl (by decide) (by decide) (by decide) rfl rfl rfl rfl hv0 c4 (x := m_i M 571 v0 (ixn v1)) ((m_i_ne (by decide)).trans rfl) dX5_secret_27 ?_
    refine z_imul (pc := 28) C dX5_secret_28 ?_
    refine z_iload_n (pc := 29) C 3 rfl dX5_secret_29 ?_
    refine z_iadd (pc := 30) C dX5_secret_30 ?_
    refine z_istore (pc := 31) C (lv' := [(0, .ref v0), (1, vI v1), (2, vI v2), (3, vI v3), (4, vI ((v2 * (m_i M 571 v0 (ixn v1))) + v3))]) (by decide) rfl dX5_secret_31 ?_
    refine z_aload_n (pc := 33) C 0 rfl dX5_secret_33 ?_
    refine gX5_577 (pc := 34) C rfl hv0 dX5_secret_34 ?_
    refine z_iload_n (pc := 37) C 1 rfl dX5_secret_37 ?_
    refine z_iaO (pc := 38) (k := 5) (j := 77) C 577 rfl (by decide) (by decide) (by decide) rfl rfl rfl rfl hv0 c4 (x := m_i M 577 v0 (ixn v1)) ((m_i_ne (by decide)).trans rfl) dX5_secret_38 ?_
    refine z_iload (pc := 39) C 4 rfl dX5_secret_39 ?_
    refine z_ishr (pc := 41) C dX5_secret_41 ?_
    refine z_iconst (pc := 42) C dX5_secret_42 ?_
    refine z_iand (pc := 43) C dX5_secret_43 ?_
    refine z_if_ne (pc := 44) C dX5_secret_44 (tgt := 51) (by decide) (fun c5 => ?_) (fun c5 => ?_)
    · have h := itf c5 h
      refine z_aload_n (pc := 51) C 0 rfl dX5_secret_51 ?_
      refine gX5_578 (pc := 52) C rfl hv0 dX5_secret_52 ?_
      refine z_iload_n (pc := 55) C 1 rfl dX5_secret_55 ?_
      refine z_iaO (pc := 56) (k := 5) (j := 78) C 578 rfl (by decide) (by decide) (by decide) rfl rfl rfl rfl hv0 c4 (x := m_i M 578 v0 (ixn v1)) ((m_i_ne (by decide)).trans rfl) dX5_secret_56 ?_
      refine z_iload (pc := 57) C 4 rfl dX5_secret_57 ?_
      refine z_ishr (pc := 59) C dX5_secret_59 ?_
      refine z_iconst (pc := 60) C dX5_secret_60 ?_
      refine z_iand (pc := 61) C dX5_secret_61 ?_
      refine z_iconst (pc := 62) C dX5_secret_62 ?_
      refine z_ic_ne (pc := 63) C dX5_secret_63 (tgt := 70) (by decide) (fun c6 => ?_) (fun c6 => ?_)
      · have h := itf c6 h
        refine z_iconst (pc := 70) C dX5_secret_70 ?_
        cases h
        exact z_iret (pc := 71) C rfl (show 0 ≤ 0 from by decide) (show 0 ≤ 0 from by decide) dX5_secret_71
      · have h := itt c6 h
        refine z_iconst (pc := 66) C dX5_secret_66 ?_
        refine z_goto (pc := 67) C dX5_secret_67 (tgt := 71) (by decide) ?_
        cases h
        exact z_iret (pc := 71) C rfl (show 0 ≤ 0 from by decide) (show 0 ≤ 0 from by decide) dX5_secret_71
    · have h := itt c5 h
      refine z_iconst (pc := 47) C dX5_secret_47 ?_
      refine z_goto (pc := 48) C dX5_secret_48 (tgt := 71) (by decide) ?_
      cases h
      exact z_iret (pc := 71) C rfl (show 0 ≤ 0 from by decide) (show 0 ≤ 0 from by decide) dX5_secret_71
  · have h := itt c3 h
    refine z_aload_n (pc := 15) C 0 rfl dX5_secret_15 ?_
    refine z_iconst (pc := 16) C dX5_secret_16 ?_
    obtain ⟨r7, M8, e9, h⟩ := bNs h
    refine cX5_213 (pc := 17) (st := []) (st1 := [vI r7]) C rfl (rm := { frames := 1, cells := 0, slots := 0, locals := 24 }) (ct_X5_fail C.2.1 v0 1 (m_si M 500 v0 0 0) _ _ hv0 e9) ⟨by decide, by decide, Nat.zero_le _, Nat.zero_le _⟩ (Or.inl hv0) rfl (Nat.le_of_ble_eq_true rfl) dX5_secret_17 (c2 := 0) (s2 := 0) rfl rfl (fun x10 => ?_)
    cases h
    exact z_iret (pc := 20) C rfl (show 0 ≤ 0 from by decide) (show 0 ≤ 0 from by decide) dX5_secret_20
def d_X5_interval (v0 : Nat) (v1 : Int) (v2 : Int) (v3 : Int) (v4 : Int) (M : Mem) : Option (Int × Mem) :=
  bR (d_X5_isCell v0 v1 v2 v3 (m_si M 500 v0 0 0)) fun r1 => 
  if w32 r1 = 0 then
    bN (d_X5_fail v0 1 (m_si M 500 v0 0 0)) fun r12 M13 => 
    some (r12, M13)
  else
    if inb v1 12 then 
    if inb ((12 * v1) + ((v2 * (m_i M 571 v0 (ixn v1))) + v3)) 144 then 
    if w32 (a32 (s32 (m_i M 577 v0 (ixn v1)) ((v2 * (m_i M 571 v0 (ixn v1))) + v3)) 1) = 0 then
      some (m_i M 572 v0 (ixn ((12 * v1) + ((v2 * (m_i M 571 v0 (ixn v1))) + v3))), (m_si M 500 v0 0 0))
    else
      if w32 v4 = 0 then
        bR (d_X5_most v0 v1 (m_i M 577 v0 (ixn v1)) ((v2 * (m_i M 571 v0 (ixn v1))) + v3) 0 (m_si M 500 v0 0 0)) fun r8 => 
        some ((m_i M 572 v0 (ixn ((12 * v1) + ((v2 * (m_i M 571 v0 (ixn v1))) + v3)))) - r8, (m_si M 500 v0 0 0))
      else
        bR (d_X5_most v0 v1 (m_i M 577 v0 (ixn v1)) ((v2 * (m_i M 571 v0 (ixn v1))) + v3) 1 (m_si M 500 v0 0 0)) fun r10 => 
        some ((m_i M 572 v0 (ixn ((12 * v1) + ((v2 * (m_i M 571 v0 (ixn v1))) + v3)))) + r10, (m_si M 500 v0 0 0)) else none else none
theorem ct_X5_interval {l : Launch} {S0 : State} {D : va_G} {cA : Nat → ClassId} (hG : x_G l S0 D cA) (v0 : Nat) (v1 : Int) (v2 : Int) (v3 : Int) (v4 : Int) (M : Mem) (r : Int) (M' : Mem) (hv0 : m_kd M v0 = 5) (h : d_X5_interval v0 v1 v2 v3 v4 M = some (r, M')) : x_Me l S0 D cA yX5_interval cX5_interval 7 (some .int) [] ({ frames := 4, cells := 0, slots := 0, locals := 105 }) [.ref v0, vI v1, vI v2, vI v3, vI v4] M (.returned (some (vI r))) M' := by
  refine x_begin (F := 4) (Lo := 105) (mc := 0) (ms := 0) hG (Nat.le_of_ble_eq_true rfl) (lv := [(0, .ref v0), (1, vI v1), (2, vI v2), (3, vI v3), (4, vI v4)]) rfl rfl rfl rfl rfl (fun X e1 e2 e3 e4 e5 C => ?_)
  unfold d_X5_interval at h
  refine z_aload_n (pc := 0) C 0 rfl dX5_interval_0 ?_
  refine z_iconst (pc := 1) C dX5_interval_1 ?_
  refine pX5_500 (pc := 2) C rfl (Or.inl hv0) dX5_interval_2 ?_
  refine z_aload_n (pc := 5) C 0 rfl dX5_interval_5 ?_
  refine z_iload_n (pc := 6) C 1 rfl dX5_interval_6 ?_
  refine z_iload_n (pc := 7) C 2 rfl dX5_interval_7 ?_
  refine z_iload_n (pc := 8) C 3 rfl dX5_interval_8 ?_
  obtain ⟨r1, e2, h⟩ := bRs h
  refine cX5_487 (pc := 9) (st := []) (st1 := [vI r1]) C rfl (rm := { frames := 3, cells := 0, slots := 0, locals := 78 }) (ct_X5_isCell C.2.1 v0 v1 v2 v3 (m_si M 500 v0 0 0) _ hv0 e2) ⟨by decide, by decide, Nat.zero_le _, Nat.zero_le _⟩ (Or.inl hv0) rfl (Nat.le_of_ble_eq_true rfl) dX5_interval_9 (c2 := 0) (s2 := 0) rfl rfl (fun _ => ?_)
  refine z_if_ne (pc := 12) C dX5_interval_12 (tgt := 21) (by decide) (fun c3 => ?_) (fun c3 => ?_)
  · have h := itf c3 h
    refine z_iload_n (pc := 21) C 2 rfl dX5_interval_21 ?_
    refine z_aload_n (pc := 22) C 0 rfl dX5_interval_22 ?_
    refine gX5_571 (pc := 23) C rfl hv0 dX5_interval_23 ?_
    refine z_iload_n (pc := 26) C 1 rfl dX5_interval_26 ?_
    obtain ⟨c4, h⟩ := ifn h
    refine z_iaO (pc := 27) (k := 5) (j := 71) C 571 rfl (by decide) (by decide) (by decide) rfl rfl rfl rfl hv0 c4 (x := m_i M 571 v0 (ixn v1)) ((m_i_ne (by decide)).trans rfl) dX5_interval_27 ?_
    refine z_imul (pc := 28) C dX5_interval_28 ?_
    refine z_iload_n (pc := 29) C 3 rfl dX5_interval_29 ?_
    refine z_iadd (pc := 30) C dX5_interval_30 ?_
    refine z_istore (pc := 31) C (lv' := [(0, .ref v0), (1, vI v1), (2, vI v2), (3, vI v3), (4, vI v4), (5, vI ((v2 * (m_i M 571 v0 (ixn v1))) + v3))]) (by decide) rfl dX5_interval_31 ?_
    refine z_aload_n (pc := 33) C 0 rfl dX5_interval_33 ?_
    refine gX5_572 (pc := 34) C rfl hv0 dX5_interval_34 ?_
    refine z_bipush (pc := 37) C (by decide +kernel) dX5_interval_37 ?_
    refine z_iload_n (pc := 39) C 1 rfl dX5_interval_39 ?_
    refine z_imul (pc := 40) C dX5_interval_40 ?_
    refine z_iload (pc := 41) C 5 rfl dX5_interval_41 ?_
    refine z_iadd (pc := 43) C dX5_interval_43 ?_
    obtain ⟨c5, h⟩ := ifn h
    refine z_iaO (pc := 44) (k := 5) (j := 72) C 572 rfl (by decide) (by decide) (by decide) rfl rfl rfl rfl hv0 c5 (x := m_i M 572 v0 (ixn ((12 * v1) + ((v2 * (m_i M 571 v0 (ixn v1))) + v3)))) ((m_i_ne (by decide)).trans rfl) dX5_interval_44 ?_
    refine z_istore (pc := 45) C (lv' := [(0, .ref v0), (1, vI v1), (2, vI v2), (3, vI v3), (4, vI v4), (5, vI ((v2 * (m_i M 571 v0 (ixn v1))) + v3)), (6, vI (m_i M 572 v0 (ixn ((12 * v1) + ((v2 * (m_i M 571 v0 (ixn v1))) + v3)))))]) (by decide) rfl dX5_interval_45 ?_
    refine z_aload_n (pc := 47) C 0 rfl dX5_interval_47 ?_
    refine gX5_577 (pc := 48) C rfl hv0 dX5_interval_48 ?_
    refine z_iload_n (pc := 51) C 1 rfl dX5_interval_51 ?_
    refine z_iaO (pc := 52) (k := 5) (j := 77) C 577 rfl (by decide) (by decide) (by decide) rfl rfl rfl rfl hv0 c4 (x := m_i M 577 v0 (ixn v1)) ((m_i_ne (by decide)).trans rfl) dX5_interval_52 ?_
    refine z_iload (pc := 53) C 5 rfl dX5_interval_53 ?_
    refine z_ishr (pc := 55) C dX5_interval_55 ?_
    refine z_iconst (pc := 56) C dX5_interval_56 ?_
    refine z_iand (pc := 57) C dX5_interval_57 ?_
    refine z_if_ne (pc := 58) C dX5_interval_58 (tgt := 66) (by decide) (fun c6 => ?_) (fun c6 => ?_)
    · have h := itf c6 h
      refine z_iload (pc := 66) C 4 rfl dX5_interval_66 ?_
      refine z_if_eq (pc := 68) C dX5_interval_68 (tgt := 91) (by decide) (fun c7 => ?_) (fun c7 => ?_)
      · have h := itt c7 h
        refine z_iload (pc := 91) C 6 rfl dX5_interval_91 ?_
        refine z_aload_n (pc := 93) C 0 rfl dX5_interval_93 ?_
        refine z_iload_n (pc := 94) C 1 rfl dX5_interval_94 ?_
        refine z_aload_n (pc := 95) C 0 rfl dX5_interval_95 ?_
        refine gX5_577 (pc := 96) C rfl hv0 dX5_interval_96 ?_
        refine z_iload_n (pc := 99) C 1 rfl dX5_interval_99 ?_
        refine z_iaO (pc := 100) (k := 5) (j := 77) C 577 rfl (by decide) (by decide) (by decide) rfl rfl rfl rfl hv0 c4 (x := m_i M 577 v0 (ixn v1)) ((m_i_ne (by decide)).trans rfl) dX5_interval_100 ?_
        refine z_iload (pc := 101) C 5 rfl dX5_interval_101 ?_
        refine z_iconst (pc := 103) C dX5_interval_103 ?_
        obtain ⟨r8, e9, h⟩ := bRs h
        refine cX5_481 (pc := 104) (st := [vI (m_i M 572 v0 (ixn ((12 * v1) + ((v2 * (m_i M 571 v0 (ixn v1))) + v3))))]) (st1 := [vI r8, vI (m_i M 572 v0 (ixn ((12 * v1) + ((v2 * (m_i M 571 v0 (ixn v1))) + v3))))]) C rfl (rm := { frames := 1, cells := 0, slots := 0, locals := 24 }) (ct_X5_most C.2.1 v0 v1 (m_i M 577 v0 (ixn v1)) ((v2 * (m_i M 571 v0 (ixn v1))) + v3) 0 (m_si M 500 v0 0 0) _ hv0 e9) ⟨by decide, by decide, Nat.zero_le _, Nat.zero_le _⟩ (Or.inl hv0) rfl (Nat.le_of_ble_eq_true rfl) dX5_interval_104 (c2 := 0) (s2 := 0) rfl rfl (fun _ => ?_)
        refine z_isub (pc := 107) C dX5_interval_107 ?_
        cases h
        exact z_iret (pc := 108) C rfl (show 0 ≤ 0 from by decide) (show 0 ≤ 0 from by decide) dX5_interval_108
      · have h := itf c7 h
        refine z_iload (pc := 71) C 6 rfl dX5_interval_71 ?_
        refine z_aload_n (pc := 73) C 0 rfl dX5_interval_73 ?_
        refine z_iload_n (pc := 74) C 1 rfl dX5_interval_74 ?_
        refine z_aload_n (pc := 75) C 0 rfl dX5_interval_75 ?_
        refine gX5_577 (pc := 76) C rfl hv0 dX5_interval_76 ?_
        refine z_iload_n (pc := 79) C 1 rfl dX5_interval_79 ?_
        refine z_iaO (pc := 80) (k := 5) (j := 77) C 577 rfl (by decide) (by decide) (by decide) rfl rfl rfl rfl hv0 c4 (x := m_i M 577 v0 (ixn v1)) ((m_i_ne (by decide)).trans rfl) dX5_interval_80 ?_
        refine z_iload (pc := 81) C 5 rfl dX5_interval_81 ?_
        refine z_iconst (pc := 83) C dX5_interval_83 ?_
        obtain ⟨r10, e11, h⟩ := bRs h
        refine cX5_481 (pc := 84) (st := [vI (m_i M 572 v0 (ixn ((12 * v1) + ((v2 * (m_i M 571 v0 (ixn v1))) + v3))))]) (st1 := [vI r10, vI (m_i M 572 v0 (ixn ((12 * v1) + ((v2 * (m_i M 571 v0 (ixn v1))) + v3))))]) C rfl (rm := { frames := 1, cells := 0, slots := 0, locals := 24 }) (ct_X5_most C.2.1 v0 v1 (m_i M 577 v0 (ixn v1)) ((v2 * (m_i M 571 v0 (ixn v1))) + v3) 1 (m_si M 500 v0 0 0) _ hv0 e11) ⟨by decide, by decide, Nat.zero_le _, Nat.zero_le _⟩ (Or.inl hv0) rfl (Nat.le_of_ble_eq_true rfl) dX5_interval_84 (c2 := 0) (s2 := 0) rfl rfl (fun _ => ?_)
        refine z_iadd (pc := 87) C dX5_interval_87 ?_
        refine z_goto (pc := 88) C dX5_interval_88 (tgt := 108) (by decide) ?_
        cases h
        exact z_iret (pc := 108) C rfl (show 0 ≤ 0 from by decide) (show 0 ≤ 0 from by decide) dX5_interval_108
    · have h := itt c6 h
      refine z_iload (pc := 61) C 6 rfl dX5_interval_61 ?_
      refine z_goto (pc := 63) C dX5_interval_63 (tgt := 108) (by decide) ?_
      cases h
      exact z_iret (pc := 108) C rfl (show 0 ≤ 0 from by decide) (show 0 ≤ 0 from by decide) dX5_interval_108
  · have h := itt c3 h
    refine z_aload_n (pc := 15) C 0 rfl dX5_interval_15 ?_
    refine z_iconst (pc := 16) C dX5_interval_16 ?_
    obtain ⟨r12, M13, e14, h⟩ := bNs h
    refine cX5_213 (pc := 17) (st := []) (st1 := [vI r12]) C rfl (rm := { frames := 1, cells := 0, slots := 0, locals := 24 }) (ct_X5_fail C.2.1 v0 1 (m_si M 500 v0 0 0) _ _ hv0 e14) ⟨by decide, by decide, Nat.zero_le _, Nat.zero_le _⟩ (Or.inl hv0) rfl (Nat.le_of_ble_eq_true rfl) dX5_interval_17 (c2 := 0) (s2 := 0) rfl rfl (fun x15 => ?_)
    cases h
    exact z_iret (pc := 20) C rfl (show 0 ≤ 0 from by decide) (show 0 ≤ 0 from by decide) dX5_interval_20
