set_option maxRecDepth 100000
def B_X1_takeFromDonor_145 (k55 : Nat → Nat → Int → Int → Mem → Option (Int × Mem)) (k145 : Nat → Nat → Int → Int → Int → Int → Mem → Option (Int × Mem)) (v0 : Nat) (v1 : Nat) (v2 : Int) (v3 : Int) (v4 : Int) (v5 : Int) (M : Mem) : Option (Int × Mem) :=
  if w32 20 ≤ w32 v5 then
    bR (m_r M 901 v1 0) fun q19 => 
    bR (d_X1_countBroken q19 (v0 + 33) M) fun r23 => 
    if w32 r23 = 0 then
      some (1, M)
    else
      k55 v0 v1 v2 (v3 + 1) M
  else
    if w32 (a32 (s32 v2 v5) 1) = 0 then
      if inb v5 20 then 
      k145 v0 v1 v2 v3 v4 (v5 + 1) (m_si M 123 v0 (ixn v5) (m_i M 902 v1 (ixn v5))) else none
    else
      if inb v4 60 then 
      bR (m_r M 121 v0 (ixn v4)) fun q29 => 
      if inb v5 20 then 
      k145 v0 v1 v2 v3 v4 (v5 + 1) (m_si M 123 v0 (ixn v5) (m_i M 902 q29 (ixn v5))) else none else none
def L_X1_takeFromDonor_145 (k55 : Nat → Nat → Int → Int → Mem → Option (Int × Mem)) : Nat → Nat → Nat → Int → Int → Int → Int → Mem → Option (Int × Mem)
  | 0, _, _, _, _, _, _, _ => none
  | n + 1, v0, v1, v2, v3, v4, v5, M => B_X1_takeFromDonor_145 k55 (L_X1_takeFromDonor_145 k55 n) v0 v1 v2 v3 v4 v5 M
def B_X1_takeFromDonor_69 (k55 : Nat → Nat → Int → Int → Mem → Option (Int × Mem)) (k69 : Nat → Nat → Int → Int → Int → Int → Mem → Option (Int × Mem)) (v0 : Nat) (v1 : Nat) (v2 : Int) (v3 : Int) (v4 : Int) (v5 : Int) (M : Mem) : Option (Int × Mem) :=
  if w32 (m_i M 120 v0 0) ≤ w32 v5 then
    if w32 v4 = w32 (-1) then
      some (0, M)
    else
      if inb v4 60 then 
      L_X1_takeFromDonor_145 k55 FU v0 v1 v2 v3 v4 0 (m_si M 124 v0 (ixn v4) (-1)) else none
  else
    if inb v5 60 then 
    if w64 (m_i M 124 v0 (ixn v5)) < w64 0 then
      k69 v0 v1 v2 v3 v4 (v5 + 1) M
    else
      if w32 v4 = w32 (-1) then
        k69 v0 v1 v2 v3 v5 (v5 + 1) M
      else
        if inb v4 60 then 
        if w64 (m_i M 124 v0 (ixn v4)) ≤ w64 (m_i M 124 v0 (ixn v5)) then
          k69 v0 v1 v2 v3 v4 (v5 + 1) M
        else
          k69 v0 v1 v2 v3 v5 (v5 + 1) M else none else none
def L_X1_takeFromDonor_69 (k55 : Nat → Nat → Int → Int → Mem → Option (Int × Mem)) : Nat → Nat → Nat → Int → Int → Int → Int → Mem → Option (Int × Mem)
  | 0, _, _, _, _, _, _, _ => none
  | n + 1, v0, v1, v2, v3, v4, v5, M => B_X1_takeFromDonor_69 k55 (L_X1_takeFromDonor_69 k55 n) v0 v1 v2 v3 v4 v5 M
def B_X1_takeFromDonor_55 (k55 : Nat → Nat → Int → Int → Mem → Option (Int × Mem)) (v0 : Nat) (v1 : Nat) (v2 : Int) (v3 : Int) (M : Mem) : Option (Int × Mem) :=
  if w32 (m_i M 120 v0 0) ≤ w32 v3 then
    some (0, M)
  else
    L_X1_takeFromDonor_69 k55 FU v0 v1 v2 v3 (-1) 0 M
def L_X1_takeFromDonor_55  : Nat → Nat → Nat → Int → Int → Mem → Option (Int × Mem)
  | 0, _, _, _, _, _ => none
  | n + 1, v0, v1, v2, v3, M => B_X1_takeFromDonor_55 (L_X1_takeFromDonor_55  n) v0 v1 v2 v3 M
def B_X1_takeFromDonor_2 (k2 : Nat → Nat → Int → Int → Mem → Option (Int × Mem)) (v0 : Nat) (v1 : Nat) (v2 : Int) (v3 : Int) (M : Mem) : Option (Int × Mem) :=
  if w32 (m_i M 120 v0 0) ≤ w32 v3 then
    L_X1_takeFromDonor_55 FU v0 v1 v2 0 M
  else
    if inb v3 60 then 
    bR (m_r M 121 v0 (ixn v3)) fun q39 => 
    bR (d_X1_isDonor v1 q39 v2 M) fun r42 => 
    if w32 r42 = 0 then
      k2 v0 v1 v2 (v3 + 1) (m_si M 124 v0 (ixn v3) (-1))
    else
      bR (m_r M 121 v0 (ixn v3)) fun q45 => 
      bR (d_X1_distanceOf v1 q45 v2 M) fun r48 => 
      k2 v0 v1 v2 (v3 + 1) (m_si M 124 v0 (ixn v3) r48) else none
def L_X1_takeFromDonor_2  : Nat → Nat → Nat → Int → Int → Mem → Option (Int × Mem)
  | 0, _, _, _, _, _ => none
  | n + 1, v0, v1, v2, v3, M => B_X1_takeFromDonor_2 (L_X1_takeFromDonor_2  n) v0 v1 v2 v3 M
def d_X1_takeFromDonor (v0 : Nat) (v1 : Nat) (v2 : Int) (M : Mem) : Option (Int × Mem) :=
  L_X1_takeFromDonor_2 FU v0 v1 v2 0 M
theorem cB_X1_takeFromDonor_145 {X : x_Ctx} {M0 : Mem} (C : x_CC X 4 107 yX1_takeFromDonor cX1_takeFromDonor 6 (some .boolean) []) {k55 : Nat → Nat → Int → Int → Mem → Option (Int × Mem)} (hk55 : ∀ (v0 : Nat) (v1 : Nat) (v2 : Int) (v3 : Int) (M : Mem) (r : Int) (M' : Mem), m_kd M v0 = 1 → m_kd M v1 = 9 → k55 v0 v1 v2 v3 M = some (r, M') → x_Z X 0 0 (x_QF X M0 (.returned (some (vI r))) M' 0 0) M0 M 6 [(0, .ref v0), (1, .ref v1), (2, vI v2), (3, vI v3)] 55 []) {k145 : Nat → Nat → Int → Int → Int → Int → Mem → Option (Int × Mem)} (hk145 : ∀ (v0 : Nat) (v1 : Nat) (v2 : Int) (v3 : Int) (v4 : Int) (v5 : Int) (M : Mem) (r : Int) (M' : Mem), m_kd M v0 = 1 → m_kd M v1 = 9 → k145 v0 v1 v2 v3 v4 v5 M = some (r, M') → x_Z X 0 0 (x_QF X M0 (.returned (some (vI r))) M' 0 0) M0 M 6 [(0, .ref v0), (1, .ref v1), (2, vI v2), (3, vI v3), (4, vI v4), (5, vI v5)] 145 []) (v0 : Nat) (v1 : Nat) (v2 : Int) (v3 : Int) (v4 : Int) (v5 : Int) (M : Mem) (r : Int) (M' : Mem) (hv0 : m_kd M v0 = 1) (hv1 : m_kd M v1 = 9) (h : B_X1_takeFromDonor_145 k55 k145 v0 v1 v2 v3 v4 v5 M = some (r, M'))  : x_Z X 0 0 (x_QF X M0 (.returned (some (vI r))) M' 0 0) M0 M 6 [(0, .ref v0), (1, .ref v1), (2, vI v2), (3, vI v3), (4, vI v4), (5, vI v5)] 145 [] := by
  unfold B_X1_takeFromDonor_145 at h
  refine z_iload (pc := 145) C 5 rfl dX1_takeFromDonor_145 ?_
  refine z_bipush (pc := 147) C (by decide +kernel) dX1_takeFromDonor_147 ?_
  refine z_ic_ge (pc := 149) C dX1_takeFromDonor_149 (tgt := 197) (by decide) (fun c18 => ?_) (fun c18 => ?_)
  · have h := itt c18 h
    refine z_aload_n (pc := 197) C 1 rfl dX1_takeFromDonor_197 ?_
    obtain ⟨q19, e20, h⟩ := bRs h
    refine gX1_901 (pc := 198) C rfl (Or.inl hv1) e20 dX1_takeFromDonor_198 (fun k21 => ?_)
    refine z_aload_n (pc := 201) C 0 rfl dX1_takeFromDonor_201 ?_
    refine gX1_123 (pc := 202) C rfl hv0 dX1_takeFromDonor_202 ?_
    refine z_ia (k := 1) (j := 23) 123 rfl (by decide) (by decide) (by decide) rfl rfl rfl hv0 (fun k22 => ?_)
    obtain ⟨r23, e24, h⟩ := bRs h
    refine cX1_405 (pc := 205) (st := []) (st1 := [vI r23]) C rfl (rm := { frames := 2, cells := 0, slots := 0, locals := 52 }) (ct_X1_countBroken C.2.1 q19 (v0 + 33) M _ k21 k22.1 e24) ⟨by decide, by decide, Nat.zero_le _, Nat.zero_le _⟩ rfl (Nat.le_of_ble_eq_true rfl) dX1_takeFromDonor_205 (c2 := 0) (s2 := 0) rfl rfl (fun _ => ?_)
    refine z_if_ne (pc := 208) C dX1_takeFromDonor_208 (tgt := 213) (by decide) (fun c25 => ?_) (fun c25 => ?_)
    · have h := itf c25 h
      refine z_iinc (pc := 213) C (lv' := [(0, .ref v0), (1, .ref v1), (2, vI v2), (3, vI (v3 + 1)), (4, vI v4), (5, vI v5)]) 3 rfl (by decide) rfl dX1_takeFromDonor_213 ?_
      refine z_goto (pc := 216) C dX1_takeFromDonor_216 (tgt := 55) (by decide) ?_
      exact z_lv [0, 1, 2, 3] rfl <| hk55 v0 v1 v2 (v3 + 1) M _ _ hv0 hv1 h
    · have h := itt c25 h
      refine z_iconst (pc := 211) C dX1_takeFromDonor_211 ?_
      cases h
      exact z_zret (pc := 212) C rfl (Or.inr rfl) (show 0 ≤ 0 from by decide) (show 0 ≤ 0 from by decide) dX1_takeFromDonor_212
  · have h := itf c18 h
    refine z_aload_n (pc := 152) C 0 rfl dX1_takeFromDonor_152 ?_
    refine gX1_123 (pc := 153) C rfl hv0 dX1_takeFromDonor_153 ?_
    refine z_iload (pc := 156) C 5 rfl dX1_takeFromDonor_156 ?_
    refine z_iload_n (pc := 158) C 2 rfl dX1_takeFromDonor_158 ?_
    refine z_iload (pc := 159) C 5 rfl dX1_takeFromDonor_159 ?_
    refine z_ishr (pc := 161) C dX1_takeFromDonor_161 ?_
    refine z_iconst (pc := 162) C dX1_takeFromDonor_162 ?_
    refine z_iand (pc := 163) C dX1_takeFromDonor_163 ?_
    refine z_if_eq (pc := 164) C dX1_takeFromDonor_164 (tgt := 183) (by decide) (fun c26 => ?_) (fun c26 => ?_)
    · have h := itt c26 h
      refine z_aload_n (pc := 183) C 1 rfl dX1_takeFromDonor_183 ?_
      refine gX1_902 (pc := 184) C rfl hv1 dX1_takeFromDonor_184 ?_
      refine z_iload (pc := 187) C 5 rfl dX1_takeFromDonor_187 ?_
      obtain ⟨c27, h⟩ := ifn h
      refine z_iaO (pc := 189) (k := 9) (j := 2) C 902 rfl (by decide) (by decide) (by decide) rfl rfl rfl rfl hv1 c27 rfl dX1_takeFromDonor_189 ?_
      refine z_isO (pc := 190) (k := 1) (j := 23) C 123 rfl (by decide) (by decide) (by decide) rfl rfl rfl rfl hv0 c27 dX1_takeFromDonor_190 ?_
      refine z_iinc (pc := 191) C (lv' := [(0, .ref v0), (1, .ref v1), (2, vI v2), (3, vI v3), (4, vI v4), (5, vI (v5 + 1))]) 5 rfl (by decide) rfl dX1_takeFromDonor_191 ?_
      refine z_goto (pc := 194) C dX1_takeFromDonor_194 (tgt := 145) (by decide) ?_
      exact hk145 v0 v1 v2 v3 v4 (v5 + 1) (m_si M 123 v0 (ixn v5) (m_i M 902 v1 (ixn v5))) _ _ hv0 hv1 h
    · have h := itf c26 h
      refine z_aload_n (pc := 167) C 0 rfl dX1_takeFromDonor_167 ?_
      refine gX1_121 (pc := 168) C rfl hv0 dX1_takeFromDonor_168 ?_
      refine z_iload (pc := 171) C 4 rfl dX1_takeFromDonor_171 ?_
      obtain ⟨c28, h⟩ := ifn h
      obtain ⟨q29, e30, h⟩ := bRs h
      refine z_aaO (pc := 173) (k := 1) (j := 21) C 121 rfl (by decide) (by decide) (by decide) rfl rfl (by decide) (by decide) rfl hv0 c28 rfl (by decide) e30 dX1_takeFromDonor_173 (fun k31 => ?_)
      refine gX1_902 (pc := 174) C rfl k31 dX1_takeFromDonor_174 ?_
      refine z_iload (pc := 177) C 5 rfl dX1_takeFromDonor_177 ?_
      obtain ⟨c32, h⟩ := ifn h
      refine z_iaO (pc := 179) (k := 9) (j := 2) C 902 rfl (by decide) (by decide) (by decide) rfl rfl rfl rfl k31 c32 rfl dX1_takeFromDonor_179 ?_
      refine z_goto (pc := 180) C dX1_takeFromDonor_180 (tgt := 190) (by decide) ?_
      refine z_isO (pc := 190) (k := 1) (j := 23) C 123 rfl (by decide) (by decide) (by decide) rfl rfl rfl rfl hv0 c32 dX1_takeFromDonor_190 ?_
      refine z_iinc (pc := 191) C (lv' := [(0, .ref v0), (1, .ref v1), (2, vI v2), (3, vI v3), (4, vI v4), (5, vI (v5 + 1))]) 5 rfl (by decide) rfl dX1_takeFromDonor_191 ?_
      refine z_goto (pc := 194) C dX1_takeFromDonor_194 (tgt := 145) (by decide) ?_
      exact hk145 v0 v1 v2 v3 v4 (v5 + 1) (m_si M 123 v0 (ixn v5) (m_i M 902 q29 (ixn v5))) _ _ hv0 hv1 h
theorem cL_X1_takeFromDonor_145 {X : x_Ctx} {M0 : Mem} (C : x_CC X 4 107 yX1_takeFromDonor cX1_takeFromDonor 6 (some .boolean) []) {k55 : Nat → Nat → Int → Int → Mem → Option (Int × Mem)} (hk55 : ∀ (v0 : Nat) (v1 : Nat) (v2 : Int) (v3 : Int) (M : Mem) (r : Int) (M' : Mem), m_kd M v0 = 1 → m_kd M v1 = 9 → k55 v0 v1 v2 v3 M = some (r, M') → x_Z X 0 0 (x_QF X M0 (.returned (some (vI r))) M' 0 0) M0 M 6 [(0, .ref v0), (1, .ref v1), (2, vI v2), (3, vI v3)] 55 []) : ∀ (n : Nat) (v0 : Nat) (v1 : Nat) (v2 : Int) (v3 : Int) (v4 : Int) (v5 : Int) (M : Mem) (r : Int) (M' : Mem) (hv0 : m_kd M v0 = 1) (hv1 : m_kd M v1 = 9) (h : L_X1_takeFromDonor_145 k55 n v0 v1 v2 v3 v4 v5 M = some (r, M')) , x_Z X 0 0 (x_QF X M0 (.returned (some (vI r))) M' 0 0) M0 M 6 [(0, .ref v0), (1, .ref v1), (2, vI v2), (3, vI v3), (4, vI v4), (5, vI v5)] 145 [] := by
  intro n
  induction n with
  | zero => intro v0 v1 v2 v3 v4 v5 M r M' hv0 hv1 h ; cases h
  | succ n ih => intro v0 v1 v2 v3 v4 v5 M r M' hv0 hv1 h ; exact cB_X1_takeFromDonor_145 C hk55 (fun v0 v1 v2 v3 v4 v5 M r M' hv0 hv1 h  => ih v0 v1 v2 v3 v4 v5 M r M' hv0 hv1 h ) v0 v1 v2 v3 v4 v5 M r M' hv0 hv1 h 
theorem cB_X1_takeFromDonor_69 {X : x_Ctx} {M0 : Mem} (C : x_CC X 4 107 yX1_takeFromDonor cX1_takeFromDonor 6 (some .boolean) []) {k55 : Nat → Nat → Int → Int → Mem → Option (Int × Mem)} (hk55 : ∀ (v0 : Nat) (v1 : Nat) (v2 : Int) (v3 : Int) (M : Mem) (r : Int) (M' : Mem), m_kd M v0 = 1 → m_kd M v1 = 9 → k55 v0 v1 v2 v3 M = some (r, M') → x_Z X 0 0 (x_QF X M0 (.returned (some (vI r))) M' 0 0) M0 M 6 [(0, .ref v0), (1, .ref v1), (2, vI v2), (3, vI v3)] 55 []) {k69 : Nat → Nat → Int → Int → Int → Int → Mem → Option (Int × Mem)} (hk69 : ∀ (v0 : Nat) (v1 : Nat) (v2 : Int) (v3 : Int) (v4 : Int) (v5 : Int) (M : Mem) (r : Int) (M' : Mem), m_kd M v0 = 1 → m_kd M v1 = 9 → k69 v0 v1 v2 v3 v4 v5 M = some (r, M') → x_Z X 0 0 (x_QF X M0 (.returned (some (vI r))) M' 0 0) M0 M 6 [(0, .ref v0), (1, .ref v1), (2, vI v2), (3, vI v3), (4, vI v4), (5, vI v5)] 69 []) (v0 : Nat) (v1 : Nat) (v2 : Int) (v3 : Int) (v4 : Int) (v5 : Int) (M : Mem) (r : Int) (M' : Mem) (hv0 : m_kd M v0 = 1) (hv1 : m_kd M v1 = 9) (h : B_X1_takeFromDonor_69 k55 k69 v0 v1 v2 v3 v4 v5 M = some (r, M'))  : x_Z X 0 0 (x_QF X M0 (.returned (some (vI r))) M' 0 0) M0 M 6 [(0, .ref v0), (1, .ref v1), (2, vI v2), (3, vI v3), (4, vI v4), (5, vI v5)] 69 [] := by
  unfold B_X1_takeFromDonor_69 at h
  refine z_iload (pc := 69) C 5 rfl dX1_takeFromDonor_69 ?_
  refine z_aload_n (pc := 71) C 0 rfl dX1_takeFromDonor_71 ?_
  refine gX1_120 (pc := 72) C rfl (Or.inl hv0) rfl dX1_takeFromDonor_72 ?_
  refine z_ic_ge (pc := 75) C dX1_takeFromDonor_75 (tgt := 124) (by decide) (fun c15 => ?_) (fun c15 => ?_)
  · have h := itt c15 h
    refine z_iload (pc := 124) C 4 rfl dX1_takeFromDonor_124 ?_
    refine z_iconst (pc := 126) C dX1_takeFromDonor_126 ?_
    refine z_ic_ne (pc := 127) C dX1_takeFromDonor_127 (tgt := 132) (by decide) (fun c16 => ?_) (fun c16 => ?_)
    · have h := itf c16 h
      refine z_aload_n (pc := 132) C 0 rfl dX1_takeFromDonor_132 ?_
      refine gX1_124 (pc := 133) C rfl hv0 dX1_takeFromDonor_133 ?_
      refine z_iload (pc := 136) C 4 rfl dX1_takeFromDonor_136 ?_
      refine z_ldc2 (pc := 138) C (x := -1) q1108 (by decide +kernel) dX1_takeFromDonor_138 ?_
      obtain ⟨c17, h⟩ := ifn h
      refine z_lsO (pc := 141) (k := 1) (j := 24) C 124 rfl (by decide) (by decide) (by decide) rfl rfl rfl rfl hv0 c17 dX1_takeFromDonor_141 ?_
      refine z_iconst (pc := 142) C dX1_takeFromDonor_142 ?_
      refine z_istore (pc := 143) C (lv' := [(0, .ref v0), (1, .ref v1), (2, vI v2), (3, vI v3), (4, vI v4), (5, vI 0)]) (by decide) rfl dX1_takeFromDonor_143 ?_
      exact cL_X1_takeFromDonor_145 C hk55 FU v0 v1 v2 v3 v4 0 (m_si M 124 v0 (ixn v4) (-1)) _ _ hv0 hv1 h
    · have h := itt c16 h
      refine z_iconst (pc := 130) C dX1_takeFromDonor_130 ?_
      cases h
      exact z_zret (pc := 131) C rfl (Or.inl rfl) (show 0 ≤ 0 from by decide) (show 0 ≤ 0 from by decide) dX1_takeFromDonor_131
  · have h := itf c15 h
    refine z_aload_n (pc := 78) C 0 rfl dX1_takeFromDonor_78 ?_
    refine gX1_124 (pc := 79) C rfl hv0 dX1_takeFromDonor_79 ?_
    refine z_iload (pc := 82) C 5 rfl dX1_takeFromDonor_82 ?_
    obtain ⟨c33, h⟩ := ifn h
    refine z_laO (pc := 84) (k := 1) (j := 24) C 124 rfl (by decide) (by decide) (by decide) rfl rfl rfl rfl hv0 c33 rfl dX1_takeFromDonor_84 ?_
    refine z_lconst (pc := 85) C (x := 0) (by decide +kernel) dX1_takeFromDonor_85 ?_
    refine z_lc_lt (pc := 86) C dX1_takeFromDonor_86 dX1_takeFromDonor_87 (tgt := 118) (by decide) (fun c34 => ?_) (fun c34 => ?_)
    · have h := itt c34 h
      refine z_iinc (pc := 118) C (lv' := [(0, .ref v0), (1, .ref v1), (2, vI v2), (3, vI v3), (4, vI v4), (5, vI (v5 + 1))]) 5 rfl (by decide) rfl dX1_takeFromDonor_118 ?_
      refine z_goto (pc := 121) C dX1_takeFromDonor_121 (tgt := 69) (by decide) ?_
      exact hk69 v0 v1 v2 v3 v4 (v5 + 1) M _ _ hv0 hv1 h
    · have h := itf c34 h
      refine z_iload (pc := 90) C 4 rfl dX1_takeFromDonor_90 ?_
      refine z_iconst (pc := 92) C dX1_takeFromDonor_92 ?_
      refine z_ic_eq (pc := 93) C dX1_takeFromDonor_93 (tgt := 114) (by decide) (fun c35 => ?_) (fun c35 => ?_)
      · have h := itt c35 h
        refine z_iload (pc := 114) C 5 rfl dX1_takeFromDonor_114 ?_
        refine z_istore (pc := 116) C (lv' := [(0, .ref v0), (1, .ref v1), (2, vI v2), (3, vI v3), (4, vI v5), (5, vI v5)]) (by decide) rfl dX1_takeFromDonor_116 ?_
        refine z_iinc (pc := 118) C (lv' := [(0, .ref v0), (1, .ref v1), (2, vI v2), (3, vI v3), (4, vI v5), (5, vI (v5 + 1))]) 5 rfl (by decide) rfl dX1_takeFromDonor_118 ?_
        refine z_goto (pc := 121) C dX1_takeFromDonor_121 (tgt := 69) (by decide) ?_
        exact hk69 v0 v1 v2 v3 v5 (v5 + 1) M _ _ hv0 hv1 h
      · have h := itf c35 h
        refine z_aload_n (pc := 96) C 0 rfl dX1_takeFromDonor_96 ?_
        refine gX1_124 (pc := 97) C rfl hv0 dX1_takeFromDonor_97 ?_
        refine z_iload (pc := 100) C 5 rfl dX1_takeFromDonor_100 ?_
        refine z_laO (pc := 102) (k := 1) (j := 24) C 124 rfl (by decide) (by decide) (by decide) rfl rfl rfl rfl hv0 c33 rfl dX1_takeFromDonor_102 ?_
        refine z_aload_n (pc := 103) C 0 rfl dX1_takeFromDonor_103 ?_
        refine gX1_124 (pc := 104) C rfl hv0 dX1_takeFromDonor_104 ?_
        refine z_iload (pc := 107) C 4 rfl dX1_takeFromDonor_107 ?_
        obtain ⟨c36, h⟩ := ifn h
        refine z_laO (pc := 109) (k := 1) (j := 24) C 124 rfl (by decide) (by decide) (by decide) rfl rfl rfl rfl hv0 c36 rfl dX1_takeFromDonor_109 ?_
        refine z_lc_ge (pc := 110) C dX1_takeFromDonor_110 dX1_takeFromDonor_111 (tgt := 118) (by decide) (fun c37 => ?_) (fun c37 => ?_)
        · have h := itt c37 h
          refine z_iinc (pc := 118) C (lv' := [(0, .ref v0), (1, .ref v1), (2, vI v2), (3, vI v3), (4, vI v4), (5, vI (v5 + 1))]) 5 rfl (by decide) rfl dX1_takeFromDonor_118 ?_
          refine z_goto (pc := 121) C dX1_takeFromDonor_121 (tgt := 69) (by decide) ?_
          exact hk69 v0 v1 v2 v3 v4 (v5 + 1) M _ _ hv0 hv1 h
        · have h := itf c37 h
          refine z_iload (pc := 114) C 5 rfl dX1_takeFromDonor_114 ?_
          refine z_istore (pc := 116) C (lv' := [(0, .ref v0), (1, .ref v1), (2, vI v2), (3, vI v3), (4, vI v5), (5, vI v5)]) (by decide) rfl dX1_takeFromDonor_116 ?_
          refine z_iinc (pc := 118) C (lv' := [(0, .ref v0), (1, .ref v1), (2, vI v2), (3, vI v3), (4, vI v5), (5, vI (v5 + 1))]) 5 rfl (by decide) rfl dX1_takeFromDonor_118 ?_
          refine z_goto (pc := 121) C dX1_takeFromDonor_121 (tgt := 69) (by decide) ?_
          exact hk69 v0 v1 v2 v3 v5 (v5 + 1) M _ _ hv0 hv1 h
theorem cL_X1_takeFromDonor_69 {X : x_Ctx} {M0 : Mem} (C : x_CC X 4 107 yX1_takeFromDonor cX1_takeFromDonor 6 (some .boolean) []) {k55 : Nat → Nat → Int → Int → Mem → Option (Int × Mem)} (hk55 : ∀ (v0 : Nat) (v1 : Nat) (v2 : Int) (v3 : Int) (M : Mem) (r : Int) (M' : Mem), m_kd M v0 = 1 → m_kd M v1 = 9 → k55 v0 v1 v2 v3 M = some (r, M') → x_Z X 0 0 (x_QF X M0 (.returned (some (vI r))) M' 0 0) M0 M 6 [(0, .ref v0), (1, .ref v1), (2, vI v2), (3, vI v3)] 55 []) : ∀ (n : Nat) (v0 : Nat) (v1 : Nat) (v2 : Int) (v3 : Int) (v4 : Int) (v5 : Int) (M : Mem) (r : Int) (M' : Mem) (hv0 : m_kd M v0 = 1) (hv1 : m_kd M v1 = 9) (h : L_X1_takeFromDonor_69 k55 n v0 v1 v2 v3 v4 v5 M = some (r, M')) , x_Z X 0 0 (x_QF X M0 (.returned (some (vI r))) M' 0 0) M0 M 6 [(0, .ref v0), (1, .ref v1), (2, vI v2), (3, vI v3), (4, vI v4), (5, vI v5)] 69 [] := by
  intro n
  induction n with
  | zero => intro v0 v1 v2 v3 v4 v5 M r M' hv0 hv1 h ; cases h
  | succ n ih => intro v0 v1 v2 v3 v4 v5 M r M' hv0 hv1 h ; exact cB_X1_takeFromDonor_69 C hk55 (fun v0 v1 v2 v3 v4 v5 M r M' hv0 hv1 h  => ih v0 v1 v2 v3 v4 v5 M r M' hv0 hv1 h ) v0 v1 v2 v3 v4 v5 M r M' hv0 hv1 h 
theorem cB_X1_takeFromDonor_55 {X : x_Ctx} {M0 : Mem} (C : x_CC X 4 107 yX1_takeFromDonor cX1_takeFromDonor 6 (some .boolean) []) {k55 : Nat → Nat → Int → Int → Mem → Option (Int × Mem)} (hk55 : ∀ (v0 : Nat) (v1 : Nat) (v2 : Int) (v3 : Int) (M : Mem) (r : Int) (M' : Mem), m_kd M v0 = 1 → m_kd M v1 = 9 → k55 v0 v1 v2 v3 M = some (r, M') → x_Z X 0 0 (x_QF X M0 (.returned (some (vI r))) M' 0 0) M0 M 6 [(0, .ref v0), (1, .ref v1), (2, vI v2), (3, vI v3)] 55 []) (v0 : Nat) (v1 : Nat) (v2 : Int) (v3 : Int) (M : Mem) (r : Int) (M' : Mem) (hv0 : m_kd M v0 = 1) (hv1 : m_kd M v1 = 9) (h : B_X1_takeFromDonor_55 k55 v0 v1 v2 v3 M = some (r, M'))  : x_Z X 0 0 (x_QF X M0 (.returned (some (vI r))) M' 0 0) M0 M 6 [(0, .ref v0), (1, .ref v1), (2, vI v2), (3, vI v3)] 55 [] := by
  unfold B_X1_takeFromDonor_55 at h
  refine z_iload_n (pc := 55) C 3 rfl dX1_takeFromDonor_55 ?_
  refine z_aload_n (pc := 56) C 0 rfl dX1_takeFromDonor_56 ?_
  refine gX1_120 (pc := 57) C rfl (Or.inl hv0) rfl dX1_takeFromDonor_57 ?_
  refine z_ic_ge (pc := 60) C dX1_takeFromDonor_60 (tgt := 219) (by decide) (fun c14 => ?_) (fun c14 => ?_)
  · have h := itt c14 h
    refine z_iconst (pc := 219) C dX1_takeFromDonor_219 ?_
    cases h
    exact z_zret (pc := 220) C rfl (Or.inl rfl) (show 0 ≤ 0 from by decide) (show 0 ≤ 0 from by decide) dX1_takeFromDonor_220
  · have h := itf c14 h
    refine z_iconst (pc := 63) C dX1_takeFromDonor_63 ?_
    refine z_istore (pc := 64) C (lv' := [(0, .ref v0), (1, .ref v1), (2, vI v2), (3, vI v3), (4, vI (-1))]) (by decide) rfl dX1_takeFromDonor_64 ?_
    refine z_iconst (pc := 66) C dX1_takeFromDonor_66 ?_
    refine z_istore (pc := 67) C (lv' := [(0, .ref v0), (1, .ref v1), (2, vI v2), (3, vI v3), (4, vI (-1)), (5, vI 0)]) (by decide) rfl dX1_takeFromDonor_67 ?_
    exact cL_X1_takeFromDonor_69 C hk55 FU v0 v1 v2 v3 (-1) 0 M _ _ hv0 hv1 h
theorem cL_X1_takeFromDonor_55 {X : x_Ctx} {M0 : Mem} (C : x_CC X 4 107 yX1_takeFromDonor cX1_takeFromDonor 6 (some .boolean) [])  : ∀ (n : Nat) (v0 : Nat) (v1 : Nat) (v2 : Int) (v3 : Int) (M : Mem) (r : Int) (M' : Mem) (hv0 : m_kd M v0 = 1) (hv1 : m_kd M v1 = 9) (h : L_X1_takeFromDonor_55  n v0 v1 v2 v3 M = some (r, M')) , x_Z X 0 0 (x_QF X M0 (.returned (some (vI r))) M' 0 0) M0 M 6 [(0, .ref v0), (1, .ref v1), (2, vI v2), (3, vI v3)] 55 [] := by
  intro n
  induction n with
  | zero => intro v0 v1 v2 v3 M r M' hv0 hv1 h ; cases h
  | succ n ih => intro v0 v1 v2 v3 M r M' hv0 hv1 h ; exact cB_X1_takeFromDonor_55 C (fun v0 v1 v2 v3 M r M' hv0 hv1 h  => ih v0 v1 v2 v3 M r M' hv0 hv1 h ) v0 v1 v2 v3 M r M' hv0 hv1 h 
theorem cB_X1_takeFromDonor_2 {X : x_Ctx} {M0 : Mem} (C : x_CC X 4 107 yX1_takeFromDonor cX1_takeFromDonor 6 (some .boolean) []) {k2 : Nat → Nat → Int → Int → Mem → Option (Int × Mem)} (hk2 : ∀ (v0 : Nat) (v1 : Nat) (v2 : Int) (v3 : Int) (M : Mem) (r : Int) (M' : Mem), m_kd M v0 = 1 → m_kd M v1 = 9 → k2 v0 v1 v2 v3 M = some (r, M') → x_Z X 0 0 (x_QF X M0 (.returned (some (vI r))) M' 0 0) M0 M 6 [(0, .ref v0), (1, .ref v1), (2, vI v2), (3, vI v3)] 2 []) (v0 : Nat) (v1 : Nat) (v2 : Int) (v3 : Int) (M : Mem) (r : Int) (M' : Mem) (hv0 : m_kd M v0 = 1) (hv1 : m_kd M v1 = 9) (h : B_X1_takeFromDonor_2 k2 v0 v1 v2 v3 M = some (r, M'))  : x_Z X 0 0 (x_QF X M0 (.returned (some (vI r))) M' 0 0) M0 M 6 [(0, .ref v0), (1, .ref v1), (2, vI v2), (3, vI v3)] 2 [] := by
  unfold B_X1_takeFromDonor_2 at h
  refine z_iload_n (pc := 2) C 3 rfl dX1_takeFromDonor_2 ?_
  refine z_aload_n (pc := 3) C 0 rfl dX1_takeFromDonor_3 ?_
  refine gX1_120 (pc := 4) C rfl (Or.inl hv0) rfl dX1_takeFromDonor_4 ?_
  refine z_ic_ge (pc := 7) C dX1_takeFromDonor_7 (tgt := 53) (by decide) (fun c13 => ?_) (fun c13 => ?_)
  · have h := itt c13 h
    refine z_iconst (pc := 53) C dX1_takeFromDonor_53 ?_
    refine z_istore_n (pc := 54) C (lv' := [(0, .ref v0), (1, .ref v1), (2, vI v2), (3, vI 0)]) (by decide) rfl dX1_takeFromDonor_54 ?_
    exact cL_X1_takeFromDonor_55 C FU v0 v1 v2 0 M _ _ hv0 hv1 h
  · have h := itf c13 h
    refine z_aload_n (pc := 10) C 0 rfl dX1_takeFromDonor_10 ?_
    refine gX1_124 (pc := 11) C rfl hv0 dX1_takeFromDonor_11 ?_
    refine z_iload_n (pc := 14) C 3 rfl dX1_takeFromDonor_14 ?_
    refine z_aload_n (pc := 15) C 1 rfl dX1_takeFromDonor_15 ?_
    refine z_aload_n (pc := 16) C 0 rfl dX1_takeFromDonor_16 ?_
    refine gX1_121 (pc := 17) C rfl hv0 dX1_takeFromDonor_17 ?_
    refine z_iload_n (pc := 20) C 3 rfl dX1_takeFromDonor_20 ?_
    obtain ⟨c38, h⟩ := ifn h
    obtain ⟨q39, e40, h⟩ := bRs h
    refine z_aaO (pc := 21) (k := 1) (j := 21) C 121 rfl (by decide) (by decide) (by decide) rfl rfl (by decide) (by decide) rfl hv0 c38 rfl (by decide) e40 dX1_takeFromDonor_21 (fun k41 => ?_)
    refine z_iload_n (pc := 22) C 2 rfl dX1_takeFromDonor_22 ?_
    obtain ⟨r42, e43, h⟩ := bRs h
    refine cX1_435 (pc := 23) (st := [vI v3, .ref (v0 + 34)]) (st1 := [vI r42, vI v3, .ref (v0 + 34)]) C rfl (rm := { frames := 3, cells := 0, slots := 0, locals := 79 }) (ct_X1_isDonor C.2.1 v1 q39 v2 M _ hv1 k41 e43) ⟨by decide, by decide, Nat.zero_le _, Nat.zero_le _⟩ rfl (Nat.le_of_ble_eq_true rfl) dX1_takeFromDonor_23 (c2 := 0) (s2 := 0) rfl rfl (fun _ => ?_)
    refine z_if_eq (pc := 26) C dX1_takeFromDonor_26 (tgt := 43) (by decide) (fun c44 => ?_) (fun c44 => ?_)
    · have h := itt c44 h
      refine z_ldc2 (pc := 43) C (x := -1) q1108 (by decide +kernel) dX1_takeFromDonor_43 ?_
      refine z_lsO (pc := 46) (k := 1) (j := 24) C 124 rfl (by decide) (by decide) (by decide) rfl rfl rfl rfl hv0 c38 dX1_takeFromDonor_46 ?_
      refine z_iinc (pc := 47) C (lv' := [(0, .ref v0), (1, .ref v1), (2, vI v2), (3, vI (v3 + 1))]) 3 rfl (by decide) rfl dX1_takeFromDonor_47 ?_
      refine z_goto (pc := 50) C dX1_takeFromDonor_50 (tgt := 2) (by decide) ?_
      exact hk2 v0 v1 v2 (v3 + 1) (m_si M 124 v0 (ixn v3) (-1)) _ _ hv0 hv1 h
    · have h := itf c44 h
      refine z_aload_n (pc := 29) C 1 rfl dX1_takeFromDonor_29 ?_
      refine z_aload_n (pc := 30) C 0 rfl dX1_takeFromDonor_30 ?_
      refine gX1_121 (pc := 31) C rfl hv0 dX1_takeFromDonor_31 ?_
      refine z_iload_n (pc := 34) C 3 rfl dX1_takeFromDonor_34 ?_
      obtain ⟨q45, e46, h⟩ := bRs h
      refine z_aaO (pc := 35) (k := 1) (j := 21) C 121 rfl (by decide) (by decide) (by decide) rfl rfl (by decide) (by decide) rfl hv0 c38 rfl (by decide) e46 dX1_takeFromDonor_35 (fun k47 => ?_)
      refine z_iload_n (pc := 36) C 2 rfl dX1_takeFromDonor_36 ?_
      obtain ⟨r48, e49, h⟩ := bRs h
      refine cX1_439 (pc := 37) (st := [vI v3, .ref (v0 + 34)]) (st1 := [vL r48, vI v3, .ref (v0 + 34)]) C rfl (rm := { frames := 2, cells := 0, slots := 0, locals := 49 }) (ct_X1_distanceOf C.2.1 v1 q45 v2 M _ hv1 k47 e49) ⟨by decide, by decide, Nat.zero_le _, Nat.zero_le _⟩ rfl (Nat.le_of_ble_eq_true rfl) dX1_takeFromDonor_37 (c2 := 0) (s2 := 0) rfl rfl (fun _ => ?_)
      refine z_goto (pc := 40) C dX1_takeFromDonor_40 (tgt := 46) (by decide) ?_
      refine z_lsO (pc := 46) (k := 1) (j := 24) C 124 rfl (by decide) (by decide) (by decide) rfl rfl rfl rfl hv0 c38 dX1_takeFromDonor_46 ?_
      refine z_iinc (pc := 47) C (lv' := [(0, .ref v0), (1, .ref v1), (2, vI v2), (3, vI (v3 + 1))]) 3 rfl (by decide) rfl dX1_takeFromDonor_47 ?_
      refine z_goto (pc := 50) C dX1_takeFromDonor_50 (tgt := 2) (by decide) ?_
      exact hk2 v0 v1 v2 (v3 + 1) (m_si M 124 v0 (ixn v3) r48) _ _ hv0 hv1 h
theorem cL_X1_takeFromDonor_2 {X : x_Ctx} {M0 : Mem} (C : x_CC X 4 107 yX1_takeFromDonor cX1_takeFromDonor 6 (some .boolean) [])  : ∀ (n : Nat) (v0 : Nat) (v1 : Nat) (v2 : Int) (v3 : Int) (M : Mem) (r : Int) (M' : Mem) (hv0 : m_kd M v0 = 1) (hv1 : m_kd M v1 = 9) (h : L_X1_takeFromDonor_2  n v0 v1 v2 v3 M = some (r, M')) , x_Z X 0 0 (x_QF X M0 (.returned (some (vI r))) M' 0 0) M0 M 6 [(0, .ref v0), (1, .ref v1), (2, vI v2), (3, vI v3)] 2 [] := by
  intro n
  induction n with
  | zero => intro v0 v1 v2 v3 M r M' hv0 hv1 h ; cases h
  | succ n ih => intro v0 v1 v2 v3 M r M' hv0 hv1 h ; exact cB_X1_takeFromDonor_2 C (fun v0 v1 v2 v3 M r M' hv0 hv1 h  => ih v0 v1 v2 v3 M r M' hv0 hv1 h ) v0 v1 v2 v3 M r M' hv0 hv1 h 
theorem ct_X1_takeFromDonor {l : Launch} {S0 : State} {D : va_G} {cA : Nat → ClassId} (hG : x_G l S0 D cA) (v0 : Nat) (v1 : Nat) (v2 : Int) (M : Mem) (r : Int) (M' : Mem) (hv0 : m_kd M v0 = 1) (hv1 : m_kd M v1 = 9) (h : d_X1_takeFromDonor v0 v1 v2 M = some (r, M')) : x_Me l S0 D cA yX1_takeFromDonor cX1_takeFromDonor 6 (some .boolean) [] ({ frames := 4, cells := 0, slots := 0, locals := 107 }) [.ref v0, .ref v1, vI v2] M (.returned (some (vI r))) M' := by
  refine x_begin (F := 4) (Lo := 107) (mc := 0) (ms := 0) hG (Nat.le_of_ble_eq_true rfl) (lv := [(0, .ref v0), (1, .ref v1), (2, vI v2)]) rfl rfl rfl rfl rfl (fun X e1 e2 e3 e4 e5 C => ?_)
  unfold d_X1_takeFromDonor at h
  refine z_iconst (pc := 0) C dX1_takeFromDonor_0 ?_
  refine z_istore_n (pc := 1) C (lv' := [(0, .ref v0), (1, .ref v1), (2, vI v2), (3, vI 0)]) (by decide) rfl dX1_takeFromDonor_1 ?_
  exact cL_X1_takeFromDonor_2 C FU v0 v1 v2 0 M _ _ hv0 hv1 h
def B_X3_greatest_122 (k122 : Nat → Int → Nat → Int → Mem → Option (Int × Mem)) (v0 : Nat) (v1 : Int) (v2 : Nat) (v3 : Int) (M : Mem) : Option (Int × Mem) :=
  bR (m_r M 307 v0 0) fun q18 => 
  if w32 (m_i M 200 q18 0) ≤ w32 v3 then
    some (0, M)
  else
    if w32 (a32 (s32 v1 v3) 1) = 0 then
      k122 v0 v1 v2 (v3 + 1) M
    else
      if inb (v3 + 1) 21 then 
      if inb v3 (p_n M v2) then 
      k122 v0 v1 v2 (v3 + 1) (p_si M v2 (ixn v3) (m_i M 305 v0 (ixn (v3 + 1)))) else none else none
def L_X3_greatest_122  : Nat → Nat → Int → Nat → Int → Mem → Option (Int × Mem)
  | 0, _, _, _, _, _ => none
  | n + 1, v0, v1, v2, v3, M => B_X3_greatest_122 (L_X3_greatest_122  n) v0 v1 v2 v3 M
def B_X3_greatest_52 (k38 : Nat → Int → Nat → Int → Mem → Option (Int × Mem)) (k52 : Nat → Int → Nat → Int → Int → Mem → Option (Int × Mem)) (v0 : Nat) (v1 : Int) (v2 : Nat) (v3 : Int) (v4 : Int) (M : Mem) : Option (Int × Mem) :=
  if w32 (m_i M 304 v0 0) ≤ w32 v4 then
    k38 v0 v1 v2 (v3 + 1) M
  else
    if inb v4 56 then 
    if inb (m_i M 300 v0 (ixn v4)) 21 then 
    if inb (m_i M 301 v0 (ixn v4)) 21 then 
    k52 v0 v1 v2 v3 (v4 + 1) (m_si M 305 v0 (ixn (m_i M 300 v0 (ixn v4))) (nm64 (m_i M 305 v0 (ixn (m_i M 300 v0 (ixn v4)))) ((m_i M 305 v0 (ixn (m_i M 301 v0 (ixn v4)))) + (m_i M 302 v0 (ixn v4))))) else none else none else none
def L_X3_greatest_52 (k38 : Nat → Int → Nat → Int → Mem → Option (Int × Mem)) : Nat → Nat → Int → Nat → Int → Int → Mem → Option (Int × Mem)
  | 0, _, _, _, _, _, _ => none
  | n + 1, v0, v1, v2, v3, v4, M => B_X3_greatest_52 k38 (L_X3_greatest_52 k38 n) v0 v1 v2 v3 v4 M
def B_X3_greatest_38 (k38 : Nat → Int → Nat → Int → Mem → Option (Int × Mem)) (v0 : Nat) (v1 : Int) (v2 : Nat) (v3 : Int) (M : Mem) : Option (Int × Mem) :=
  bR (m_r M 307 v0 0) fun q14 => 
  if w32 (m_i M 200 q14 0) < w32 v3 then
    L_X3_greatest_122 FU v0 v1 v2 0 M
  else
    L_X3_greatest_52 k38 FU v0 v1 v2 v3 0 M
def L_X3_greatest_38  : Nat → Nat → Int → Nat → Int → Mem → Option (Int × Mem)
  | 0, _, _, _, _, _ => none
  | n + 1, v0, v1, v2, v3, M => B_X3_greatest_38 (L_X3_greatest_38  n) v0 v1 v2 v3 M
def B_X3_greatest_7 (k7 : Nat → Int → Nat → Int → Mem → Option (Int × Mem)) (v0 : Nat) (v1 : Int) (v2 : Nat) (v3 : Int) (M : Mem) : Option (Int × Mem) :=
  if w32 20 < w32 v3 then
    L_X3_greatest_38 FU v0 v1 v2 0 M
  else
    if w32 v3 = 0 then
      if inb v3 21 then 
      k7 v0 v1 v2 (v3 + 1) (m_si M 305 v0 (ixn v3) 0) else none
    else
      if inb v3 21 then 
      k7 v0 v1 v2 (v3 + 1) (m_si M 305 v0 (ixn v3) 4611686018427387903) else none
def L_X3_greatest_7  : Nat → Nat → Int → Nat → Int → Mem → Option (Int × Mem)
  | 0, _, _, _, _, _ => none
  | n + 1, v0, v1, v2, v3, M => B_X3_greatest_7 (L_X3_greatest_7  n) v0 v1 v2 v3 M
def d_X3_greatest (v0 : Nat) (v1 : Int) (v2 : Nat) (M : Mem) : Option (Int × Mem) :=
  bN (d_X3_lay v0 v1 M) fun r7 M8 => 
  L_X3_greatest_7 FU v0 v1 v2 0 M8
theorem cB_X3_greatest_122 {X : x_Ctx} {M0 : Mem} (C : x_CC X 3 81 yX3_greatest cX3_greatest 5 none []) {k122 : Nat → Int → Nat → Int → Mem → Option (Int × Mem)} (hk122 : ∀ (v0 : Nat) (v1 : Int) (v2 : Nat) (v3 : Int) (M : Mem) (r : Int) (M' : Mem), m_kd M v0 = 3 → x_IA M v2 → k122 v0 v1 v2 v3 M = some (r, M') → x_Z X 0 0 (x_QF X M0 (.returned none) M' 0 0) M0 M 5 [(0, .ref v0), (1, vI v1), (2, .ref v2), (3, vI v3)] 122 []) (v0 : Nat) (v1 : Int) (v2 : Nat) (v3 : Int) (M : Mem) (r : Int) (M' : Mem) (hv0 : m_kd M v0 = 3) (hv2 : x_IA M v2) (h : B_X3_greatest_122 k122 v0 v1 v2 v3 M = some (r, M'))  : x_Z X 0 0 (x_QF X M0 (.returned none) M' 0 0) M0 M 5 [(0, .ref v0), (1, vI v1), (2, .ref v2), (3, vI v3)] 122 [] := by
  unfold B_X3_greatest_122 at h
  refine z_iload_n (pc := 122) C 3 rfl dX3_greatest_122 ?_
  refine z_aload_n (pc := 123) C 0 rfl dX3_greatest_123 ?_
  obtain ⟨q18, e19, h⟩ := bRs h
  refine gX3_307 (pc := 124) C rfl (Or.inl hv0) e19 dX3_greatest_124 (fun k20 => ?_)
  refine gX3_200 (pc := 127) C rfl (Or.inl k20) rfl dX3_greatest_127 ?_
  refine z_ic_ge (pc := 130) C dX3_greatest_130 (tgt := 159) (by decide) (fun c21 => ?_) (fun c21 => ?_)
  · have h := itt c21 h
    cases h
    exact z_vret (pc := 159) C rfl (show 0 ≤ 0 from by decide) (show 0 ≤ 0 from by decide) dX3_greatest_159
  · have h := itf c21 h
    refine z_iload_n (pc := 133) C 1 rfl dX3_greatest_133 ?_
    refine z_iload_n (pc := 134) C 3 rfl dX3_greatest_134 ?_
    refine z_ishr (pc := 135) C dX3_greatest_135 ?_
    refine z_iconst (pc := 136) C dX3_greatest_136 ?_
    refine z_iand (pc := 137) C dX3_greatest_137 ?_
    refine z_if_eq (pc := 138) C dX3_greatest_138 (tgt := 153) (by decide) (fun c22 => ?_) (fun c22 => ?_)
    · have h := itt c22 h
      refine z_iinc (pc := 153) C (lv' := [(0, .ref v0), (1, vI v1), (2, .ref v2), (3, vI (v3 + 1))]) 3 rfl (by decide) rfl dX3_greatest_153 ?_
      refine z_goto (pc := 156) C dX3_greatest_156 (tgt := 122) (by decide) ?_
      exact hk122 v0 v1 v2 (v3 + 1) M _ _ hv0 hv2 h
    · have h := itf c22 h
      refine z_aload_n (pc := 141) C 2 rfl dX3_greatest_141 ?_
      refine z_iload_n (pc := 142) C 3 rfl dX3_greatest_142 ?_
      refine z_aload_n (pc := 143) C 0 rfl dX3_greatest_143 ?_
      refine gX3_305 (pc := 144) C rfl hv0 dX3_greatest_144 ?_
      refine z_iload_n (pc := 147) C 3 rfl dX3_greatest_147 ?_
      refine z_iconst (pc := 148) C dX3_greatest_148 ?_
      refine z_iadd (pc := 149) C dX3_greatest_149 ?_
      obtain ⟨c23, h⟩ := ifn h
      refine z_laO (pc := 150) (k := 3) (j := 5) C 305 rfl (by decide) (by decide) (by decide) rfl rfl rfl rfl hv0 c23 rfl dX3_greatest_150 ?_
      refine z_l2i (pc := 151) C dX3_greatest_151 ?_
      obtain ⟨c24, h⟩ := ifn h
      refine z_isP (pc := 152) C hv2 c24 dX3_greatest_152 ?_
      refine z_iinc (pc := 153) C (lv' := [(0, .ref v0), (1, vI v1), (2, .ref v2), (3, vI (v3 + 1))]) 3 rfl (by decide) rfl dX3_greatest_153 ?_
      refine z_goto (pc := 156) C dX3_greatest_156 (tgt := 122) (by decide) ?_
      exact hk122 v0 v1 v2 (v3 + 1) (p_si M v2 (ixn v3) (m_i M 305 v0 (ixn (v3 + 1)))) _ _ hv0 hv2 h
theorem cL_X3_greatest_122 {X : x_Ctx} {M0 : Mem} (C : x_CC X 3 81 yX3_greatest cX3_greatest 5 none [])  : ∀ (n : Nat) (v0 : Nat) (v1 : Int) (v2 : Nat) (v3 : Int) (M : Mem) (r : Int) (M' : Mem) (hv0 : m_kd M v0 = 3) (hv2 : x_IA M v2) (h : L_X3_greatest_122  n v0 v1 v2 v3 M = some (r, M')) , x_Z X 0 0 (x_QF X M0 (.returned none) M' 0 0) M0 M 5 [(0, .ref v0), (1, vI v1), (2, .ref v2), (3, vI v3)] 122 [] := by
  intro n
  induction n with
  | zero => intro v0 v1 v2 v3 M r M' hv0 hv2 h ; cases h
  | succ n ih => intro v0 v1 v2 v3 M r M' hv0 hv2 h ; exact cB_X3_greatest_122 C (fun v0 v1 v2 v3 M r M' hv0 hv2 h  => ih v0 v1 v2 v3 M r M' hv0 hv2 h ) v0 v1 v2 v3 M r M' hv0 hv2 h 
theorem cB_X3_greatest_52 {X : x_Ctx} {M0 : Mem} (C : x_CC X 3 81 yX3_greatest cX3_greatest 5 none []) {k38 : Nat → Int → Nat → Int → Mem → Option (Int × Mem)} (hk38 : ∀ (v0 : Nat) (v1 : Int) (v2 : Nat) (v3 : Int) (M : Mem) (r : Int) (M' : Mem), m_kd M v0 = 3 → x_IA M v2 → k38 v0 v1 v2 v3 M = some (r, M') → x_Z X 0 0 (x_QF X M0 (.returned none) M' 0 0) M0 M 5 [(0, .ref v0), (1, vI v1), (2, .ref v2), (3, vI v3)] 38 []) {k52 : Nat → Int → Nat → Int → Int → Mem → Option (Int × Mem)} (hk52 : ∀ (v0 : Nat) (v1 : Int) (v2 : Nat) (v3 : Int) (v4 : Int) (M : Mem) (r : Int) (M' : Mem), m_kd M v0 = 3 → x_IA M v2 → k52 v0 v1 v2 v3 v4 M = some (r, M') → x_Z X 0 0 (x_QF X M0 (.returned none) M' 0 0) M0 M 5 [(0, .ref v0), (1, vI v1), (2, .ref v2), (3, vI v3), (4, vI v4)] 52 []) (v0 : Nat) (v1 : Int) (v2 : Nat) (v3 : Int) (v4 : Int) (M : Mem) (r : Int) (M' : Mem) (hv0 : m_kd M v0 = 3) (hv2 : x_IA M v2) (h : B_X3_greatest_52 k38 k52 v0 v1 v2 v3 v4 M = some (r, M'))  : x_Z X 0 0 (x_QF X M0 (.returned none) M' 0 0) M0 M 5 [(0, .ref v0), (1, vI v1), (2, .ref v2), (3, vI v3), (4, vI v4)] 52 [] := by
  unfold B_X3_greatest_52 at h
  refine z_iload (pc := 52) C 4 rfl dX3_greatest_52 ?_
  refine z_aload_n (pc := 54) C 0 rfl dX3_greatest_54 ?_
  refine gX3_304 (pc := 55) C rfl (Or.inl hv0) rfl dX3_greatest_55 ?_
  refine z_ic_ge (pc := 58) C dX3_greatest_58 (tgt := 114) (by decide) (fun c25 => ?_) (fun c25 => ?_)
  · have h := itt c25 h
    refine z_iinc (pc := 114) C (lv' := [(0, .ref v0), (1, vI v1), (2, .ref v2), (3, vI (v3 + 1)), (4, vI v4)]) 3 rfl (by decide) rfl dX3_greatest_114 ?_
    refine z_goto (pc := 117) C dX3_greatest_117 (tgt := 38) (by decide) ?_
    exact z_lv [0, 1, 2, 3] rfl <| hk38 v0 v1 v2 (v3 + 1) M _ _ hv0 hv2 h
  · have h := itf c25 h
    refine z_aload_n (pc := 61) C 0 rfl dX3_greatest_61 ?_
    refine gX3_305 (pc := 62) C rfl hv0 dX3_greatest_62 ?_
    refine z_aload_n (pc := 65) C 0 rfl dX3_greatest_65 ?_
    refine gX3_300 (pc := 66) C rfl hv0 dX3_greatest_66 ?_
    refine z_iload (pc := 69) C 4 rfl dX3_greatest_69 ?_
    obtain ⟨c26, h⟩ := ifn h
    refine z_iaO (pc := 71) (k := 3) (j := 0) C 300 rfl (by decide) (by decide) (by decide) rfl rfl rfl rfl hv0 c26 rfl dX3_greatest_71 ?_
    refine z_aload_n (pc := 72) C 0 rfl dX3_greatest_72 ?_
    refine gX3_305 (pc := 73) C rfl hv0 dX3_greatest_73 ?_
    refine z_aload_n (pc := 76) C 0 rfl dX3_greatest_76 ?_
    refine gX3_300 (pc := 77) C rfl hv0 dX3_greatest_77 ?_
    refine z_iload (pc := 80) C 4 rfl dX3_greatest_80 ?_
    refine z_iaO (pc := 82) (k := 3) (j := 0) C 300 rfl (by decide) (by decide) (by decide) rfl rfl rfl rfl hv0 c26 rfl dX3_greatest_82 ?_
    obtain ⟨c27, h⟩ := ifn h
    refine z_laO (pc := 83) (k := 3) (j := 5) C 305 rfl (by decide) (by decide) (by decide) rfl rfl rfl rfl hv0 c27 rfl dX3_greatest_83 ?_
    refine z_aload_n (pc := 84) C 0 rfl dX3_greatest_84 ?_
    refine gX3_305 (pc := 85) C rfl hv0 dX3_greatest_85 ?_
    refine z_aload_n (pc := 88) C 0 rfl dX3_greatest_88 ?_
    refine gX3_301 (pc := 89) C rfl hv0 dX3_greatest_89 ?_
    refine z_iload (pc := 92) C 4 rfl dX3_greatest_92 ?_
    refine z_iaO (pc := 94) (k := 3) (j := 1) C 301 rfl (by decide) (by decide) (by decide) rfl rfl rfl rfl hv0 c26 rfl dX3_greatest_94 ?_
    obtain ⟨c28, h⟩ := ifn h
    refine z_laO (pc := 95) (k := 3) (j := 5) C 305 rfl (by decide) (by decide) (by decide) rfl rfl rfl rfl hv0 c28 rfl dX3_greatest_95 ?_
    refine z_aload_n (pc := 96) C 0 rfl dX3_greatest_96 ?_
    refine gX3_302 (pc := 97) C rfl hv0 dX3_greatest_97 ?_
    refine z_iload (pc := 100) C 4 rfl dX3_greatest_100 ?_
    refine z_laO (pc := 102) (k := 3) (j := 2) C 302 rfl (by decide) (by decide) (by decide) rfl rfl rfl rfl hv0 c26 rfl dX3_greatest_102 ?_
    refine z_ladd (pc := 103) C dX3_greatest_103 ?_
    refine z_minl (pc := 104) C q1198 q1199 q128 q1200 (by decide) (by decide) (Nat.zero_le _) (Nat.zero_le _) (Nat.le_of_ble_eq_true rfl) dX3_greatest_104 ?_
    refine z_lsO (pc := 107) (k := 3) (j := 5) C 305 rfl (by decide) (by decide) (by decide) rfl rfl rfl rfl hv0 c27 dX3_greatest_107 ?_
    refine z_iinc (pc := 108) C (lv' := [(0, .ref v0), (1, vI v1), (2, .ref v2), (3, vI v3), (4, vI (v4 + 1))]) 4 rfl (by decide) rfl dX3_greatest_108 ?_
    refine z_goto (pc := 111) C dX3_greatest_111 (tgt := 52) (by decide) ?_
    exact hk52 v0 v1 v2 v3 (v4 + 1) (m_si M 305 v0 (ixn (m_i M 300 v0 (ixn v4))) (nm64 (m_i M 305 v0 (ixn (m_i M 300 v0 (ixn v4)))) ((m_i M 305 v0 (ixn (m_i M 301 v0 (ixn v4)))) + (m_i M 302 v0 (ixn v4))))) _ _ hv0 hv2 h
theorem cL_X3_greatest_52 {X : x_Ctx} {M0 : Mem} (C : x_CC X 3 81 yX3_greatest cX3_greatest 5 none []) {k38 : Nat → Int → Nat → Int → Mem → Option (Int × Mem)} (hk38 : ∀ (v0 : Nat) (v1 : Int) (v2 : Nat) (v3 : Int) (M : Mem) (r : Int) (M' : Mem), m_kd M v0 = 3 → x_IA M v2 → k38 v0 v1 v2 v3 M = some (r, M') → x_Z X 0 0 (x_QF X M0 (.returned none) M' 0 0) M0 M 5 [(0, .ref v0), (1, vI v1), (2, .ref v2), (3, vI v3)] 38 []) : ∀ (n : Nat) (v0 : Nat) (v1 : Int) (v2 : Nat) (v3 : Int) (v4 : Int) (M : Mem) (r : Int) (M' : Mem) (hv0 : m_kd M v0 = 3) (hv2 : x_IA M v2) (h : L_X3_greatest_52 k38 n v0 v1 v2 v3 v4 M = some (r, M')) , x_Z X 0 0 (x_QF X M0 (.returned none) M' 0 0) M0 M 5 [(0, .ref v0), (1, vI v1), (2, .ref v2), (3, vI v3), (4, vI v4)] 52 [] := by
  intro n
  induction n with
  | zero => intro v0 v1 v2 v3 v4 M r M' hv0 hv2 h ; cases h
  | succ n ih => intro v0 v1 v2 v3 v4 M r M' hv0 hv2 h ; exact cB_X3_greatest_52 C hk38 (fun v0 v1 v2 v3 v4 M r M' hv0 hv2 h  => ih v0 v1 v2 v3 v4 M r M' hv0 hv2 h ) v0 v1 v2 v3 v4 M r M' hv0 hv2 h 
theorem cB_X3_greatest_38 {X : x_Ctx} {M0 : Mem} (C : x_CC X 3 81 yX3_greatest cX3_greatest 5 none []) {k38 : Nat → Int → Nat → Int → Mem → Option (Int × Mem)} (hk38 : ∀ (v0 : Nat) (v1 : Int) (v2 : Nat) (v3 : Int) (M : Mem) (r : Int) (M' : Mem), m_kd M v0 = 3 → x_IA M v2 → k38 v0 v1 v2 v3 M = some (r, M') → x_Z X 0 0 (x_QF X M0 (.returned none) M' 0 0) M0 M 5 [(0, .ref v0), (1, vI v1), (2, .ref v2), (3, vI v3)] 38 []) (v0 : Nat) (v1 : Int) (v2 : Nat) (v3 : Int) (M : Mem) (r : Int) (M' : Mem) (hv0 : m_kd M v0 = 3) (hv2 : x_IA M v2) (h : B_X3_greatest_38 k38 v0 v1 v2 v3 M = some (r, M'))  : x_Z X 0 0 (x_QF X M0 (.returned none) M' 0 0) M0 M 5 [(0, .ref v0), (1, vI v1), (2, .ref v2), (3, vI v3)] 38 [] := by
  unfold B_X3_greatest_38 at h
  refine z_iload_n (pc := 38) C 3 rfl dX3_greatest_38 ?_
  refine z_aload_n (pc := 39) C 0 rfl dX3_greatest_39 ?_
  obtain ⟨q14, e15, h⟩ := bRs h
  refine gX3_307 (pc := 40) C rfl (Or.inl hv0) e15 dX3_greatest_40 (fun k16 => ?_)
  refine gX3_200 (pc := 43) C rfl (Or.inl k16) rfl dX3_greatest_43 ?_
  refine z_ic_gt (pc := 46) C dX3_greatest_46 (tgt := 120) (by decide) (fun c17 => ?_) (fun c17 => ?_)
  · have h := itt c17 h
    refine z_iconst (pc := 120) C dX3_greatest_120 ?_
    refine z_istore_n (pc := 121) C (lv' := [(0, .ref v0), (1, vI v1), (2, .ref v2), (3, vI 0)]) (by decide) rfl dX3_greatest_121 ?_
    exact cL_X3_greatest_122 C FU v0 v1 v2 0 M _ _ hv0 hv2 h
  · have h := itf c17 h
    refine z_iconst (pc := 49) C dX3_greatest_49 ?_
    refine z_istore (pc := 50) C (lv' := [(0, .ref v0), (1, vI v1), (2, .ref v2), (3, vI v3), (4, vI 0)]) (by decide) rfl dX3_greatest_50 ?_
    exact cL_X3_greatest_52 C hk38 FU v0 v1 v2 v3 0 M _ _ hv0 hv2 h
theorem cL_X3_greatest_38 {X : x_Ctx} {M0 : Mem} (C : x_CC X 3 81 yX3_greatest cX3_greatest 5 none [])  : ∀ (n : Nat) (v0 : Nat) (v1 : Int) (v2 : Nat) (v3 : Int) (M : Mem) (r : Int) (M' : Mem) (hv0 : m_kd M v0 = 3) (hv2 : x_IA M v2) (h : L_X3_greatest_38  n v0 v1 v2 v3 M = some (r, M')) , x_Z X 0 0 (x_QF X M0 (.returned none) M' 0 0) M0 M 5 [(0, .ref v0), (1, vI v1), (2, .ref v2), (3, vI v3)] 38 [] := by
  intro n
  induction n with
  | zero => intro v0 v1 v2 v3 M r M' hv0 hv2 h ; cases h
  | succ n ih => intro v0 v1 v2 v3 M r M' hv0 hv2 h ; exact cB_X3_greatest_38 C (fun v0 v1 v2 v3 M r M' hv0 hv2 h  => ih v0 v1 v2 v3 M r M' hv0 hv2 h ) v0 v1 v2 v3 M r M' hv0 hv2 h 
theorem cB_X3_greatest_7 {X : x_Ctx} {M0 : Mem} (C : x_CC X 3 81 yX3_greatest cX3_greatest 5 none []) {k7 : Nat → Int → Nat → Int → Mem → Option (Int × Mem)} (hk7 : ∀ (v0 : Nat) (v1 : Int) (v2 : Nat) (v3 : Int) (M : Mem) (r : Int) (M' : Mem), m_kd M v0 = 3 → x_IA M v2 → k7 v0 v1 v2 v3 M = some (r, M') → x_Z X 0 0 (x_QF X M0 (.returned none) M' 0 0) M0 M 5 [(0, .ref v0), (1, vI v1), (2, .ref v2), (3, vI v3)] 7 []) (v0 : Nat) (v1 : Int) (v2 : Nat) (v3 : Int) (M : Mem) (r : Int) (M' : Mem) (hv0 : m_kd M v0 = 3) (hv2 : x_IA M v2) (h : B_X3_greatest_7 k7 v0 v1 v2 v3 M = some (r, M'))  : x_Z X 0 0 (x_QF X M0 (.returned none) M' 0 0) M0 M 5 [(0, .ref v0), (1, vI v1), (2, .ref v2), (3, vI v3)] 7 [] := by
  unfold B_X3_greatest_7 at h
  refine z_iload_n (pc := 7) C 3 rfl dX3_greatest_7 ?_
  refine z_bipush (pc := 8) C (by decide +kernel) dX3_greatest_8 ?_
  refine z_ic_gt (pc := 10) C dX3_greatest_10 (tgt := 36) (by decide) (fun c13 => ?_) (fun c13 => ?_)
  · have h := itt c13 h
    refine z_iconst (pc := 36) C dX3_greatest_36 ?_
    refine z_istore_n (pc := 37) C (lv' := [(0, .ref v0), (1, vI v1), (2, .ref v2), (3, vI 0)]) (by decide) rfl dX3_greatest_37 ?_
    exact cL_X3_greatest_38 C FU v0 v1 v2 0 M _ _ hv0 hv2 h
  · have h := itf c13 h
    refine z_aload_n (pc := 13) C 0 rfl dX3_greatest_13 ?_
    refine gX3_305 (pc := 14) C rfl hv0 dX3_greatest_14 ?_
    refine z_iload_n (pc := 17) C 3 rfl dX3_greatest_17 ?_
    refine z_iload_n (pc := 18) C 3 rfl dX3_greatest_18 ?_
    refine z_if_ne (pc := 19) C dX3_greatest_19 (tgt := 26) (by decide) (fun c29 => ?_) (fun c29 => ?_)
    · have h := itf c29 h
      refine z_ldc2 (pc := 26) C (x := 4611686018427387903) q1197 (by decide +kernel) dX3_greatest_26 ?_
      obtain ⟨c30, h⟩ := ifn h
      refine z_lsO (pc := 29) (k := 3) (j := 5) C 305 rfl (by decide) (by decide) (by decide) rfl rfl rfl rfl hv0 c30 dX3_greatest_29 ?_
      refine z_iinc (pc := 30) C (lv' := [(0, .ref v0), (1, vI v1), (2, .ref v2), (3, vI (v3 + 1))]) 3 rfl (by decide) rfl dX3_greatest_30 ?_
      refine z_goto (pc := 33) C dX3_greatest_33 (tgt := 7) (by decide) ?_
      exact hk7 v0 v1 v2 (v3 + 1) (m_si M 305 v0 (ixn v3) 4611686018427387903) _ _ hv0 hv2 h
    · have h := itt c29 h
      refine z_lconst (pc := 22) C (x := 0) (by decide +kernel) dX3_greatest_22 ?_
      refine z_goto (pc := 23) C dX3_greatest_23 (tgt := 29) (by decide) ?_
      obtain ⟨c31, h⟩ := ifn h
      refine z_lsO (pc := 29) (k := 3) (j := 5) C 305 rfl (by decide) (by decide) (by decide) rfl rfl rfl rfl hv0 c31 dX3_greatest_29 ?_
      refine z_iinc (pc := 30) C (lv' := [(0, .ref v0), (1, vI v1), (2, .ref v2), (3, vI (v3 + 1))]) 3 rfl (by decide) rfl dX3_greatest_30 ?_
      refine z_goto (pc := 33) C dX3_greatest_33 (tgt := 7) (by decide) ?_
      exact hk7 v0 v1 v2 (v3 + 1) (m_si M 305 v0 (ixn v3) 0) _ _ hv0 hv2 h
theorem cL_X3_greatest_7 {X : x_Ctx} {M0 : Mem} (C : x_CC X 3 81 yX3_greatest cX3_greatest 5 none [])  : ∀ (n : Nat) (v0 : Nat) (v1 : Int) (v2 : Nat) (v3 : Int) (M : Mem) (r : Int) (M' : Mem) (hv0 : m_kd M v0 = 3) (hv2 : x_IA M v2) (h : L_X3_greatest_7  n v0 v1 v2 v3 M = some (r, M')) , x_Z X 0 0 (x_QF X M0 (.returned none) M' 0 0) M0 M 5 [(0, .ref v0), (1, vI v1), (2, .ref v2), (3, vI v3)] 7 [] := by
  intro n
  induction n with
  | zero => intro v0 v1 v2 v3 M r M' hv0 hv2 h ; cases h
  | succ n ih => intro v0 v1 v2 v3 M r M' hv0 hv2 h ; exact cB_X3_greatest_7 C (fun v0 v1 v2 v3 M r M' hv0 hv2 h  => ih v0 v1 v2 v3 M r M' hv0 hv2 h ) v0 v1 v2 v3 M r M' hv0 hv2 h 
theorem ct_X3_greatest {l : Launch} {S0 : State} {D : va_G} {cA : Nat → ClassId} (hG : x_G l S0 D cA) (v0 : Nat) (v1 : Int) (v2 : Nat) (M : Mem) (r : Int) (M' : Mem) (hv0 : m_kd M v0 = 3) (hv2 : x_IA M v2) (h : d_X3_greatest v0 v1 v2 M = some (r, M')) : x_Me l S0 D cA yX3_greatest cX3_greatest 5 none [] ({ frames := 3, cells := 0, slots := 0, locals := 81 }) [.ref v0, vI v1, .ref v2] M (.returned none) M' := by
  refine x_begin (F := 3) (Lo := 81) (mc := 0) (ms := 0) hG (Nat.le_of_ble_eq_true rfl) (lv := [(0, .ref v0), (1, vI v1), (2, .ref v2)]) rfl rfl rfl rfl rfl (fun X e1 e2 e3 e4 e5 C => ?_)
  unfold d_X3_greatest at h
  refine z_aload_n (pc := 0) C 0 rfl dX3_greatest_0 ?_
  refine z_iload_n (pc := 1) C 1 rfl dX3_greatest_1 ?_
  obtain ⟨r7, M8, e9, h⟩ := bNs h
  refine cX3_81 (pc := 2) (st := []) (st1 := []) C rfl (rm := { frames := 2, cells := 0, slots := 0, locals := 53 }) (ct_X3_lay C.2.1 v0 v1 M _ _ hv0 e9) ⟨by decide, by decide, Nat.zero_le _, Nat.zero_le _⟩ (Or.inl hv0) rfl (Nat.le_of_ble_eq_true rfl) dX3_greatest_2 (c2 := 0) (s2 := 0) rfl rfl (fun x10 => ?_)
  have k11 := x10 _ 3 (by decide) (Or.inl (by decide)) hv0
  have k12 := x_IA.ext hv2 x10
  refine z_iconst (pc := 5) C dX3_greatest_5 ?_
  refine z_istore_n (pc := 6) C (lv' := [(0, .ref v0), (1, vI v1), (2, .ref v2), (3, vI 0)]) (by decide) rfl dX3_greatest_6 ?_
  exact cL_X3_greatest_7 C FU v0 v1 v2 0 M8 _ _ k11 k12 h
def B_X1_impute_188 (k188 : Nat → Nat → Int → Int → Mem → Option ((Int ⊕ Nat) × Mem)) (v0 : Nat) (v3 : Nat) (v4 : Int) (v6 : Int) (M : Mem) : Option ((Int ⊕ Nat) × Mem) :=
  bR (m_r M 901 v3 0) fun q72 => 
  if w32 (m_i M 200 q72 0) ≤ w32 v6 then
    some (.inl (d_J13_bitCount v4), M)
  else
    bR (m_r M 901 v3 0) fun q77 => 
    if inb v6 20 then 
    if w32 (m_i M 202 q77 (ixn v6)) = w32 1 then
      bR (m_r M 901 v3 0) fun q82 => 
      bR (m_r M 900 v3 0) fun q85 => 
      bN (d_X1_letOf v0 q82 v6 (v3 + 1) (q85 + 1) M) fun r90 M91 => 
      k188 v0 v3 v4 (v6 + 1) (m_si M91 902 v3 (ixn v6) r90)
    else
      k188 v0 v3 v4 (v6 + 1) M else none
def L_X1_impute_188  : Nat → Nat → Nat → Int → Int → Mem → Option ((Int ⊕ Nat) × Mem)
  | 0, _, _, _, _, _ => none
  | n + 1, v0, v3, v4, v6, M => B_X1_impute_188 (L_X1_impute_188  n) v0 v3 v4 v6 M
def B_X1_impute_123 (k123 : Nat → Nat → Int → Int → Int → Mem → Option ((Int ⊕ Nat) × Mem)) (v0 : Nat) (v3 : Nat) (v4 : Int) (v5 : Int) (v6 : Int) (M : Mem) : Option ((Int ⊕ Nat) × Mem) :=
  bR (m_r M 901 v3 0) fun q68 => 
  if w32 (m_i M 200 q68 0) ≤ w32 v6 then
    L_X1_impute_188 FU v0 v3 v4 0 M
  else
    if w32 (a32 (s32 v4 v6) 1) = 0 then
      k123 v0 v3 v4 v5 (v6 + 1) M
    else
      if inb v6 20 then 
      if w32 v5 = 0 then
        k123 v0 v3 v4 v5 (v6 + 1) (m_si (m_si M 902 v3 (ixn v6) (m_i M 123 v0 (ixn v6))) 903 v3 (ixn v6) 1)
      else
        k123 v0 v3 v4 v5 (v6 + 1) (m_si (m_si M 902 v3 (ixn v6) (m_i M 123 v0 (ixn v6))) 903 v3 (ixn v6) 2) else none
def L_X1_impute_123  : Nat → Nat → Nat → Int → Int → Int → Mem → Option ((Int ⊕ Nat) × Mem)
  | 0, _, _, _, _, _, _ => none
  | n + 1, v0, v3, v4, v5, v6, M => B_X1_impute_123 (L_X1_impute_123  n) v0 v3 v4 v5 v6 M
def B_X1_impute_80 (k80 : Nat → Nat → Int → Int → Int → Mem → Option ((Int ⊕ Nat) × Mem)) (v0 : Nat) (v3 : Nat) (v4 : Int) (v5 : Int) (v6 : Int) (M : Mem) : Option ((Int ⊕ Nat) × Mem) :=
  if w32 20 ≤ w32 v6 then
    bR (m_r M 122 v0 0) fun q101 => 
    bN (d_X3_greatest q101 v4 (v0 + 33) M) fun r105 M106 => 
    L_X1_impute_123 FU v0 v3 v4 v5 0 M106
  else
    if inb v6 20 then 
    k80 v0 v3 v4 v5 (v6 + 1) (m_si M 123 v0 (ixn v6) (m_i M 902 v3 (ixn v6))) else none
def L_X1_impute_80  : Nat → Nat → Nat → Int → Int → Int → Mem → Option ((Int ⊕ Nat) × Mem)
  | 0, _, _, _, _, _, _ => none
  | n + 1, v0, v3, v4, v5, v6, M => B_X1_impute_80 (L_X1_impute_80  n) v0 v3 v4 v5 v6 M
def B_X1_impute_70  (v0 : Nat) (v3 : Nat) (v4 : Int) (s0 : Int) (M : Mem) : Option ((Int ⊕ Nat) × Mem) :=
  if w32 s0 = 0 then
    L_X1_impute_80 FU v0 v3 v4 s0 0 M
  else
    L_X1_impute_123 FU v0 v3 v4 s0 0 M
def B_X1_impute_69  (v0 : Nat) (v3 : Nat) (v4 : Int) (M : Mem) : Option ((Int ⊕ Nat) × Mem) :=
  B_X1_impute_70 v0 v3 v4 0 M
def B_X1_impute_20  (v0 : Nat) (v2 : Int) (v3 : Nat) (s0 : Int) (M : Mem) : Option ((Int ⊕ Nat) × Mem) :=
  bT (d_X1_need s0 M) fun r36 M37 => 
  bR (m_r M37 122 v0 0) fun q43 => 
  bR (m_r M37 901 v3 0) fun q46 => 
  bN (d_X3_find q43 q46 (v3 + 1) M37) fun r50 M51 => 
  bT (d_X1_may r50 M51) fun r56 M57 => 
  bR (m_r M57 122 v0 0) fun q63 => 
  if w32 v2 = w32 1 then
    bN (d_X1_takeFromDonor v0 v3 (m_i M57 310 q63 0) M57) fun r112 M113 => 
    if w32 r112 = 0 then
      B_X1_impute_69 v0 v3 (m_i M57 310 q63 0) M113
    else
      B_X1_impute_70 v0 v3 (m_i M57 310 q63 0) 1 M113
  else
    B_X1_impute_69 v0 v3 (m_i M57 310 q63 0) M57
def B_X1_impute_15  (v0 : Nat) (v2 : Int) (v3 : Nat) (M : Mem) : Option ((Int ⊕ Nat) × Mem) :=
  B_X1_impute_20 v0 v2 v3 1 M
def d_X1_impute (v0 : Nat) (v1 : Int) (v2 : Int) (M : Mem) : Option ((Int ⊕ Nat) × Mem) :=
  bT (d_X1_recordOf v0 v1 M) fun r28 M29 => 
  if m_kd M29 r28 = 9 then 
  if w32 v2 = 0 then
    B_X1_impute_15 v0 v2 r28 M29
  else
    if w32 v2 = w32 1 then
      B_X1_impute_15 v0 v2 r28 M29
    else
      B_X1_impute_20 v0 v2 r28 0 M29 else none
theorem cB_X1_impute_188 {X : x_Ctx} {M0 : Mem} (C : x_CC X 105 3238 yX1_impute cX1_impute 7 (some .int) []) {k188 : Nat → Nat → Int → Int → Mem → Option ((Int ⊕ Nat) × Mem)} (hk188 : ∀ (v0 : Nat) (v3 : Nat) (v4 : Int) (v6 : Int) (M : Mem) (r : Int ⊕ Nat) (M' : Mem), m_kd M v0 = 1 → m_kd M v3 = 9 → k188 v0 v3 v4 v6 M = some (r, M') → ocN r 0 1 ≤ (XR X).cells ∧ ocN r 0 6 ≤ (XR X).slots → x_Z X 0 0 (x_QF X M0 (ocI r) M' (ocN r 0 1) (ocN r 0 6)) M0 M 7 [(0, .ref v0), (3, .ref v3), (4, vI v4), (6, vI v6)] 188 []) (v0 : Nat) (v3 : Nat) (v4 : Int) (v6 : Int) (M : Mem) (r : Int ⊕ Nat) (M' : Mem) (hv0 : m_kd M v0 = 1) (hv3 : m_kd M v3 = 9) (h : B_X1_impute_188 k188 v0 v3 v4 v6 M = some (r, M')) (hR : ocN r 0 1 ≤ (XR X).cells ∧ ocN r 0 6 ≤ (XR X).slots) : x_Z X 0 0 (x_QF X M0 (ocI r) M' (ocN r 0 1) (ocN r 0 6)) M0 M 7 [(0, .ref v0), (3, .ref v3), (4, vI v4), (6, vI v6)] 188 [] := by
  unfold B_X1_impute_188 at h
  refine z_iload (pc := 188) C 3 rfl dX1_impute_188 ?_
  refine z_aload_n (pc := 190) C 1 rfl dX1_impute_190 ?_
  obtain ⟨q72, e73, h⟩ := bRs h
  refine gX1_901 (pc := 191) C rfl (Or.inl hv3) e73 dX1_impute_191 (fun k74 => ?_)
  refine gX1_200 (pc := 194) C rfl (Or.inl k74) rfl dX1_impute_194 ?_
  refine z_ic_ge (pc := 197) C dX1_impute_197 (tgt := 248) (by decide) (fun c75 => ?_) (fun c75 => ?_)
  · have h := itt c75 h
    refine z_iload (pc := 248) C 2 rfl dX1_impute_248 ?_
    refine cX1_431 (pc := 250) (st := []) (st1 := [vI (d_J13_bitCount v4)]) C rfl (rm := { frames := 1, cells := 0, slots := 0, locals := 24 }) (ct_J13_bitCount C.2.1 v4 M _  rfl) ⟨by decide, by decide, Nat.zero_le _, Nat.zero_le _⟩ rfl (Nat.le_of_ble_eq_true rfl) dX1_impute_250 (c2 := 0) (s2 := 0) rfl rfl (fun _ => ?_)
    cases h
    exact z_iret (pc := 253) C rfl (show 0 ≤ 0 from by decide) (show 0 ≤ 0 from by decide) dX1_impute_253
  · have h := itf c75 h
    refine z_aload_n (pc := 200) C 1 rfl dX1_impute_200 ?_
    obtain ⟨q77, e78, h⟩ := bRs h
    refine gX1_901 (pc := 201) C rfl (Or.inl hv3) e78 dX1_impute_201 (fun k79 => ?_)
    refine gX1_202 (pc := 204) C rfl k79 dX1_impute_204 ?_
    refine z_iload (pc := 207) C 3 rfl dX1_impute_207 ?_
    obtain ⟨c80, h⟩ := ifn h
    refine z_iaO (pc := 209) (k := 2) (j := 2) C 202 rfl (by decide) (by decide) (by decide) rfl rfl rfl rfl k79 c80 rfl dX1_impute_209 ?_
    refine z_iconst (pc := 210) C dX1_impute_210 ?_
    refine z_ic_ne (pc := 211) C dX1_impute_211 (tgt := 242) (by decide) (fun c81 => ?_) (fun c81 => ?_)
    · have h := itf c81 h
      refine z_iinc (pc := 242) C (lv' := [(0, .ref v0), (3, .ref v3), (4, vI v4), (6, vI (v6 + 1))]) 3 rfl (by decide) rfl dX1_impute_242 ?_
      refine z_goto (pc := 245) C dX1_impute_245 (tgt := 188) (by decide) ?_
      exact hk188 v0 v3 v4 (v6 + 1) M _ _ hv0 hv3 h hR
    · have h := itt c81 h
      refine z_aload_n (pc := 214) C 1 rfl dX1_impute_214 ?_
      refine gX1_902 (pc := 215) C rfl hv3 dX1_impute_215 ?_
      refine z_iload (pc := 218) C 3 rfl dX1_impute_218 ?_
      refine z_aload_n (pc := 220) C 0 rfl dX1_impute_220 ?_
      refine z_aload_n (pc := 221) C 1 rfl dX1_impute_221 ?_
      obtain ⟨q82, e83, h⟩ := bRs h
      refine gX1_901 (pc := 222) C rfl (Or.inl hv3) e83 dX1_impute_222 (fun k84 => ?_)
      refine z_iload (pc := 225) C 3 rfl dX1_impute_225 ?_
      refine z_aload_n (pc := 227) C 1 rfl dX1_impute_227 ?_
      refine gX1_902 (pc := 228) C rfl hv3 dX1_impute_228 ?_
      refine z_aload_n (pc := 231) C 1 rfl dX1_impute_231 ?_
      obtain ⟨q85, e86, h⟩ := bRs h
      refine gX1_900 (pc := 232) C rfl (Or.inl hv3) e86 dX1_impute_232 (fun k87 => ?_)
      refine gX1_803 (pc := 235) C rfl k87 dX1_impute_235 ?_
      refine z_ia (k := 9) (j := 2) 902 rfl (by decide) (by decide) (by decide) rfl rfl rfl hv3 (fun k88 => ?_)
      refine z_ia (k := 8) (j := 3) 803 rfl (by decide) (by decide) (by decide) rfl rfl rfl k87 (fun k89 => ?_)
      obtain ⟨r90, M91, e92, h⟩ := bNs h
      refine cX1_308 (pc := 238) (st := [vI v6, .ref (v3 + 1)]) (st1 := [vI r90, vI v6, .ref (v3 + 1)]) C rfl (rm := { frames := 4, cells := 0, slots := 0, locals := 117 }) (ct_X1_letOf C.2.1 v0 q82 v6 (v3 + 1) (q85 + 1) M _ _ hv0 k84 k88.1 k89.1 e92) ⟨by decide, by decide, Nat.zero_le _, Nat.zero_le _⟩ (Or.inl hv0) rfl (Nat.le_of_ble_eq_true rfl) dX1_impute_238 (c2 := 0) (s2 := 0) rfl rfl (fun x93 => ?_)
      have k94 := x93 _ 9 (by decide) (Or.inl (by decide)) hv3
      have k95 := x93 _ 1 (by decide) (Or.inl (by decide)) hv0
      have k96 := x93 _ 9 (by decide) (Or.inl (by decide)) hv3
      refine z_isO (pc := 241) (k := 9) (j := 2) C 902 rfl (by decide) (by decide) (by decide) rfl rfl rfl rfl k94 c80 dX1_impute_241 ?_
      refine z_iinc (pc := 242) C (lv' := [(0, .ref v0), (3, .ref v3), (4, vI v4), (6, vI (v6 + 1))]) 3 rfl (by decide) rfl dX1_impute_242 ?_
      refine z_goto (pc := 245) C dX1_impute_245 (tgt := 188) (by decide) ?_
      exact hk188 v0 v3 v4 (v6 + 1) (m_si M91 902 v3 (ixn v6) r90) _ _ k95 k96 h hR
theorem cL_X1_impute_188 {X : x_Ctx} {M0 : Mem} (C : x_CC X 105 3238 yX1_impute cX1_impute 7 (some .int) [])  : ∀ (n : Nat) (v0 : Nat) (v3 : Nat) (v4 : Int) (v6 : Int) (M : Mem) (r : Int ⊕ Nat) (M' : Mem) (hv0 : m_kd M v0 = 1) (hv3 : m_kd M v3 = 9) (h : L_X1_impute_188  n v0 v3 v4 v6 M = some (r, M')) (hR : ocN r 0 1 ≤ (XR X).cells ∧ ocN r 0 6 ≤ (XR X).slots), x_Z X 0 0 (x_QF X M0 (ocI r) M' (ocN r 0 1) (ocN r 0 6)) M0 M 7 [(0, .ref v0), (3, .ref v3), (4, vI v4), (6, vI v6)] 188 [] := by
  intro n
  induction n with
  | zero => intro v0 v3 v4 v6 M r M' hv0 hv3 h hR; cases h
  | succ n ih => intro v0 v3 v4 v6 M r M' hv0 hv3 h hR; exact cB_X1_impute_188 C (fun v0 v3 v4 v6 M r M' hv0 hv3 h hR => ih v0 v3 v4 v6 M r M' hv0 hv3 h hR) v0 v3 v4 v6 M r M' hv0 hv3 h hR
theorem cB_X1_impute_123 {X : x_Ctx} {M0 : Mem} (C : x_CC X 105 3238 yX1_impute cX1_impute 7 (some .int) []) {k123 : Nat → Nat → Int → Int → Int → Mem → Option ((Int ⊕ Nat) × Mem)} (hk123 : ∀ (v0 : Nat) (v3 : Nat) (v4 : Int) (v5 : Int) (v6 : Int) (M : Mem) (r : Int ⊕ Nat) (M' : Mem), m_kd M v0 = 1 → m_kd M v3 = 9 → k123 v0 v3 v4 v5 v6 M = some (r, M') → ocN r 0 1 ≤ (XR X).cells ∧ ocN r 0 6 ≤ (XR X).slots → x_Z X 0 0 (x_QF X M0 (ocI r) M' (ocN r 0 1) (ocN r 0 6)) M0 M 7 [(0, .ref v0), (3, .ref v3), (4, vI v4), (5, vI v5), (6, vI v6)] 123 []) (v0 : Nat) (v3 : Nat) (v4 : Int) (v5 : Int) (v6 : Int) (M : Mem) (r : Int ⊕ Nat) (M' : Mem) (hv0 : m_kd M v0 = 1) (hv3 : m_kd M v3 = 9) (h : B_X1_impute_123 k123 v0 v3 v4 v5 v6 M = some (r, M')) (hR : ocN r 0 1 ≤ (XR X).cells ∧ ocN r 0 6 ≤ (XR X).slots) : x_Z X 0 0 (x_QF X M0 (ocI r) M' (ocN r 0 1) (ocN r 0 6)) M0 M 7 [(0, .ref v0), (3, .ref v3), (4, vI v4), (5, vI v5), (6, vI v6)] 123 [] := by
  unfold B_X1_impute_123 at h
  refine z_iload (pc := 123) C 4 rfl dX1_impute_123 ?_
  refine z_aload_n (pc := 125) C 1 rfl dX1_impute_125 ?_
  obtain ⟨q68, e69, h⟩ := bRs h
  refine gX1_901 (pc := 126) C rfl (Or.inl hv3) e69 dX1_impute_126 (fun k70 => ?_)
  refine gX1_200 (pc := 129) C rfl (Or.inl k70) rfl dX1_impute_129 ?_
  refine z_ic_ge (pc := 132) C dX1_impute_132 (tgt := 185) (by decide) (fun c71 => ?_) (fun c71 => ?_)
  · have h := itt c71 h
    refine z_iconst (pc := 185) C dX1_impute_185 ?_
    refine z_istore (pc := 186) C (lv' := [(0, .ref v0), (3, .ref v3), (4, vI v4), (5, vI v5), (6, vI 0)]) (by decide) rfl dX1_impute_186 ?_
    exact z_lv [0, 1, 2, 4] rfl <| cL_X1_impute_188 C FU v0 v3 v4 0 M _ _ hv0 hv3 h hR
  · have h := itf c71 h
    refine z_iload (pc := 135) C 2 rfl dX1_impute_135 ?_
    refine z_iload (pc := 137) C 4 rfl dX1_impute_137 ?_
    refine z_ishr (pc := 139) C dX1_impute_139 ?_
    refine z_iconst (pc := 140) C dX1_impute_140 ?_
    refine z_iand (pc := 141) C dX1_impute_141 ?_
    refine z_if_ne (pc := 142) C dX1_impute_142 (tgt := 148) (by decide) (fun c97 => ?_) (fun c97 => ?_)
    · have h := itf c97 h
      refine z_aload_n (pc := 148) C 1 rfl dX1_impute_148 ?_
      refine gX1_902 (pc := 149) C rfl hv3 dX1_impute_149 ?_
      refine z_iload (pc := 152) C 4 rfl dX1_impute_152 ?_
      refine z_aload_n (pc := 154) C 0 rfl dX1_impute_154 ?_
      refine gX1_123 (pc := 155) C rfl hv0 dX1_impute_155 ?_
      refine z_iload (pc := 158) C 4 rfl dX1_impute_158 ?_
      obtain ⟨c98, h⟩ := ifn h
      refine z_iaO (pc := 160) (k := 1) (j := 23) C 123 rfl (by decide) (by decide) (by decide) rfl rfl rfl rfl hv0 c98 rfl dX1_impute_160 ?_
      refine z_isO (pc := 161) (k := 9) (j := 2) C 902 rfl (by decide) (by decide) (by decide) rfl rfl rfl rfl hv3 c98 dX1_impute_161 ?_
      refine z_aload_n (pc := 162) C 1 rfl dX1_impute_162 ?_
      refine gX1_903 (pc := 163) C rfl hv3 dX1_impute_163 ?_
      refine z_iload (pc := 166) C 4 rfl dX1_impute_166 ?_
      refine z_iload (pc := 168) C 3 rfl dX1_impute_168 ?_
      refine z_if_eq (pc := 170) C dX1_impute_170 (tgt := 177) (by decide) (fun c99 => ?_) (fun c99 => ?_)
      · have h := itt c99 h
        refine z_iconst (pc := 177) C dX1_impute_177 ?_
        refine z_isO (pc := 178) (k := 9) (j := 3) C 903 rfl (by decide) (by decide) (by decide) rfl rfl rfl rfl hv3 c98 dX1_impute_178 ?_
        refine z_iinc (pc := 179) C (lv' := [(0, .ref v0), (3, .ref v3), (4, vI v4), (5, vI v5), (6, vI (v6 + 1))]) 4 rfl (by decide) rfl dX1_impute_179 ?_
        refine z_goto (pc := 182) C dX1_impute_182 (tgt := 123) (by decide) ?_
        exact hk123 v0 v3 v4 v5 (v6 + 1) (m_si (m_si M 902 v3 (ixn v6) (m_i M 123 v0 (ixn v6))) 903 v3 (ixn v6) 1) _ _ hv0 hv3 h hR
      · have h := itf c99 h
        refine z_iconst (pc := 173) C dX1_impute_173 ?_
        refine z_goto (pc := 174) C dX1_impute_174 (tgt := 178) (by decide) ?_
        refine z_isO (pc := 178) (k := 9) (j := 3) C 903 rfl (by decide) (by decide) (by decide) rfl rfl rfl rfl hv3 c98 dX1_impute_178 ?_
        refine z_iinc (pc := 179) C (lv' := [(0, .ref v0), (3, .ref v3), (4, vI v4), (5, vI v5), (6, vI (v6 + 1))]) 4 rfl (by decide) rfl dX1_impute_179 ?_
        refine z_goto (pc := 182) C dX1_impute_182 (tgt := 123) (by decide) ?_
        exact hk123 v0 v3 v4 v5 (v6 + 1) (m_si (m_si M 902 v3 (ixn v6) (m_i M 123 v0 (ixn v6))) 903 v3 (ixn v6) 2) _ _ hv0 hv3 h hR
    · have h := itt c97 h
      refine z_goto (pc := 145) C dX1_impute_145 (tgt := 179) (by decide) ?_
      refine z_iinc (pc := 179) C (lv' := [(0, .ref v0), (3, .ref v3), (4, vI v4), (5, vI v5), (6, vI (v6 + 1))]) 4 rfl (by decide) rfl dX1_impute_179 ?_
      refine z_goto (pc := 182) C dX1_impute_182 (tgt := 123) (by decide) ?_
      exact hk123 v0 v3 v4 v5 (v6 + 1) M _ _ hv0 hv3 h hR
theorem cL_X1_impute_123 {X : x_Ctx} {M0 : Mem} (C : x_CC X 105 3238 yX1_impute cX1_impute 7 (some .int) [])  : ∀ (n : Nat) (v0 : Nat) (v3 : Nat) (v4 : Int) (v5 : Int) (v6 : Int) (M : Mem) (r : Int ⊕ Nat) (M' : Mem) (hv0 : m_kd M v0 = 1) (hv3 : m_kd M v3 = 9) (h : L_X1_impute_123  n v0 v3 v4 v5 v6 M = some (r, M')) (hR : ocN r 0 1 ≤ (XR X).cells ∧ ocN r 0 6 ≤ (XR X).slots), x_Z X 0 0 (x_QF X M0 (ocI r) M' (ocN r 0 1) (ocN r 0 6)) M0 M 7 [(0, .ref v0), (3, .ref v3), (4, vI v4), (5, vI v5), (6, vI v6)] 123 [] := by
  intro n
  induction n with
  | zero => intro v0 v3 v4 v5 v6 M r M' hv0 hv3 h hR; cases h
  | succ n ih => intro v0 v3 v4 v5 v6 M r M' hv0 hv3 h hR; exact cB_X1_impute_123 C (fun v0 v3 v4 v5 v6 M r M' hv0 hv3 h hR => ih v0 v3 v4 v5 v6 M r M' hv0 hv3 h hR) v0 v3 v4 v5 v6 M r M' hv0 hv3 h hR
theorem cB_X1_impute_80 {X : x_Ctx} {M0 : Mem} (C : x_CC X 105 3238 yX1_impute cX1_impute 7 (some .int) []) {k80 : Nat → Nat → Int → Int → Int → Mem → Option ((Int ⊕ Nat) × Mem)} (hk80 : ∀ (v0 : Nat) (v3 : Nat) (v4 : Int) (v5 : Int) (v6 : Int) (M : Mem) (r : Int ⊕ Nat) (M' : Mem), m_kd M v0 = 1 → m_kd M v3 = 9 → k80 v0 v3 v4 v5 v6 M = some (r, M') → ocN r 0 1 ≤ (XR X).cells ∧ ocN r 0 6 ≤ (XR X).slots → x_Z X 0 0 (x_QF X M0 (ocI r) M' (ocN r 0 1) (ocN r 0 6)) M0 M 7 [(0, .ref v0), (3, .ref v3), (4, vI v4), (5, vI v5), (6, vI v6)] 80 []) (v0 : Nat) (v3 : Nat) (v4 : Int) (v5 : Int) (v6 : Int) (M : Mem) (r : Int ⊕ Nat) (M' : Mem) (hv0 : m_kd M v0 = 1) (hv3 : m_kd M v3 = 9) (h : B_X1_impute_80 k80 v0 v3 v4 v5 v6 M = some (r, M')) (hR : ocN r 0 1 ≤ (XR X).cells ∧ ocN r 0 6 ≤ (XR X).slots) : x_Z X 0 0 (x_QF X M0 (ocI r) M' (ocN r 0 1) (ocN r 0 6)) M0 M 7 [(0, .ref v0), (3, .ref v3), (4, vI v4), (5, vI v5), (6, vI v6)] 80 [] := by
  unfold B_X1_impute_80 at h
  refine z_iload (pc := 80) C 4 rfl dX1_impute_80 ?_
  refine z_bipush (pc := 82) C (by decide +kernel) dX1_impute_82 ?_
  refine z_ic_ge (pc := 84) C dX1_impute_84 (tgt := 107) (by decide) (fun c100 => ?_) (fun c100 => ?_)
  · have h := itt c100 h
    refine z_aload_n (pc := 107) C 0 rfl dX1_impute_107 ?_
    obtain ⟨q101, e102, h⟩ := bRs h
    refine gX1_122 (pc := 108) C rfl (Or.inl hv0) e102 dX1_impute_108 (fun k103 => ?_)
    refine z_iload (pc := 111) C 2 rfl dX1_impute_111 ?_
    refine z_aload_n (pc := 113) C 0 rfl dX1_impute_113 ?_
    refine gX1_123 (pc := 114) C rfl hv0 dX1_impute_114 ?_
    refine z_ia (k := 1) (j := 23) 123 rfl (by decide) (by decide) (by decide) rfl rfl rfl hv0 (fun k104 => ?_)
    obtain ⟨r105, M106, e107, h⟩ := bNs h
    refine cX1_423 (pc := 117) (st := []) (st1 := []) C rfl (rm := { frames := 3, cells := 0, slots := 0, locals := 81 }) (ct_X3_greatest C.2.1 q101 v4 (v0 + 33) M _ _ k103 k104.1 e107) ⟨by decide, by decide, Nat.zero_le _, Nat.zero_le _⟩ (Or.inl k103) rfl (Nat.le_of_ble_eq_true rfl) dX1_impute_117 (c2 := 0) (s2 := 0) rfl rfl (fun x108 => ?_)
    have k109 := x108 _ 1 (by decide) (Or.inl (by decide)) hv0
    have k110 := x108 _ 9 (by decide) (Or.inl (by decide)) hv3
    refine z_iconst (pc := 120) C dX1_impute_120 ?_
    refine z_istore (pc := 121) C (lv' := [(0, .ref v0), (3, .ref v3), (4, vI v4), (5, vI v5), (6, vI 0)]) (by decide) rfl dX1_impute_121 ?_
    exact cL_X1_impute_123 C FU v0 v3 v4 v5 0 M106 _ _ k109 k110 h hR
  · have h := itf c100 h
    refine z_aload_n (pc := 87) C 0 rfl dX1_impute_87 ?_
    refine gX1_123 (pc := 88) C rfl hv0 dX1_impute_88 ?_
    refine z_iload (pc := 91) C 4 rfl dX1_impute_91 ?_
    refine z_aload_n (pc := 93) C 1 rfl dX1_impute_93 ?_
    refine gX1_902 (pc := 94) C rfl hv3 dX1_impute_94 ?_
    refine z_iload (pc := 97) C 4 rfl dX1_impute_97 ?_
    obtain ⟨c111, h⟩ := ifn h
    refine z_iaO (pc := 99) (k := 9) (j := 2) C 902 rfl (by decide) (by decide) (by decide) rfl rfl rfl rfl hv3 c111 rfl dX1_impute_99 ?_
    refine z_isO (pc := 100) (k := 1) (j := 23) C 123 rfl (by decide) (by decide) (by decide) rfl rfl rfl rfl hv0 c111 dX1_impute_100 ?_
    refine z_iinc (pc := 101) C (lv' := [(0, .ref v0), (3, .ref v3), (4, vI v4), (5, vI v5), (6, vI (v6 + 1))]) 4 rfl (by decide) rfl dX1_impute_101 ?_
    refine z_goto (pc := 104) C dX1_impute_104 (tgt := 80) (by decide) ?_
    exact hk80 v0 v3 v4 v5 (v6 + 1) (m_si M 123 v0 (ixn v6) (m_i M 902 v3 (ixn v6))) _ _ hv0 hv3 h hR
theorem cL_X1_impute_80 {X : x_Ctx} {M0 : Mem} (C : x_CC X 105 3238 yX1_impute cX1_impute 7 (some .int) [])  : ∀ (n : Nat) (v0 : Nat) (v3 : Nat) (v4 : Int) (v5 : Int) (v6 : Int) (M : Mem) (r : Int ⊕ Nat) (M' : Mem) (hv0 : m_kd M v0 = 1) (hv3 : m_kd M v3 = 9) (h : L_X1_impute_80  n v0 v3 v4 v5 v6 M = some (r, M')) (hR : ocN r 0 1 ≤ (XR X).cells ∧ ocN r 0 6 ≤ (XR X).slots), x_Z X 0 0 (x_QF X M0 (ocI r) M' (ocN r 0 1) (ocN r 0 6)) M0 M 7 [(0, .ref v0), (3, .ref v3), (4, vI v4), (5, vI v5), (6, vI v6)] 80 [] := by
  intro n
  induction n with
  | zero => intro v0 v3 v4 v5 v6 M r M' hv0 hv3 h hR; cases h
  | succ n ih => intro v0 v3 v4 v5 v6 M r M' hv0 hv3 h hR; exact cB_X1_impute_80 C (fun v0 v3 v4 v5 v6 M r M' hv0 hv3 h hR => ih v0 v3 v4 v5 v6 M r M' hv0 hv3 h hR) v0 v3 v4 v5 v6 M r M' hv0 hv3 h hR
theorem cB_X1_impute_70 {X : x_Ctx} {M0 : Mem} (C : x_CC X 105 3238 yX1_impute cX1_impute 7 (some .int) [])  (v0 : Nat) (v3 : Nat) (v4 : Int) (s0 : Int) (M : Mem) (r : Int ⊕ Nat) (M' : Mem) (hv0 : m_kd M v0 = 1) (hv3 : m_kd M v3 = 9) (h : B_X1_impute_70  v0 v3 v4 s0 M = some (r, M')) (hR : ocN r 0 1 ≤ (XR X).cells ∧ ocN r 0 6 ≤ (XR X).slots) : x_Z X 0 0 (x_QF X M0 (ocI r) M' (ocN r 0 1) (ocN r 0 6)) M0 M 7 [(0, .ref v0), (3, .ref v3), (4, vI v4)] 70 [vI s0] := by
  unfold B_X1_impute_70 at h
  refine z_istore (pc := 70) C (lv' := [(0, .ref v0), (3, .ref v3), (4, vI v4), (5, vI s0)]) (by decide) rfl dX1_impute_70 ?_
  refine z_iload (pc := 72) C 3 rfl dX1_impute_72 ?_
  refine z_if_ne (pc := 74) C dX1_impute_74 (tgt := 120) (by decide) (fun c67 => ?_) (fun c67 => ?_)
  · have h := itf c67 h
    refine z_iconst (pc := 120) C dX1_impute_120 ?_
    refine z_istore (pc := 121) C (lv' := [(0, .ref v0), (3, .ref v3), (4, vI v4), (5, vI s0), (6, vI 0)]) (by decide) rfl dX1_impute_121 ?_
    exact cL_X1_impute_123 C FU v0 v3 v4 s0 0 M _ _ hv0 hv3 h hR
  · have h := itt c67 h
    refine z_iconst (pc := 77) C dX1_impute_77 ?_
    refine z_istore (pc := 78) C (lv' := [(0, .ref v0), (3, .ref v3), (4, vI v4), (5, vI s0), (6, vI 0)]) (by decide) rfl dX1_impute_78 ?_
    exact cL_X1_impute_80 C FU v0 v3 v4 s0 0 M _ _ hv0 hv3 h hR
theorem cB_X1_impute_69 {X : x_Ctx} {M0 : Mem} (C : x_CC X 105 3238 yX1_impute cX1_impute 7 (some .int) [])  (v0 : Nat) (v3 : Nat) (v4 : Int) (M : Mem) (r : Int ⊕ Nat) (M' : Mem) (hv0 : m_kd M v0 = 1) (hv3 : m_kd M v3 = 9) (h : B_X1_impute_69  v0 v3 v4 M = some (r, M')) (hR : ocN r 0 1 ≤ (XR X).cells ∧ ocN r 0 6 ≤ (XR X).slots) : x_Z X 0 0 (x_QF X M0 (ocI r) M' (ocN r 0 1) (ocN r 0 6)) M0 M 7 [(0, .ref v0), (3, .ref v3), (4, vI v4)] 69 [] := by
  unfold B_X1_impute_69 at h
  refine z_iconst (pc := 69) C dX1_impute_69 ?_
  exact cB_X1_impute_70 C v0 v3 v4 0 M _ _ hv0 hv3 h hR
theorem cB_X1_impute_20 {X : x_Ctx} {M0 : Mem} (C : x_CC X 105 3238 yX1_impute cX1_impute 7 (some .int) [])  (v0 : Nat) (v2 : Int) (v3 : Nat) (s0 : Int) (M : Mem) (r : Int ⊕ Nat) (M' : Mem) (hv0 : m_kd M v0 = 1) (hv3 : m_kd M v3 = 9) (h : B_X1_impute_20  v0 v2 v3 s0 M = some (r, M')) (hR : ocN r 0 1 ≤ (XR X).cells ∧ ocN r 0 6 ≤ (XR X).slots) : x_Z X 0 0 (x_QF X M0 (ocI r) M' (ocN r 0 1) (ocN r 0 6)) M0 M 7 [(0, .ref v0), (2, vI v2), (3, .ref v3)] 20 [vI s0] := by
  unfold B_X1_impute_20 at h
  rcases bTs h with ⟨x40, e38, er⟩ | ⟨r36, M37, e38, h⟩
  · subst er; exact tX1_164 (pc := 20) C rfl (rm := { frames := 6, cells := 1, slots := 6, locals := 90 }) (ct_X1_need C.2.1 s0 M _ _  e38) ⟨by decide, by decide, Nat.le_trans (show 1 ≤ 1 from by decide) hR.1, Nat.le_trans (show 6 ≤ 6 from by decide) hR.2⟩ (Nat.le_of_ble_eq_true rfl) dX1_impute_20 (by decide) (show 1 ≤ 1 from by decide) (show 6 ≤ 6 from by decide)
  refine cX1_164 (pc := 20) (st := []) (st1 := []) C rfl (rm := { frames := 6, cells := 0, slots := 0, locals := 90 }) (ct_X1_need C.2.1 s0 M _ _  e38) ⟨by decide, by decide, Nat.zero_le _, Nat.zero_le _⟩ rfl (Nat.le_of_ble_eq_true rfl) dX1_impute_20 (c2 := 0) (s2 := 0) rfl rfl (fun x39 => ?_)
  have k41 := x39 _ 1 (by decide) (Or.inl (by decide)) hv0
  have k42 := x39 _ 9 (by decide) (Or.inl (by decide)) hv3
  refine z_aload_n (pc := 23) C 0 rfl dX1_impute_23 ?_
  obtain ⟨q43, e44, h⟩ := bRs h
  refine gX1_122 (pc := 24) C rfl (Or.inl k41) e44 dX1_impute_24 (fun k45 => ?_)
  refine z_aload_n (pc := 27) C 2 rfl dX1_impute_27 ?_
  obtain ⟨q46, e47, h⟩ := bRs h
  refine gX1_901 (pc := 28) C rfl (Or.inl k42) e47 dX1_impute_28 (fun k48 => ?_)
  refine z_aload_n (pc := 31) C 2 rfl dX1_impute_31 ?_
  refine gX1_902 (pc := 32) C rfl k42 dX1_impute_32 ?_
  refine z_ia (k := 9) (j := 2) 902 rfl (by decide) (by decide) (by decide) rfl rfl rfl k42 (fun k49 => ?_)
  obtain ⟨r50, M51, e52, h⟩ := bNs h
  refine cX1_409 (pc := 35) (st := []) (st1 := [vI r50]) C rfl (rm := { frames := 104, cells := 0, slots := 0, locals := 3212 }) (ct_X3_find C.2.1 q43 q46 (v3 + 1) M37 _ _ k45 k48 k49.1 e52) ⟨by decide, by decide, Nat.zero_le _, Nat.zero_le _⟩ (Or.inl k45) rfl (Nat.le_of_ble_eq_true rfl) dX1_impute_35 (c2 := 0) (s2 := 0) rfl rfl (fun x53 => ?_)
  have k54 := x53 _ 1 (by decide) (Or.inl (by decide)) k41
  have k55 := x53 _ 9 (by decide) (Or.inl (by decide)) k42
  rcases bTs h with ⟨x60, e58, er⟩ | ⟨r56, M57, e58, h⟩
  · subst er; exact tX1_190 (pc := 38) C rfl (rm := { frames := 6, cells := 1, slots := 6, locals := 90 }) (ct_X1_may C.2.1 r50 M51 _ _  e58) ⟨by decide, by decide, Nat.le_trans (show 1 ≤ 1 from by decide) hR.1, Nat.le_trans (show 6 ≤ 6 from by decide) hR.2⟩ (Nat.le_of_ble_eq_true rfl) dX1_impute_38 (by decide) (show 1 ≤ 1 from by decide) (show 6 ≤ 6 from by decide)
  refine cX1_190 (pc := 38) (st := []) (st1 := []) C rfl (rm := { frames := 6, cells := 0, slots := 0, locals := 90 }) (ct_X1_may C.2.1 r50 M51 _ _  e58) ⟨by decide, by decide, Nat.zero_le _, Nat.zero_le _⟩ rfl (Nat.le_of_ble_eq_true rfl) dX1_impute_38 (c2 := 0) (s2 := 0) rfl rfl (fun x59 => ?_)
  have k61 := x59 _ 1 (by decide) (Or.inl (by decide)) k54
  have k62 := x59 _ 9 (by decide) (Or.inl (by decide)) k55
  refine z_aload_n (pc := 41) C 0 rfl dX1_impute_41 ?_
  obtain ⟨q63, e64, h⟩ := bRs h
  refine gX1_122 (pc := 42) C rfl (Or.inl k61) e64 dX1_impute_42 (fun k65 => ?_)
  refine gX1_310 (pc := 45) C rfl (Or.inl k65) rfl dX1_impute_45 ?_
  refine z_istore (pc := 48) C (lv' := [(0, .ref v0), (2, vI v2), (3, .ref v3), (4, vI (m_i M57 310 q63 0))]) (by decide) rfl dX1_impute_48 ?_
  refine z_iload_n (pc := 50) C 1 rfl dX1_impute_50 ?_
  refine z_iconst (pc := 51) C dX1_impute_51 ?_
  refine z_ic_ne (pc := 52) C dX1_impute_52 (tgt := 69) (by decide) (fun c66 => ?_) (fun c66 => ?_)
  · have h := itf c66 h
    exact z_lv [0, 2, 3] rfl <| cB_X1_impute_69 C v0 v3 (m_i M57 310 q63 0) M57 _ _ k61 k62 h hR
  · have h := itt c66 h
    refine z_aload_n (pc := 55) C 0 rfl dX1_impute_55 ?_
    refine z_aload_n (pc := 56) C 2 rfl dX1_impute_56 ?_
    refine z_iload (pc := 57) C 3 rfl dX1_impute_57 ?_
    obtain ⟨r112, M113, e114, h⟩ := bNs h
    refine cX1_419 (pc := 59) (st := []) (st1 := [vI r112]) C rfl (rm := { frames := 4, cells := 0, slots := 0, locals := 107 }) (ct_X1_takeFromDonor C.2.1 v0 v3 (m_i M57 310 q63 0) M57 _ _ k61 k62 e114) ⟨by decide, by decide, Nat.zero_le _, Nat.zero_le _⟩ (Or.inl k61) rfl (Nat.le_of_ble_eq_true rfl) dX1_impute_59 (c2 := 0) (s2 := 0) rfl rfl (fun x115 => ?_)
    have k116 := x115 _ 1 (by decide) (Or.inl (by decide)) k61
    have k117 := x115 _ 9 (by decide) (Or.inl (by decide)) k62
    refine z_if_eq (pc := 62) C dX1_impute_62 (tgt := 69) (by decide) (fun c118 => ?_) (fun c118 => ?_)
    · have h := itt c118 h
      exact z_lv [0, 2, 3] rfl <| cB_X1_impute_69 C v0 v3 (m_i M57 310 q63 0) M113 _ _ k116 k117 h hR
    · have h := itf c118 h
      refine z_iconst (pc := 65) C dX1_impute_65 ?_
      refine z_goto (pc := 66) C dX1_impute_66 (tgt := 70) (by decide) ?_
      exact z_lv [0, 2, 3] rfl <| cB_X1_impute_70 C v0 v3 (m_i M57 310 q63 0) 1 M113 _ _ k116 k117 h hR
theorem cB_X1_impute_15 {X : x_Ctx} {M0 : Mem} (C : x_CC X 105 3238 yX1_impute cX1_impute 7 (some .int) [])  (v0 : Nat) (v2 : Int) (v3 : Nat) (M : Mem) (r : Int ⊕ Nat) (M' : Mem) (hv0 : m_kd M v0 = 1) (hv3 : m_kd M v3 = 9) (h : B_X1_impute_15  v0 v2 v3 M = some (r, M')) (hR : ocN r 0 1 ≤ (XR X).cells ∧ ocN r 0 6 ≤ (XR X).slots) : x_Z X 0 0 (x_QF X M0 (ocI r) M' (ocN r 0 1) (ocN r 0 6)) M0 M 7 [(0, .ref v0), (2, vI v2), (3, .ref v3)] 15 [] := by
  unfold B_X1_impute_15 at h
  refine z_iconst (pc := 15) C dX1_impute_15 ?_
  refine z_goto (pc := 16) C dX1_impute_16 (tgt := 20) (by decide) ?_
  exact cB_X1_impute_20 C v0 v2 v3 1 M _ _ hv0 hv3 h hR
theorem ct_X1_impute {l : Launch} {S0 : State} {D : va_G} {cA : Nat → ClassId} (hG : x_G l S0 D cA) (v0 : Nat) (v1 : Int) (v2 : Int) (M : Mem) (r : Int ⊕ Nat) (M' : Mem) (hv0 : m_kd M v0 = 1) (h : d_X1_impute v0 v1 v2 M = some (r, M')) : x_Me l S0 D cA yX1_impute cX1_impute 7 (some .int) [] ({ frames := 105, cells := (ocN r 0 1), slots := (ocN r 0 6), locals := 3238 }) [.ref v0, vI v1, vI v2] M (ocI r) M' := by
  refine x_begin (F := 105) (Lo := 3238) (mc := (ocN r 0 1)) (ms := (ocN r 0 6)) hG (Nat.le_of_ble_eq_true rfl) (lv := [(0, .ref v0), (1, vI v1), (2, vI v2)]) rfl rfl rfl rfl rfl (fun X e1 e2 e3 e4 e5 C => ?_)
  have hR : _ ∧ _ := ⟨Nat.le_of_eq (congrArg Room.cells e5).symm, Nat.le_of_eq (congrArg Room.slots e5).symm⟩
  unfold d_X1_impute at h
  refine z_aload_n (pc := 0) C 0 rfl dX1_impute_0 ?_
  refine z_iload_n (pc := 1) C 1 rfl dX1_impute_1 ?_
  rcases bTs h with ⟨x32, e30, er⟩ | ⟨r28, M29, e30, h⟩
  · subst er; exact tX1_365 (pc := 2) C rfl (rm := { frames := 7, cells := 1, slots := 6, locals := 114 }) (ct_X1_recordOf C.2.1 v0 v1 M _ _ hv0 e30) ⟨by decide, by decide, Nat.le_trans (show 1 ≤ 1 from by decide) hR.1, Nat.le_trans (show 6 ≤ 6 from by decide) hR.2⟩ (Or.inl hv0) (Nat.le_of_ble_eq_true rfl) dX1_impute_2 (by decide) (show 1 ≤ 1 from by decide) (show 6 ≤ 6 from by decide)
  refine cX1_365 (pc := 2) (st := []) (st1 := [.ref r28]) C rfl (rm := { frames := 7, cells := 0, slots := 0, locals := 114 }) (ct_X1_recordOf C.2.1 v0 v1 M _ _ hv0 e30) ⟨by decide, by decide, Nat.zero_le _, Nat.zero_le _⟩ (Or.inl hv0) rfl (Nat.le_of_ble_eq_true rfl) dX1_impute_2 (c2 := 0) (s2 := 0) rfl rfl (fun x31 => ?_)
  have k33 := x31 _ 1 (by decide) (Or.inl (by decide)) hv0
  obtain ⟨c34, h⟩ := ifn h
  refine z_astore_n (pc := 5) C (lv' := [(0, .ref v0), (1, vI v1), (2, vI v2), (3, .ref r28)]) (by decide) rfl dX1_impute_5 ?_
  refine z_iload_n (pc := 6) C 2 rfl dX1_impute_6 ?_
  refine z_if_eq (pc := 7) C dX1_impute_7 (tgt := 15) (by decide) (fun c35 => ?_) (fun c35 => ?_)
  · have h := itt c35 h
    exact z_lv [0, 2, 3] rfl <| cB_X1_impute_15 C v0 v2 r28 M29 _ _ k33 c34 h hR
  · have h := itf c35 h
    refine z_iload_n (pc := 10) C 2 rfl dX1_impute_10 ?_
    refine z_iconst (pc := 11) C dX1_impute_11 ?_
    refine z_ic_ne (pc := 12) C dX1_impute_12 (tgt := 19) (by decide) (fun c119 => ?_) (fun c119 => ?_)
    · have h := itf c119 h
      refine z_iconst (pc := 19) C dX1_impute_19 ?_
      exact z_lv [0, 2, 3] rfl <| cB_X1_impute_20 C v0 v2 r28 0 M29 _ _ k33 c34 h hR
    · have h := itt c119 h
      exact z_lv [0, 2, 3] rfl <| cB_X1_impute_15 C v0 v2 r28 M29 _ _ k33 c34 h hR
def d_X0_impute (v0 : Nat) (v1 : Int) (v2 : Int) (v3 : Nat) (M : Mem) : Option (Int × Mem) :=
  bC (d_X1_impute v0 v1 v2 M) (fun r1 M3 =>
    some (0, (m_si M3 9000 v3 (ixn 0) (w32 r1)))) (fun q2 M3 =>
    if m_kd M3 q2 = 115 then
      some (1, M3)
    else
      if m_kd M3 q2 = 113 then
        some (2, M3)
      else
        if m_kd M3 q2 = 116 then
          some (3, M3)
        else
          none)
theorem ct_X0_impute {l : Launch} {S0 : State} {D : va_G} {cA : Nat → ClassId} (hG : x_G l S0 D cA) (v0 : Nat) (v1 : Int) (v2 : Int) (v3 : Nat) (M : Mem) (r : Int) (M' : Mem) (hv0 : m_kd M v0 = 1) (hv3 : m_kd M v3 = 19000) (h : d_X0_impute v0 v1 v2 v3 M = some (r, M')) : x_Me l S0 D cA yX0_impute cX0_impute 5 (some .int) [(0, 10, 13, 25), (0, 10, 17, 13), (0, 10, 21, 27)] ({ frames := 106, cells := 1, slots := 6, locals := 3268 }) [.ref v0, vI v1, vI v2, .ref v3] M (.returned (some (vI r))) M' := by
  refine x_begin (F := 106) (Lo := 3268) (mc := 1) (ms := 6) hG (Nat.le_of_ble_eq_true rfl) (lv := [(0, .ref v0), (1, vI v1), (2, vI v2), (3, .ref v3)]) rfl rfl rfl rfl rfl (fun X e1 e2 e3 e4 e5 C => ?_)
  have hR : _ ∧ _ := ⟨Nat.le_of_eq (congrArg Room.cells e5).symm, Nat.le_of_eq (congrArg Room.slots e5).symm⟩
  unfold d_X0_impute at h
  refine z_aload_n (pc := 0) C 3 rfl dX0_impute_0 ?_
  refine z_iconst (pc := 1) C dX0_impute_1 ?_
  refine z_aload_n (pc := 2) C 0 rfl dX0_impute_2 ?_
  refine z_iload_n (pc := 3) C 1 rfl dX0_impute_3 ?_
  refine z_iload_n (pc := 4) C 2 rfl dX0_impute_4 ?_
  rcases bCs h with ⟨r1, M3, e4, h⟩ | ⟨q2, M3, e4, h⟩
  · refine cX0_91 (pc := 5) (st := [vI 0, .ref v3]) (st1 := [vI r1, vI 0, .ref v3]) C rfl (rm := { frames := 105, cells := 0, slots := 0, locals := 3238 }) (ct_X1_impute C.2.1 v0 v1 v2 M _ _ hv0 e4) ⟨by decide, by decide, Nat.zero_le _, Nat.zero_le _⟩ (Or.inl hv0) rfl (Nat.le_of_ble_eq_true rfl) dX0_impute_5 (c2 := 0) (s2 := 0) rfl rfl (fun x5 => ?_)
    have k6 := x5 _ 19000 (by decide) (Or.inr (by decide)) hv3
    refine z_i2l (pc := 8) C dX0_impute_8 ?_
    refine z_lsw (pc := 9) C k6 (by decide +kernel) dX0_impute_9 ?_
    refine z_goto (pc := 10) C dX0_impute_10 (tgt := 25) (by decide) ?_
    refine z_iconst (pc := 25) C dX0_impute_25 ?_
    cases h
    exact z_iret (pc := 26) C rfl (show 0 ≤ 1 from by decide) (show 0 ≤ 6 from by decide) dX0_impute_26
  · by_cases c7 : m_kd M3 q2 = 115
    · have h := itt c7 h
      refine kX0_91 (pc := 5) (st := [vI 0, .ref v3]) C rfl (rm := { frames := 105, cells := 1, slots := 6, locals := 3238 }) (r := q2) (ct_X1_impute C.2.1 v0 v1 v2 M _ _ hv0 e4) ⟨by decide, by decide, Nat.le_trans (show 1 ≤ 1 from by decide) hR.1, Nat.le_trans (show 6 ≤ 6 from by decide) hR.2⟩ (Or.inl hv0) (Nat.le_of_ble_eq_true rfl) dX0_impute_5 (e := 15) (hpc := 13) (by decide) (Or.inr c7) (Or.inr ⟨by decide, by decide, 15, by decide, q560, Or.inl ⟨rfl, rfl⟩⟩) (c2 := 1) (s2 := 6) rfl rfl (fun x8 => ?_)
      refine z_astore (pc := 13) C (lv' := [(0, .ref v0), (1, vI v1), (2, vI v2), (3, .ref v3), (4, .ref q2)]) (by decide) rfl dX0_impute_13 ?_
      refine z_iconst (pc := 15) C dX0_impute_15 ?_
      cases h
      exact z_iret (pc := 16) C rfl (show 1 ≤ 1 from by decide) (show 6 ≤ 6 from by decide) dX0_impute_16
    · have h := itf c7 h
      by_cases c9 : m_kd M3 q2 = 113
      · have h := itt c9 h
        refine kX0_91 (pc := 5) (st := [vI 0, .ref v3]) C rfl (rm := { frames := 105, cells := 1, slots := 6, locals := 3238 }) (r := q2) (ct_X1_impute C.2.1 v0 v1 v2 M _ _ hv0 e4) ⟨by decide, by decide, Nat.le_trans (show 1 ≤ 1 from by decide) hR.1, Nat.le_trans (show 6 ≤ 6 from by decide) hR.2⟩ (Or.inl hv0) (Nat.le_of_ble_eq_true rfl) dX0_impute_5 (e := 13) (hpc := 17) (by decide) (Or.inr c9) (Or.inr ⟨by decide, by decide, 15, by decide, q560, Or.inr ⟨by decide, Or.inr ⟨by decide, by decide, 13, by decide, q447, Or.inl ⟨rfl, rfl⟩⟩⟩⟩) (c2 := 1) (s2 := 6) rfl rfl (fun x10 => ?_)
        refine z_astore (pc := 17) C (lv' := [(0, .ref v0), (1, vI v1), (2, vI v2), (3, .ref v3), (4, .ref q2)]) (by decide) rfl dX0_impute_17 ?_
        refine z_iconst (pc := 19) C dX0_impute_19 ?_
        cases h
        exact z_iret (pc := 20) C rfl (show 1 ≤ 1 from by decide) (show 6 ≤ 6 from by decide) dX0_impute_20
      · have h := itf c9 h
        by_cases c11 : m_kd M3 q2 = 116
        · have h := itt c11 h
          refine kX0_91 (pc := 5) (st := [vI 0, .ref v3]) C rfl (rm := { frames := 105, cells := 1, slots := 6, locals := 3238 }) (r := q2) (ct_X1_impute C.2.1 v0 v1 v2 M _ _ hv0 e4) ⟨by decide, by decide, Nat.le_trans (show 1 ≤ 1 from by decide) hR.1, Nat.le_trans (show 6 ≤ 6 from by decide) hR.2⟩ (Or.inl hv0) (Nat.le_of_ble_eq_true rfl) dX0_impute_5 (e := 16) (hpc := 21) (by decide) (Or.inr c11) (Or.inr ⟨by decide, by decide, 15, by decide, q560, Or.inr ⟨by decide, Or.inr ⟨by decide, by decide, 13, by decide, q447, Or.inr ⟨by decide, Or.inr ⟨by decide, by decide, 16, by decide, q584, Or.inl ⟨rfl, rfl⟩⟩⟩⟩⟩⟩) (c2 := 1) (s2 := 6) rfl rfl (fun x12 => ?_)
          refine z_astore (pc := 21) C (lv' := [(0, .ref v0), (1, vI v1), (2, vI v2), (3, .ref v3), (4, .ref q2)]) (by decide) rfl dX0_impute_21 ?_
          refine z_iconst (pc := 23) C dX0_impute_23 ?_
          cases h
          exact z_iret (pc := 24) C rfl (show 1 ≤ 1 from by decide) (show 6 ≤ 6 from by decide) dX0_impute_24
        · have h := itf c11 h
          cases h
def B_X1_lookAtFrame_6 (k6 : Nat → Int → Int → Int → Int → Int → Int → Mem → Option (Int × Mem)) (v0 : Nat) (v1 : Int) (v2 : Int) (v3 : Int) (v4 : Int) (v5 : Int) (v6 : Int) (M : Mem) : Option (Int × Mem) :=
  if w32 (m_i M 101 v0 0) ≤ w32 v6 then
    some (v5, M)
  else
    if inb v6 100 then 
    if w32 (m_i M 104 v0 (ixn v6)) = w32 (-1) then
      bR (d_X1_valueOf v0 v6 v1 (d_X1_day v0 M) (d_X1_day v0 M) M) fun r6 => 
      bR (d_X1_valueOf v0 v6 v4 (d_X1_day v0 M) (d_X1_day v0 M) M) fun r10 => 
      if w32 r6 = w32 (-2000000) then
        k6 v0 v1 v2 v3 v4 v5 (v6 + 1) M
      else
        if w32 r6 < w32 v2 then
          k6 v0 v1 v2 v3 v4 v5 (v6 + 1) M
        else
          if w32 v3 < w32 r6 then
            k6 v0 v1 v2 v3 v4 v5 (v6 + 1) M
          else
            if w32 r10 = w32 (-2000000) then
              k6 v0 v1 v2 v3 v4 v5 (v6 + 1) M
            else
              if inb v5 100 then 
              k6 v0 v1 v2 v3 v4 (v5 + 1) (v6 + 1) (m_si (m_si M 127 v0 (ixn v5) v6) 128 v0 (ixn v5) r10) else none
    else
      k6 v0 v1 v2 v3 v4 v5 (v6 + 1) M else none
def L_X1_lookAtFrame_6  : Nat → Nat → Int → Int → Int → Int → Int → Int → Mem → Option (Int × Mem)
  | 0, _, _, _, _, _, _, _, _ => none
  | n + 1, v0, v1, v2, v3, v4, v5, v6, M => B_X1_lookAtFrame_6 (L_X1_lookAtFrame_6  n) v0 v1 v2 v3 v4 v5 v6 M
def d_X1_lookAtFrame (v0 : Nat) (v1 : Int) (v2 : Int) (v3 : Int) (v4 : Int) (M : Mem) : Option (Int × Mem) :=
  L_X1_lookAtFrame_6 FU v0 v1 v2 v3 v4 0 0 M
theorem cB_X1_lookAtFrame_6 {X : x_Ctx} {M0 : Mem} (C : x_CC X 3 83 yX1_lookAtFrame cX1_lookAtFrame 9 (some .int) []) {k6 : Nat → Int → Int → Int → Int → Int → Int → Mem → Option (Int × Mem)} (hk6 : ∀ (v0 : Nat) (v1 : Int) (v2 : Int) (v3 : Int) (v4 : Int) (v5 : Int) (v6 : Int) (M : Mem) (r : Int) (M' : Mem), m_kd M v0 = 1 → k6 v0 v1 v2 v3 v4 v5 v6 M = some (r, M') → x_Z X 0 0 (x_QF X M0 (.returned (some (vI r))) M' 0 0) M0 M 9 [(0, .ref v0), (1, vI v1), (2, vI v2), (3, vI v3), (4, vI v4), (5, vI v5), (6, vI v6)] 6 []) (v0 : Nat) (v1 : Int) (v2 : Int) (v3 : Int) (v4 : Int) (v5 : Int) (v6 : Int) (M : Mem) (r : Int) (M' : Mem) (hv0 : m_kd M v0 = 1) (h : B_X1_lookAtFrame_6 k6 v0 v1 v2 v3 v4 v5 v6 M = some (r, M'))  : x_Z X 0 0 (x_QF X M0 (.returned (some (vI r))) M' 0 0) M0 M 9 [(0, .ref v0), (1, vI v1), (2, vI v2), (3, vI v3), (4, vI v4), (5, vI v5), (6, vI v6)] 6 [] := by
  unfold B_X1_lookAtFrame_6 at h
  refine z_iload (pc := 6) C 6 rfl dX1_lookAtFrame_6 ?_
  refine z_aload_n (pc := 8) C 0 rfl dX1_lookAtFrame_8 ?_
  refine gX1_101 (pc := 9) C rfl (Or.inl hv0) rfl dX1_lookAtFrame_9 ?_
  refine z_ic_ge (pc := 12) C dX1_lookAtFrame_12 (tgt := 120) (by decide) (fun c1 => ?_) (fun c1 => ?_)
  · have h := itt c1 h
    refine z_iload (pc := 120) C 5 rfl dX1_lookAtFrame_120 ?_
    cases h
    exact z_iret (pc := 122) C rfl (show 0 ≤ 0 from by decide) (show 0 ≤ 0 from by decide) dX1_lookAtFrame_122
  · have h := itf c1 h
    refine z_aload_n (pc := 15) C 0 rfl dX1_lookAtFrame_15 ?_
    refine gX1_104 (pc := 16) C rfl hv0 dX1_lookAtFrame_16 ?_
    refine z_iload (pc := 19) C 6 rfl dX1_lookAtFrame_19 ?_
    obtain ⟨c2, h⟩ := ifn h
    refine z_iaO (pc := 21) (k := 1) (j := 4) C 104 rfl (by decide) (by decide) (by decide) rfl rfl rfl rfl hv0 c2 rfl dX1_lookAtFrame_21 ?_
    refine z_iconst (pc := 22) C dX1_lookAtFrame_22 ?_
    refine z_ic_eq (pc := 23) C dX1_lookAtFrame_23 (tgt := 29) (by decide) (fun c3 => ?_) (fun c3 => ?_)
    · have h := itt c3 h
      refine z_aload_n (pc := 29) C 0 rfl dX1_lookAtFrame_29 ?_
      refine z_iload (pc := 30) C 6 rfl dX1_lookAtFrame_30 ?_
      refine z_iload_n (pc := 32) C 1 rfl dX1_lookAtFrame_32 ?_
      refine z_aload_n (pc := 33) C 0 rfl dX1_lookAtFrame_33 ?_
      refine cX1_196 (pc := 34) (st := [vI v1, vI v6, .ref v0]) (st1 := [vI (d_X1_day v0 M), vI v1, vI v6, .ref v0]) C rfl (rm := { frames := 1, cells := 0, slots := 0, locals := 24 }) (ct_X1_day C.2.1 v0 M _ hv0 rfl) ⟨by decide, by decide, Nat.zero_le _, Nat.zero_le _⟩ (Or.inl hv0) rfl (Nat.le_of_ble_eq_true rfl) dX1_lookAtFrame_34 (c2 := 0) (s2 := 0) rfl rfl (fun _ => ?_)
      refine z_aload_n (pc := 37) C 0 rfl dX1_lookAtFrame_37 ?_
      refine cX1_196 (pc := 38) (st := [vI (d_X1_day v0 M), vI v1, vI v6, .ref v0]) (st1 := [vI (d_X1_day v0 M), vI (d_X1_day v0 M), vI v1, vI v6, .ref v0]) C rfl (rm := { frames := 1, cells := 0, slots := 0, locals := 24 }) (ct_X1_day C.2.1 v0 M _ hv0 rfl) ⟨by decide, by decide, Nat.zero_le _, Nat.zero_le _⟩ (Or.inl hv0) rfl (Nat.le_of_ble_eq_true rfl) dX1_lookAtFrame_38 (c2 := 0) (s2 := 0) rfl rfl (fun _ => ?_)
      obtain ⟨r6, e7, h⟩ := bRs h
      refine cX1_211 (pc := 41) (st := []) (st1 := [vI r6]) C rfl (rm := { frames := 2, cells := 0, slots := 0, locals := 51 }) (ct_X1_valueOf C.2.1 v0 v6 v1 (d_X1_day v0 M) (d_X1_day v0 M) M _ hv0 e7) ⟨by decide, by decide, Nat.zero_le _, Nat.zero_le _⟩ (Or.inl hv0) rfl (Nat.le_of_ble_eq_true rfl) dX1_lookAtFrame_41 (c2 := 0) (s2 := 0) rfl rfl (fun _ => ?_)
      refine z_istore (pc := 44) C (lv' := [(0, .ref v0), (1, vI v1), (2, vI v2), (3, vI v3), (4, vI v4), (5, vI v5), (6, vI v6), (7, vI r6)]) (by decide) rfl dX1_lookAtFrame_44 ?_
      refine z_aload_n (pc := 46) C 0 rfl dX1_lookAtFrame_46 ?_
      refine z_iload (pc := 47) C 6 rfl dX1_lookAtFrame_47 ?_
      refine z_iload (pc := 49) C 4 rfl dX1_lookAtFrame_49 ?_
      refine z_aload_n (pc := 51) C 0 rfl dX1_lookAtFrame_51 ?_
      refine cX1_196 (pc := 52) (st := [vI v4, vI v6, .ref v0]) (st1 := [vI (d_X1_day v0 M), vI v4, vI v6, .ref v0]) C rfl (rm := { frames := 1, cells := 0, slots := 0, locals := 24 }) (ct_X1_day C.2.1 v0 M _ hv0 rfl) ⟨by decide, by decide, Nat.zero_le _, Nat.zero_le _⟩ (Or.inl hv0) rfl (Nat.le_of_ble_eq_true rfl) dX1_lookAtFrame_52 (c2 := 0) (s2 := 0) rfl rfl (fun _ => ?_)
      refine z_aload_n (pc := 55) C 0 rfl dX1_lookAtFrame_55 ?_
      refine cX1_196 (pc := 56) (st := [vI (d_X1_day v0 M), vI v4, vI v6, .ref v0]) (st1 := [vI (d_X1_day v0 M), vI (d_X1_day v0 M), vI v4, vI v6, .ref v0]) C rfl (rm := { frames := 1, cells := 0, slots := 0, locals := 24 }) (ct_X1_day C.2.1 v0 M _ hv0 rfl) ⟨by decide, by decide, Nat.zero_le _, Nat.zero_le _⟩ (Or.inl hv0) rfl (Nat.le_of_ble_eq_true rfl) dX1_lookAtFrame_56 (c2 := 0) (s2 := 0) rfl rfl (fun _ => ?_)
      obtain ⟨r10, e11, h⟩ := bRs h
      refine cX1_211 (pc := 59) (st := []) (st1 := [vI r10]) C rfl (rm := { frames := 2, cells := 0, slots := 0, locals := 51 }) (ct_X1_valueOf C.2.1 v0 v6 v4 (d_X1_day v0 M) (d_X1_day v0 M) M _ hv0 e11) ⟨by decide, by decide, Nat.zero_le _, Nat.zero_le _⟩ (Or.inl hv0) rfl (Nat.le_of_ble_eq_true rfl) dX1_lookAtFrame_59 (c2 := 0) (s2 := 0) rfl rfl (fun _ => ?_)
      refine z_istore (pc := 62) C (lv' := [(0, .ref v0), (1, vI v1), (2, vI v2), (3, vI v3), (4, vI v4), (5, vI v5), (6, vI v6), (7, vI r6), (8, vI r10)]) (by decide) rfl dX1_lookAtFrame_62 ?_
      refine z_iload (pc := 64) C 7 rfl dX1_lookAtFrame_64 ?_
      refine z_ldc (pc := 66) C (x := -2000000) q661 (by decide +kernel) dX1_lookAtFrame_66 ?_
      refine z_ic_eq (pc := 68) C dX1_lookAtFrame_68 (tgt := 114) (by decide) (fun c12 => ?_) (fun c12 => ?_)
      · have h := itt c12 h
        refine z_iinc (pc := 114) C (lv' := [(0, .ref v0), (1, vI v1), (2, vI v2), (3, vI v3), (4, vI v4), (5, vI v5), (6, vI (v6 + 1)), (7, vI r6), (8, vI r10)]) 6 rfl (by decide) rfl dX1_lookAtFrame_114 ?_
        refine z_goto (pc := 117) C dX1_lookAtFrame_117 (tgt := 6) (by decide) ?_
        exact z_lv [0, 1, 2, 3, 4, 5, 6] rfl <| hk6 v0 v1 v2 v3 v4 v5 (v6 + 1) M _ _ hv0 h
      · have h := itf c12 h
        refine z_iload (pc := 71) C 7 rfl dX1_lookAtFrame_71 ?_
        refine z_iload_n (pc := 73) C 2 rfl dX1_lookAtFrame_73 ?_
        refine z_ic_lt (pc := 74) C dX1_lookAtFrame_74 (tgt := 114) (by decide) (fun c13 => ?_) (fun c13 => ?_)
        · have h := itt c13 h
          refine z_iinc (pc := 114) C (lv' := [(0, .ref v0), (1, vI v1), (2, vI v2), (3, vI v3), (4, vI v4), (5, vI v5), (6, vI (v6 + 1)), (7, vI r6), (8, vI r10)]) 6 rfl (by decide) rfl dX1_lookAtFrame_114 ?_
          refine z_goto (pc := 117) C dX1_lookAtFrame_117 (tgt := 6) (by decide) ?_
          exact z_lv [0, 1, 2, 3, 4, 5, 6] rfl <| hk6 v0 v1 v2 v3 v4 v5 (v6 + 1) M _ _ hv0 h
        · have h := itf c13 h
          refine z_iload (pc := 77) C 7 rfl dX1_lookAtFrame_77 ?_
          refine z_iload_n (pc := 79) C 3 rfl dX1_lookAtFrame_79 ?_
          refine z_ic_gt (pc := 80) C dX1_lookAtFrame_80 (tgt := 114) (by decide) (fun c14 => ?_) (fun c14 => ?_)
          · have h := itt c14 h
            refine z_iinc (pc := 114) C (lv' := [(0, .ref v0), (1, vI v1), (2, vI v2), (3, vI v3), (4, vI v4), (5, vI v5), (6, vI (v6 + 1)), (7, vI r6), (8, vI r10)]) 6 rfl (by decide) rfl dX1_lookAtFrame_114 ?_
            refine z_goto (pc := 117) C dX1_lookAtFrame_117 (tgt := 6) (by decide) ?_
            exact z_lv [0, 1, 2, 3, 4, 5, 6] rfl <| hk6 v0 v1 v2 v3 v4 v5 (v6 + 1) M _ _ hv0 h
          · have h := itf c14 h
            refine z_iload (pc := 83) C 8 rfl dX1_lookAtFrame_83 ?_
            refine z_ldc (pc := 85) C (x := -2000000) q661 (by decide +kernel) dX1_lookAtFrame_85 ?_
            refine z_ic_ne (pc := 87) C dX1_lookAtFrame_87 (tgt := 93) (by decide) (fun c15 => ?_) (fun c15 => ?_)
            · have h := itf c15 h
              refine z_aload_n (pc := 93) C 0 rfl dX1_lookAtFrame_93 ?_
              refine gX1_127 (pc := 94) C rfl hv0 dX1_lookAtFrame_94 ?_
              refine z_iload (pc := 97) C 5 rfl dX1_lookAtFrame_97 ?_
              refine z_iload (pc := 99) C 6 rfl dX1_lookAtFrame_99 ?_
              obtain ⟨c16, h⟩ := ifn h
              refine z_isO (pc := 101) (k := 1) (j := 27) C 127 rfl (by decide) (by decide) (by decide) rfl rfl rfl rfl hv0 c16 dX1_lookAtFrame_101 ?_
              refine z_aload_n (pc := 102) C 0 rfl dX1_lookAtFrame_102 ?_
              refine gX1_128 (pc := 103) C rfl hv0 dX1_lookAtFrame_103 ?_
              refine z_iload (pc := 106) C 5 rfl dX1_lookAtFrame_106 ?_
              refine z_iload (pc := 108) C 8 rfl dX1_lookAtFrame_108 ?_
              refine z_isO (pc := 110) (k := 1) (j := 28) C 128 rfl (by decide) (by decide) (by decide) rfl rfl rfl rfl hv0 c16 dX1_lookAtFrame_110 ?_
              refine z_iinc (pc := 111) C (lv' := [(0, .ref v0), (1, vI v1), (2, vI v2), (3, vI v3), (4, vI v4), (5, vI (v5 + 1)), (6, vI v6), (7, vI r6), (8, vI r10)]) 5 rfl (by decide) rfl dX1_lookAtFrame_111 ?_
              refine z_iinc (pc := 114) C (lv' := [(0, .ref v0), (1, vI v1), (2, vI v2), (3, vI v3), (4, vI v4), (5, vI (v5 + 1)), (6, vI (v6 + 1)), (7, vI r6), (8, vI r10)]) 6 rfl (by decide) rfl dX1_lookAtFrame_114 ?_
              refine z_goto (pc := 117) C dX1_lookAtFrame_117 (tgt := 6) (by decide) ?_
              exact z_lv [0, 1, 2, 3, 4, 5, 6] rfl <| hk6 v0 v1 v2 v3 v4 (v5 + 1) (v6 + 1) (m_si (m_si M 127 v0 (ixn v5) v6) 128 v0 (ixn v5) r10) _ _ hv0 h
            · have h := itt c15 h
              refine z_goto (pc := 90) C dX1_lookAtFrame_90 (tgt := 114) (by decide) ?_
              refine z_iinc (pc := 114) C (lv' := [(0, .ref v0), (1, vI v1), (2, vI v2), (3, vI v3), (4, vI v4), (5, vI v5), (6, vI (v6 + 1)), (7, vI r6), (8, vI r10)]) 6 rfl (by decide) rfl dX1_lookAtFrame_114 ?_
              refine z_goto (pc := 117) C dX1_lookAtFrame_117 (tgt := 6) (by decide) ?_
              exact z_lv [0, 1, 2, 3, 4, 5, 6] rfl <| hk6 v0 v1 v2 v3 v4 v5 (v6 + 1) M _ _ hv0 h
    · have h := itf c3 h
      refine z_goto (pc := 26) C dX1_lookAtFrame_26 (tgt := 114) (by decide) ?_
      refine z_iinc (pc := 114) C (lv' := [(0, .ref v0), (1, vI v1), (2, vI v2), (3, vI v3), (4, vI v4), (5, vI v5), (6, vI (v6 + 1))]) 6 rfl (by decide) rfl dX1_lookAtFrame_114 ?_
      refine z_goto (pc := 117) C dX1_lookAtFrame_117 (tgt := 6) (by decide) ?_
      exact hk6 v0 v1 v2 v3 v4 v5 (v6 + 1) M _ _ hv0 h
theorem cL_X1_lookAtFrame_6 {X : x_Ctx} {M0 : Mem} (C : x_CC X 3 83 yX1_lookAtFrame cX1_lookAtFrame 9 (some .int) [])  : ∀ (n : Nat) (v0 : Nat) (v1 : Int) (v2 : Int) (v3 : Int) (v4 : Int) (v5 : Int) (v6 : Int) (M : Mem) (r : Int) (M' : Mem) (hv0 : m_kd M v0 = 1) (h : L_X1_lookAtFrame_6  n v0 v1 v2 v3 v4 v5 v6 M = some (r, M')) , x_Z X 0 0 (x_QF X M0 (.returned (some (vI r))) M' 0 0) M0 M 9 [(0, .ref v0), (1, vI v1), (2, vI v2), (3, vI v3), (4, vI v4), (5, vI v5), (6, vI v6)] 6 [] := by
  intro n
  induction n with
  | zero => intro v0 v1 v2 v3 v4 v5 v6 M r M' hv0 h ; cases h
  | succ n ih => intro v0 v1 v2 v3 v4 v5 v6 M r M' hv0 h ; exact cB_X1_lookAtFrame_6 C (fun v0 v1 v2 v3 v4 v5 v6 M r M' hv0 h  => ih v0 v1 v2 v3 v4 v5 v6 M r M' hv0 h ) v0 v1 v2 v3 v4 v5 v6 M r M' hv0 h 
theorem ct_X1_lookAtFrame {l : Launch} {S0 : State} {D : va_G} {cA : Nat → ClassId} (hG : x_G l S0 D cA) (v0 : Nat) (v1 : Int) (v2 : Int) (v3 : Int) (v4 : Int) (M : Mem) (r : Int) (M' : Mem) (hv0 : m_kd M v0 = 1) (h : d_X1_lookAtFrame v0 v1 v2 v3 v4 M = some (r, M')) : x_Me l S0 D cA yX1_lookAtFrame cX1_lookAtFrame 9 (some .int) [] ({ frames := 3, cells := 0, slots := 0, locals := 83 }) [.ref v0, vI v1, vI v2, vI v3, vI v4] M (.returned (some (vI r))) M' := by
  refine x_begin (F := 3) (Lo := 83) (mc := 0) (ms := 0) hG (Nat.le_of_ble_eq_true rfl) (lv := [(0, .ref v0), (1, vI v1), (2, vI v2), (3, vI v3), (4, vI v4)]) rfl rfl rfl rfl rfl (fun X e1 e2 e3 e4 e5 C => ?_)
  unfold d_X1_lookAtFrame at h
  refine z_iconst (pc := 0) C dX1_lookAtFrame_0 ?_
  refine z_istore (pc := 1) C (lv' := [(0, .ref v0), (1, vI v1), (2, vI v2), (3, vI v3), (4, vI v4), (5, vI 0)]) (by decide) rfl dX1_lookAtFrame_1 ?_
  refine z_iconst (pc := 3) C dX1_lookAtFrame_3 ?_
  refine z_istore (pc := 4) C (lv' := [(0, .ref v0), (1, vI v1), (2, vI v2), (3, vI v3), (4, vI v4), (5, vI 0), (6, vI 0)]) (by decide) rfl dX1_lookAtFrame_4 ?_
  exact cL_X1_lookAtFrame_6 C FU v0 v1 v2 v3 v4 0 0 M _ _ hv0 h
def B_X1_share_77 (k66 : Nat → Int → Int → Mem → Option (Int × Mem)) (k77 : Nat → Int → Int → Int → Int → Mem → Option (Int × Mem)) (v0 : Nat) (v1 : Int) (v4 : Int) (v5 : Int) (v6 : Int) (M : Mem) : Option (Int × Mem) :=
  if w32 v1 ≤ w32 v6 then
    if inb v5 100 then 
    k66 v0 v1 (v4 + (-1)) (m_si (m_si M 131 v0 (ixn v5) ((m_i M 131 v0 (ixn v5)) + 1)) 132 v0 (ixn v5) (-1)) else none
  else
    if inb v6 100 then 
    if inb v5 100 then 
    if w32 (m_i M 132 v0 (ixn v6)) ≤ w32 (m_i M 132 v0 (ixn v5)) then
      k77 v0 v1 v4 v5 (v6 + 1) M
    else
      k77 v0 v1 v4 v6 (v6 + 1) M else none else none
def L_X1_share_77 (k66 : Nat → Int → Int → Mem → Option (Int × Mem)) : Nat → Nat → Int → Int → Int → Int → Mem → Option (Int × Mem)
  | 0, _, _, _, _, _, _ => none
  | n + 1, v0, v1, v4, v5, v6, M => B_X1_share_77 k66 (L_X1_share_77 k66 n) v0 v1 v4 v5 v6 M
def B_X1_share_66 (k66 : Nat → Int → Int → Mem → Option (Int × Mem)) (v0 : Nat) (v1 : Int) (v4 : Int) (M : Mem) : Option (Int × Mem) :=
  if w32 v4 ≤ 0 then
    some (0, M)
  else
    L_X1_share_77 k66 FU v0 v1 v4 0 1 M
def L_X1_share_66  : Nat → Nat → Int → Int → Mem → Option (Int × Mem)
  | 0, _, _, _, _ => none
  | n + 1, v0, v1, v4, M => B_X1_share_66 (L_X1_share_66  n) v0 v1 v4 M
def B_X1_share_6 (k6 : Nat → Int → Int → Int → Int → Int → Mem → Option (Int × Mem)) (v0 : Nat) (v1 : Int) (v2 : Int) (v3 : Int) (v4 : Int) (v5 : Int) (M : Mem) : Option (Int × Mem) :=
  if w32 v1 ≤ w32 v5 then
    L_X1_share_66 FU v0 v1 v4 M
  else
    if inb v5 100 then 
    if ¬ w32 v3 = 0 then 
    k6 v0 v1 v2 v3 (v4 - (d32 (v2 * (m_i M 130 v0 (ixn v5))) v3)) (v5 + 1) (m_si (m_si M 131 v0 (ixn v5) (d32 (v2 * (m_i M 130 v0 (ixn v5))) v3)) 132 v0 (ixn v5) (r32 (v2 * (m_i M 130 v0 (ixn v5))) v3)) else none else none
def L_X1_share_6  : Nat → Nat → Int → Int → Int → Int → Int → Mem → Option (Int × Mem)
  | 0, _, _, _, _, _, _, _ => none
  | n + 1, v0, v1, v2, v3, v4, v5, M => B_X1_share_6 (L_X1_share_6  n) v0 v1 v2 v3 v4 v5 M
def d_X1_share (v0 : Nat) (v1 : Int) (v2 : Int) (v3 : Int) (M : Mem) : Option (Int × Mem) :=
  L_X1_share_6 FU v0 v1 v2 v3 v2 0 M
theorem cB_X1_share_77 {X : x_Ctx} {M0 : Mem} (C : x_CC X 1 24 yX1_share cX1_share 7 none []) {k66 : Nat → Int → Int → Mem → Option (Int × Mem)} (hk66 : ∀ (v0 : Nat) (v1 : Int) (v4 : Int) (M : Mem) (r : Int) (M' : Mem), m_kd M v0 = 1 → k66 v0 v1 v4 M = some (r, M') → x_Z X 0 0 (x_QF X M0 (.returned none) M' 0 0) M0 M 7 [(0, .ref v0), (1, vI v1), (4, vI v4)] 66 []) {k77 : Nat → Int → Int → Int → Int → Mem → Option (Int × Mem)} (hk77 : ∀ (v0 : Nat) (v1 : Int) (v4 : Int) (v5 : Int) (v6 : Int) (M : Mem) (r : Int) (M' : Mem), m_kd M v0 = 1 → k77 v0 v1 v4 v5 v6 M = some (r, M') → x_Z X 0 0 (x_QF X M0 (.returned none) M' 0 0) M0 M 7 [(0, .ref v0), (1, vI v1), (4, vI v4), (5, vI v5), (6, vI v6)] 77 []) (v0 : Nat) (v1 : Int) (v4 : Int) (v5 : Int) (v6 : Int) (M : Mem) (r : Int) (M' : Mem) (hv0 : m_kd M v0 = 1) (h : B_X1_share_77 k66 k77 v0 v1 v4 v5 v6 M = some (r, M'))  : x_Z X 0 0 (x_QF X M0 (.returned none) M' 0 0) M0 M 7 [(0, .ref v0), (1, vI v1), (4, vI v4), (5, vI v5), (6, vI v6)] 77 [] := by
  unfold B_X1_share_77 at h
  refine z_iload (pc := 77) C 4 rfl dX1_share_77 ?_
  refine z_iload_n (pc := 79) C 1 rfl dX1_share_79 ?_
  refine z_ic_ge (pc := 80) C dX1_share_80 (tgt := 110) (by decide) (fun c3 => ?_) (fun c3 => ?_)
  · have h := itt c3 h
    refine z_aload_n (pc := 110) C 0 rfl dX1_share_110 ?_
    refine gX1_131 (pc := 111) C rfl hv0 dX1_share_111 ?_
    refine z_iload (pc := 114) C 3 rfl dX1_share_114 ?_
    refine z_dup2 (pc := 116) C rfl rfl dX1_share_116 ?_
    obtain ⟨c4, h⟩ := ifn h
    refine z_iaO (pc := 117) (k := 1) (j := 31) C 131 rfl (by decide) (by decide) (by decide) rfl rfl rfl rfl hv0 c4 rfl dX1_share_117 ?_
    refine z_iconst (pc := 118) C dX1_share_118 ?_
    refine z_iadd (pc := 119) C dX1_share_119 ?_
    refine z_isO (pc := 120) (k := 1) (j := 31) C 131 rfl (by decide) (by decide) (by decide) rfl rfl rfl rfl hv0 c4 dX1_share_120 ?_
    refine z_aload_n (pc := 121) C 0 rfl dX1_share_121 ?_
    refine gX1_132 (pc := 122) C rfl hv0 dX1_share_122 ?_
    refine z_iload (pc := 125) C 3 rfl dX1_share_125 ?_
    refine z_iconst (pc := 127) C dX1_share_127 ?_
    refine z_isO (pc := 128) (k := 1) (j := 32) C 132 rfl (by decide) (by decide) (by decide) rfl rfl rfl rfl hv0 c4 dX1_share_128 ?_
    refine z_iinc (pc := 129) C (lv' := [(0, .ref v0), (1, vI v1), (4, vI (v4 + (-1))), (5, vI v5), (6, vI v6)]) 2 rfl (by decide) rfl dX1_share_129 ?_
    refine z_goto (pc := 132) C dX1_share_132 (tgt := 66) (by decide) ?_
    exact z_lv [0, 1, 2] rfl <| hk66 v0 v1 (v4 + (-1)) (m_si (m_si M 131 v0 (ixn v5) ((m_i M 131 v0 (ixn v5)) + 1)) 132 v0 (ixn v5) (-1)) _ _ hv0 h
  · have h := itf c3 h
    refine z_aload_n (pc := 83) C 0 rfl dX1_share_83 ?_
    refine gX1_132 (pc := 84) C rfl hv0 dX1_share_84 ?_
    refine z_iload (pc := 87) C 4 rfl dX1_share_87 ?_
    obtain ⟨c5, h⟩ := ifn h
    refine z_iaO (pc := 89) (k := 1) (j := 32) C 132 rfl (by decide) (by decide) (by decide) rfl rfl rfl rfl hv0 c5 rfl dX1_share_89 ?_
    refine z_aload_n (pc := 90) C 0 rfl dX1_share_90 ?_
    refine gX1_132 (pc := 91) C rfl hv0 dX1_share_91 ?_
    refine z_iload (pc := 94) C 3 rfl dX1_share_94 ?_
    obtain ⟨c6, h⟩ := ifn h
    refine z_iaO (pc := 96) (k := 1) (j := 32) C 132 rfl (by decide) (by decide) (by decide) rfl rfl rfl rfl hv0 c6 rfl dX1_share_96 ?_
    refine z_ic_le (pc := 97) C dX1_share_97 (tgt := 104) (by decide) (fun c7 => ?_) (fun c7 => ?_)
    · have h := itt c7 h
      refine z_iinc (pc := 104) C (lv' := [(0, .ref v0), (1, vI v1), (4, vI v4), (5, vI v5), (6, vI (v6 + 1))]) 4 rfl (by decide) rfl dX1_share_104 ?_
      refine z_goto (pc := 107) C dX1_share_107 (tgt := 77) (by decide) ?_
      exact hk77 v0 v1 v4 v5 (v6 + 1) M _ _ hv0 h
    · have h := itf c7 h
      refine z_iload (pc := 100) C 4 rfl dX1_share_100 ?_
      refine z_istore (pc := 102) C (lv' := [(0, .ref v0), (1, vI v1), (4, vI v4), (5, vI v6), (6, vI v6)]) (by decide) rfl dX1_share_102 ?_
      refine z_iinc (pc := 104) C (lv' := [(0, .ref v0), (1, vI v1), (4, vI v4), (5, vI v6), (6, vI (v6 + 1))]) 4 rfl (by decide) rfl dX1_share_104 ?_
      refine z_goto (pc := 107) C dX1_share_107 (tgt := 77) (by decide) ?_
      exact hk77 v0 v1 v4 v6 (v6 + 1) M _ _ hv0 h
theorem cL_X1_share_77 {X : x_Ctx} {M0 : Mem} (C : x_CC X 1 24 yX1_share cX1_share 7 none []) {k66 : Nat → Int → Int → Mem → Option (Int × Mem)} (hk66 : ∀ (v0 : Nat) (v1 : Int) (v4 : Int) (M : Mem) (r : Int) (M' : Mem), m_kd M v0 = 1 → k66 v0 v1 v4 M = some (r, M') → x_Z X 0 0 (x_QF X M0 (.returned none) M' 0 0) M0 M 7 [(0, .ref v0), (1, vI v1), (4, vI v4)] 66 []) : ∀ (n : Nat) (v0 : Nat) (v1 : Int) (v4 : Int) (v5 : Int) (v6 : Int) (M : Mem) (r : Int) (M' : Mem) (hv0 : m_kd M v0 = 1) (h : L_X1_share_77 k66 n v0 v1 v4 v5 v6 M = some (r, M')) , x_Z X 0 0 (x_QF X M0 (.returned none) M' 0 0) M0 M 7 [(0, .ref v0), (1, vI v1), (4, vI v4), (5, vI v5), (6, vI v6)] 77 [] := by
  intro n
  induction n with
  | zero => intro v0 v1 v4 v5 v6 M r M' hv0 h ; cases h
  | succ n ih => intro v0 v1 v4 v5 v6 M r M' hv0 h ; exact cB_X1_share_77 C hk66 (fun v0 v1 v4 v5 v6 M r M' hv0 h  => ih v0 v1 v4 v5 v6 M r M' hv0 h ) v0 v1 v4 v5 v6 M r M' hv0 h 
theorem cB_X1_share_66 {X : x_Ctx} {M0 : Mem} (C : x_CC X 1 24 yX1_share cX1_share 7 none []) {k66 : Nat → Int → Int → Mem → Option (Int × Mem)} (hk66 : ∀ (v0 : Nat) (v1 : Int) (v4 : Int) (M : Mem) (r : Int) (M' : Mem), m_kd M v0 = 1 → k66 v0 v1 v4 M = some (r, M') → x_Z X 0 0 (x_QF X M0 (.returned none) M' 0 0) M0 M 7 [(0, .ref v0), (1, vI v1), (4, vI v4)] 66 []) (v0 : Nat) (v1 : Int) (v4 : Int) (M : Mem) (r : Int) (M' : Mem) (hv0 : m_kd M v0 = 1) (h : B_X1_share_66 k66 v0 v1 v4 M = some (r, M'))  : x_Z X 0 0 (x_QF X M0 (.returned none) M' 0 0) M0 M 7 [(0, .ref v0), (1, vI v1), (4, vI v4)] 66 [] := by
  unfold B_X1_share_66 at h
  refine z_iload (pc := 66) C 2 rfl dX1_share_66 ?_
  refine z_if_le (pc := 68) C dX1_share_68 (tgt := 135) (by decide) (fun c2 => ?_) (fun c2 => ?_)
  · have h := itt c2 h
    cases h
    exact z_vret (pc := 135) C rfl (show 0 ≤ 0 from by decide) (show 0 ≤ 0 from by decide) dX1_share_135
  · have h := itf c2 h
    refine z_iconst (pc := 71) C dX1_share_71 ?_
    refine z_istore (pc := 72) C (lv' := [(0, .ref v0), (1, vI v1), (4, vI v4), (5, vI 0)]) (by decide) rfl dX1_share_72 ?_
    refine z_iconst (pc := 74) C dX1_share_74 ?_
    refine z_istore (pc := 75) C (lv' := [(0, .ref v0), (1, vI v1), (4, vI v4), (5, vI 0), (6, vI 1)]) (by decide) rfl dX1_share_75 ?_
    exact cL_X1_share_77 C hk66 FU v0 v1 v4 0 1 M _ _ hv0 h
theorem cL_X1_share_66 {X : x_Ctx} {M0 : Mem} (C : x_CC X 1 24 yX1_share cX1_share 7 none [])  : ∀ (n : Nat) (v0 : Nat) (v1 : Int) (v4 : Int) (M : Mem) (r : Int) (M' : Mem) (hv0 : m_kd M v0 = 1) (h : L_X1_share_66  n v0 v1 v4 M = some (r, M')) , x_Z X 0 0 (x_QF X M0 (.returned none) M' 0 0) M0 M 7 [(0, .ref v0), (1, vI v1), (4, vI v4)] 66 [] := by
  intro n
  induction n with
  | zero => intro v0 v1 v4 M r M' hv0 h ; cases h
  | succ n ih => intro v0 v1 v4 M r M' hv0 h ; exact cB_X1_share_66 C (fun v0 v1 v4 M r M' hv0 h  => ih v0 v1 v4 M r M' hv0 h ) v0 v1 v4 M r M' hv0 h 
theorem cB_X1_share_6 {X : x_Ctx} {M0 : Mem} (C : x_CC X 1 24 yX1_share cX1_share 7 none []) {k6 : Nat → Int → Int → Int → Int → Int → Mem → Option (Int × Mem)} (hk6 : ∀ (v0 : Nat) (v1 : Int) (v2 : Int) (v3 : Int) (v4 : Int) (v5 : Int) (M : Mem) (r : Int) (M' : Mem), m_kd M v0 = 1 → k6 v0 v1 v2 v3 v4 v5 M = some (r, M') → x_Z X 0 0 (x_QF X M0 (.returned none) M' 0 0) M0 M 7 [(0, .ref v0), (1, vI v1), (2, vI v2), (3, vI v3), (4, vI v4), (5, vI v5)] 6 []) (v0 : Nat) (v1 : Int) (v2 : Int) (v3 : Int) (v4 : Int) (v5 : Int) (M : Mem) (r : Int) (M' : Mem) (hv0 : m_kd M v0 = 1) (h : B_X1_share_6 k6 v0 v1 v2 v3 v4 v5 M = some (r, M'))  : x_Z X 0 0 (x_QF X M0 (.returned none) M' 0 0) M0 M 7 [(0, .ref v0), (1, vI v1), (2, vI v2), (3, vI v3), (4, vI v4), (5, vI v5)] 6 [] := by
  unfold B_X1_share_6 at h
  refine z_iload (pc := 6) C 5 rfl dX1_share_6 ?_
  refine z_iload_n (pc := 8) C 1 rfl dX1_share_8 ?_
  refine z_ic_ge (pc := 9) C dX1_share_9 (tgt := 66) (by decide) (fun c1 => ?_) (fun c1 => ?_)
  · have h := itt c1 h
    exact z_lv [0, 1, 4] rfl <| cL_X1_share_66 C FU v0 v1 v4 M _ _ hv0 h
  · have h := itf c1 h
    refine z_aload_n (pc := 12) C 0 rfl dX1_share_12 ?_
    refine gX1_131 (pc := 13) C rfl hv0 dX1_share_13 ?_
    refine z_iload (pc := 16) C 5 rfl dX1_share_16 ?_
    refine z_iload_n (pc := 18) C 2 rfl dX1_share_18 ?_
    refine z_aload_n (pc := 19) C 0 rfl dX1_share_19 ?_
    refine gX1_130 (pc := 20) C rfl hv0 dX1_share_20 ?_
    refine z_iload (pc := 23) C 5 rfl dX1_share_23 ?_
    obtain ⟨c8, h⟩ := ifn h
    refine z_iaO (pc := 25) (k := 1) (j := 30) C 130 rfl (by decide) (by decide) (by decide) rfl rfl rfl rfl hv0 c8 rfl dX1_share_25 ?_
    refine z_imul (pc := 26) C dX1_share_26 ?_
    refine z_iload_n (pc := 27) C 3 rfl dX1_share_27 ?_
    obtain ⟨c9, h⟩ := ifn h
    refine z_idiv (pc := 28) C c9 dX1_share_28 ?_
    refine z_isO (pc := 29) (k := 1) (j := 31) C 131 rfl (by decide) (by decide) (by decide) rfl rfl rfl rfl hv0 c8 dX1_share_29 ?_
    refine z_aload_n (pc := 30) C 0 rfl dX1_share_30 ?_
    refine gX1_132 (pc := 31) C rfl hv0 dX1_share_31 ?_
    refine z_iload (pc := 34) C 5 rfl dX1_share_34 ?_
    refine z_iload_n (pc := 36) C 2 rfl dX1_share_36 ?_
    refine z_aload_n (pc := 37) C 0 rfl dX1_share_37 ?_
    refine gX1_130 (pc := 38) C rfl hv0 dX1_share_38 ?_
    refine z_iload (pc := 41) C 5 rfl dX1_share_41 ?_
    refine z_iaO (pc := 43) (k := 1) (j := 30) C 130 rfl (by decide) (by decide) (by decide) rfl rfl rfl rfl hv0 c8 (x := m_i M 130 v0 (ixn v5)) ((m_i_ne (by decide)).trans rfl) dX1_share_43 ?_
    refine z_imul (pc := 44) C dX1_share_44 ?_
    refine z_iload_n (pc := 45) C 3 rfl dX1_share_45 ?_
    refine z_irem (pc := 46) C c9 dX1_share_46 ?_
    refine z_isO (pc := 47) (k := 1) (j := 32) C 132 rfl (by decide) (by decide) (by decide) rfl rfl rfl rfl hv0 c8 dX1_share_47 ?_
    refine z_iload (pc := 48) C 4 rfl dX1_share_48 ?_
    refine z_aload_n (pc := 50) C 0 rfl dX1_share_50 ?_
    refine gX1_131 (pc := 51) C rfl hv0 dX1_share_51 ?_
    refine z_iload (pc := 54) C 5 rfl dX1_share_54 ?_
    refine z_iaO (pc := 56) (k := 1) (j := 31) C 131 rfl (by decide) (by decide) (by decide) rfl rfl rfl rfl hv0 c8 (x := d32 (v2 * (m_i M 130 v0 (ixn v5))) v3) ((m_i_ne (by decide)).trans (m_i_self _ _ _ _ _)) dX1_share_56 ?_
    refine z_isub (pc := 57) C dX1_share_57 ?_
    refine z_istore (pc := 58) C (lv' := [(0, .ref v0), (1, vI v1), (2, vI v2), (3, vI v3), (4, vI (v4 - (d32 (v2 * (m_i M 130 v0 (ixn v5))) v3))), (5, vI v5)]) (by decide) rfl dX1_share_58 ?_
    refine z_iinc (pc := 60) C (lv' := [(0, .ref v0), (1, vI v1), (2, vI v2), (3, vI v3), (4, vI (v4 - (d32 (v2 * (m_i M 130 v0 (ixn v5))) v3))), (5, vI (v5 + 1))]) 5 rfl (by decide) rfl dX1_share_60 ?_
    refine z_goto (pc := 63) C dX1_share_63 (tgt := 6) (by decide) ?_
    exact hk6 v0 v1 v2 v3 (v4 - (d32 (v2 * (m_i M 130 v0 (ixn v5))) v3)) (v5 + 1) (m_si (m_si M 131 v0 (ixn v5) (d32 (v2 * (m_i M 130 v0 (ixn v5))) v3)) 132 v0 (ixn v5) (r32 (v2 * (m_i M 130 v0 (ixn v5))) v3)) _ _ hv0 h
theorem cL_X1_share_6 {X : x_Ctx} {M0 : Mem} (C : x_CC X 1 24 yX1_share cX1_share 7 none [])  : ∀ (n : Nat) (v0 : Nat) (v1 : Int) (v2 : Int) (v3 : Int) (v4 : Int) (v5 : Int) (M : Mem) (r : Int) (M' : Mem) (hv0 : m_kd M v0 = 1) (h : L_X1_share_6  n v0 v1 v2 v3 v4 v5 M = some (r, M')) , x_Z X 0 0 (x_QF X M0 (.returned none) M' 0 0) M0 M 7 [(0, .ref v0), (1, vI v1), (2, vI v2), (3, vI v3), (4, vI v4), (5, vI v5)] 6 [] := by
  intro n
  induction n with
  | zero => intro v0 v1 v2 v3 v4 v5 M r M' hv0 h ; cases h
  | succ n ih => intro v0 v1 v2 v3 v4 v5 M r M' hv0 h ; exact cB_X1_share_6 C (fun v0 v1 v2 v3 v4 v5 M r M' hv0 h  => ih v0 v1 v2 v3 v4 v5 M r M' hv0 h ) v0 v1 v2 v3 v4 v5 M r M' hv0 h 
theorem ct_X1_share {l : Launch} {S0 : State} {D : va_G} {cA : Nat → ClassId} (hG : x_G l S0 D cA) (v0 : Nat) (v1 : Int) (v2 : Int) (v3 : Int) (M : Mem) (r : Int) (M' : Mem) (hv0 : m_kd M v0 = 1) (h : d_X1_share v0 v1 v2 v3 M = some (r, M')) : x_Me l S0 D cA yX1_share cX1_share 7 none [] ({ frames := 1, cells := 0, slots := 0, locals := 24 }) [.ref v0, vI v1, vI v2, vI v3] M (.returned none) M' := by
  refine x_begin (F := 1) (Lo := 24) (mc := 0) (ms := 0) hG (Nat.le_of_ble_eq_true rfl) (lv := [(0, .ref v0), (1, vI v1), (2, vI v2), (3, vI v3)]) rfl rfl rfl rfl rfl (fun X e1 e2 e3 e4 e5 C => ?_)
  unfold d_X1_share at h
  refine z_iload_n (pc := 0) C 2 rfl dX1_share_0 ?_
  refine z_istore (pc := 1) C (lv' := [(0, .ref v0), (1, vI v1), (2, vI v2), (3, vI v3), (4, vI v2)]) (by decide) rfl dX1_share_1 ?_
  refine z_iconst (pc := 3) C dX1_share_3 ?_
  refine z_istore (pc := 4) C (lv' := [(0, .ref v0), (1, vI v1), (2, vI v2), (3, vI v3), (4, vI v2), (5, vI 0)]) (by decide) rfl dX1_share_4 ?_
  exact cL_X1_share_6 C FU v0 v1 v2 v3 v2 0 M _ _ hv0 h
def d_X10_init (v0 : Nat) (M : Mem) : Option (Int × Mem) :=
  if m_sz M + 0 = v0 + 1 then 
  if x_whole (m_nw (m_nw (m_nw M 11000) 11001) 11002) v0 10 = true then 
  some (0, (m_se (m_nw (m_nw (m_nw M 11000) 11001) 11002) v0 10)) else none else none
theorem ct_X10_init {l : Launch} {S0 : State} {D : va_G} {cA : Nat → ClassId} (hG : x_G l S0 D cA) (v0 : Nat) (M : Mem) (r : Int) (M' : Mem) (hv0 : m_kd M v0 = 110) (h : d_X10_init v0 M = some (r, M')) : x_Me l S0 D cA yX10_init cX10_init 1 none [] ({ frames := 1, cells := 3, slots := 300, locals := 24 }) [.ref v0] M (.returned none) M' := by
  refine x_begin (F := 1) (Lo := 24) (mc := 3) (ms := 300) hG (Nat.le_of_ble_eq_true rfl) (lv := [(0, .ref v0)]) rfl rfl rfl rfl rfl (fun X e1 e2 e3 e4 e5 C => ?_)
  have hR : _ ∧ _ := ⟨Nat.le_of_eq (congrArg Room.cells e5).symm, Nat.le_of_eq (congrArg Room.slots e5).symm⟩
  unfold d_X10_init at h
  refine z_aload_n (pc := 0) C 0 rfl dX10_init_0 ?_
  refine z_obj (pc := 1) C q1226 q139 q140 (by decide) (by decide) (by decide) dX10_init_1 ?_
  refine z_aload_n (pc := 4) C 0 rfl dX10_init_4 ?_
  refine z_bipush (pc := 5) C (by decide +kernel) dX10_init_5 ?_
  obtain ⟨c1, h⟩ := ifn h
  refine aX10_1000 (pc := 7) C rfl rfl hv0 (show m_sz M + 0 = v0 + 1 from by have := c1; omega) (Nat.le_trans (show 1 ≤ 3 from by decide) hR.1) (Nat.le_trans (show 100 ≤ 300 from by decide) hR.2) dX10_init_7 dX10_init_9 (c2 := 1) (s2 := 100) rfl rfl (fun x2 => ?_)
  have k3 := x2.k hv0 (by decide)
  refine z_aload_n (pc := 12) C 0 rfl dX10_init_12 ?_
  refine z_bipush (pc := 13) C (by decide +kernel) dX10_init_13 ?_
  refine aX10_1001 (pc := 15) C rfl rfl k3 (show m_sz M + 1 = v0 + 2 from by have := c1; omega) (Nat.le_trans (show 2 ≤ 3 from by decide) hR.1) (Nat.le_trans (show 200 ≤ 300 from by decide) hR.2) dX10_init_15 dX10_init_17 (c2 := 2) (s2 := 200) rfl rfl (fun x4 => ?_)
  have k5 := x4.k k3 (by decide)
  refine z_aload_n (pc := 20) C 0 rfl dX10_init_20 ?_
  refine z_bipush (pc := 21) C (by decide +kernel) dX10_init_21 ?_
  refine aX10_1002 (pc := 23) C rfl rfl k5 (show m_sz M + 2 = v0 + 3 from by have := c1; omega) (Nat.le_trans (show 3 ≤ 3 from by decide) hR.1) (Nat.le_trans (show 300 ≤ 300 from by decide) hR.2) dX10_init_23 dX10_init_25 (c2 := 3) (s2 := 300) rfl rfl (fun x6 => ?_)
  have k7 := x6.k k5 (by decide)
  obtain ⟨c8, h⟩ := ifn h
  refine z_sealW (k := 10) v0 k7 (by decide) (by decide) c8 (fun k9 x10 => ?_)
  cases h
  exact z_vret (pc := 28) C rfl (show 3 ≤ 3 from by decide) (show 300 ≤ 300 from by decide) dX10_init_28
