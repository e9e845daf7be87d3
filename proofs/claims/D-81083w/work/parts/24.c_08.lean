set_option maxRecDepth 100000
def d_X1_key (v0 : Int) (v1 : Int) : Int :=
  e32 ((e32 ((e32 v0 (v1 * (-1640531527))) * (-2048144789)) (u32 ((e32 v0 (v1 * (-1640531527))) * (-2048144789)) 13)) * (-1028477387)) (u32 ((e32 ((e32 v0 (v1 * (-1640531527))) * (-2048144789)) (u32 ((e32 v0 (v1 * (-1640531527))) * (-2048144789)) 13)) * (-1028477387)) 16)
theorem ct_X1_key {l : Launch} {S0 : State} {D : va_G} {cA : Nat → ClassId} (hG : x_G l S0 D cA) (v0 : Int) (v1 : Int) (M : Mem) (r : Int)  (h : d_X1_key v0 v1 = r) : x_Me l S0 D cA yX1_key cX1_key 3 (some .int) [] ({ frames := 1, cells := 0, slots := 0, locals := 24 }) [vI v0, vI v1] M (.returned (some (vI r))) M := by
  refine x_begin (F := 1) (Lo := 24) (mc := 0) (ms := 0) hG (Nat.le_of_ble_eq_true rfl) (lv := [(0, vI v0), (1, vI v1)]) rfl rfl rfl rfl rfl (fun X e1 e2 e3 e4 e5 C => ?_)
  unfold d_X1_key at h
  refine z_iload_n (pc := 0) C 0 rfl dX1_key_0 ?_
  refine z_iload_n (pc := 1) C 1 rfl dX1_key_1 ?_
  refine z_ldcw (pc := 2) C (x := -1640531527) q1247 (by decide +kernel) dX1_key_2 ?_
  refine z_imul (pc := 5) C dX1_key_5 ?_
  refine z_ixor (pc := 6) C dX1_key_6 ?_
  refine z_istore_n (pc := 7) C (lv' := [(0, vI v0), (1, vI v1), (2, vI (e32 v0 (v1 * (-1640531527))))]) (by decide) rfl dX1_key_7 ?_
  refine z_iload_n (pc := 8) C 2 rfl dX1_key_8 ?_
  refine z_ldcw (pc := 9) C (x := -2048144789) q1248 (by decide +kernel) dX1_key_9 ?_
  refine z_imul (pc := 12) C dX1_key_12 ?_
  refine z_istore_n (pc := 13) C (lv' := [(0, vI v0), (1, vI v1), (2, vI ((e32 v0 (v1 * (-1640531527))) * (-2048144789)))]) (by decide) rfl dX1_key_13 ?_
  refine z_iload_n (pc := 14) C 2 rfl dX1_key_14 ?_
  refine z_iload_n (pc := 15) C 2 rfl dX1_key_15 ?_
  refine z_bipush (pc := 16) C (by decide +kernel) dX1_key_16 ?_
  refine z_iushr (pc := 18) C dX1_key_18 ?_
  refine z_ixor (pc := 19) C dX1_key_19 ?_
  refine z_istore_n (pc := 20) C (lv' := [(0, vI v0), (1, vI v1), (2, vI (e32 ((e32 v0 (v1 * (-1640531527))) * (-2048144789)) (u32 ((e32 v0 (v1 * (-1640531527))) * (-2048144789)) 13)))]) (by decide) rfl dX1_key_20 ?_
  refine z_iload_n (pc := 21) C 2 rfl dX1_key_21 ?_
  refine z_ldcw (pc := 22) C (x := -1028477387) q1249 (by decide +kernel) dX1_key_22 ?_
  refine z_imul (pc := 25) C dX1_key_25 ?_
  refine z_istore_n (pc := 26) C (lv' := [(0, vI v0), (1, vI v1), (2, vI ((e32 ((e32 v0 (v1 * (-1640531527))) * (-2048144789)) (u32 ((e32 v0 (v1 * (-1640531527))) * (-2048144789)) 13)) * (-1028477387)))]) (by decide) rfl dX1_key_26 ?_
  refine z_iload_n (pc := 27) C 2 rfl dX1_key_27 ?_
  refine z_iload_n (pc := 28) C 2 rfl dX1_key_28 ?_
  refine z_bipush (pc := 29) C (by decide +kernel) dX1_key_29 ?_
  refine z_iushr (pc := 31) C dX1_key_31 ?_
  refine z_ixor (pc := 32) C dX1_key_32 ?_
  subst h
  exact z_iret (pc := 33) C rfl (show 0 ≤ 0 from by decide) (show 0 ≤ 0 from by decide) dX1_key_33
def B_X1_draw_135 (k118 : Nat → Nat → Int → Int → Int → Int → Mem → Option (Int × Mem)) (k135 : Nat → Nat → Int → Int → Int → Int → Int → Int → Mem → Option (Int × Mem)) (v0 : Nat) (v1 : Nat) (v2 : Int) (v3 : Int) (v4 : Int) (v7 : Int) (v8 : Int) (v9 : Int) (M : Mem) : Option (Int × Mem) :=
  if w32 v3 ≤ w32 v9 then
    if inb v8 100 then 
    if inb (m_i M 127 v0 (ixn v8)) 100 then 
    k118 v0 v1 v2 v3 v4 (v7 + 1) (m_si M 1000 v1 (ixn (m_i M 127 v0 (ixn v8))) (bz 1)) else none else none
  else
    if inb v9 100 then 
    if inb v2 100 then 
    if w32 (m_i M 128 v0 (ixn v9)) = w32 (m_i M 129 v0 (ixn v2)) then
      if inb (m_i M 127 v0 (ixn v9)) 100 then 
      if w32 (m_i M 1000 v1 (ixn (m_i M 127 v0 (ixn v9)))) = 0 then
        if w32 v8 = w32 (-1) then
          k135 v0 v1 v2 v3 v4 v7 v9 (v9 + 1) M
        else
          if inb v8 100 then 
          if w32 (d_X1_key v4 (m_i M 127 v0 (ixn v8))) ≤ w32 (d_X1_key v4 (m_i M 127 v0 (ixn v9))) then
            k135 v0 v1 v2 v3 v4 v7 v8 (v9 + 1) M
          else
            k135 v0 v1 v2 v3 v4 v7 v9 (v9 + 1) M else none
      else
        k135 v0 v1 v2 v3 v4 v7 v8 (v9 + 1) M else none
    else
      k135 v0 v1 v2 v3 v4 v7 v8 (v9 + 1) M else none else none
def L_X1_draw_135 (k118 : Nat → Nat → Int → Int → Int → Int → Mem → Option (Int × Mem)) : Nat → Nat → Nat → Int → Int → Int → Int → Int → Int → Mem → Option (Int × Mem)
  | 0, _, _, _, _, _, _, _, _, _ => none
  | n + 1, v0, v1, v2, v3, v4, v7, v8, v9, M => B_X1_draw_135 k118 (L_X1_draw_135 k118 n) v0 v1 v2 v3 v4 v7 v8 v9 M
def B_X1_draw_118 (k118 : Nat → Nat → Int → Int → Int → Int → Mem → Option (Int × Mem)) (v0 : Nat) (v1 : Nat) (v2 : Int) (v3 : Int) (v4 : Int) (v7 : Int) (M : Mem) : Option (Int × Mem) :=
  if inb v2 100 then 
  if w32 (m_i M 131 v0 (ixn v2)) ≤ w32 v7 then
    some (0, M)
  else
    L_X1_draw_135 k118 FU v0 v1 v2 v3 v4 v7 (-1) 0 M else none
def L_X1_draw_118  : Nat → Nat → Nat → Int → Int → Int → Int → Mem → Option (Int × Mem)
  | 0, _, _, _, _, _, _, _ => none
  | n + 1, v0, v1, v2, v3, v4, v7, M => B_X1_draw_118 (L_X1_draw_118  n) v0 v1 v2 v3 v4 v7 M
def B_X1_draw_42 (k42 : Nat → Nat → Int → Int → Int → Int → Int → Mem → Option (Int × Mem)) (v0 : Nat) (v1 : Nat) (v2 : Int) (v3 : Int) (v4 : Int) (v5 : Int) (v7 : Int) (M : Mem) : Option (Int × Mem) :=
  if w32 v3 ≤ w32 v7 then
    L_X1_draw_118 FU v0 v1 v2 v3 v4 0 M
  else
    if inb v7 100 then 
    if inb v2 100 then 
    if w32 (m_i M 128 v0 (ixn v7)) = w32 (m_i M 129 v0 (ixn v2)) then
      if ¬ w32 v5 = 0 then 
      if inb (m_i M 127 v0 (ixn v7)) 100 then 
      k42 v0 v1 v2 v3 v4 v5 (v7 + 1) (m_si (m_si M 1001 v1 (ixn (m_i M 127 v0 (ixn v7))) (d32 (m_i M 131 v0 (ixn v2)) v5)) 1002 v1 (ixn (m_i M 127 v0 (ixn v7))) (d32 (m_i M 130 v0 (ixn v2)) v5)) else none else none
    else
      k42 v0 v1 v2 v3 v4 v5 (v7 + 1) M else none else none
def L_X1_draw_42  : Nat → Nat → Nat → Int → Int → Int → Int → Int → Mem → Option (Int × Mem)
  | 0, _, _, _, _, _, _, _, _ => none
  | n + 1, v0, v1, v2, v3, v4, v5, v7, M => B_X1_draw_42 (L_X1_draw_42  n) v0 v1 v2 v3 v4 v5 v7 M
def B_X1_draw_16 (k16 : Nat → Nat → Int → Int → Int → Int → Int → Mem → Option (Int × Mem)) (v0 : Nat) (v1 : Nat) (v2 : Int) (v3 : Int) (v4 : Int) (v5 : Int) (v6 : Int) (M : Mem) : Option (Int × Mem) :=
  if w32 v6 ≤ 0 then
    L_X1_draw_42 FU v0 v1 v2 v3 v4 v5 0 M
  else
    if ¬ w32 v6 = 0 then 
    k16 v0 v1 v2 v3 v4 v6 (r32 v5 v6) M else none
def L_X1_draw_16  : Nat → Nat → Nat → Int → Int → Int → Int → Int → Mem → Option (Int × Mem)
  | 0, _, _, _, _, _, _, _, _ => none
  | n + 1, v0, v1, v2, v3, v4, v5, v6, M => B_X1_draw_16 (L_X1_draw_16  n) v0 v1 v2 v3 v4 v5 v6 M
def d_X1_draw (v0 : Nat) (v1 : Nat) (v2 : Int) (v3 : Int) (v4 : Int) (M : Mem) : Option (Int × Mem) :=
  if inb v2 100 then 
  L_X1_draw_16 FU v0 v1 v2 v3 v4 (m_i M 131 v0 (ixn v2)) (m_i M 130 v0 (ixn v2)) M else none
theorem cB_X1_draw_135 {X : x_Ctx} {M0 : Mem} (C : x_CC X 2 50 yX1_draw cX1_draw 10 none []) {k118 : Nat → Nat → Int → Int → Int → Int → Mem → Option (Int × Mem)} (hk118 : ∀ (v0 : Nat) (v1 : Nat) (v2 : Int) (v3 : Int) (v4 : Int) (v7 : Int) (M : Mem) (r : Int) (M' : Mem), m_kd M v0 = 1 → m_kd M v1 = 10 → k118 v0 v1 v2 v3 v4 v7 M = some (r, M') → x_Z X 0 0 (x_QF X M0 (.returned none) M' 0 0) M0 M 10 [(0, .ref v0), (1, .ref v1), (2, vI v2), (3, vI v3), (4, vI v4), (7, vI v7)] 118 []) {k135 : Nat → Nat → Int → Int → Int → Int → Int → Int → Mem → Option (Int × Mem)} (hk135 : ∀ (v0 : Nat) (v1 : Nat) (v2 : Int) (v3 : Int) (v4 : Int) (v7 : Int) (v8 : Int) (v9 : Int) (M : Mem) (r : Int) (M' : Mem), m_kd M v0 = 1 → m_kd M v1 = 10 → k135 v0 v1 v2 v3 v4 v7 v8 v9 M = some (r, M') → x_Z X 0 0 (x_QF X M0 (.returned none) M' 0 0) M0 M 10 [(0, .ref v0), (1, .ref v1), (2, vI v2), (3, vI v3), (4, vI v4), (7, vI v7), (8, vI v8), (9, vI v9)] 135 []) (v0 : Nat) (v1 : Nat) (v2 : Int) (v3 : Int) (v4 : Int) (v7 : Int) (v8 : Int) (v9 : Int) (M : Mem) (r : Int) (M' : Mem) (hv0 : m_kd M v0 = 1) (hv1 : m_kd M v1 = 10) (h : B_X1_draw_135 k118 k135 v0 v1 v2 v3 v4 v7 v8 v9 M = some (r, M'))  : x_Z X 0 0 (x_QF X M0 (.returned none) M' 0 0) M0 M 10 [(0, .ref v0), (1, .ref v1), (2, vI v2), (3, vI v3), (4, vI v4), (7, vI v7), (8, vI v8), (9, vI v9)] 135 [] := by
  unfold B_X1_draw_135 at h
  refine z_iload (pc := 135) C 7 rfl dX1_draw_135 ?_
  refine z_iload_n (pc := 137) C 3 rfl dX1_draw_137 ?_
  refine z_ic_ge (pc := 138) C dX1_draw_138 (tgt := 218) (by decide) (fun c6 => ?_) (fun c6 => ?_)
  · have h := itt c6 h
    refine z_aload_n (pc := 218) C 1 rfl dX1_draw_218 ?_
    refine gX1_1000 (pc := 219) C rfl hv1 dX1_draw_219 ?_
    refine z_aload_n (pc := 222) C 0 rfl dX1_draw_222 ?_
    refine gX1_127 (pc := 223) C rfl hv0 dX1_draw_223 ?_
    refine z_iload (pc := 226) C 6 rfl dX1_draw_226 ?_
    obtain ⟨c7, h⟩ := ifn h
    refine z_iaO (pc := 228) (k := 1) (j := 27) C 127 rfl (by decide) (by decide) (by decide) rfl rfl rfl rfl hv0 c7 rfl dX1_draw_228 ?_
    refine z_iconst (pc := 229) C dX1_draw_229 ?_
    obtain ⟨c8, h⟩ := ifn h
    refine z_zsO (pc := 230) (k := 10) (j := 0) C 1000 rfl (by decide) (by decide) (by decide) rfl rfl rfl rfl hv1 c8 dX1_draw_230 ?_
    refine z_iinc (pc := 231) C (lv' := [(0, .ref v0), (1, .ref v1), (2, vI v2), (3, vI v3), (4, vI v4), (7, vI (v7 + 1)), (8, vI v8), (9, vI v9)]) 5 rfl (by decide) rfl dX1_draw_231 ?_
    refine z_goto (pc := 234) C dX1_draw_234 (tgt := 118) (by decide) ?_
    exact z_lv [0, 1, 2, 3, 4, 5] rfl <| hk118 v0 v1 v2 v3 v4 (v7 + 1) (m_si M 1000 v1 (ixn (m_i M 127 v0 (ixn v8))) (bz 1)) _ _ hv0 hv1 h
  · have h := itf c6 h
    refine z_aload_n (pc := 141) C 0 rfl dX1_draw_141 ?_
    refine gX1_128 (pc := 142) C rfl hv0 dX1_draw_142 ?_
    refine z_iload (pc := 145) C 7 rfl dX1_draw_145 ?_
    obtain ⟨c9, h⟩ := ifn h
    refine z_iaO (pc := 147) (k := 1) (j := 28) C 128 rfl (by decide) (by decide) (by decide) rfl rfl rfl rfl hv0 c9 rfl dX1_draw_147 ?_
    refine z_aload_n (pc := 148) C 0 rfl dX1_draw_148 ?_
    refine gX1_129 (pc := 149) C rfl hv0 dX1_draw_149 ?_
    refine z_iload_n (pc := 152) C 2 rfl dX1_draw_152 ?_
    obtain ⟨c10, h⟩ := ifn h
    refine z_iaO (pc := 153) (k := 1) (j := 29) C 129 rfl (by decide) (by decide) (by decide) rfl rfl rfl rfl hv0 c10 rfl dX1_draw_153 ?_
    refine z_ic_ne (pc := 154) C dX1_draw_154 (tgt := 212) (by decide) (fun c11 => ?_) (fun c11 => ?_)
    · have h := itf c11 h
      refine z_iinc (pc := 212) C (lv' := [(0, .ref v0), (1, .ref v1), (2, vI v2), (3, vI v3), (4, vI v4), (7, vI v7), (8, vI v8), (9, vI (v9 + 1))]) 7 rfl (by decide) rfl dX1_draw_212 ?_
      refine z_goto (pc := 215) C dX1_draw_215 (tgt := 135) (by decide) ?_
      exact hk135 v0 v1 v2 v3 v4 v7 v8 (v9 + 1) M _ _ hv0 hv1 h
    · have h := itt c11 h
      refine z_aload_n (pc := 157) C 1 rfl dX1_draw_157 ?_
      refine gX1_1000 (pc := 158) C rfl hv1 dX1_draw_158 ?_
      refine z_aload_n (pc := 161) C 0 rfl dX1_draw_161 ?_
      refine gX1_127 (pc := 162) C rfl hv0 dX1_draw_162 ?_
      refine z_iload (pc := 165) C 7 rfl dX1_draw_165 ?_
      refine z_iaO (pc := 167) (k := 1) (j := 27) C 127 rfl (by decide) (by decide) (by decide) rfl rfl rfl rfl hv0 c9 rfl dX1_draw_167 ?_
      obtain ⟨c12, h⟩ := ifn h
      refine z_zaO (pc := 168) (k := 10) (j := 0) C 1000 rfl (by decide) (by decide) (by decide) rfl rfl rfl rfl hv1 c12 rfl dX1_draw_168 ?_
      refine z_if_eq (pc := 169) C dX1_draw_169 (tgt := 175) (by decide) (fun c13 => ?_) (fun c13 => ?_)
      · have h := itt c13 h
        refine z_iload (pc := 175) C 6 rfl dX1_draw_175 ?_
        refine z_iconst (pc := 177) C dX1_draw_177 ?_
        refine z_ic_eq (pc := 178) C dX1_draw_178 (tgt := 208) (by decide) (fun c14 => ?_) (fun c14 => ?_)
        · have h := itt c14 h
          refine z_iload (pc := 208) C 7 rfl dX1_draw_208 ?_
          refine z_istore (pc := 210) C (lv' := [(0, .ref v0), (1, .ref v1), (2, vI v2), (3, vI v3), (4, vI v4), (7, vI v7), (8, vI v9), (9, vI v9)]) (by decide) rfl dX1_draw_210 ?_
          refine z_iinc (pc := 212) C (lv' := [(0, .ref v0), (1, .ref v1), (2, vI v2), (3, vI v3), (4, vI v4), (7, vI v7), (8, vI v9), (9, vI (v9 + 1))]) 7 rfl (by decide) rfl dX1_draw_212 ?_
          refine z_goto (pc := 215) C dX1_draw_215 (tgt := 135) (by decide) ?_
          exact hk135 v0 v1 v2 v3 v4 v7 v9 (v9 + 1) M _ _ hv0 hv1 h
        · have h := itf c14 h
          refine z_iload (pc := 181) C 4 rfl dX1_draw_181 ?_
          refine z_aload_n (pc := 183) C 0 rfl dX1_draw_183 ?_
          refine gX1_127 (pc := 184) C rfl hv0 dX1_draw_184 ?_
          refine z_iload (pc := 187) C 7 rfl dX1_draw_187 ?_
          refine z_iaO (pc := 189) (k := 1) (j := 27) C 127 rfl (by decide) (by decide) (by decide) rfl rfl rfl rfl hv0 c9 rfl dX1_draw_189 ?_
          refine cX1_475 (pc := 190) (st := []) (st1 := [vI (d_X1_key v4 (m_i M 127 v0 (ixn v9)))]) C rfl (rm := { frames := 1, cells := 0, slots := 0, locals := 24 }) (ct_X1_key C.2.1 v4 (m_i M 127 v0 (ixn v9)) M _  rfl) ⟨by decide, by decide, Nat.zero_le _, Nat.zero_le _⟩ rfl (Nat.le_of_ble_eq_true rfl) dX1_draw_190 (c2 := 0) (s2 := 0) rfl rfl (fun _ => ?_)
          refine z_iload (pc := 193) C 4 rfl dX1_draw_193 ?_
          refine z_aload_n (pc := 195) C 0 rfl dX1_draw_195 ?_
          refine gX1_127 (pc := 196) C rfl hv0 dX1_draw_196 ?_
          refine z_iload (pc := 199) C 6 rfl dX1_draw_199 ?_
          obtain ⟨c16, h⟩ := ifn h
          refine z_iaO (pc := 201) (k := 1) (j := 27) C 127 rfl (by decide) (by decide) (by decide) rfl rfl rfl rfl hv0 c16 rfl dX1_draw_201 ?_
          refine cX1_475 (pc := 202) (st := [vI (d_X1_key v4 (m_i M 127 v0 (ixn v9)))]) (st1 := [vI (d_X1_key v4 (m_i M 127 v0 (ixn v8))), vI (d_X1_key v4 (m_i M 127 v0 (ixn v9)))]) C rfl (rm := { frames := 1, cells := 0, slots := 0, locals := 24 }) (ct_X1_key C.2.1 v4 (m_i M 127 v0 (ixn v8)) M _  rfl) ⟨by decide, by decide, Nat.zero_le _, Nat.zero_le _⟩ rfl (Nat.le_of_ble_eq_true rfl) dX1_draw_202 (c2 := 0) (s2 := 0) rfl rfl (fun _ => ?_)
          refine z_ic_ge (pc := 205) C dX1_draw_205 (tgt := 212) (by decide) (fun c18 => ?_) (fun c18 => ?_)
          · have h := itt c18 h
            refine z_iinc (pc := 212) C (lv' := [(0, .ref v0), (1, .ref v1), (2, vI v2), (3, vI v3), (4, vI v4), (7, vI v7), (8, vI v8), (9, vI (v9 + 1))]) 7 rfl (by decide) rfl dX1_draw_212 ?_
            refine z_goto (pc := 215) C dX1_draw_215 (tgt := 135) (by decide) ?_
            exact hk135 v0 v1 v2 v3 v4 v7 v8 (v9 + 1) M _ _ hv0 hv1 h
          · have h := itf c18 h
            refine z_iload (pc := 208) C 7 rfl dX1_draw_208 ?_
            refine z_istore (pc := 210) C (lv' := [(0, .ref v0), (1, .ref v1), (2, vI v2), (3, vI v3), (4, vI v4), (7, vI v7), (8, vI v9), (9, vI v9)]) (by decide) rfl dX1_draw_210 ?_
            refine z_iinc (pc := 212) C (lv' := [(0, .ref v0), (1, .ref v1), (2, vI v2), (3, vI v3), (4, vI v4), (7, vI v7), (8, vI v9), (9, vI (v9 + 1))]) 7 rfl (by decide) rfl dX1_draw_212 ?_
            refine z_goto (pc := 215) C dX1_draw_215 (tgt := 135) (by decide) ?_
            exact hk135 v0 v1 v2 v3 v4 v7 v9 (v9 + 1) M _ _ hv0 hv1 h
      · have h := itf c13 h
        refine z_goto (pc := 172) C dX1_draw_172 (tgt := 212) (by decide) ?_
        refine z_iinc (pc := 212) C (lv' := [(0, .ref v0), (1, .ref v1), (2, vI v2), (3, vI v3), (4, vI v4), (7, vI v7), (8, vI v8), (9, vI (v9 + 1))]) 7 rfl (by decide) rfl dX1_draw_212 ?_
        refine z_goto (pc := 215) C dX1_draw_215 (tgt := 135) (by decide) ?_
        exact hk135 v0 v1 v2 v3 v4 v7 v8 (v9 + 1) M _ _ hv0 hv1 h
theorem cL_X1_draw_135 {X : x_Ctx} {M0 : Mem} (C : x_CC X 2 50 yX1_draw cX1_draw 10 none []) {k118 : Nat → Nat → Int → Int → Int → Int → Mem → Option (Int × Mem)} (hk118 : ∀ (v0 : Nat) (v1 : Nat) (v2 : Int) (v3 : Int) (v4 : Int) (v7 : Int) (M : Mem) (r : Int) (M' : Mem), m_kd M v0 = 1 → m_kd M v1 = 10 → k118 v0 v1 v2 v3 v4 v7 M = some (r, M') → x_Z X 0 0 (x_QF X M0 (.returned none) M' 0 0) M0 M 10 [(0, .ref v0), (1, .ref v1), (2, vI v2), (3, vI v3), (4, vI v4), (7, vI v7)] 118 []) : ∀ (n : Nat) (v0 : Nat) (v1 : Nat) (v2 : Int) (v3 : Int) (v4 : Int) (v7 : Int) (v8 : Int) (v9 : Int) (M : Mem) (r : Int) (M' : Mem) (hv0 : m_kd M v0 = 1) (hv1 : m_kd M v1 = 10) (h : L_X1_draw_135 k118 n v0 v1 v2 v3 v4 v7 v8 v9 M = some (r, M')) , x_Z X 0 0 (x_QF X M0 (.returned none) M' 0 0) M0 M 10 [(0, .ref v0), (1, .ref v1), (2, vI v2), (3, vI v3), (4, vI v4), (7, vI v7), (8, vI v8), (9, vI v9)] 135 [] := by
  intro n
  induction n with
  | zero => intro v0 v1 v2 v3 v4 v7 v8 v9 M r M' hv0 hv1 h ; cases h
  | succ n ih => intro v0 v1 v2 v3 v4 v7 v8 v9 M r M' hv0 hv1 h ; exact cB_X1_draw_135 C hk118 (fun v0 v1 v2 v3 v4 v7 v8 v9 M r M' hv0 hv1 h  => ih v0 v1 v2 v3 v4 v7 v8 v9 M r M' hv0 hv1 h ) v0 v1 v2 v3 v4 v7 v8 v9 M r M' hv0 hv1 h 
theorem cB_X1_draw_118 {X : x_Ctx} {M0 : Mem} (C : x_CC X 2 50 yX1_draw cX1_draw 10 none []) {k118 : Nat → Nat → Int → Int → Int → Int → Mem → Option (Int × Mem)} (hk118 : ∀ (v0 : Nat) (v1 : Nat) (v2 : Int) (v3 : Int) (v4 : Int) (v7 : Int) (M : Mem) (r : Int) (M' : Mem), m_kd M v0 = 1 → m_kd M v1 = 10 → k118 v0 v1 v2 v3 v4 v7 M = some (r, M') → x_Z X 0 0 (x_QF X M0 (.returned none) M' 0 0) M0 M 10 [(0, .ref v0), (1, .ref v1), (2, vI v2), (3, vI v3), (4, vI v4), (7, vI v7)] 118 []) (v0 : Nat) (v1 : Nat) (v2 : Int) (v3 : Int) (v4 : Int) (v7 : Int) (M : Mem) (r : Int) (M' : Mem) (hv0 : m_kd M v0 = 1) (hv1 : m_kd M v1 = 10) (h : B_X1_draw_118 k118 v0 v1 v2 v3 v4 v7 M = some (r, M'))  : x_Z X 0 0 (x_QF X M0 (.returned none) M' 0 0) M0 M 10 [(0, .ref v0), (1, .ref v1), (2, vI v2), (3, vI v3), (4, vI v4), (7, vI v7)] 118 [] := by
  unfold B_X1_draw_118 at h
  refine z_iload (pc := 118) C 5 rfl dX1_draw_118 ?_
  refine z_aload_n (pc := 120) C 0 rfl dX1_draw_120 ?_
  refine gX1_131 (pc := 121) C rfl hv0 dX1_draw_121 ?_
  refine z_iload_n (pc := 124) C 2 rfl dX1_draw_124 ?_
  obtain ⟨c4, h⟩ := ifn h
  refine z_iaO (pc := 125) (k := 1) (j := 31) C 131 rfl (by decide) (by decide) (by decide) rfl rfl rfl rfl hv0 c4 rfl dX1_draw_125 ?_
  refine z_ic_ge (pc := 126) C dX1_draw_126 (tgt := 237) (by decide) (fun c5 => ?_) (fun c5 => ?_)
  · have h := itt c5 h
    cases h
    exact z_vret (pc := 237) C rfl (show 0 ≤ 0 from by decide) (show 0 ≤ 0 from by decide) dX1_draw_237
  · have h := itf c5 h
    refine z_iconst (pc := 129) C dX1_draw_129 ?_
    refine z_istore (pc := 130) C (lv' := [(0, .ref v0), (1, .ref v1), (2, vI v2), (3, vI v3), (4, vI v4), (7, vI v7), (8, vI (-1))]) (by decide) rfl dX1_draw_130 ?_
    refine z_iconst (pc := 132) C dX1_draw_132 ?_
    refine z_istore (pc := 133) C (lv' := [(0, .ref v0), (1, .ref v1), (2, vI v2), (3, vI v3), (4, vI v4), (7, vI v7), (8, vI (-1)), (9, vI 0)]) (by decide) rfl dX1_draw_133 ?_
    exact cL_X1_draw_135 C hk118 FU v0 v1 v2 v3 v4 v7 (-1) 0 M _ _ hv0 hv1 h
theorem cL_X1_draw_118 {X : x_Ctx} {M0 : Mem} (C : x_CC X 2 50 yX1_draw cX1_draw 10 none [])  : ∀ (n : Nat) (v0 : Nat) (v1 : Nat) (v2 : Int) (v3 : Int) (v4 : Int) (v7 : Int) (M : Mem) (r : Int) (M' : Mem) (hv0 : m_kd M v0 = 1) (hv1 : m_kd M v1 = 10) (h : L_X1_draw_118  n v0 v1 v2 v3 v4 v7 M = some (r, M')) , x_Z X 0 0 (x_QF X M0 (.returned none) M' 0 0) M0 M 10 [(0, .ref v0), (1, .ref v1), (2, vI v2), (3, vI v3), (4, vI v4), (7, vI v7)] 118 [] := by
  intro n
  induction n with
  | zero => intro v0 v1 v2 v3 v4 v7 M r M' hv0 hv1 h ; cases h
  | succ n ih => intro v0 v1 v2 v3 v4 v7 M r M' hv0 hv1 h ; exact cB_X1_draw_118 C (fun v0 v1 v2 v3 v4 v7 M r M' hv0 hv1 h  => ih v0 v1 v2 v3 v4 v7 M r M' hv0 hv1 h ) v0 v1 v2 v3 v4 v7 M r M' hv0 hv1 h 
theorem cB_X1_draw_42 {X : x_Ctx} {M0 : Mem} (C : x_CC X 2 50 yX1_draw cX1_draw 10 none []) {k42 : Nat → Nat → Int → Int → Int → Int → Int → Mem → Option (Int × Mem)} (hk42 : ∀ (v0 : Nat) (v1 : Nat) (v2 : Int) (v3 : Int) (v4 : Int) (v5 : Int) (v7 : Int) (M : Mem) (r : Int) (M' : Mem), m_kd M v0 = 1 → m_kd M v1 = 10 → k42 v0 v1 v2 v3 v4 v5 v7 M = some (r, M') → x_Z X 0 0 (x_QF X M0 (.returned none) M' 0 0) M0 M 10 [(0, .ref v0), (1, .ref v1), (2, vI v2), (3, vI v3), (4, vI v4), (5, vI v5), (7, vI v7)] 42 []) (v0 : Nat) (v1 : Nat) (v2 : Int) (v3 : Int) (v4 : Int) (v5 : Int) (v7 : Int) (M : Mem) (r : Int) (M' : Mem) (hv0 : m_kd M v0 = 1) (hv1 : m_kd M v1 = 10) (h : B_X1_draw_42 k42 v0 v1 v2 v3 v4 v5 v7 M = some (r, M'))  : x_Z X 0 0 (x_QF X M0 (.returned none) M' 0 0) M0 M 10 [(0, .ref v0), (1, .ref v1), (2, vI v2), (3, vI v3), (4, vI v4), (5, vI v5), (7, vI v7)] 42 [] := by
  unfold B_X1_draw_42 at h
  refine z_iload (pc := 42) C 6 rfl dX1_draw_42 ?_
  refine z_iload_n (pc := 44) C 3 rfl dX1_draw_44 ?_
  refine z_ic_ge (pc := 45) C dX1_draw_45 (tgt := 115) (by decide) (fun c3 => ?_) (fun c3 => ?_)
  · have h := itt c3 h
    refine z_iconst (pc := 115) C dX1_draw_115 ?_
    refine z_istore (pc := 116) C (lv' := [(0, .ref v0), (1, .ref v1), (2, vI v2), (3, vI v3), (4, vI v4), (5, vI v5), (7, vI 0)]) (by decide) rfl dX1_draw_116 ?_
    exact z_lv [0, 1, 2, 3, 4, 6] rfl <| cL_X1_draw_118 C FU v0 v1 v2 v3 v4 0 M _ _ hv0 hv1 h
  · have h := itf c3 h
    refine z_aload_n (pc := 48) C 0 rfl dX1_draw_48 ?_
    refine gX1_128 (pc := 49) C rfl hv0 dX1_draw_49 ?_
    refine z_iload (pc := 52) C 6 rfl dX1_draw_52 ?_
    obtain ⟨c19, h⟩ := ifn h
    refine z_iaO (pc := 54) (k := 1) (j := 28) C 128 rfl (by decide) (by decide) (by decide) rfl rfl rfl rfl hv0 c19 rfl dX1_draw_54 ?_
    refine z_aload_n (pc := 55) C 0 rfl dX1_draw_55 ?_
    refine gX1_129 (pc := 56) C rfl hv0 dX1_draw_56 ?_
    refine z_iload_n (pc := 59) C 2 rfl dX1_draw_59 ?_
    obtain ⟨c20, h⟩ := ifn h
    refine z_iaO (pc := 60) (k := 1) (j := 29) C 129 rfl (by decide) (by decide) (by decide) rfl rfl rfl rfl hv0 c20 rfl dX1_draw_60 ?_
    refine z_ic_eq (pc := 61) C dX1_draw_61 (tgt := 67) (by decide) (fun c21 => ?_) (fun c21 => ?_)
    · have h := itt c21 h
      refine z_aload_n (pc := 67) C 1 rfl dX1_draw_67 ?_
      refine gX1_1001 (pc := 68) C rfl hv1 dX1_draw_68 ?_
      refine z_aload_n (pc := 71) C 0 rfl dX1_draw_71 ?_
      refine gX1_127 (pc := 72) C rfl hv0 dX1_draw_72 ?_
      refine z_iload (pc := 75) C 6 rfl dX1_draw_75 ?_
      refine z_iaO (pc := 77) (k := 1) (j := 27) C 127 rfl (by decide) (by decide) (by decide) rfl rfl rfl rfl hv0 c19 rfl dX1_draw_77 ?_
      refine z_aload_n (pc := 78) C 0 rfl dX1_draw_78 ?_
      refine gX1_131 (pc := 79) C rfl hv0 dX1_draw_79 ?_
      refine z_iload_n (pc := 82) C 2 rfl dX1_draw_82 ?_
      refine z_iaO (pc := 83) (k := 1) (j := 31) C 131 rfl (by decide) (by decide) (by decide) rfl rfl rfl rfl hv0 c20 rfl dX1_draw_83 ?_
      refine z_iload (pc := 84) C 5 rfl dX1_draw_84 ?_
      obtain ⟨c22, h⟩ := ifn h
      refine z_idiv (pc := 86) C c22 dX1_draw_86 ?_
      obtain ⟨c23, h⟩ := ifn h
      refine z_isO (pc := 87) (k := 10) (j := 1) C 1001 rfl (by decide) (by decide) (by decide) rfl rfl rfl rfl hv1 c23 dX1_draw_87 ?_
      refine z_aload_n (pc := 88) C 1 rfl dX1_draw_88 ?_
      refine gX1_1002 (pc := 89) C rfl hv1 dX1_draw_89 ?_
      refine z_aload_n (pc := 92) C 0 rfl dX1_draw_92 ?_
      refine gX1_127 (pc := 93) C rfl hv0 dX1_draw_93 ?_
      refine z_iload (pc := 96) C 6 rfl dX1_draw_96 ?_
      refine z_iaO (pc := 98) (k := 1) (j := 27) C 127 rfl (by decide) (by decide) (by decide) rfl rfl rfl rfl hv0 c19 (x := m_i M 127 v0 (ixn v7)) ((m_i_ne (by decide)).trans rfl) dX1_draw_98 ?_
      refine z_aload_n (pc := 99) C 0 rfl dX1_draw_99 ?_
      refine gX1_130 (pc := 100) C rfl hv0 dX1_draw_100 ?_
      refine z_iload_n (pc := 103) C 2 rfl dX1_draw_103 ?_
      refine z_iaO (pc := 104) (k := 1) (j := 30) C 130 rfl (by decide) (by decide) (by decide) rfl rfl rfl rfl hv0 c20 (x := m_i M 130 v0 (ixn v2)) ((m_i_ne (by decide)).trans rfl) dX1_draw_104 ?_
      refine z_iload (pc := 105) C 5 rfl dX1_draw_105 ?_
      refine z_idiv (pc := 107) C c22 dX1_draw_107 ?_
      refine z_isO (pc := 108) (k := 10) (j := 2) C 1002 rfl (by decide) (by decide) (by decide) rfl rfl rfl rfl hv1 c23 dX1_draw_108 ?_
      refine z_iinc (pc := 109) C (lv' := [(0, .ref v0), (1, .ref v1), (2, vI v2), (3, vI v3), (4, vI v4), (5, vI v5), (7, vI (v7 + 1))]) 6 rfl (by decide) rfl dX1_draw_109 ?_
      refine z_goto (pc := 112) C dX1_draw_112 (tgt := 42) (by decide) ?_
      exact hk42 v0 v1 v2 v3 v4 v5 (v7 + 1) (m_si (m_si M 1001 v1 (ixn (m_i M 127 v0 (ixn v7))) (d32 (m_i M 131 v0 (ixn v2)) v5)) 1002 v1 (ixn (m_i M 127 v0 (ixn v7))) (d32 (m_i M 130 v0 (ixn v2)) v5)) _ _ hv0 hv1 h
    · have h := itf c21 h
      refine z_goto (pc := 64) C dX1_draw_64 (tgt := 109) (by decide) ?_
      refine z_iinc (pc := 109) C (lv' := [(0, .ref v0), (1, .ref v1), (2, vI v2), (3, vI v3), (4, vI v4), (5, vI v5), (7, vI (v7 + 1))]) 6 rfl (by decide) rfl dX1_draw_109 ?_
      refine z_goto (pc := 112) C dX1_draw_112 (tgt := 42) (by decide) ?_
      exact hk42 v0 v1 v2 v3 v4 v5 (v7 + 1) M _ _ hv0 hv1 h
theorem cL_X1_draw_42 {X : x_Ctx} {M0 : Mem} (C : x_CC X 2 50 yX1_draw cX1_draw 10 none [])  : ∀ (n : Nat) (v0 : Nat) (v1 : Nat) (v2 : Int) (v3 : Int) (v4 : Int) (v5 : Int) (v7 : Int) (M : Mem) (r : Int) (M' : Mem) (hv0 : m_kd M v0 = 1) (hv1 : m_kd M v1 = 10) (h : L_X1_draw_42  n v0 v1 v2 v3 v4 v5 v7 M = some (r, M')) , x_Z X 0 0 (x_QF X M0 (.returned none) M' 0 0) M0 M 10 [(0, .ref v0), (1, .ref v1), (2, vI v2), (3, vI v3), (4, vI v4), (5, vI v5), (7, vI v7)] 42 [] := by
  intro n
  induction n with
  | zero => intro v0 v1 v2 v3 v4 v5 v7 M r M' hv0 hv1 h ; cases h
  | succ n ih => intro v0 v1 v2 v3 v4 v5 v7 M r M' hv0 hv1 h ; exact cB_X1_draw_42 C (fun v0 v1 v2 v3 v4 v5 v7 M r M' hv0 hv1 h  => ih v0 v1 v2 v3 v4 v5 v7 M r M' hv0 hv1 h ) v0 v1 v2 v3 v4 v5 v7 M r M' hv0 hv1 h 
theorem cB_X1_draw_16 {X : x_Ctx} {M0 : Mem} (C : x_CC X 2 50 yX1_draw cX1_draw 10 none []) {k16 : Nat → Nat → Int → Int → Int → Int → Int → Mem → Option (Int × Mem)} (hk16 : ∀ (v0 : Nat) (v1 : Nat) (v2 : Int) (v3 : Int) (v4 : Int) (v5 : Int) (v6 : Int) (M : Mem) (r : Int) (M' : Mem), m_kd M v0 = 1 → m_kd M v1 = 10 → k16 v0 v1 v2 v3 v4 v5 v6 M = some (r, M') → x_Z X 0 0 (x_QF X M0 (.returned none) M' 0 0) M0 M 10 [(0, .ref v0), (1, .ref v1), (2, vI v2), (3, vI v3), (4, vI v4), (5, vI v5), (6, vI v6)] 16 []) (v0 : Nat) (v1 : Nat) (v2 : Int) (v3 : Int) (v4 : Int) (v5 : Int) (v6 : Int) (M : Mem) (r : Int) (M' : Mem) (hv0 : m_kd M v0 = 1) (hv1 : m_kd M v1 = 10) (h : B_X1_draw_16 k16 v0 v1 v2 v3 v4 v5 v6 M = some (r, M'))  : x_Z X 0 0 (x_QF X M0 (.returned none) M' 0 0) M0 M 10 [(0, .ref v0), (1, .ref v1), (2, vI v2), (3, vI v3), (4, vI v4), (5, vI v5), (6, vI v6)] 16 [] := by
  unfold B_X1_draw_16 at h
  refine z_iload (pc := 16) C 6 rfl dX1_draw_16 ?_
  refine z_if_le (pc := 18) C dX1_draw_18 (tgt := 39) (by decide) (fun c2 => ?_) (fun c2 => ?_)
  · have h := itt c2 h
    refine z_iconst (pc := 39) C dX1_draw_39 ?_
    refine z_istore (pc := 40) C (lv' := [(0, .ref v0), (1, .ref v1), (2, vI v2), (3, vI v3), (4, vI v4), (5, vI v5), (6, vI v6), (7, vI 0)]) (by decide) rfl dX1_draw_40 ?_
    exact z_lv [0, 1, 2, 3, 4, 5, 7] rfl <| cL_X1_draw_42 C FU v0 v1 v2 v3 v4 v5 0 M _ _ hv0 hv1 h
  · have h := itf c2 h
    refine z_iload (pc := 21) C 5 rfl dX1_draw_21 ?_
    refine z_iload (pc := 23) C 6 rfl dX1_draw_23 ?_
    obtain ⟨c24, h⟩ := ifn h
    refine z_irem (pc := 25) C c24 dX1_draw_25 ?_
    refine z_istore (pc := 26) C (lv' := [(0, .ref v0), (1, .ref v1), (2, vI v2), (3, vI v3), (4, vI v4), (5, vI v5), (6, vI v6), (7, vI (r32 v5 v6))]) (by decide) rfl dX1_draw_26 ?_
    refine z_iload (pc := 28) C 6 rfl dX1_draw_28 ?_
    refine z_istore (pc := 30) C (lv' := [(0, .ref v0), (1, .ref v1), (2, vI v2), (3, vI v3), (4, vI v4), (5, vI v6), (6, vI v6), (7, vI (r32 v5 v6))]) (by decide) rfl dX1_draw_30 ?_
    refine z_iload (pc := 32) C 7 rfl dX1_draw_32 ?_
    refine z_istore (pc := 34) C (lv' := [(0, .ref v0), (1, .ref v1), (2, vI v2), (3, vI v3), (4, vI v4), (5, vI v6), (6, vI (r32 v5 v6)), (7, vI (r32 v5 v6))]) (by decide) rfl dX1_draw_34 ?_
    refine z_goto (pc := 36) C dX1_draw_36 (tgt := 16) (by decide) ?_
    exact z_lv [0, 1, 2, 3, 4, 5, 6] rfl <| hk16 v0 v1 v2 v3 v4 v6 (r32 v5 v6) M _ _ hv0 hv1 h
theorem cL_X1_draw_16 {X : x_Ctx} {M0 : Mem} (C : x_CC X 2 50 yX1_draw cX1_draw 10 none [])  : ∀ (n : Nat) (v0 : Nat) (v1 : Nat) (v2 : Int) (v3 : Int) (v4 : Int) (v5 : Int) (v6 : Int) (M : Mem) (r : Int) (M' : Mem) (hv0 : m_kd M v0 = 1) (hv1 : m_kd M v1 = 10) (h : L_X1_draw_16  n v0 v1 v2 v3 v4 v5 v6 M = some (r, M')) , x_Z X 0 0 (x_QF X M0 (.returned none) M' 0 0) M0 M 10 [(0, .ref v0), (1, .ref v1), (2, vI v2), (3, vI v3), (4, vI v4), (5, vI v5), (6, vI v6)] 16 [] := by
  intro n
  induction n with
  | zero => intro v0 v1 v2 v3 v4 v5 v6 M r M' hv0 hv1 h ; cases h
  | succ n ih => intro v0 v1 v2 v3 v4 v5 v6 M r M' hv0 hv1 h ; exact cB_X1_draw_16 C (fun v0 v1 v2 v3 v4 v5 v6 M r M' hv0 hv1 h  => ih v0 v1 v2 v3 v4 v5 v6 M r M' hv0 hv1 h ) v0 v1 v2 v3 v4 v5 v6 M r M' hv0 hv1 h 
theorem ct_X1_draw {l : Launch} {S0 : State} {D : va_G} {cA : Nat → ClassId} (hG : x_G l S0 D cA) (v0 : Nat) (v1 : Nat) (v2 : Int) (v3 : Int) (v4 : Int) (M : Mem) (r : Int) (M' : Mem) (hv0 : m_kd M v0 = 1) (hv1 : m_kd M v1 = 10) (h : d_X1_draw v0 v1 v2 v3 v4 M = some (r, M')) : x_Me l S0 D cA yX1_draw cX1_draw 10 none [] ({ frames := 2, cells := 0, slots := 0, locals := 50 }) [.ref v0, .ref v1, vI v2, vI v3, vI v4] M (.returned none) M' := by
  refine x_begin (F := 2) (Lo := 50) (mc := 0) (ms := 0) hG (Nat.le_of_ble_eq_true rfl) (lv := [(0, .ref v0), (1, .ref v1), (2, vI v2), (3, vI v3), (4, vI v4)]) rfl rfl rfl rfl rfl (fun X e1 e2 e3 e4 e5 C => ?_)
  unfold d_X1_draw at h
  refine z_aload_n (pc := 0) C 0 rfl dX1_draw_0 ?_
  refine gX1_131 (pc := 1) C rfl hv0 dX1_draw_1 ?_
  refine z_iload_n (pc := 4) C 2 rfl dX1_draw_4 ?_
  obtain ⟨c1, h⟩ := ifn h
  refine z_iaO (pc := 5) (k := 1) (j := 31) C 131 rfl (by decide) (by decide) (by decide) rfl rfl rfl rfl hv0 c1 rfl dX1_draw_5 ?_
  refine z_istore (pc := 6) C (lv' := [(0, .ref v0), (1, .ref v1), (2, vI v2), (3, vI v3), (4, vI v4), (5, vI (m_i M 131 v0 (ixn v2)))]) (by decide) rfl dX1_draw_6 ?_
  refine z_aload_n (pc := 8) C 0 rfl dX1_draw_8 ?_
  refine gX1_130 (pc := 9) C rfl hv0 dX1_draw_9 ?_
  refine z_iload_n (pc := 12) C 2 rfl dX1_draw_12 ?_
  refine z_iaO (pc := 13) (k := 1) (j := 30) C 130 rfl (by decide) (by decide) (by decide) rfl rfl rfl rfl hv0 c1 rfl dX1_draw_13 ?_
  refine z_istore (pc := 14) C (lv' := [(0, .ref v0), (1, .ref v1), (2, vI v2), (3, vI v3), (4, vI v4), (5, vI (m_i M 131 v0 (ixn v2))), (6, vI (m_i M 130 v0 (ixn v2)))]) (by decide) rfl dX1_draw_14 ?_
  exact cL_X1_draw_16 C FU v0 v1 v2 v3 v4 (m_i M 131 v0 (ixn v2)) (m_i M 130 v0 (ixn v2)) M _ _ hv0 hv1 h
def B_X1_sample_258 (k258 : Nat → Int → Int → Int → Nat → Int → Mem → Option ((Int ⊕ Nat) × Mem)) (v0 : Nat) (v6 : Int) (v7 : Int) (v8 : Int) (v9 : Nat) (v10 : Int) (M : Mem) : Option ((Int ⊕ Nat) × Mem) :=
  if w32 v8 ≤ w32 v10 then
    if inb (m_i M 125 v0 0) 12 then 
    some (.inl (m_i M 125 v0 0), (m_si (m_sr M 126 v0 (ixn (m_i M 125 v0 0)) (some v9)) 125 v0 0 ((m_i M 125 v0 0) + 1))) else none
  else
    bN (d_X1_draw v0 v9 v10 v7 v6 M) fun r50 M51 => 
    k258 v0 v6 v7 v8 v9 (v10 + 1) M51
def L_X1_sample_258  : Nat → Nat → Int → Int → Int → Nat → Int → Mem → Option ((Int ⊕ Nat) × Mem)
  | 0, _, _, _, _, _, _, _ => none
  | n + 1, v0, v6, v7, v8, v9, v10, M => B_X1_sample_258 (L_X1_sample_258  n) v0 v6 v7 v8 v9 v10 M
def B_X1_sample_233 (k233 : Nat → Int → Int → Int → Nat → Int → Mem → Option ((Int ⊕ Nat) × Mem)) (v0 : Nat) (v6 : Int) (v7 : Int) (v8 : Int) (v9 : Nat) (v10 : Int) (M : Mem) : Option ((Int ⊕ Nat) × Mem) :=
  if w32 100 ≤ w32 v10 then
    L_X1_sample_258 FU v0 v6 v7 v8 v9 0 M
  else
    if inb v10 100 then 
    k233 v0 v6 v7 v8 v9 (v10 + 1) (m_si M 1002 v9 (ixn v10) 1) else none
def L_X1_sample_233  : Nat → Nat → Int → Int → Int → Nat → Int → Mem → Option ((Int ⊕ Nat) × Mem)
  | 0, _, _, _, _, _, _, _ => none
  | n + 1, v0, v6, v7, v8, v9, v10, M => B_X1_sample_233 (L_X1_sample_233  n) v0 v6 v7 v8 v9 v10 M
def B_X1_sample_194 (k56 : Nat → Int → Int → Int → Int → Int → Mem → Option ((Int ⊕ Nat) × Mem)) (v0 : Nat) (v5 : Int) (v6 : Int) (v7 : Int) (v8 : Int) (v9 : Int) (v10 : Int) (M : Mem) : Option ((Int ⊕ Nat) × Mem) :=
  if inb v10 100 then 
  k56 v0 v5 v6 v7 v8 (v9 + 1) (m_si M 130 v0 (ixn v10) ((m_i M 130 v0 (ixn v10)) + 1)) else none
def B_X1_sample_124 (k56 : Nat → Int → Int → Int → Int → Int → Mem → Option ((Int ⊕ Nat) × Mem)) (k124 : Nat → Int → Int → Int → Int → Int → Int → Int → Mem → Option ((Int ⊕ Nat) × Mem)) (v0 : Nat) (v5 : Int) (v6 : Int) (v7 : Int) (v8 : Int) (v9 : Int) (v10 : Int) (v11 : Int) (M : Mem) : Option ((Int ⊕ Nat) × Mem) :=
  if w32 v11 ≤ w32 v10 then
    if inb v9 100 then 
    if inb v10 100 then 
    B_X1_sample_194 k56 v0 v5 v6 v7 (v8 + 1) v9 v10 (m_si (m_si M 129 v0 (ixn v10) (m_i M 128 v0 (ixn v9))) 130 v0 (ixn v10) 0) else none else none
  else
    if inb (v11 - 1) 100 then 
    if inb v11 100 then 
    k124 v0 v5 v6 v7 v8 v9 v10 (v11 + (-1)) (m_si (m_si M 129 v0 (ixn v11) (m_i M 129 v0 (ixn (v11 - 1)))) 130 v0 (ixn v11) (m_i M 130 v0 (ixn (v11 - 1)))) else none else none
def L_X1_sample_124 (k56 : Nat → Int → Int → Int → Int → Int → Mem → Option ((Int ⊕ Nat) × Mem)) : Nat → Nat → Int → Int → Int → Int → Int → Int → Int → Mem → Option ((Int ⊕ Nat) × Mem)
  | 0, _, _, _, _, _, _, _, _, _ => none
  | n + 1, v0, v5, v6, v7, v8, v9, v10, v11, M => B_X1_sample_124 k56 (L_X1_sample_124 k56 n) v0 v5 v6 v7 v8 v9 v10 v11 M
def B_X1_sample_96 (k56 : Nat → Int → Int → Int → Int → Int → Mem → Option ((Int ⊕ Nat) × Mem)) (v0 : Nat) (v5 : Int) (v6 : Int) (v7 : Int) (v8 : Int) (v9 : Int) (v10 : Int) (M : Mem) : Option ((Int ⊕ Nat) × Mem) :=
  if w32 v10 = w32 v8 then
    L_X1_sample_124 k56 FU v0 v5 v6 v7 v8 v9 v10 v8 M
  else
    if inb v10 100 then 
    if inb v9 100 then 
    if w32 (m_i M 129 v0 (ixn v10)) = w32 (m_i M 128 v0 (ixn v9)) then
      B_X1_sample_194 k56 v0 v5 v6 v7 v8 v9 v10 M
    else
      L_X1_sample_124 k56 FU v0 v5 v6 v7 v8 v9 v10 v8 M else none else none
def B_X1_sample_66 (k56 : Nat → Int → Int → Int → Int → Int → Mem → Option ((Int ⊕ Nat) × Mem)) (k66 : Nat → Int → Int → Int → Int → Int → Int → Mem → Option ((Int ⊕ Nat) × Mem)) (v0 : Nat) (v5 : Int) (v6 : Int) (v7 : Int) (v8 : Int) (v9 : Int) (v10 : Int) (M : Mem) : Option ((Int ⊕ Nat) × Mem) :=
  if w32 v8 ≤ w32 v10 then
    B_X1_sample_96 k56 v0 v5 v6 v7 v8 v9 v10 M
  else
    if inb v10 100 then 
    if inb v9 100 then 
    if w32 (m_i M 128 v0 (ixn v9)) ≤ w32 (m_i M 129 v0 (ixn v10)) then
      B_X1_sample_96 k56 v0 v5 v6 v7 v8 v9 v10 M
    else
      k66 v0 v5 v6 v7 v8 v9 (v10 + 1) M else none else none
def L_X1_sample_66 (k56 : Nat → Int → Int → Int → Int → Int → Mem → Option ((Int ⊕ Nat) × Mem)) : Nat → Nat → Int → Int → Int → Int → Int → Int → Mem → Option ((Int ⊕ Nat) × Mem)
  | 0, _, _, _, _, _, _, _, _ => none
  | n + 1, v0, v5, v6, v7, v8, v9, v10, M => B_X1_sample_66 k56 (L_X1_sample_66 k56 n) v0 v5 v6 v7 v8 v9 v10 M
def B_X1_sample_56 (k56 : Nat → Int → Int → Int → Int → Int → Mem → Option ((Int ⊕ Nat) × Mem)) (v0 : Nat) (v5 : Int) (v6 : Int) (v7 : Int) (v8 : Int) (v9 : Int) (M : Mem) : Option ((Int ⊕ Nat) × Mem) :=
  if w32 v7 ≤ w32 v9 then
    bN (d_X1_share v0 v8 v5 v7 M) fun r33 M34 => 
    bN (d_X10_init (m_sz M34) (m_nw M34 110)) fun r41 M42 => 
    if m_kd M42 (m_sz M34) = 10 then 
    L_X1_sample_233 FU v0 v6 v7 v8 (m_sz M34) 0 M42 else none
  else
    L_X1_sample_66 k56 FU v0 v5 v6 v7 v8 v9 0 M
def L_X1_sample_56  : Nat → Nat → Int → Int → Int → Int → Int → Mem → Option ((Int ⊕ Nat) × Mem)
  | 0, _, _, _, _, _, _, _ => none
  | n + 1, v0, v5, v6, v7, v8, v9, M => B_X1_sample_56 (L_X1_sample_56  n) v0 v5 v6 v7 v8 v9 M
def d_X1_sample (v0 : Nat) (v1 : Int) (v2 : Int) (v3 : Int) (v4 : Int) (v5 : Int) (v6 : Int) (M : Mem) : Option ((Int ⊕ Nat) × Mem) :=
  bT (d_X1_fieldIn v1 M) fun r1 M2 => 
  bT (d_X1_fieldIn v4 M2) fun r7 M8 => 
  bN (d_X1_lookAtFrame v0 v1 v2 v3 v4 M8) fun r13 M14 => 
  bT (d_X1_need (d_X1_isIn (w32 v5) 0 (w32 r13)) M14) fun r19 M20 => 
  if w32 12 ≤ w32 (m_i M20 125 v0 0) then
    bT (d_X1_room 0 M20) fun r26 M27 => 
    L_X1_sample_56 FU v0 v5 v6 r13 0 0 M27
  else
    bT (d_X1_room 1 M20) fun r71 M72 => 
    L_X1_sample_56 FU v0 v5 v6 r13 0 0 M72
theorem cB_X1_sample_258 {X : x_Ctx} {M0 : Mem} (C : x_CC X 8 138 yX1_sample cX1_sample 12 (some .int) []) {k258 : Nat → Int → Int → Int → Nat → Int → Mem → Option ((Int ⊕ Nat) × Mem)} (hk258 : ∀ (v0 : Nat) (v6 : Int) (v7 : Int) (v8 : Int) (v9 : Nat) (v10 : Int) (M : Mem) (r : Int ⊕ Nat) (M' : Mem), m_kd M v0 = 1 → m_kd M v9 = 10 → k258 v0 v6 v7 v8 v9 v10 M = some (r, M') → ocN r 4 4 ≤ (XR X).cells ∧ ocN r 303 303 ≤ (XR X).slots → x_Z X 4 303 (x_QF X M0 (ocI r) M' (ocN r 4 4) (ocN r 303 303)) M0 M 12 [(0, .ref v0), (6, vI v6), (7, vI v7), (8, vI v8), (9, .ref v9), (10, vI v10)] 258 []) (v0 : Nat) (v6 : Int) (v7 : Int) (v8 : Int) (v9 : Nat) (v10 : Int) (M : Mem) (r : Int ⊕ Nat) (M' : Mem) (hv0 : m_kd M v0 = 1) (hv9 : m_kd M v9 = 10) (h : B_X1_sample_258 k258 v0 v6 v7 v8 v9 v10 M = some (r, M')) (hR : ocN r 4 4 ≤ (XR X).cells ∧ ocN r 303 303 ≤ (XR X).slots) : x_Z X 4 303 (x_QF X M0 (ocI r) M' (ocN r 4 4) (ocN r 303 303)) M0 M 12 [(0, .ref v0), (6, vI v6), (7, vI v7), (8, vI v8), (9, .ref v9), (10, vI v10)] 258 [] := by
  unfold B_X1_sample_258 at h
  refine z_iload (pc := 258) C 5 rfl dX1_sample_258 ?_
  refine z_iload (pc := 260) C 3 rfl dX1_sample_260 ?_
  refine z_ic_ge (pc := 262) C dX1_sample_262 (tgt := 283) (by decide) (fun c48 => ?_) (fun c48 => ?_)
  · have h := itt c48 h
    refine z_aload_n (pc := 283) C 0 rfl dX1_sample_283 ?_
    refine gX1_126 (pc := 284) C rfl hv0 dX1_sample_284 ?_
    refine z_aload_n (pc := 287) C 0 rfl dX1_sample_287 ?_
    refine gX1_125 (pc := 288) C rfl (Or.inl hv0) rfl dX1_sample_288 ?_
    refine z_aload (pc := 291) C 4 rfl dX1_sample_291 ?_
    obtain ⟨c49, h⟩ := ifn h
    refine z_asO (pc := 293) (k := 1) (j := 26) C 126 rfl (by decide) (by decide) (by decide) rfl rfl rfl (by decide) rfl (by decide) (by decide) (by decide) rfl hv0 c49 hv9 (by unfold x_rk; decide) dX1_sample_293 ?_
    refine z_aload_n (pc := 294) C 0 rfl dX1_sample_294 ?_
    refine z_dup (pc := 295) C rfl dX1_sample_295 ?_
    refine gX1_125 (pc := 296) C rfl (Or.inl hv0) (x := m_i M 125 v0 0) (m_i_sr.trans rfl) dX1_sample_296 ?_
    refine z_dupx1 (pc := 299) C rfl rfl dX1_sample_299 ?_
    refine z_iconst (pc := 300) C dX1_sample_300 ?_
    refine z_iadd (pc := 301) C dX1_sample_301 ?_
    refine pX1_125 (pc := 302) C rfl (Or.inl hv0) dX1_sample_302 ?_
    cases h
    exact z_iret (pc := 305) C rfl (show 4 ≤ 4 from by decide) (show 303 ≤ 303 from by decide) dX1_sample_305
  · have h := itf c48 h
    refine z_aload_n (pc := 265) C 0 rfl dX1_sample_265 ?_
    refine z_aload (pc := 266) C 4 rfl dX1_sample_266 ?_
    refine z_iload (pc := 268) C 5 rfl dX1_sample_268 ?_
    refine z_iload (pc := 270) C 2 rfl dX1_sample_270 ?_
    refine z_iload (pc := 272) C 1 rfl dX1_sample_272 ?_
    obtain ⟨r50, M51, e52, h⟩ := bNs h
    refine cX1_465 (pc := 274) (st := []) (st1 := []) C rfl (rm := { frames := 2, cells := 0, slots := 0, locals := 50 }) (ct_X1_draw C.2.1 v0 v9 v10 v7 v6 M _ _ hv0 hv9 e52) ⟨by decide, by decide, Nat.le_trans (ocN_le (show 4 ≤ 4 from by decide) (show 4 ≤ 4 from by decide)) hR.1, Nat.le_trans (ocN_le (show 303 ≤ 303 from by decide) (show 303 ≤ 303 from by decide)) hR.2⟩ (Or.inl hv0) rfl (Nat.le_of_ble_eq_true rfl) dX1_sample_274 (c2 := 4) (s2 := 303) rfl rfl (fun x53 => ?_)
    have k54 := x53 _ 1 (by decide) (Or.inl (by decide)) hv0
    have k55 := x53 _ 10 (by decide) (Or.inl (by decide)) hv9
    refine z_iinc (pc := 277) C (lv' := [(0, .ref v0), (6, vI v6), (7, vI v7), (8, vI v8), (9, .ref v9), (10, vI (v10 + 1))]) 5 rfl (by decide) rfl dX1_sample_277 ?_
    refine z_goto (pc := 280) C dX1_sample_280 (tgt := 258) (by decide) ?_
    exact hk258 v0 v6 v7 v8 v9 (v10 + 1) M51 _ _ k54 k55 h hR
theorem cL_X1_sample_258 {X : x_Ctx} {M0 : Mem} (C : x_CC X 8 138 yX1_sample cX1_sample 12 (some .int) [])  : ∀ (n : Nat) (v0 : Nat) (v6 : Int) (v7 : Int) (v8 : Int) (v9 : Nat) (v10 : Int) (M : Mem) (r : Int ⊕ Nat) (M' : Mem) (hv0 : m_kd M v0 = 1) (hv9 : m_kd M v9 = 10) (h : L_X1_sample_258  n v0 v6 v7 v8 v9 v10 M = some (r, M')) (hR : ocN r 4 4 ≤ (XR X).cells ∧ ocN r 303 303 ≤ (XR X).slots), x_Z X 4 303 (x_QF X M0 (ocI r) M' (ocN r 4 4) (ocN r 303 303)) M0 M 12 [(0, .ref v0), (6, vI v6), (7, vI v7), (8, vI v8), (9, .ref v9), (10, vI v10)] 258 [] := by
  intro n
  induction n with
  | zero => intro v0 v6 v7 v8 v9 v10 M r M' hv0 hv9 h hR; cases h
  | succ n ih => intro v0 v6 v7 v8 v9 v10 M r M' hv0 hv9 h hR; exact cB_X1_sample_258 C (fun v0 v6 v7 v8 v9 v10 M r M' hv0 hv9 h hR => ih v0 v6 v7 v8 v9 v10 M r M' hv0 hv9 h hR) v0 v6 v7 v8 v9 v10 M r M' hv0 hv9 h hR
theorem cB_X1_sample_233 {X : x_Ctx} {M0 : Mem} (C : x_CC X 8 138 yX1_sample cX1_sample 12 (some .int) []) {k233 : Nat → Int → Int → Int → Nat → Int → Mem → Option ((Int ⊕ Nat) × Mem)} (hk233 : ∀ (v0 : Nat) (v6 : Int) (v7 : Int) (v8 : Int) (v9 : Nat) (v10 : Int) (M : Mem) (r : Int ⊕ Nat) (M' : Mem), m_kd M v0 = 1 → m_kd M v9 = 10 → k233 v0 v6 v7 v8 v9 v10 M = some (r, M') → ocN r 4 4 ≤ (XR X).cells ∧ ocN r 303 303 ≤ (XR X).slots → x_Z X 4 303 (x_QF X M0 (ocI r) M' (ocN r 4 4) (ocN r 303 303)) M0 M 12 [(0, .ref v0), (6, vI v6), (7, vI v7), (8, vI v8), (9, .ref v9), (10, vI v10)] 233 []) (v0 : Nat) (v6 : Int) (v7 : Int) (v8 : Int) (v9 : Nat) (v10 : Int) (M : Mem) (r : Int ⊕ Nat) (M' : Mem) (hv0 : m_kd M v0 = 1) (hv9 : m_kd M v9 = 10) (h : B_X1_sample_233 k233 v0 v6 v7 v8 v9 v10 M = some (r, M')) (hR : ocN r 4 4 ≤ (XR X).cells ∧ ocN r 303 303 ≤ (XR X).slots) : x_Z X 4 303 (x_QF X M0 (ocI r) M' (ocN r 4 4) (ocN r 303 303)) M0 M 12 [(0, .ref v0), (6, vI v6), (7, vI v7), (8, vI v8), (9, .ref v9), (10, vI v10)] 233 [] := by
  unfold B_X1_sample_233 at h
  refine z_iload (pc := 233) C 5 rfl dX1_sample_233 ?_
  refine z_bipush (pc := 235) C (by decide +kernel) dX1_sample_235 ?_
  refine z_ic_ge (pc := 237) C dX1_sample_237 (tgt := 255) (by decide) (fun c47 => ?_) (fun c47 => ?_)
  · have h := itt c47 h
    refine z_iconst (pc := 255) C dX1_sample_255 ?_
    refine z_istore (pc := 256) C (lv' := [(0, .ref v0), (6, vI v6), (7, vI v7), (8, vI v8), (9, .ref v9), (10, vI 0)]) (by decide) rfl dX1_sample_256 ?_
    exact cL_X1_sample_258 C FU v0 v6 v7 v8 v9 0 M _ _ hv0 hv9 h hR
  · have h := itf c47 h
    refine z_aload (pc := 240) C 4 rfl dX1_sample_240 ?_
    refine gX1_1002 (pc := 242) C rfl hv9 dX1_sample_242 ?_
    refine z_iload (pc := 245) C 5 rfl dX1_sample_245 ?_
    refine z_iconst (pc := 247) C dX1_sample_247 ?_
    obtain ⟨c56, h⟩ := ifn h
    refine z_isO (pc := 248) (k := 10) (j := 2) C 1002 rfl (by decide) (by decide) (by decide) rfl rfl rfl rfl hv9 c56 dX1_sample_248 ?_
    refine z_iinc (pc := 249) C (lv' := [(0, .ref v0), (6, vI v6), (7, vI v7), (8, vI v8), (9, .ref v9), (10, vI (v10 + 1))]) 5 rfl (by decide) rfl dX1_sample_249 ?_
    refine z_goto (pc := 252) C dX1_sample_252 (tgt := 233) (by decide) ?_
    exact hk233 v0 v6 v7 v8 v9 (v10 + 1) (m_si M 1002 v9 (ixn v10) 1) _ _ hv0 hv9 h hR
theorem cL_X1_sample_233 {X : x_Ctx} {M0 : Mem} (C : x_CC X 8 138 yX1_sample cX1_sample 12 (some .int) [])  : ∀ (n : Nat) (v0 : Nat) (v6 : Int) (v7 : Int) (v8 : Int) (v9 : Nat) (v10 : Int) (M : Mem) (r : Int ⊕ Nat) (M' : Mem) (hv0 : m_kd M v0 = 1) (hv9 : m_kd M v9 = 10) (h : L_X1_sample_233  n v0 v6 v7 v8 v9 v10 M = some (r, M')) (hR : ocN r 4 4 ≤ (XR X).cells ∧ ocN r 303 303 ≤ (XR X).slots), x_Z X 4 303 (x_QF X M0 (ocI r) M' (ocN r 4 4) (ocN r 303 303)) M0 M 12 [(0, .ref v0), (6, vI v6), (7, vI v7), (8, vI v8), (9, .ref v9), (10, vI v10)] 233 [] := by
  intro n
  induction n with
  | zero => intro v0 v6 v7 v8 v9 v10 M r M' hv0 hv9 h hR; cases h
  | succ n ih => intro v0 v6 v7 v8 v9 v10 M r M' hv0 hv9 h hR; exact cB_X1_sample_233 C (fun v0 v6 v7 v8 v9 v10 M r M' hv0 hv9 h hR => ih v0 v6 v7 v8 v9 v10 M r M' hv0 hv9 h hR) v0 v6 v7 v8 v9 v10 M r M' hv0 hv9 h hR
theorem cB_X1_sample_194 {X : x_Ctx} {M0 : Mem} (C : x_CC X 8 138 yX1_sample cX1_sample 12 (some .int) []) {k56 : Nat → Int → Int → Int → Int → Int → Mem → Option ((Int ⊕ Nat) × Mem)} (hk56 : ∀ (v0 : Nat) (v5 : Int) (v6 : Int) (v7 : Int) (v8 : Int) (v9 : Int) (M : Mem) (r : Int ⊕ Nat) (M' : Mem), m_kd M v0 = 1 → k56 v0 v5 v6 v7 v8 v9 M = some (r, M') → ocN r 4 4 ≤ (XR X).cells ∧ ocN r 303 303 ≤ (XR X).slots → x_Z X 0 0 (x_QF X M0 (ocI r) M' (ocN r 4 4) (ocN r 303 303)) M0 M 12 [(0, .ref v0), (5, vI v5), (6, vI v6), (7, vI v7), (8, vI v8), (9, vI v9)] 56 []) (v0 : Nat) (v5 : Int) (v6 : Int) (v7 : Int) (v8 : Int) (v9 : Int) (v10 : Int) (M : Mem) (r : Int ⊕ Nat) (M' : Mem) (hv0 : m_kd M v0 = 1) (h : B_X1_sample_194 k56 v0 v5 v6 v7 v8 v9 v10 M = some (r, M')) (hR : ocN r 4 4 ≤ (XR X).cells ∧ ocN r 303 303 ≤ (XR X).slots) : x_Z X 0 0 (x_QF X M0 (ocI r) M' (ocN r 4 4) (ocN r 303 303)) M0 M 12 [(0, .ref v0), (5, vI v5), (6, vI v6), (7, vI v7), (8, vI v8), (9, vI v9), (10, vI v10)] 194 [] := by
  unfold B_X1_sample_194 at h
  refine z_aload_n (pc := 194) C 0 rfl dX1_sample_194 ?_
  refine gX1_130 (pc := 195) C rfl hv0 dX1_sample_195 ?_
  refine z_iload (pc := 198) C 6 rfl dX1_sample_198 ?_
  refine z_dup2 (pc := 200) C rfl rfl dX1_sample_200 ?_
  obtain ⟨c62, h⟩ := ifn h
  refine z_iaO (pc := 201) (k := 1) (j := 30) C 130 rfl (by decide) (by decide) (by decide) rfl rfl rfl rfl hv0 c62 rfl dX1_sample_201 ?_
  refine z_iconst (pc := 202) C dX1_sample_202 ?_
  refine z_iadd (pc := 203) C dX1_sample_203 ?_
  refine z_isO (pc := 204) (k := 1) (j := 30) C 130 rfl (by decide) (by decide) (by decide) rfl rfl rfl rfl hv0 c62 dX1_sample_204 ?_
  refine z_iinc (pc := 205) C (lv' := [(0, .ref v0), (5, vI v5), (6, vI v6), (7, vI v7), (8, vI v8), (9, vI (v9 + 1)), (10, vI v10)]) 5 rfl (by decide) rfl dX1_sample_205 ?_
  refine z_goto (pc := 208) C dX1_sample_208 (tgt := 56) (by decide) ?_
  exact z_lv [0, 1, 2, 3, 4, 5] rfl <| hk56 v0 v5 v6 v7 v8 (v9 + 1) (m_si M 130 v0 (ixn v10) ((m_i M 130 v0 (ixn v10)) + 1)) _ _ hv0 h hR
theorem cB_X1_sample_124 {X : x_Ctx} {M0 : Mem} (C : x_CC X 8 138 yX1_sample cX1_sample 12 (some .int) []) {k56 : Nat → Int → Int → Int → Int → Int → Mem → Option ((Int ⊕ Nat) × Mem)} (hk56 : ∀ (v0 : Nat) (v5 : Int) (v6 : Int) (v7 : Int) (v8 : Int) (v9 : Int) (M : Mem) (r : Int ⊕ Nat) (M' : Mem), m_kd M v0 = 1 → k56 v0 v5 v6 v7 v8 v9 M = some (r, M') → ocN r 4 4 ≤ (XR X).cells ∧ ocN r 303 303 ≤ (XR X).slots → x_Z X 0 0 (x_QF X M0 (ocI r) M' (ocN r 4 4) (ocN r 303 303)) M0 M 12 [(0, .ref v0), (5, vI v5), (6, vI v6), (7, vI v7), (8, vI v8), (9, vI v9)] 56 []) {k124 : Nat → Int → Int → Int → Int → Int → Int → Int → Mem → Option ((Int ⊕ Nat) × Mem)} (hk124 : ∀ (v0 : Nat) (v5 : Int) (v6 : Int) (v7 : Int) (v8 : Int) (v9 : Int) (v10 : Int) (v11 : Int) (M : Mem) (r : Int ⊕ Nat) (M' : Mem), m_kd M v0 = 1 → k124 v0 v5 v6 v7 v8 v9 v10 v11 M = some (r, M') → ocN r 4 4 ≤ (XR X).cells ∧ ocN r 303 303 ≤ (XR X).slots → x_Z X 0 0 (x_QF X M0 (ocI r) M' (ocN r 4 4) (ocN r 303 303)) M0 M 12 [(0, .ref v0), (5, vI v5), (6, vI v6), (7, vI v7), (8, vI v8), (9, vI v9), (10, vI v10), (11, vI v11)] 124 []) (v0 : Nat) (v5 : Int) (v6 : Int) (v7 : Int) (v8 : Int) (v9 : Int) (v10 : Int) (v11 : Int) (M : Mem) (r : Int ⊕ Nat) (M' : Mem) (hv0 : m_kd M v0 = 1) (h : B_X1_sample_124 k56 k124 v0 v5 v6 v7 v8 v9 v10 v11 M = some (r, M')) (hR : ocN r 4 4 ≤ (XR X).cells ∧ ocN r 303 303 ≤ (XR X).slots) : x_Z X 0 0 (x_QF X M0 (ocI r) M' (ocN r 4 4) (ocN r 303 303)) M0 M 12 [(0, .ref v0), (5, vI v5), (6, vI v6), (7, vI v7), (8, vI v8), (9, vI v9), (10, vI v10), (11, vI v11)] 124 [] := by
  unfold B_X1_sample_124 at h
  refine z_iload (pc := 124) C 7 rfl dX1_sample_124 ?_
  refine z_iload (pc := 126) C 6 rfl dX1_sample_126 ?_
  refine z_ic_le (pc := 128) C dX1_sample_128 (tgt := 169) (by decide) (fun c59 => ?_) (fun c59 => ?_)
  · have h := itt c59 h
    refine z_aload_n (pc := 169) C 0 rfl dX1_sample_169 ?_
    refine gX1_129 (pc := 170) C rfl hv0 dX1_sample_170 ?_
    refine z_iload (pc := 173) C 6 rfl dX1_sample_173 ?_
    refine z_aload_n (pc := 175) C 0 rfl dX1_sample_175 ?_
    refine gX1_128 (pc := 176) C rfl hv0 dX1_sample_176 ?_
    refine z_iload (pc := 179) C 5 rfl dX1_sample_179 ?_
    obtain ⟨c60, h⟩ := ifn h
    refine z_iaO (pc := 181) (k := 1) (j := 28) C 128 rfl (by decide) (by decide) (by decide) rfl rfl rfl rfl hv0 c60 rfl dX1_sample_181 ?_
    obtain ⟨c61, h⟩ := ifn h
    refine z_isO (pc := 182) (k := 1) (j := 29) C 129 rfl (by decide) (by decide) (by decide) rfl rfl rfl rfl hv0 c61 dX1_sample_182 ?_
    refine z_aload_n (pc := 183) C 0 rfl dX1_sample_183 ?_
    refine gX1_130 (pc := 184) C rfl hv0 dX1_sample_184 ?_
    refine z_iload (pc := 187) C 6 rfl dX1_sample_187 ?_
    refine z_iconst (pc := 189) C dX1_sample_189 ?_
    refine z_isO (pc := 190) (k := 1) (j := 30) C 130 rfl (by decide) (by decide) (by decide) rfl rfl rfl rfl hv0 c61 dX1_sample_190 ?_
    refine z_iinc (pc := 191) C (lv' := [(0, .ref v0), (5, vI v5), (6, vI v6), (7, vI v7), (8, vI (v8 + 1)), (9, vI v9), (10, vI v10), (11, vI v11)]) 4 rfl (by decide) rfl dX1_sample_191 ?_
    exact z_lv [0, 1, 2, 3, 4, 5, 6] rfl <| cB_X1_sample_194 C hk56 v0 v5 v6 v7 (v8 + 1) v9 v10 (m_si (m_si M 129 v0 (ixn v10) (m_i M 128 v0 (ixn v9))) 130 v0 (ixn v10) 0) _ _ hv0 h hR
  · have h := itf c59 h
    refine z_aload_n (pc := 131) C 0 rfl dX1_sample_131 ?_
    refine gX1_129 (pc := 132) C rfl hv0 dX1_sample_132 ?_
    refine z_iload (pc := 135) C 7 rfl dX1_sample_135 ?_
    refine z_aload_n (pc := 137) C 0 rfl dX1_sample_137 ?_
    refine gX1_129 (pc := 138) C rfl hv0 dX1_sample_138 ?_
    refine z_iload (pc := 141) C 7 rfl dX1_sample_141 ?_
    refine z_iconst (pc := 143) C dX1_sample_143 ?_
    refine z_isub (pc := 144) C dX1_sample_144 ?_
    obtain ⟨c63, h⟩ := ifn h
    refine z_iaO (pc := 145) (k := 1) (j := 29) C 129 rfl (by decide) (by decide) (by decide) rfl rfl rfl rfl hv0 c63 rfl dX1_sample_145 ?_
    obtain ⟨c64, h⟩ := ifn h
    refine z_isO (pc := 146) (k := 1) (j := 29) C 129 rfl (by decide) (by decide) (by decide) rfl rfl rfl rfl hv0 c64 dX1_sample_146 ?_
    refine z_aload_n (pc := 147) C 0 rfl dX1_sample_147 ?_
    refine gX1_130 (pc := 148) C rfl hv0 dX1_sample_148 ?_
    refine z_iload (pc := 151) C 7 rfl dX1_sample_151 ?_
    refine z_aload_n (pc := 153) C 0 rfl dX1_sample_153 ?_
    refine gX1_130 (pc := 154) C rfl hv0 dX1_sample_154 ?_
    refine z_iload (pc := 157) C 7 rfl dX1_sample_157 ?_
    refine z_iconst (pc := 159) C dX1_sample_159 ?_
    refine z_isub (pc := 160) C dX1_sample_160 ?_
    refine z_iaO (pc := 161) (k := 1) (j := 30) C 130 rfl (by decide) (by decide) (by decide) rfl rfl rfl rfl hv0 c63 (x := m_i M 130 v0 (ixn (v11 - 1))) ((m_i_ne (by decide)).trans rfl) dX1_sample_161 ?_
    refine z_isO (pc := 162) (k := 1) (j := 30) C 130 rfl (by decide) (by decide) (by decide) rfl rfl rfl rfl hv0 c64 dX1_sample_162 ?_
    refine z_iinc (pc := 163) C (lv' := [(0, .ref v0), (5, vI v5), (6, vI v6), (7, vI v7), (8, vI v8), (9, vI v9), (10, vI v10), (11, vI (v11 + (-1)))]) 7 rfl (by decide) rfl dX1_sample_163 ?_
    refine z_goto (pc := 166) C dX1_sample_166 (tgt := 124) (by decide) ?_
    exact hk124 v0 v5 v6 v7 v8 v9 v10 (v11 + (-1)) (m_si (m_si M 129 v0 (ixn v11) (m_i M 129 v0 (ixn (v11 - 1)))) 130 v0 (ixn v11) (m_i M 130 v0 (ixn (v11 - 1)))) _ _ hv0 h hR
theorem cL_X1_sample_124 {X : x_Ctx} {M0 : Mem} (C : x_CC X 8 138 yX1_sample cX1_sample 12 (some .int) []) {k56 : Nat → Int → Int → Int → Int → Int → Mem → Option ((Int ⊕ Nat) × Mem)} (hk56 : ∀ (v0 : Nat) (v5 : Int) (v6 : Int) (v7 : Int) (v8 : Int) (v9 : Int) (M : Mem) (r : Int ⊕ Nat) (M' : Mem), m_kd M v0 = 1 → k56 v0 v5 v6 v7 v8 v9 M = some (r, M') → ocN r 4 4 ≤ (XR X).cells ∧ ocN r 303 303 ≤ (XR X).slots → x_Z X 0 0 (x_QF X M0 (ocI r) M' (ocN r 4 4) (ocN r 303 303)) M0 M 12 [(0, .ref v0), (5, vI v5), (6, vI v6), (7, vI v7), (8, vI v8), (9, vI v9)] 56 []) : ∀ (n : Nat) (v0 : Nat) (v5 : Int) (v6 : Int) (v7 : Int) (v8 : Int) (v9 : Int) (v10 : Int) (v11 : Int) (M : Mem) (r : Int ⊕ Nat) (M' : Mem) (hv0 : m_kd M v0 = 1) (h : L_X1_sample_124 k56 n v0 v5 v6 v7 v8 v9 v10 v11 M = some (r, M')) (hR : ocN r 4 4 ≤ (XR X).cells ∧ ocN r 303 303 ≤ (XR X).slots), x_Z X 0 0 (x_QF X M0 (ocI r) M' (ocN r 4 4) (ocN r 303 303)) M0 M 12 [(0, .ref v0), (5, vI v5), (6, vI v6), (7, vI v7), (8, vI v8), (9, vI v9), (10, vI v10), (11, vI v11)] 124 [] := by
  intro n
  induction n with
  | zero => intro v0 v5 v6 v7 v8 v9 v10 v11 M r M' hv0 h hR; cases h
  | succ n ih => intro v0 v5 v6 v7 v8 v9 v10 v11 M r M' hv0 h hR; exact cB_X1_sample_124 C hk56 (fun v0 v5 v6 v7 v8 v9 v10 v11 M r M' hv0 h hR => ih v0 v5 v6 v7 v8 v9 v10 v11 M r M' hv0 h hR) v0 v5 v6 v7 v8 v9 v10 v11 M r M' hv0 h hR
theorem cB_X1_sample_96 {X : x_Ctx} {M0 : Mem} (C : x_CC X 8 138 yX1_sample cX1_sample 12 (some .int) []) {k56 : Nat → Int → Int → Int → Int → Int → Mem → Option ((Int ⊕ Nat) × Mem)} (hk56 : ∀ (v0 : Nat) (v5 : Int) (v6 : Int) (v7 : Int) (v8 : Int) (v9 : Int) (M : Mem) (r : Int ⊕ Nat) (M' : Mem), m_kd M v0 = 1 → k56 v0 v5 v6 v7 v8 v9 M = some (r, M') → ocN r 4 4 ≤ (XR X).cells ∧ ocN r 303 303 ≤ (XR X).slots → x_Z X 0 0 (x_QF X M0 (ocI r) M' (ocN r 4 4) (ocN r 303 303)) M0 M 12 [(0, .ref v0), (5, vI v5), (6, vI v6), (7, vI v7), (8, vI v8), (9, vI v9)] 56 []) (v0 : Nat) (v5 : Int) (v6 : Int) (v7 : Int) (v8 : Int) (v9 : Int) (v10 : Int) (M : Mem) (r : Int ⊕ Nat) (M' : Mem) (hv0 : m_kd M v0 = 1) (h : B_X1_sample_96 k56 v0 v5 v6 v7 v8 v9 v10 M = some (r, M')) (hR : ocN r 4 4 ≤ (XR X).cells ∧ ocN r 303 303 ≤ (XR X).slots) : x_Z X 0 0 (x_QF X M0 (ocI r) M' (ocN r 4 4) (ocN r 303 303)) M0 M 12 [(0, .ref v0), (5, vI v5), (6, vI v6), (7, vI v7), (8, vI v8), (9, vI v9), (10, vI v10)] 96 [] := by
  unfold B_X1_sample_96 at h
  refine z_iload (pc := 96) C 6 rfl dX1_sample_96 ?_
  refine z_iload (pc := 98) C 4 rfl dX1_sample_98 ?_
  refine z_ic_eq (pc := 100) C dX1_sample_100 (tgt := 120) (by decide) (fun c58 => ?_) (fun c58 => ?_)
  · have h := itt c58 h
    refine z_iload (pc := 120) C 4 rfl dX1_sample_120 ?_
    refine z_istore (pc := 122) C (lv' := [(0, .ref v0), (5, vI v5), (6, vI v6), (7, vI v7), (8, vI v8), (9, vI v9), (10, vI v10), (11, vI v8)]) (by decide) rfl dX1_sample_122 ?_
    exact cL_X1_sample_124 C hk56 FU v0 v5 v6 v7 v8 v9 v10 v8 M _ _ hv0 h hR
  · have h := itf c58 h
    refine z_aload_n (pc := 103) C 0 rfl dX1_sample_103 ?_
    refine gX1_129 (pc := 104) C rfl hv0 dX1_sample_104 ?_
    refine z_iload (pc := 107) C 6 rfl dX1_sample_107 ?_
    obtain ⟨c65, h⟩ := ifn h
    refine z_iaO (pc := 109) (k := 1) (j := 29) C 129 rfl (by decide) (by decide) (by decide) rfl rfl rfl rfl hv0 c65 rfl dX1_sample_109 ?_
    refine z_aload_n (pc := 110) C 0 rfl dX1_sample_110 ?_
    refine gX1_128 (pc := 111) C rfl hv0 dX1_sample_111 ?_
    refine z_iload (pc := 114) C 5 rfl dX1_sample_114 ?_
    obtain ⟨c66, h⟩ := ifn h
    refine z_iaO (pc := 116) (k := 1) (j := 28) C 128 rfl (by decide) (by decide) (by decide) rfl rfl rfl rfl hv0 c66 rfl dX1_sample_116 ?_
    refine z_ic_eq (pc := 117) C dX1_sample_117 (tgt := 194) (by decide) (fun c67 => ?_) (fun c67 => ?_)
    · have h := itt c67 h
      exact cB_X1_sample_194 C hk56 v0 v5 v6 v7 v8 v9 v10 M _ _ hv0 h hR
    · have h := itf c67 h
      refine z_iload (pc := 120) C 4 rfl dX1_sample_120 ?_
      refine z_istore (pc := 122) C (lv' := [(0, .ref v0), (5, vI v5), (6, vI v6), (7, vI v7), (8, vI v8), (9, vI v9), (10, vI v10), (11, vI v8)]) (by decide) rfl dX1_sample_122 ?_
      exact cL_X1_sample_124 C hk56 FU v0 v5 v6 v7 v8 v9 v10 v8 M _ _ hv0 h hR
theorem cB_X1_sample_66 {X : x_Ctx} {M0 : Mem} (C : x_CC X 8 138 yX1_sample cX1_sample 12 (some .int) []) {k56 : Nat → Int → Int → Int → Int → Int → Mem → Option ((Int ⊕ Nat) × Mem)} (hk56 : ∀ (v0 : Nat) (v5 : Int) (v6 : Int) (v7 : Int) (v8 : Int) (v9 : Int) (M : Mem) (r : Int ⊕ Nat) (M' : Mem), m_kd M v0 = 1 → k56 v0 v5 v6 v7 v8 v9 M = some (r, M') → ocN r 4 4 ≤ (XR X).cells ∧ ocN r 303 303 ≤ (XR X).slots → x_Z X 0 0 (x_QF X M0 (ocI r) M' (ocN r 4 4) (ocN r 303 303)) M0 M 12 [(0, .ref v0), (5, vI v5), (6, vI v6), (7, vI v7), (8, vI v8), (9, vI v9)] 56 []) {k66 : Nat → Int → Int → Int → Int → Int → Int → Mem → Option ((Int ⊕ Nat) × Mem)} (hk66 : ∀ (v0 : Nat) (v5 : Int) (v6 : Int) (v7 : Int) (v8 : Int) (v9 : Int) (v10 : Int) (M : Mem) (r : Int ⊕ Nat) (M' : Mem), m_kd M v0 = 1 → k66 v0 v5 v6 v7 v8 v9 v10 M = some (r, M') → ocN r 4 4 ≤ (XR X).cells ∧ ocN r 303 303 ≤ (XR X).slots → x_Z X 0 0 (x_QF X M0 (ocI r) M' (ocN r 4 4) (ocN r 303 303)) M0 M 12 [(0, .ref v0), (5, vI v5), (6, vI v6), (7, vI v7), (8, vI v8), (9, vI v9), (10, vI v10)] 66 []) (v0 : Nat) (v5 : Int) (v6 : Int) (v7 : Int) (v8 : Int) (v9 : Int) (v10 : Int) (M : Mem) (r : Int ⊕ Nat) (M' : Mem) (hv0 : m_kd M v0 = 1) (h : B_X1_sample_66 k56 k66 v0 v5 v6 v7 v8 v9 v10 M = some (r, M')) (hR : ocN r 4 4 ≤ (XR X).cells ∧ ocN r 303 303 ≤ (XR X).slots) : x_Z X 0 0 (x_QF X M0 (ocI r) M' (ocN r 4 4) (ocN r 303 303)) M0 M 12 [(0, .ref v0), (5, vI v5), (6, vI v6), (7, vI v7), (8, vI v8), (9, vI v9), (10, vI v10)] 66 [] := by
  unfold B_X1_sample_66 at h
  refine z_iload (pc := 66) C 6 rfl dX1_sample_66 ?_
  refine z_iload (pc := 68) C 4 rfl dX1_sample_68 ?_
  refine z_ic_ge (pc := 70) C dX1_sample_70 (tgt := 96) (by decide) (fun c57 => ?_) (fun c57 => ?_)
  · have h := itt c57 h
    exact cB_X1_sample_96 C hk56 v0 v5 v6 v7 v8 v9 v10 M _ _ hv0 h hR
  · have h := itf c57 h
    refine z_aload_n (pc := 73) C 0 rfl dX1_sample_73 ?_
    refine gX1_129 (pc := 74) C rfl hv0 dX1_sample_74 ?_
    refine z_iload (pc := 77) C 6 rfl dX1_sample_77 ?_
    obtain ⟨c68, h⟩ := ifn h
    refine z_iaO (pc := 79) (k := 1) (j := 29) C 129 rfl (by decide) (by decide) (by decide) rfl rfl rfl rfl hv0 c68 rfl dX1_sample_79 ?_
    refine z_aload_n (pc := 80) C 0 rfl dX1_sample_80 ?_
    refine gX1_128 (pc := 81) C rfl hv0 dX1_sample_81 ?_
    refine z_iload (pc := 84) C 5 rfl dX1_sample_84 ?_
    obtain ⟨c69, h⟩ := ifn h
    refine z_iaO (pc := 86) (k := 1) (j := 28) C 128 rfl (by decide) (by decide) (by decide) rfl rfl rfl rfl hv0 c69 rfl dX1_sample_86 ?_
    refine z_ic_ge (pc := 87) C dX1_sample_87 (tgt := 96) (by decide) (fun c70 => ?_) (fun c70 => ?_)
    · have h := itt c70 h
      exact cB_X1_sample_96 C hk56 v0 v5 v6 v7 v8 v9 v10 M _ _ hv0 h hR
    · have h := itf c70 h
      refine z_iinc (pc := 90) C (lv' := [(0, .ref v0), (5, vI v5), (6, vI v6), (7, vI v7), (8, vI v8), (9, vI v9), (10, vI (v10 + 1))]) 6 rfl (by decide) rfl dX1_sample_90 ?_
      refine z_goto (pc := 93) C dX1_sample_93 (tgt := 66) (by decide) ?_
      exact hk66 v0 v5 v6 v7 v8 v9 (v10 + 1) M _ _ hv0 h hR
theorem cL_X1_sample_66 {X : x_Ctx} {M0 : Mem} (C : x_CC X 8 138 yX1_sample cX1_sample 12 (some .int) []) {k56 : Nat → Int → Int → Int → Int → Int → Mem → Option ((Int ⊕ Nat) × Mem)} (hk56 : ∀ (v0 : Nat) (v5 : Int) (v6 : Int) (v7 : Int) (v8 : Int) (v9 : Int) (M : Mem) (r : Int ⊕ Nat) (M' : Mem), m_kd M v0 = 1 → k56 v0 v5 v6 v7 v8 v9 M = some (r, M') → ocN r 4 4 ≤ (XR X).cells ∧ ocN r 303 303 ≤ (XR X).slots → x_Z X 0 0 (x_QF X M0 (ocI r) M' (ocN r 4 4) (ocN r 303 303)) M0 M 12 [(0, .ref v0), (5, vI v5), (6, vI v6), (7, vI v7), (8, vI v8), (9, vI v9)] 56 []) : ∀ (n : Nat) (v0 : Nat) (v5 : Int) (v6 : Int) (v7 : Int) (v8 : Int) (v9 : Int) (v10 : Int) (M : Mem) (r : Int ⊕ Nat) (M' : Mem) (hv0 : m_kd M v0 = 1) (h : L_X1_sample_66 k56 n v0 v5 v6 v7 v8 v9 v10 M = some (r, M')) (hR : ocN r 4 4 ≤ (XR X).cells ∧ ocN r 303 303 ≤ (XR X).slots), x_Z X 0 0 (x_QF X M0 (ocI r) M' (ocN r 4 4) (ocN r 303 303)) M0 M 12 [(0, .ref v0), (5, vI v5), (6, vI v6), (7, vI v7), (8, vI v8), (9, vI v9), (10, vI v10)] 66 [] := by
  intro n
  induction n with
  | zero => intro v0 v5 v6 v7 v8 v9 v10 M r M' hv0 h hR; cases h
  | succ n ih => intro v0 v5 v6 v7 v8 v9 v10 M r M' hv0 h hR; exact cB_X1_sample_66 C hk56 (fun v0 v5 v6 v7 v8 v9 v10 M r M' hv0 h hR => ih v0 v5 v6 v7 v8 v9 v10 M r M' hv0 h hR) v0 v5 v6 v7 v8 v9 v10 M r M' hv0 h hR
theorem cB_X1_sample_56 {X : x_Ctx} {M0 : Mem} (C : x_CC X 8 138 yX1_sample cX1_sample 12 (some .int) []) {k56 : Nat → Int → Int → Int → Int → Int → Mem → Option ((Int ⊕ Nat) × Mem)} (hk56 : ∀ (v0 : Nat) (v5 : Int) (v6 : Int) (v7 : Int) (v8 : Int) (v9 : Int) (M : Mem) (r : Int ⊕ Nat) (M' : Mem), m_kd M v0 = 1 → k56 v0 v5 v6 v7 v8 v9 M = some (r, M') → ocN r 4 4 ≤ (XR X).cells ∧ ocN r 303 303 ≤ (XR X).slots → x_Z X 0 0 (x_QF X M0 (ocI r) M' (ocN r 4 4) (ocN r 303 303)) M0 M 12 [(0, .ref v0), (5, vI v5), (6, vI v6), (7, vI v7), (8, vI v8), (9, vI v9)] 56 []) (v0 : Nat) (v5 : Int) (v6 : Int) (v7 : Int) (v8 : Int) (v9 : Int) (M : Mem) (r : Int ⊕ Nat) (M' : Mem) (hv0 : m_kd M v0 = 1) (h : B_X1_sample_56 k56 v0 v5 v6 v7 v8 v9 M = some (r, M')) (hR : ocN r 4 4 ≤ (XR X).cells ∧ ocN r 303 303 ≤ (XR X).slots) : x_Z X 0 0 (x_QF X M0 (ocI r) M' (ocN r 4 4) (ocN r 303 303)) M0 M 12 [(0, .ref v0), (5, vI v5), (6, vI v6), (7, vI v7), (8, vI v8), (9, vI v9)] 56 [] := by
  unfold B_X1_sample_56 at h
  refine z_iload (pc := 56) C 5 rfl dX1_sample_56 ?_
  refine z_iload (pc := 58) C 3 rfl dX1_sample_58 ?_
  refine z_ic_ge (pc := 60) C dX1_sample_60 (tgt := 211) (by decide) (fun c32 => ?_) (fun c32 => ?_)
  · have h := itt c32 h
    refine z_aload_n (pc := 211) C 0 rfl dX1_sample_211 ?_
    refine z_iload (pc := 212) C 4 rfl dX1_sample_212 ?_
    refine z_iload (pc := 214) C 1 rfl dX1_sample_214 ?_
    refine z_iload (pc := 216) C 3 rfl dX1_sample_216 ?_
    obtain ⟨r33, M34, e35, h⟩ := bNs h
    refine cX1_457 (pc := 218) (st := []) (st1 := []) C rfl (rm := { frames := 1, cells := 0, slots := 0, locals := 24 }) (ct_X1_share C.2.1 v0 v8 v5 v7 M _ _ hv0 e35) ⟨by decide, by decide, Nat.zero_le _, Nat.zero_le _⟩ (Or.inl hv0) rfl (Nat.le_of_ble_eq_true rfl) dX1_sample_218 (c2 := 0) (s2 := 0) rfl rfl (fun x36 => ?_)
    have k37 := x36 _ 1 (by decide) (Or.inl (by decide)) hv0
    refine nX1_10 (pc := 221) C rfl (a := m_sz M34) (Nat.le_trans (ocN_le (show 1 ≤ 4 from by decide) (show 1 ≤ 4 from by decide)) hR.1) (Nat.le_trans (ocN_le (show 3 ≤ 303 from by decide) (show 3 ≤ 303 from by decide)) hR.2) dX1_sample_221 (c2 := 1) (s2 := 3) rfl rfl rfl (fun k38 x39 => ?_)
    have k40 := x39.k k37 (by decide)
    refine z_dup (pc := 224) C rfl dX1_sample_224 ?_
    obtain ⟨r41, M42, e43, h⟩ := bNs h
    refine cX1_461 (pc := 225) (st := [.ref (m_sz M34)]) C rfl (rm := { frames := 1, cells := 3, slots := 300, locals := 24 }) (ct_X10_init C.2.1 (m_sz M34) (m_nw M34 110) _ _ k38 e43) ⟨by decide, by decide, Nat.le_trans (ocN_le (show 4 ≤ 4 from by decide) (show 4 ≤ 4 from by decide)) hR.1, Nat.le_trans (ocN_le (show 303 ≤ 303 from by decide) (show 303 ≤ 303 from by decide)) hR.2⟩ (Nat.le_of_ble_eq_true rfl) dX1_sample_225 (c2 := 4) (s2 := 303) rfl rfl (fun x44 => ?_)
    obtain ⟨c45, h⟩ := ifn h
    have k46 := x44 _ 1 (by decide) (Or.inl (by decide)) k40
    refine z_astore (pc := 228) C (lv' := [(0, .ref v0), (5, vI v5), (6, vI v6), (7, vI v7), (8, vI v8), (9, .ref (m_sz M34))]) (by decide) rfl dX1_sample_228 ?_
    refine z_iconst (pc := 230) C dX1_sample_230 ?_
    refine z_istore (pc := 231) C (lv' := [(0, .ref v0), (5, vI v5), (6, vI v6), (7, vI v7), (8, vI v8), (9, .ref (m_sz M34)), (10, vI 0)]) (by decide) rfl dX1_sample_231 ?_
    exact z_lv [0, 2, 3, 4, 5, 6] rfl <| cL_X1_sample_233 C FU v0 v6 v7 v8 (m_sz M34) 0 M42 _ _ k46 c45 h hR
  · have h := itf c32 h
    refine z_iconst (pc := 63) C dX1_sample_63 ?_
    refine z_istore (pc := 64) C (lv' := [(0, .ref v0), (5, vI v5), (6, vI v6), (7, vI v7), (8, vI v8), (9, vI v9), (10, vI 0)]) (by decide) rfl dX1_sample_64 ?_
    exact cL_X1_sample_66 C hk56 FU v0 v5 v6 v7 v8 v9 0 M _ _ hv0 h hR
theorem cL_X1_sample_56 {X : x_Ctx} {M0 : Mem} (C : x_CC X 8 138 yX1_sample cX1_sample 12 (some .int) [])  : ∀ (n : Nat) (v0 : Nat) (v5 : Int) (v6 : Int) (v7 : Int) (v8 : Int) (v9 : Int) (M : Mem) (r : Int ⊕ Nat) (M' : Mem) (hv0 : m_kd M v0 = 1) (h : L_X1_sample_56  n v0 v5 v6 v7 v8 v9 M = some (r, M')) (hR : ocN r 4 4 ≤ (XR X).cells ∧ ocN r 303 303 ≤ (XR X).slots), x_Z X 0 0 (x_QF X M0 (ocI r) M' (ocN r 4 4) (ocN r 303 303)) M0 M 12 [(0, .ref v0), (5, vI v5), (6, vI v6), (7, vI v7), (8, vI v8), (9, vI v9)] 56 [] := by
  intro n
  induction n with
  | zero => intro v0 v5 v6 v7 v8 v9 M r M' hv0 h hR; cases h
  | succ n ih => intro v0 v5 v6 v7 v8 v9 M r M' hv0 h hR; exact cB_X1_sample_56 C (fun v0 v5 v6 v7 v8 v9 M r M' hv0 h hR => ih v0 v5 v6 v7 v8 v9 M r M' hv0 h hR) v0 v5 v6 v7 v8 v9 M r M' hv0 h hR
theorem ct_X1_sample {l : Launch} {S0 : State} {D : va_G} {cA : Nat → ClassId} (hG : x_G l S0 D cA) (v0 : Nat) (v1 : Int) (v2 : Int) (v3 : Int) (v4 : Int) (v5 : Int) (v6 : Int) (M : Mem) (r : Int ⊕ Nat) (M' : Mem) (hv0 : m_kd M v0 = 1) (h : d_X1_sample v0 v1 v2 v3 v4 v5 v6 M = some (r, M')) : x_Me l S0 D cA yX1_sample cX1_sample 12 (some .int) [] ({ frames := 8, cells := (ocN r 4 4), slots := (ocN r 303 303), locals := 138 }) [.ref v0, vI v1, vI v2, vI v3, vI v4, vI v5, vI v6] M (ocI r) M' := by
  refine x_begin (F := 8) (Lo := 138) (mc := (ocN r 4 4)) (ms := (ocN r 303 303)) hG (Nat.le_of_ble_eq_true rfl) (lv := [(0, .ref v0), (1, vI v1), (2, vI v2), (3, vI v3), (4, vI v4), (5, vI v5), (6, vI v6)]) rfl rfl rfl rfl rfl (fun X e1 e2 e3 e4 e5 C => ?_)
  have hR : _ ∧ _ := ⟨Nat.le_of_eq (congrArg Room.cells e5).symm, Nat.le_of_eq (congrArg Room.slots e5).symm⟩
  unfold d_X1_sample at h
  refine z_iload_n (pc := 0) C 1 rfl dX1_sample_0 ?_
  rcases bTs h with ⟨x5, e3, er⟩ | ⟨r1, M2, e3, h⟩
  · subst er; exact tX1_183 (pc := 1) C rfl (rm := { frames := 7, cells := 1, slots := 6, locals := 114 }) (ct_X1_fieldIn C.2.1 v1 M _ _  e3) ⟨by decide, by decide, Nat.le_trans (show 1 ≤ 4 from by decide) hR.1, Nat.le_trans (show 6 ≤ 303 from by decide) hR.2⟩ (Nat.le_of_ble_eq_true rfl) dX1_sample_1 (by decide) (show 1 ≤ 4 from by decide) (show 6 ≤ 303 from by decide)
  refine cX1_183 (pc := 1) (st := []) (st1 := []) C rfl (rm := { frames := 7, cells := 0, slots := 0, locals := 114 }) (ct_X1_fieldIn C.2.1 v1 M _ _  e3) ⟨by decide, by decide, Nat.zero_le _, Nat.zero_le _⟩ rfl (Nat.le_of_ble_eq_true rfl) dX1_sample_1 (c2 := 0) (s2 := 0) rfl rfl (fun x4 => ?_)
  have k6 := x4 _ 1 (by decide) (Or.inl (by decide)) hv0
  refine z_iload (pc := 4) C 4 rfl dX1_sample_4 ?_
  rcases bTs h with ⟨x11, e9, er⟩ | ⟨r7, M8, e9, h⟩
  · subst er; exact tX1_183 (pc := 6) C rfl (rm := { frames := 7, cells := 1, slots := 6, locals := 114 }) (ct_X1_fieldIn C.2.1 v4 M2 _ _  e9) ⟨by decide, by decide, Nat.le_trans (show 1 ≤ 4 from by decide) hR.1, Nat.le_trans (show 6 ≤ 303 from by decide) hR.2⟩ (Nat.le_of_ble_eq_true rfl) dX1_sample_6 (by decide) (show 1 ≤ 4 from by decide) (show 6 ≤ 303 from by decide)
  refine cX1_183 (pc := 6) (st := []) (st1 := []) C rfl (rm := { frames := 7, cells := 0, slots := 0, locals := 114 }) (ct_X1_fieldIn C.2.1 v4 M2 _ _  e9) ⟨by decide, by decide, Nat.zero_le _, Nat.zero_le _⟩ rfl (Nat.le_of_ble_eq_true rfl) dX1_sample_6 (c2 := 0) (s2 := 0) rfl rfl (fun x10 => ?_)
  have k12 := x10 _ 1 (by decide) (Or.inl (by decide)) k6
  refine z_aload_n (pc := 9) C 0 rfl dX1_sample_9 ?_
  refine z_iload_n (pc := 10) C 1 rfl dX1_sample_10 ?_
  refine z_iload_n (pc := 11) C 2 rfl dX1_sample_11 ?_
  refine z_iload_n (pc := 12) C 3 rfl dX1_sample_12 ?_
  refine z_iload (pc := 13) C 4 rfl dX1_sample_13 ?_
  obtain ⟨r13, M14, e15, h⟩ := bNs h
  refine cX1_451 (pc := 15) (st := []) (st1 := [vI r13]) C rfl (rm := { frames := 3, cells := 0, slots := 0, locals := 83 }) (ct_X1_lookAtFrame C.2.1 v0 v1 v2 v3 v4 M8 _ _ k12 e15) ⟨by decide, by decide, Nat.zero_le _, Nat.zero_le _⟩ (Or.inl k12) rfl (Nat.le_of_ble_eq_true rfl) dX1_sample_15 (c2 := 0) (s2 := 0) rfl rfl (fun x16 => ?_)
  have k17 := x16 _ 1 (by decide) (Or.inl (by decide)) k12
  refine z_istore (pc := 18) C (lv' := [(0, .ref v0), (1, vI v1), (2, vI v2), (3, vI v3), (4, vI v4), (5, vI v5), (6, vI v6), (7, vI r13)]) (by decide) rfl dX1_sample_18 ?_
  refine z_iload (pc := 20) C 5 rfl dX1_sample_20 ?_
  refine z_i2l (pc := 22) C dX1_sample_22 ?_
  refine z_lconst (pc := 23) C (x := 0) (by decide +kernel) dX1_sample_23 ?_
  refine z_iload (pc := 24) C 7 rfl dX1_sample_24 ?_
  refine z_i2l (pc := 26) C dX1_sample_26 ?_
  refine cX1_159 (pc := 27) (st := []) (st1 := [vI (d_X1_isIn (w32 v5) 0 (w32 r13))]) C rfl (rm := { frames := 1, cells := 0, slots := 0, locals := 24 }) (ct_X1_isIn C.2.1 (w32 v5) 0 (w32 r13) M14 _  rfl) ⟨by decide, by decide, Nat.zero_le _, Nat.zero_le _⟩ rfl (Nat.le_of_ble_eq_true rfl) dX1_sample_27 (c2 := 0) (s2 := 0) rfl rfl (fun _ => ?_)
  rcases bTs h with ⟨x23, e21, er⟩ | ⟨r19, M20, e21, h⟩
  · subst er; exact tX1_164 (pc := 30) C rfl (rm := { frames := 6, cells := 1, slots := 6, locals := 90 }) (ct_X1_need C.2.1 (d_X1_isIn (w32 v5) 0 (w32 r13)) M14 _ _  e21) ⟨by decide, by decide, Nat.le_trans (show 1 ≤ 4 from by decide) hR.1, Nat.le_trans (show 6 ≤ 303 from by decide) hR.2⟩ (Nat.le_of_ble_eq_true rfl) dX1_sample_30 (by decide) (show 1 ≤ 4 from by decide) (show 6 ≤ 303 from by decide)
  refine cX1_164 (pc := 30) (st := []) (st1 := []) C rfl (rm := { frames := 6, cells := 0, slots := 0, locals := 90 }) (ct_X1_need C.2.1 (d_X1_isIn (w32 v5) 0 (w32 r13)) M14 _ _  e21) ⟨by decide, by decide, Nat.zero_le _, Nat.zero_le _⟩ rfl (Nat.le_of_ble_eq_true rfl) dX1_sample_30 (c2 := 0) (s2 := 0) rfl rfl (fun x22 => ?_)
  have k24 := x22 _ 1 (by decide) (Or.inl (by decide)) k17
  refine z_aload_n (pc := 33) C 0 rfl dX1_sample_33 ?_
  refine gX1_125 (pc := 34) C rfl (Or.inl k24) rfl dX1_sample_34 ?_
  refine z_bipush (pc := 37) C (by decide +kernel) dX1_sample_37 ?_
  refine z_ic_ge (pc := 39) C dX1_sample_39 (tgt := 46) (by decide) (fun c25 => ?_) (fun c25 => ?_)
  · have h := itt c25 h
    refine z_iconst (pc := 46) C dX1_sample_46 ?_
    rcases bTs h with ⟨x30, e28, er⟩ | ⟨r26, M27, e28, h⟩
    · subst er; exact tX1_176 (pc := 47) C rfl (rm := { frames := 6, cells := 1, slots := 6, locals := 90 }) (ct_X1_room C.2.1 0 M20 _ _  e28) ⟨by decide, by decide, Nat.le_trans (show 1 ≤ 4 from by decide) hR.1, Nat.le_trans (show 6 ≤ 303 from by decide) hR.2⟩ (Nat.le_of_ble_eq_true rfl) dX1_sample_47 (by decide) (show 1 ≤ 4 from by decide) (show 6 ≤ 303 from by decide)
    refine cX1_176 (pc := 47) (st := []) (st1 := []) C rfl (rm := { frames := 6, cells := 0, slots := 0, locals := 90 }) (ct_X1_room C.2.1 0 M20 _ _  e28) ⟨by decide, by decide, Nat.zero_le _, Nat.zero_le _⟩ rfl (Nat.le_of_ble_eq_true rfl) dX1_sample_47 (c2 := 0) (s2 := 0) rfl rfl (fun x29 => ?_)
    have k31 := x29 _ 1 (by decide) (Or.inl (by decide)) k24
    refine z_iconst (pc := 50) C dX1_sample_50 ?_
    refine z_istore (pc := 51) C (lv' := [(0, .ref v0), (1, vI v1), (2, vI v2), (3, vI v3), (4, vI v4), (5, vI v5), (6, vI v6), (7, vI r13), (8, vI 0)]) (by decide) rfl dX1_sample_51 ?_
    refine z_iconst (pc := 53) C dX1_sample_53 ?_
    refine z_istore (pc := 54) C (lv' := [(0, .ref v0), (1, vI v1), (2, vI v2), (3, vI v3), (4, vI v4), (5, vI v5), (6, vI v6), (7, vI r13), (8, vI 0), (9, vI 0)]) (by decide) rfl dX1_sample_54 ?_
    exact z_lv [0, 5, 6, 7, 8, 9] rfl <| cL_X1_sample_56 C FU v0 v5 v6 r13 0 0 M27 _ _ k31 h hR
  · have h := itf c25 h
    refine z_iconst (pc := 42) C dX1_sample_42 ?_
    refine z_goto (pc := 43) C dX1_sample_43 (tgt := 47) (by decide) ?_
    rcases bTs h with ⟨x75, e73, er⟩ | ⟨r71, M72, e73, h⟩
    · subst er; exact tX1_176 (pc := 47) C rfl (rm := { frames := 6, cells := 1, slots := 6, locals := 90 }) (ct_X1_room C.2.1 1 M20 _ _  e73) ⟨by decide, by decide, Nat.le_trans (show 1 ≤ 4 from by decide) hR.1, Nat.le_trans (show 6 ≤ 303 from by decide) hR.2⟩ (Nat.le_of_ble_eq_true rfl) dX1_sample_47 (by decide) (show 1 ≤ 4 from by decide) (show 6 ≤ 303 from by decide)
    refine cX1_176 (pc := 47) (st := []) (st1 := []) C rfl (rm := { frames := 6, cells := 0, slots := 0, locals := 90 }) (ct_X1_room C.2.1 1 M20 _ _  e73) ⟨by decide, by decide, Nat.zero_le _, Nat.zero_le _⟩ rfl (Nat.le_of_ble_eq_true rfl) dX1_sample_47 (c2 := 0) (s2 := 0) rfl rfl (fun x74 => ?_)
    have k76 := x74 _ 1 (by decide) (Or.inl (by decide)) k24
    refine z_iconst (pc := 50) C dX1_sample_50 ?_
    refine z_istore (pc := 51) C (lv' := [(0, .ref v0), (1, vI v1), (2, vI v2), (3, vI v3), (4, vI v4), (5, vI v5), (6, vI v6), (7, vI r13), (8, vI 0)]) (by decide) rfl dX1_sample_51 ?_
    refine z_iconst (pc := 53) C dX1_sample_53 ?_
    refine z_istore (pc := 54) C (lv' := [(0, .ref v0), (1, vI v1), (2, vI v2), (3, vI v3), (4, vI v4), (5, vI v5), (6, vI v6), (7, vI r13), (8, vI 0), (9, vI 0)]) (by decide) rfl dX1_sample_54 ?_
    exact z_lv [0, 5, 6, 7, 8, 9] rfl <| cL_X1_sample_56 C FU v0 v5 v6 r13 0 0 M72 _ _ k76 h hR
def d_X0_sample (v0 : Nat) (v1 : Int) (v2 : Int) (v3 : Int) (v4 : Int) (v5 : Int) (v6 : Int) (v7 : Nat) (M : Mem) : Option (Int × Mem) :=
  bC (d_X1_sample v0 v1 v2 v3 v4 v5 v6 M) (fun r1 M3 =>
    some (0, (m_si M3 9000 v7 (ixn 0) (w32 r1)))) (fun q2 M3 =>
    if m_kd M3 q2 = 115 then
      some (1, M3)
    else
      if m_kd M3 q2 = 113 then
        some (2, M3)
      else
        if m_kd M3 q2 = 114 then
          some (3, M3)
        else
          none)
theorem ct_X0_sample {l : Launch} {S0 : State} {D : va_G} {cA : Nat → ClassId} (hG : x_G l S0 D cA) (v0 : Nat) (v1 : Int) (v2 : Int) (v3 : Int) (v4 : Int) (v5 : Int) (v6 : Int) (v7 : Nat) (M : Mem) (r : Int) (M' : Mem) (hv0 : m_kd M v0 = 1) (hv7 : m_kd M v7 = 19000) (h : d_X0_sample v0 v1 v2 v3 v4 v5 v6 v7 M = some (r, M')) : x_Me l S0 D cA yX0_sample cX0_sample 9 (some .int) [(0, 18, 21, 25), (0, 18, 25, 13), (0, 18, 29, 19)] ({ frames := 9, cells := 4, slots := 303, locals := 173 }) [.ref v0, vI v1, vI v2, vI v3, vI v4, vI v5, vI v6, .ref v7] M (.returned (some (vI r))) M' := by
  refine x_begin (F := 9) (Lo := 173) (mc := 4) (ms := 303) hG (Nat.le_of_ble_eq_true rfl) (lv := [(0, .ref v0), (1, vI v1), (2, vI v2), (3, vI v3), (4, vI v4), (5, vI v5), (6, vI v6), (7, .ref v7)]) rfl rfl rfl rfl rfl (fun X e1 e2 e3 e4 e5 C => ?_)
  have hR : _ ∧ _ := ⟨Nat.le_of_eq (congrArg Room.cells e5).symm, Nat.le_of_eq (congrArg Room.slots e5).symm⟩
  unfold d_X0_sample at h
  refine z_aload (pc := 0) C 7 rfl dX0_sample_0 ?_
  refine z_iconst (pc := 2) C dX0_sample_2 ?_
  refine z_aload_n (pc := 3) C 0 rfl dX0_sample_3 ?_
  refine z_iload_n (pc := 4) C 1 rfl dX0_sample_4 ?_
  refine z_iload_n (pc := 5) C 2 rfl dX0_sample_5 ?_
  refine z_iload_n (pc := 6) C 3 rfl dX0_sample_6 ?_
  refine z_iload (pc := 7) C 4 rfl dX0_sample_7 ?_
  refine z_iload (pc := 9) C 5 rfl dX0_sample_9 ?_
  refine z_iload (pc := 11) C 6 rfl dX0_sample_11 ?_
  rcases bCs h with ⟨r1, M3, e4, h⟩ | ⟨q2, M3, e4, h⟩
  · refine cX0_94 (pc := 13) (st := [vI 0, .ref v7]) (st1 := [vI r1, vI 0, .ref v7]) C rfl (rm := { frames := 8, cells := 4, slots := 303, locals := 138 }) (ct_X1_sample C.2.1 v0 v1 v2 v3 v4 v5 v6 M _ _ hv0 e4) ⟨by decide, by decide, Nat.le_trans (show 4 ≤ 4 from by decide) hR.1, Nat.le_trans (show 303 ≤ 303 from by decide) hR.2⟩ (Or.inl hv0) rfl (Nat.le_of_ble_eq_true rfl) dX0_sample_13 (c2 := 4) (s2 := 303) rfl rfl (fun x5 => ?_)
    have k6 := x5 _ 19000 (by decide) (Or.inr (by decide)) hv7
    refine z_i2l (pc := 16) C dX0_sample_16 ?_
    refine z_lsw (pc := 17) C k6 (by decide +kernel) dX0_sample_17 ?_
    refine z_goto (pc := 18) C dX0_sample_18 (tgt := 33) (by decide) ?_
    refine z_iconst (pc := 33) C dX0_sample_33 ?_
    cases h
    exact z_iret (pc := 34) C rfl (show 4 ≤ 4 from by decide) (show 303 ≤ 303 from by decide) dX0_sample_34
  · by_cases c7 : m_kd M3 q2 = 115
    · have h := itt c7 h
      refine kX0_94 (pc := 13) (st := [vI 0, .ref v7]) C rfl (rm := { frames := 8, cells := 4, slots := 303, locals := 138 }) (r := q2) (ct_X1_sample C.2.1 v0 v1 v2 v3 v4 v5 v6 M _ _ hv0 e4) ⟨by decide, by decide, Nat.le_trans (show 4 ≤ 4 from by decide) hR.1, Nat.le_trans (show 303 ≤ 303 from by decide) hR.2⟩ (Or.inl hv0) (Nat.le_of_ble_eq_true rfl) dX0_sample_13 (e := 15) (hpc := 21) (by decide) (Or.inr c7) (Or.inr ⟨by decide, by decide, 15, by decide, q560, Or.inl ⟨rfl, rfl⟩⟩) (c2 := 4) (s2 := 303) rfl rfl (fun x8 => ?_)
      refine z_astore (pc := 21) C (lv' := [(0, .ref v0), (1, vI v1), (2, vI v2), (3, vI v3), (4, vI v4), (5, vI v5), (6, vI v6), (7, .ref v7), (8, .ref q2)]) (by decide) rfl dX0_sample_21 ?_
      refine z_iconst (pc := 23) C dX0_sample_23 ?_
      cases h
      exact z_iret (pc := 24) C rfl (show 4 ≤ 4 from by decide) (show 303 ≤ 303 from by decide) dX0_sample_24
    · have h := itf c7 h
      by_cases c9 : m_kd M3 q2 = 113
      · have h := itt c9 h
        refine kX0_94 (pc := 13) (st := [vI 0, .ref v7]) C rfl (rm := { frames := 8, cells := 4, slots := 303, locals := 138 }) (r := q2) (ct_X1_sample C.2.1 v0 v1 v2 v3 v4 v5 v6 M _ _ hv0 e4) ⟨by decide, by decide, Nat.le_trans (show 4 ≤ 4 from by decide) hR.1, Nat.le_trans (show 303 ≤ 303 from by decide) hR.2⟩ (Or.inl hv0) (Nat.le_of_ble_eq_true rfl) dX0_sample_13 (e := 13) (hpc := 25) (by decide) (Or.inr c9) (Or.inr ⟨by decide, by decide, 15, by decide, q560, Or.inr ⟨by decide, Or.inr ⟨by decide, by decide, 13, by decide, q447, Or.inl ⟨rfl, rfl⟩⟩⟩⟩) (c2 := 4) (s2 := 303) rfl rfl (fun x10 => ?_)
        refine z_astore (pc := 25) C (lv' := [(0, .ref v0), (1, vI v1), (2, vI v2), (3, vI v3), (4, vI v4), (5, vI v5), (6, vI v6), (7, .ref v7), (8, .ref q2)]) (by decide) rfl dX0_sample_25 ?_
        refine z_iconst (pc := 27) C dX0_sample_27 ?_
        cases h
        exact z_iret (pc := 28) C rfl (show 4 ≤ 4 from by decide) (show 303 ≤ 303 from by decide) dX0_sample_28
      · have h := itf c9 h
        by_cases c11 : m_kd M3 q2 = 114
        · have h := itt c11 h
          refine kX0_94 (pc := 13) (st := [vI 0, .ref v7]) C rfl (rm := { frames := 8, cells := 4, slots := 303, locals := 138 }) (r := q2) (ct_X1_sample C.2.1 v0 v1 v2 v3 v4 v5 v6 M _ _ hv0 e4) ⟨by decide, by decide, Nat.le_trans (show 4 ≤ 4 from by decide) hR.1, Nat.le_trans (show 303 ≤ 303 from by decide) hR.2⟩ (Or.inl hv0) (Nat.le_of_ble_eq_true rfl) dX0_sample_13 (e := 14) (hpc := 29) (by decide) (Or.inr c11) (Or.inr ⟨by decide, by decide, 15, by decide, q560, Or.inr ⟨by decide, Or.inr ⟨by decide, by decide, 13, by decide, q447, Or.inr ⟨by decide, Or.inr ⟨by decide, by decide, 14, by decide, q533, Or.inl ⟨rfl, rfl⟩⟩⟩⟩⟩⟩) (c2 := 4) (s2 := 303) rfl rfl (fun x12 => ?_)
          refine z_astore (pc := 29) C (lv' := [(0, .ref v0), (1, vI v1), (2, vI v2), (3, vI v3), (4, vI v4), (5, vI v5), (6, vI v6), (7, .ref v7), (8, .ref q2)]) (by decide) rfl dX0_sample_29 ?_
          refine z_iconst (pc := 31) C dX0_sample_31 ?_
          cases h
          exact z_iret (pc := 32) C rfl (show 4 ≤ 4 from by decide) (show 303 ≤ 303 from by decide) dX0_sample_32
        · have h := itf c11 h
          cases h
def d_X1_sampleOf (v0 : Nat) (v1 : Int) (M : Mem) : Option ((Nat ⊕ Nat) × Mem) :=
  bT (d_X1_inside (d_X1_isIn (w32 v1) 0 (w32 ((m_i M 125 v0 0) - 1))) M) fun r5 M6 => 
  if inb v1 12 then 
  bR (m_r M6 126 v0 (ixn v1)) fun q12 => 
  some (.inl q12, M6) else none
theorem ct_X1_sampleOf {l : Launch} {S0 : State} {D : va_G} {cA : Nat → ClassId} (hG : x_G l S0 D cA) (v0 : Nat) (v1 : Int) (M : Mem) (r : Nat ⊕ Nat) (M' : Mem) (hv0 : m_kd M v0 = 1) (h : d_X1_sampleOf v0 v1 M = some (r, M')) : x_Me l S0 D cA yX1_sampleOf cX1_sampleOf 2 (some (.object "CensusOffice$Sample")) [] ({ frames := 7, cells := (ocN r 0 1), slots := (ocN r 0 6), locals := 114 }) [.ref v0, vI v1] M (ocR r) M' := by
  refine x_begin (F := 7) (Lo := 114) (mc := (ocN r 0 1)) (ms := (ocN r 0 6)) hG (Nat.le_of_ble_eq_true rfl) (lv := [(0, .ref v0), (1, vI v1)]) rfl rfl rfl rfl rfl (fun X e1 e2 e3 e4 e5 C => ?_)
  have hR : _ ∧ _ := ⟨Nat.le_of_eq (congrArg Room.cells e5).symm, Nat.le_of_eq (congrArg Room.slots e5).symm⟩
  unfold d_X1_sampleOf at h
  refine z_iload_n (pc := 0) C 1 rfl dX1_sampleOf_0 ?_
  refine z_i2l (pc := 1) C dX1_sampleOf_1 ?_
  refine z_lconst (pc := 2) C (x := 0) (by decide +kernel) dX1_sampleOf_2 ?_
  refine z_aload_n (pc := 3) C 0 rfl dX1_sampleOf_3 ?_
  refine gX1_125 (pc := 4) C rfl (Or.inl hv0) rfl dX1_sampleOf_4 ?_
  refine z_iconst (pc := 7) C dX1_sampleOf_7 ?_
  refine z_isub (pc := 8) C dX1_sampleOf_8 ?_
  refine z_i2l (pc := 9) C dX1_sampleOf_9 ?_
  refine cX1_159 (pc := 10) (st := []) (st1 := [vI (d_X1_isIn (w32 v1) 0 (w32 ((m_i M 125 v0 0) - 1)))]) C rfl (rm := { frames := 1, cells := 0, slots := 0, locals := 24 }) (ct_X1_isIn C.2.1 (w32 v1) 0 (w32 ((m_i M 125 v0 0) - 1)) M _  rfl) ⟨by decide, by decide, Nat.zero_le _, Nat.zero_le _⟩ rfl (Nat.le_of_ble_eq_true rfl) dX1_sampleOf_10 (c2 := 0) (s2 := 0) rfl rfl (fun _ => ?_)
  rcases bTs h with ⟨x9, e7, er⟩ | ⟨r5, M6, e7, h⟩
  · subst er; exact tX1_171 (pc := 13) C rfl (rm := { frames := 6, cells := 1, slots := 6, locals := 90 }) (ct_X1_inside C.2.1 (d_X1_isIn (w32 v1) 0 (w32 ((m_i M 125 v0 0) - 1))) M _ _  e7) ⟨by decide, by decide, Nat.le_trans (show 1 ≤ 1 from by decide) hR.1, Nat.le_trans (show 6 ≤ 6 from by decide) hR.2⟩ (Nat.le_of_ble_eq_true rfl) dX1_sampleOf_13 (by decide) (show 1 ≤ 1 from by decide) (show 6 ≤ 6 from by decide)
  refine cX1_171 (pc := 13) (st := []) (st1 := []) C rfl (rm := { frames := 6, cells := 0, slots := 0, locals := 90 }) (ct_X1_inside C.2.1 (d_X1_isIn (w32 v1) 0 (w32 ((m_i M 125 v0 0) - 1))) M _ _  e7) ⟨by decide, by decide, Nat.zero_le _, Nat.zero_le _⟩ rfl (Nat.le_of_ble_eq_true rfl) dX1_sampleOf_13 (c2 := 0) (s2 := 0) rfl rfl (fun x8 => ?_)
  have k10 := x8 _ 1 (by decide) (Or.inl (by decide)) hv0
  refine z_aload_n (pc := 16) C 0 rfl dX1_sampleOf_16 ?_
  refine gX1_126 (pc := 17) C rfl k10 dX1_sampleOf_17 ?_
  refine z_iload_n (pc := 20) C 1 rfl dX1_sampleOf_20 ?_
  obtain ⟨c11, h⟩ := ifn h
  obtain ⟨q12, e13, h⟩ := bRs h
  refine z_aaO (pc := 21) (k := 1) (j := 26) C 126 rfl (by decide) (by decide) (by decide) rfl rfl (by decide) (by decide) rfl k10 c11 rfl (by decide) e13 dX1_sampleOf_21 (fun k14 => ?_)
  cases h
  exact z_aret (pc := 22) C rfl (show 0 ≤ 0 from by decide) (show 0 ≤ 0 from by decide) dX1_sampleOf_22
def B_X1_drawn_24 (k24 : Int → Nat → Int → Int → Mem → Option ((Int ⊕ Nat) × Mem)) (v2 : Int) (v3 : Nat) (v4 : Int) (v5 : Int) (M : Mem) : Option ((Int ⊕ Nat) × Mem) :=
  if w32 100 ≤ w32 v5 then
    some (.inl (-1), M)
  else
    if inb v5 100 then 
    if w32 (m_i M 1000 v3 (ixn v5)) = 0 then
      k24 v2 v3 v4 (v5 + 1) M
    else
      if w32 v4 = w32 v2 then
        some (.inl v5, M)
      else
        k24 v2 v3 (v4 + 1) (v5 + 1) M else none
def L_X1_drawn_24  : Nat → Int → Nat → Int → Int → Mem → Option ((Int ⊕ Nat) × Mem)
  | 0, _, _, _, _, _ => none
  | n + 1, v2, v3, v4, v5, M => B_X1_drawn_24 (L_X1_drawn_24  n) v2 v3 v4 v5 M
def d_X1_drawn (v0 : Nat) (v1 : Int) (v2 : Int) (M : Mem) : Option ((Int ⊕ Nat) × Mem) :=
  bT (d_X1_sampleOf v0 v1 M) fun r1 M2 => 
  if m_kd M2 r1 = 10 then 
  if w32 v2 < 0 then
    bT (d_X1_inside 0 M2) fun r8 M9 => 
    L_X1_drawn_24 FU v2 r1 0 0 M9
  else
    bT (d_X1_inside 1 M2) fun r18 M19 => 
    L_X1_drawn_24 FU v2 r1 0 0 M19 else none
theorem cB_X1_drawn_24 {X : x_Ctx} {M0 : Mem} (C : x_CC X 8 139 yX1_drawn cX1_drawn 6 (some .int) []) {k24 : Int → Nat → Int → Int → Mem → Option ((Int ⊕ Nat) × Mem)} (hk24 : ∀ (v2 : Int) (v3 : Nat) (v4 : Int) (v5 : Int) (M : Mem) (r : Int ⊕ Nat) (M' : Mem), m_kd M v3 = 10 → k24 v2 v3 v4 v5 M = some (r, M') → ocN r 0 1 ≤ (XR X).cells ∧ ocN r 0 6 ≤ (XR X).slots → x_Z X 0 0 (x_QF X M0 (ocI r) M' (ocN r 0 1) (ocN r 0 6)) M0 M 6 [(2, vI v2), (3, .ref v3), (4, vI v4), (5, vI v5)] 24 []) (v2 : Int) (v3 : Nat) (v4 : Int) (v5 : Int) (M : Mem) (r : Int ⊕ Nat) (M' : Mem) (hv3 : m_kd M v3 = 10) (h : B_X1_drawn_24 k24 v2 v3 v4 v5 M = some (r, M')) (hR : ocN r 0 1 ≤ (XR X).cells ∧ ocN r 0 6 ≤ (XR X).slots) : x_Z X 0 0 (x_QF X M0 (ocI r) M' (ocN r 0 1) (ocN r 0 6)) M0 M 6 [(2, vI v2), (3, .ref v3), (4, vI v4), (5, vI v5)] 24 [] := by
  unfold B_X1_drawn_24 at h
  refine z_iload (pc := 24) C 3 rfl dX1_drawn_24 ?_
  refine z_bipush (pc := 26) C (by decide +kernel) dX1_drawn_26 ?_
  refine z_ic_ge (pc := 28) C dX1_drawn_28 (tgt := 62) (by decide) (fun c14 => ?_) (fun c14 => ?_)
  · have h := itt c14 h
    refine z_iconst (pc := 62) C dX1_drawn_62 ?_
    cases h
    exact z_iret (pc := 63) C rfl (show 0 ≤ 0 from by decide) (show 0 ≤ 0 from by decide) dX1_drawn_63
  · have h := itf c14 h
    refine z_aload_n (pc := 31) C 1 rfl dX1_drawn_31 ?_
    refine gX1_1000 (pc := 32) C rfl hv3 dX1_drawn_32 ?_
    refine z_iload (pc := 35) C 3 rfl dX1_drawn_35 ?_
    obtain ⟨c15, h⟩ := ifn h
    refine z_zaO (pc := 37) (k := 10) (j := 0) C 1000 rfl (by decide) (by decide) (by decide) rfl rfl rfl rfl hv3 c15 rfl dX1_drawn_37 ?_
    refine z_if_ne (pc := 38) C dX1_drawn_38 (tgt := 44) (by decide) (fun c16 => ?_) (fun c16 => ?_)
    · have h := itf c16 h
      refine z_iload (pc := 44) C 2 rfl dX1_drawn_44 ?_
      refine z_iload_n (pc := 46) C 0 rfl dX1_drawn_46 ?_
      refine z_ic_ne (pc := 47) C dX1_drawn_47 (tgt := 53) (by decide) (fun c17 => ?_) (fun c17 => ?_)
      · have h := itf c17 h
        refine z_iinc (pc := 53) C (lv' := [(2, vI v2), (3, .ref v3), (4, vI (v4 + 1)), (5, vI v5)]) 2 rfl (by decide) rfl dX1_drawn_53 ?_
        refine z_iinc (pc := 56) C (lv' := [(2, vI v2), (3, .ref v3), (4, vI (v4 + 1)), (5, vI (v5 + 1))]) 3 rfl (by decide) rfl dX1_drawn_56 ?_
        refine z_goto (pc := 59) C dX1_drawn_59 (tgt := 24) (by decide) ?_
        exact hk24 v2 v3 (v4 + 1) (v5 + 1) M _ _ hv3 h hR
      · have h := itt c17 h
        refine z_iload (pc := 50) C 3 rfl dX1_drawn_50 ?_
        cases h
        exact z_iret (pc := 52) C rfl (show 0 ≤ 0 from by decide) (show 0 ≤ 0 from by decide) dX1_drawn_52
    · have h := itt c16 h
      refine z_goto (pc := 41) C dX1_drawn_41 (tgt := 56) (by decide) ?_
      refine z_iinc (pc := 56) C (lv' := [(2, vI v2), (3, .ref v3), (4, vI v4), (5, vI (v5 + 1))]) 3 rfl (by decide) rfl dX1_drawn_56 ?_
      refine z_goto (pc := 59) C dX1_drawn_59 (tgt := 24) (by decide) ?_
      exact hk24 v2 v3 v4 (v5 + 1) M _ _ hv3 h hR
theorem cL_X1_drawn_24 {X : x_Ctx} {M0 : Mem} (C : x_CC X 8 139 yX1_drawn cX1_drawn 6 (some .int) [])  : ∀ (n : Nat) (v2 : Int) (v3 : Nat) (v4 : Int) (v5 : Int) (M : Mem) (r : Int ⊕ Nat) (M' : Mem) (hv3 : m_kd M v3 = 10) (h : L_X1_drawn_24  n v2 v3 v4 v5 M = some (r, M')) (hR : ocN r 0 1 ≤ (XR X).cells ∧ ocN r 0 6 ≤ (XR X).slots), x_Z X 0 0 (x_QF X M0 (ocI r) M' (ocN r 0 1) (ocN r 0 6)) M0 M 6 [(2, vI v2), (3, .ref v3), (4, vI v4), (5, vI v5)] 24 [] := by
  intro n
  induction n with
  | zero => intro v2 v3 v4 v5 M r M' hv3 h hR; cases h
  | succ n ih => intro v2 v3 v4 v5 M r M' hv3 h hR; exact cB_X1_drawn_24 C (fun v2 v3 v4 v5 M r M' hv3 h hR => ih v2 v3 v4 v5 M r M' hv3 h hR) v2 v3 v4 v5 M r M' hv3 h hR
theorem ct_X1_drawn {l : Launch} {S0 : State} {D : va_G} {cA : Nat → ClassId} (hG : x_G l S0 D cA) (v0 : Nat) (v1 : Int) (v2 : Int) (M : Mem) (r : Int ⊕ Nat) (M' : Mem) (hv0 : m_kd M v0 = 1) (h : d_X1_drawn v0 v1 v2 M = some (r, M')) : x_Me l S0 D cA yX1_drawn cX1_drawn 6 (some .int) [] ({ frames := 8, cells := (ocN r 0 1), slots := (ocN r 0 6), locals := 139 }) [.ref v0, vI v1, vI v2] M (ocI r) M' := by
  refine x_begin (F := 8) (Lo := 139) (mc := (ocN r 0 1)) (ms := (ocN r 0 6)) hG (Nat.le_of_ble_eq_true rfl) (lv := [(0, .ref v0), (1, vI v1), (2, vI v2)]) rfl rfl rfl rfl rfl (fun X e1 e2 e3 e4 e5 C => ?_)
  have hR : _ ∧ _ := ⟨Nat.le_of_eq (congrArg Room.cells e5).symm, Nat.le_of_eq (congrArg Room.slots e5).symm⟩
  unfold d_X1_drawn at h
  refine z_aload_n (pc := 0) C 0 rfl dX1_drawn_0 ?_
  refine z_iload_n (pc := 1) C 1 rfl dX1_drawn_1 ?_
  rcases bTs h with ⟨x5, e3, er⟩ | ⟨r1, M2, e3, h⟩
  · subst er; exact tX1_478 (pc := 2) C rfl (rm := { frames := 7, cells := 1, slots := 6, locals := 114 }) (ct_X1_sampleOf C.2.1 v0 v1 M _ _ hv0 e3) ⟨by decide, by decide, Nat.le_trans (show 1 ≤ 1 from by decide) hR.1, Nat.le_trans (show 6 ≤ 6 from by decide) hR.2⟩ (Or.inl hv0) (Nat.le_of_ble_eq_true rfl) dX1_drawn_2 (by decide) (show 1 ≤ 1 from by decide) (show 6 ≤ 6 from by decide)
  refine cX1_478 (pc := 2) (st := []) (st1 := [.ref r1]) C rfl (rm := { frames := 7, cells := 0, slots := 0, locals := 114 }) (ct_X1_sampleOf C.2.1 v0 v1 M _ _ hv0 e3) ⟨by decide, by decide, Nat.zero_le _, Nat.zero_le _⟩ (Or.inl hv0) rfl (Nat.le_of_ble_eq_true rfl) dX1_drawn_2 (c2 := 0) (s2 := 0) rfl rfl (fun x4 => ?_)
  obtain ⟨c6, h⟩ := ifn h
  refine z_astore_n (pc := 5) C (lv' := [(0, .ref v0), (1, vI v1), (2, vI v2), (3, .ref r1)]) (by decide) rfl dX1_drawn_5 ?_
  refine z_iload_n (pc := 6) C 2 rfl dX1_drawn_6 ?_
  refine z_if_lt (pc := 7) C dX1_drawn_7 (tgt := 14) (by decide) (fun c7 => ?_) (fun c7 => ?_)
  · have h := itt c7 h
    refine z_iconst (pc := 14) C dX1_drawn_14 ?_
    rcases bTs h with ⟨x12, e10, er⟩ | ⟨r8, M9, e10, h⟩
    · subst er; exact tX1_171 (pc := 15) C rfl (rm := { frames := 6, cells := 1, slots := 6, locals := 90 }) (ct_X1_inside C.2.1 0 M2 _ _  e10) ⟨by decide, by decide, Nat.le_trans (show 1 ≤ 1 from by decide) hR.1, Nat.le_trans (show 6 ≤ 6 from by decide) hR.2⟩ (Nat.le_of_ble_eq_true rfl) dX1_drawn_15 (by decide) (show 1 ≤ 1 from by decide) (show 6 ≤ 6 from by decide)
    refine cX1_171 (pc := 15) (st := []) (st1 := []) C rfl (rm := { frames := 6, cells := 0, slots := 0, locals := 90 }) (ct_X1_inside C.2.1 0 M2 _ _  e10) ⟨by decide, by decide, Nat.zero_le _, Nat.zero_le _⟩ rfl (Nat.le_of_ble_eq_true rfl) dX1_drawn_15 (c2 := 0) (s2 := 0) rfl rfl (fun x11 => ?_)
    have k13 := x11 _ 10 (by decide) (Or.inl (by decide)) c6
    refine z_iconst (pc := 18) C dX1_drawn_18 ?_
    refine z_istore (pc := 19) C (lv' := [(0, .ref v0), (1, vI v1), (2, vI v2), (3, .ref r1), (4, vI 0)]) (by decide) rfl dX1_drawn_19 ?_
    refine z_iconst (pc := 21) C dX1_drawn_21 ?_
    refine z_istore (pc := 22) C (lv' := [(0, .ref v0), (1, vI v1), (2, vI v2), (3, .ref r1), (4, vI 0), (5, vI 0)]) (by decide) rfl dX1_drawn_22 ?_
    exact z_lv [2, 3, 4, 5] rfl <| cL_X1_drawn_24 C FU v2 r1 0 0 M9 _ _ k13 h hR
  · have h := itf c7 h
    refine z_iconst (pc := 10) C dX1_drawn_10 ?_
    refine z_goto (pc := 11) C dX1_drawn_11 (tgt := 15) (by decide) ?_
    rcases bTs h with ⟨x22, e20, er⟩ | ⟨r18, M19, e20, h⟩
    · subst er; exact tX1_171 (pc := 15) C rfl (rm := { frames := 6, cells := 1, slots := 6, locals := 90 }) (ct_X1_inside C.2.1 1 M2 _ _  e20) ⟨by decide, by decide, Nat.le_trans (show 1 ≤ 1 from by decide) hR.1, Nat.le_trans (show 6 ≤ 6 from by decide) hR.2⟩ (Nat.le_of_ble_eq_true rfl) dX1_drawn_15 (by decide) (show 1 ≤ 1 from by decide) (show 6 ≤ 6 from by decide)
    refine cX1_171 (pc := 15) (st := []) (st1 := []) C rfl (rm := { frames := 6, cells := 0, slots := 0, locals := 90 }) (ct_X1_inside C.2.1 1 M2 _ _  e20) ⟨by decide, by decide, Nat.zero_le _, Nat.zero_le _⟩ rfl (Nat.le_of_ble_eq_true rfl) dX1_drawn_15 (c2 := 0) (s2 := 0) rfl rfl (fun x21 => ?_)
    have k23 := x21 _ 10 (by decide) (Or.inl (by decide)) c6
    refine z_iconst (pc := 18) C dX1_drawn_18 ?_
    refine z_istore (pc := 19) C (lv' := [(0, .ref v0), (1, vI v1), (2, vI v2), (3, .ref r1), (4, vI 0)]) (by decide) rfl dX1_drawn_19 ?_
    refine z_iconst (pc := 21) C dX1_drawn_21 ?_
    refine z_istore (pc := 22) C (lv' := [(0, .ref v0), (1, vI v1), (2, vI v2), (3, .ref r1), (4, vI 0), (5, vI 0)]) (by decide) rfl dX1_drawn_22 ?_
    exact z_lv [2, 3, 4, 5] rfl <| cL_X1_drawn_24 C FU v2 r1 0 0 M19 _ _ k23 h hR
def d_X0_drawn (v0 : Nat) (v1 : Int) (v2 : Int) (v3 : Nat) (M : Mem) : Option (Int × Mem) :=
  bC (d_X1_drawn v0 v1 v2 M) (fun r1 M3 =>
    some (0, (m_si M3 9000 v3 (ixn 0) (w32 r1)))) (fun q2 M3 =>
    if m_kd M3 q2 = 115 then
      some (1, M3)
    else
      none)
theorem ct_X0_drawn {l : Launch} {S0 : State} {D : va_G} {cA : Nat → ClassId} (hG : x_G l S0 D cA) (v0 : Nat) (v1 : Int) (v2 : Int) (v3 : Nat) (M : Mem) (r : Int) (M' : Mem) (hv0 : m_kd M v0 = 1) (hv3 : m_kd M v3 = 19000) (h : d_X0_drawn v0 v1 v2 v3 M = some (r, M')) : x_Me l S0 D cA yX0_drawn cX0_drawn 5 (some .int) [(0, 10, 13, 25)] ({ frames := 9, cells := 1, slots := 6, locals := 168 }) [.ref v0, vI v1, vI v2, .ref v3] M (.returned (some (vI r))) M' := by
  refine x_begin (F := 9) (Lo := 168) (mc := 1) (ms := 6) hG (Nat.le_of_ble_eq_true rfl) (lv := [(0, .ref v0), (1, vI v1), (2, vI v2), (3, .ref v3)]) rfl rfl rfl rfl rfl (fun X e1 e2 e3 e4 e5 C => ?_)
  have hR : _ ∧ _ := ⟨Nat.le_of_eq (congrArg Room.cells e5).symm, Nat.le_of_eq (congrArg Room.slots e5).symm⟩
  unfold d_X0_drawn at h
  refine z_aload_n (pc := 0) C 3 rfl dX0_drawn_0 ?_
  refine z_iconst (pc := 1) C dX0_drawn_1 ?_
  refine z_aload_n (pc := 2) C 0 rfl dX0_drawn_2 ?_
  refine z_iload_n (pc := 3) C 1 rfl dX0_drawn_3 ?_
  refine z_iload_n (pc := 4) C 2 rfl dX0_drawn_4 ?_
  rcases bCs h with ⟨r1, M3, e4, h⟩ | ⟨q2, M3, e4, h⟩
  · refine cX0_98 (pc := 5) (st := [vI 0, .ref v3]) (st1 := [vI r1, vI 0, .ref v3]) C rfl (rm := { frames := 8, cells := 0, slots := 0, locals := 139 }) (ct_X1_drawn C.2.1 v0 v1 v2 M _ _ hv0 e4) ⟨by decide, by decide, Nat.zero_le _, Nat.zero_le _⟩ (Or.inl hv0) rfl (Nat.le_of_ble_eq_true rfl) dX0_drawn_5 (c2 := 0) (s2 := 0) rfl rfl (fun x5 => ?_)
    have k6 := x5 _ 19000 (by decide) (Or.inr (by decide)) hv3
    refine z_i2l (pc := 8) C dX0_drawn_8 ?_
    refine z_lsw (pc := 9) C k6 (by decide +kernel) dX0_drawn_9 ?_
    refine z_goto (pc := 10) C dX0_drawn_10 (tgt := 17) (by decide) ?_
    refine z_iconst (pc := 17) C dX0_drawn_17 ?_
    cases h
    exact z_iret (pc := 18) C rfl (show 0 ≤ 1 from by decide) (show 0 ≤ 6 from by decide) dX0_drawn_18
  · by_cases c7 : m_kd M3 q2 = 115
    · have h := itt c7 h
      refine kX0_98 (pc := 5) (st := [vI 0, .ref v3]) C rfl (rm := { frames := 8, cells := 1, slots := 6, locals := 139 }) (r := q2) (ct_X1_drawn C.2.1 v0 v1 v2 M _ _ hv0 e4) ⟨by decide, by decide, Nat.le_trans (show 1 ≤ 1 from by decide) hR.1, Nat.le_trans (show 6 ≤ 6 from by decide) hR.2⟩ (Or.inl hv0) (Nat.le_of_ble_eq_true rfl) dX0_drawn_5 (e := 15) (hpc := 13) (by decide) (Or.inr c7) (Or.inr ⟨by decide, by decide, 15, by decide, q560, Or.inl ⟨rfl, rfl⟩⟩) (c2 := 1) (s2 := 6) rfl rfl (fun x8 => ?_)
      refine z_astore (pc := 13) C (lv' := [(0, .ref v0), (1, vI v1), (2, vI v2), (3, .ref v3), (4, .ref q2)]) (by decide) rfl dX0_drawn_13 ?_
      refine z_iconst (pc := 15) C dX0_drawn_15 ?_
      cases h
      exact z_iret (pc := 16) C rfl (show 1 ≤ 1 from by decide) (show 6 ≤ 6 from by decide) dX0_drawn_16
    · have h := itf c7 h
      cases h
def d_X1_chance (v0 : Nat) (v1 : Int) (v2 : Int) (v3 : Int) (M : Mem) : Option ((Int ⊕ Nat) × Mem) :=
  bT (d_X1_sampleOf v0 v1 M) fun r1 M2 => 
  if m_kd M2 r1 = 10 then 
  bT (d_X1_unitIn v0 v2 M2) fun r8 M9 => 
  if w32 v3 = 0 then
    if inb v2 100 then 
    some (.inl (m_i M9 1001 r1 (ixn v2)), M9) else none
  else
    if inb v2 100 then 
    some (.inl (m_i M9 1002 r1 (ixn v2)), M9) else none else none
theorem ct_X1_chance {l : Launch} {S0 : State} {D : va_G} {cA : Nat → ClassId} (hG : x_G l S0 D cA) (v0 : Nat) (v1 : Int) (v2 : Int) (v3 : Int) (M : Mem) (r : Int ⊕ Nat) (M' : Mem) (hv0 : m_kd M v0 = 1) (h : d_X1_chance v0 v1 v2 v3 M = some (r, M')) : x_Me l S0 D cA yX1_chance cX1_chance 5 (some .int) [] ({ frames := 8, cells := (ocN r 0 1), slots := (ocN r 0 6), locals := 139 }) [.ref v0, vI v1, vI v2, vI v3] M (ocI r) M' := by
  refine x_begin (F := 8) (Lo := 139) (mc := (ocN r 0 1)) (ms := (ocN r 0 6)) hG (Nat.le_of_ble_eq_true rfl) (lv := [(0, .ref v0), (1, vI v1), (2, vI v2), (3, vI v3)]) rfl rfl rfl rfl rfl (fun X e1 e2 e3 e4 e5 C => ?_)
  have hR : _ ∧ _ := ⟨Nat.le_of_eq (congrArg Room.cells e5).symm, Nat.le_of_eq (congrArg Room.slots e5).symm⟩
  unfold d_X1_chance at h
  refine z_aload_n (pc := 0) C 0 rfl dX1_chance_0 ?_
  refine z_iload_n (pc := 1) C 1 rfl dX1_chance_1 ?_
  rcases bTs h with ⟨x5, e3, er⟩ | ⟨r1, M2, e3, h⟩
  · subst er; exact tX1_478 (pc := 2) C rfl (rm := { frames := 7, cells := 1, slots := 6, locals := 114 }) (ct_X1_sampleOf C.2.1 v0 v1 M _ _ hv0 e3) ⟨by decide, by decide, Nat.le_trans (show 1 ≤ 1 from by decide) hR.1, Nat.le_trans (show 6 ≤ 6 from by decide) hR.2⟩ (Or.inl hv0) (Nat.le_of_ble_eq_true rfl) dX1_chance_2 (by decide) (show 1 ≤ 1 from by decide) (show 6 ≤ 6 from by decide)
  refine cX1_478 (pc := 2) (st := []) (st1 := [.ref r1]) C rfl (rm := { frames := 7, cells := 0, slots := 0, locals := 114 }) (ct_X1_sampleOf C.2.1 v0 v1 M _ _ hv0 e3) ⟨by decide, by decide, Nat.zero_le _, Nat.zero_le _⟩ (Or.inl hv0) rfl (Nat.le_of_ble_eq_true rfl) dX1_chance_2 (c2 := 0) (s2 := 0) rfl rfl (fun x4 => ?_)
  have k6 := x4 _ 1 (by decide) (Or.inl (by decide)) hv0
  obtain ⟨c7, h⟩ := ifn h
  refine z_astore (pc := 5) C (lv' := [(0, .ref v0), (1, vI v1), (2, vI v2), (3, vI v3), (4, .ref r1)]) (by decide) rfl dX1_chance_5 ?_
  refine z_aload_n (pc := 7) C 0 rfl dX1_chance_7 ?_
  refine z_iload_n (pc := 8) C 2 rfl dX1_chance_8 ?_
  rcases bTs h with ⟨x12, e10, er⟩ | ⟨r8, M9, e10, h⟩
  · subst er; exact tX1_179 (pc := 9) C rfl (rm := { frames := 7, cells := 1, slots := 6, locals := 114 }) (ct_X1_unitIn C.2.1 v0 v2 M2 _ _ k6 e10) ⟨by decide, by decide, Nat.le_trans (show 1 ≤ 1 from by decide) hR.1, Nat.le_trans (show 6 ≤ 6 from by decide) hR.2⟩ (Or.inl k6) (Nat.le_of_ble_eq_true rfl) dX1_chance_9 (by decide) (show 1 ≤ 1 from by decide) (show 6 ≤ 6 from by decide)
  refine cX1_179 (pc := 9) (st := []) (st1 := []) C rfl (rm := { frames := 7, cells := 0, slots := 0, locals := 114 }) (ct_X1_unitIn C.2.1 v0 v2 M2 _ _ k6 e10) ⟨by decide, by decide, Nat.zero_le _, Nat.zero_le _⟩ (Or.inl k6) rfl (Nat.le_of_ble_eq_true rfl) dX1_chance_9 (c2 := 0) (s2 := 0) rfl rfl (fun x11 => ?_)
  have k13 := x11 _ 10 (by decide) (Or.inl (by decide)) c7
  refine z_iload_n (pc := 12) C 3 rfl dX1_chance_12 ?_
  refine z_if_eq (pc := 13) C dX1_chance_13 (tgt := 26) (by decide) (fun c14 => ?_) (fun c14 => ?_)
  · have h := itt c14 h
    refine z_aload (pc := 26) C 4 rfl dX1_chance_26 ?_
    refine gX1_1001 (pc := 28) C rfl k13 dX1_chance_28 ?_
    refine z_iload_n (pc := 31) C 2 rfl dX1_chance_31 ?_
    obtain ⟨c15, h⟩ := ifn h
    refine z_iaO (pc := 32) (k := 10) (j := 1) C 1001 rfl (by decide) (by decide) (by decide) rfl rfl rfl rfl k13 c15 rfl dX1_chance_32 ?_
    cases h
    exact z_iret (pc := 33) C rfl (show 0 ≤ 0 from by decide) (show 0 ≤ 0 from by decide) dX1_chance_33
  · have h := itf c14 h
    refine z_aload (pc := 16) C 4 rfl dX1_chance_16 ?_
    refine gX1_1002 (pc := 18) C rfl k13 dX1_chance_18 ?_
    refine z_iload_n (pc := 21) C 2 rfl dX1_chance_21 ?_
    obtain ⟨c16, h⟩ := ifn h
    refine z_iaO (pc := 22) (k := 10) (j := 2) C 1002 rfl (by decide) (by decide) (by decide) rfl rfl rfl rfl k13 c16 rfl dX1_chance_22 ?_
    refine z_goto (pc := 23) C dX1_chance_23 (tgt := 33) (by decide) ?_
    cases h
    exact z_iret (pc := 33) C rfl (show 0 ≤ 0 from by decide) (show 0 ≤ 0 from by decide) dX1_chance_33
def d_X0_chance (v0 : Nat) (v1 : Int) (v2 : Int) (v3 : Int) (v4 : Nat) (M : Mem) : Option (Int × Mem) :=
  bC (d_X1_chance v0 v1 v2 v3 M) (fun r1 M3 =>
    some (0, (m_si M3 9000 v4 (ixn 0) (w32 r1)))) (fun q2 M3 =>
    if m_kd M3 q2 = 115 then
      some (1, M3)
    else
      none)
theorem ct_X0_chance {l : Launch} {S0 : State} {D : va_G} {cA : Nat → ClassId} (hG : x_G l S0 D cA) (v0 : Nat) (v1 : Int) (v2 : Int) (v3 : Int) (v4 : Nat) (M : Mem) (r : Int) (M' : Mem) (hv0 : m_kd M v0 = 1) (hv4 : m_kd M v4 = 19000) (h : d_X0_chance v0 v1 v2 v3 v4 M = some (r, M')) : x_Me l S0 D cA yX0_chance cX0_chance 6 (some .int) [(0, 12, 15, 25)] ({ frames := 9, cells := 1, slots := 6, locals := 167 }) [.ref v0, vI v1, vI v2, vI v3, .ref v4] M (.returned (some (vI r))) M' := by
  refine x_begin (F := 9) (Lo := 167) (mc := 1) (ms := 6) hG (Nat.le_of_ble_eq_true rfl) (lv := [(0, .ref v0), (1, vI v1), (2, vI v2), (3, vI v3), (4, .ref v4)]) rfl rfl rfl rfl rfl (fun X e1 e2 e3 e4 e5 C => ?_)
  have hR : _ ∧ _ := ⟨Nat.le_of_eq (congrArg Room.cells e5).symm, Nat.le_of_eq (congrArg Room.slots e5).symm⟩
  unfold d_X0_chance at h
  refine z_aload (pc := 0) C 4 rfl dX0_chance_0 ?_
  refine z_iconst (pc := 2) C dX0_chance_2 ?_
  refine z_aload_n (pc := 3) C 0 rfl dX0_chance_3 ?_
  refine z_iload_n (pc := 4) C 1 rfl dX0_chance_4 ?_
  refine z_iload_n (pc := 5) C 2 rfl dX0_chance_5 ?_
  refine z_iload_n (pc := 6) C 3 rfl dX0_chance_6 ?_
  rcases bCs h with ⟨r1, M3, e4, h⟩ | ⟨q2, M3, e4, h⟩
  · refine cX0_101 (pc := 7) (st := [vI 0, .ref v4]) (st1 := [vI r1, vI 0, .ref v4]) C rfl (rm := { frames := 8, cells := 0, slots := 0, locals := 139 }) (ct_X1_chance C.2.1 v0 v1 v2 v3 M _ _ hv0 e4) ⟨by decide, by decide, Nat.zero_le _, Nat.zero_le _⟩ (Or.inl hv0) rfl (Nat.le_of_ble_eq_true rfl) dX0_chance_7 (c2 := 0) (s2 := 0) rfl rfl (fun x5 => ?_)
    have k6 := x5 _ 19000 (by decide) (Or.inr (by decide)) hv4
    refine z_i2l (pc := 10) C dX0_chance_10 ?_
    refine z_lsw (pc := 11) C k6 (by decide +kernel) dX0_chance_11 ?_
    refine z_goto (pc := 12) C dX0_chance_12 (tgt := 19) (by decide) ?_
    refine z_iconst (pc := 19) C dX0_chance_19 ?_
    cases h
    exact z_iret (pc := 20) C rfl (show 0 ≤ 1 from by decide) (show 0 ≤ 6 from by decide) dX0_chance_20
  · by_cases c7 : m_kd M3 q2 = 115
    · have h := itt c7 h
      refine kX0_101 (pc := 7) (st := [vI 0, .ref v4]) C rfl (rm := { frames := 8, cells := 1, slots := 6, locals := 139 }) (r := q2) (ct_X1_chance C.2.1 v0 v1 v2 v3 M _ _ hv0 e4) ⟨by decide, by decide, Nat.le_trans (show 1 ≤ 1 from by decide) hR.1, Nat.le_trans (show 6 ≤ 6 from by decide) hR.2⟩ (Or.inl hv0) (Nat.le_of_ble_eq_true rfl) dX0_chance_7 (e := 15) (hpc := 15) (by decide) (Or.inr c7) (Or.inr ⟨by decide, by decide, 15, by decide, q560, Or.inl ⟨rfl, rfl⟩⟩) (c2 := 1) (s2 := 6) rfl rfl (fun x8 => ?_)
      refine z_astore (pc := 15) C (lv' := [(0, .ref v0), (1, vI v1), (2, vI v2), (3, vI v3), (4, .ref v4), (5, .ref q2)]) (by decide) rfl dX0_chance_15 ?_
      refine z_iconst (pc := 17) C dX0_chance_17 ?_
      cases h
      exact z_iret (pc := 18) C rfl (show 1 ≤ 1 from by decide) (show 6 ≤ 6 from by decide) dX0_chance_18
    · have h := itf c7 h
      cases h
def B_X1_overlap_19 (k19 : Nat → Nat → Int → Int → Mem → Option ((Int ⊕ Nat) × Mem)) (v3 : Nat) (v4 : Nat) (v5 : Int) (v6 : Int) (M : Mem) : Option ((Int ⊕ Nat) × Mem) :=
  if w32 100 ≤ w32 v6 then
    some (.inl v5, M)
  else
    if inb v6 100 then 
    if w32 (m_i M 1000 v3 (ixn v6)) = 0 then
      k19 v3 v4 (v5 + 0) (v6 + 1) M
    else
      if w32 (m_i M 1000 v4 (ixn v6)) = 0 then
        k19 v3 v4 (v5 + 0) (v6 + 1) M
      else
        k19 v3 v4 (v5 + 1) (v6 + 1) M else none
def L_X1_overlap_19  : Nat → Nat → Nat → Int → Int → Mem → Option ((Int ⊕ Nat) × Mem)
  | 0, _, _, _, _, _ => none
  | n + 1, v3, v4, v5, v6, M => B_X1_overlap_19 (L_X1_overlap_19  n) v3 v4 v5 v6 M
def d_X1_overlap (v0 : Nat) (v1 : Int) (v2 : Int) (M : Mem) : Option ((Int ⊕ Nat) × Mem) :=
  bT (d_X1_sampleOf v0 v1 M) fun r1 M2 => 
  if m_kd M2 r1 = 10 then 
  bT (d_X1_sampleOf v0 v2 M2) fun r8 M9 => 
  if m_kd M9 r8 = 10 then 
  L_X1_overlap_19 FU r1 r8 0 0 M9 else none else none
theorem cB_X1_overlap_19 {X : x_Ctx} {M0 : Mem} (C : x_CC X 8 139 yX1_overlap cX1_overlap 7 (some .int) []) {k19 : Nat → Nat → Int → Int → Mem → Option ((Int ⊕ Nat) × Mem)} (hk19 : ∀ (v3 : Nat) (v4 : Nat) (v5 : Int) (v6 : Int) (M : Mem) (r : Int ⊕ Nat) (M' : Mem), m_kd M v3 = 10 → m_kd M v4 = 10 → k19 v3 v4 v5 v6 M = some (r, M') → ocN r 0 1 ≤ (XR X).cells ∧ ocN r 0 6 ≤ (XR X).slots → x_Z X 0 0 (x_QF X M0 (ocI r) M' (ocN r 0 1) (ocN r 0 6)) M0 M 7 [(3, .ref v3), (4, .ref v4), (5, vI v5), (6, vI v6)] 19 []) (v3 : Nat) (v4 : Nat) (v5 : Int) (v6 : Int) (M : Mem) (r : Int ⊕ Nat) (M' : Mem) (hv3 : m_kd M v3 = 10) (hv4 : m_kd M v4 = 10) (h : B_X1_overlap_19 k19 v3 v4 v5 v6 M = some (r, M')) (hR : ocN r 0 1 ≤ (XR X).cells ∧ ocN r 0 6 ≤ (XR X).slots) : x_Z X 0 0 (x_QF X M0 (ocI r) M' (ocN r 0 1) (ocN r 0 6)) M0 M 7 [(3, .ref v3), (4, .ref v4), (5, vI v5), (6, vI v6)] 19 [] := by
  unfold B_X1_overlap_19 at h
  refine z_iload (pc := 19) C 3 rfl dX1_overlap_19 ?_
  refine z_bipush (pc := 21) C (by decide +kernel) dX1_overlap_21 ?_
  refine z_ic_ge (pc := 23) C dX1_overlap_23 (tgt := 63) (by decide) (fun c15 => ?_) (fun c15 => ?_)
  · have h := itt c15 h
    refine z_iload (pc := 63) C 2 rfl dX1_overlap_63 ?_
    cases h
    exact z_iret (pc := 65) C rfl (show 0 ≤ 0 from by decide) (show 0 ≤ 0 from by decide) dX1_overlap_65
  · have h := itf c15 h
    refine z_iload (pc := 26) C 2 rfl dX1_overlap_26 ?_
    refine z_aload_n (pc := 28) C 0 rfl dX1_overlap_28 ?_
    refine gX1_1000 (pc := 29) C rfl hv3 dX1_overlap_29 ?_
    refine z_iload (pc := 32) C 3 rfl dX1_overlap_32 ?_
    obtain ⟨c16, h⟩ := ifn h
    refine z_zaO (pc := 34) (k := 10) (j := 0) C 1000 rfl (by decide) (by decide) (by decide) rfl rfl rfl rfl hv3 c16 rfl dX1_overlap_34 ?_
    refine z_if_eq (pc := 35) C dX1_overlap_35 (tgt := 53) (by decide) (fun c17 => ?_) (fun c17 => ?_)
    · have h := itt c17 h
      refine z_iconst (pc := 53) C dX1_overlap_53 ?_
      refine z_iadd (pc := 54) C dX1_overlap_54 ?_
      refine z_istore (pc := 55) C (lv' := [(3, .ref v3), (4, .ref v4), (5, vI (v5 + 0)), (6, vI v6)]) (by decide) rfl dX1_overlap_55 ?_
      refine z_iinc (pc := 57) C (lv' := [(3, .ref v3), (4, .ref v4), (5, vI (v5 + 0)), (6, vI (v6 + 1))]) 3 rfl (by decide) rfl dX1_overlap_57 ?_
      refine z_goto (pc := 60) C dX1_overlap_60 (tgt := 19) (by decide) ?_
      exact hk19 v3 v4 (v5 + 0) (v6 + 1) M _ _ hv3 hv4 h hR
    · have h := itf c17 h
      refine z_aload (pc := 38) C 1 rfl dX1_overlap_38 ?_
      refine gX1_1000 (pc := 40) C rfl hv4 dX1_overlap_40 ?_
      refine z_iload (pc := 43) C 3 rfl dX1_overlap_43 ?_
      refine z_zaO (pc := 45) (k := 10) (j := 0) C 1000 rfl (by decide) (by decide) (by decide) rfl rfl rfl rfl hv4 c16 rfl dX1_overlap_45 ?_
      refine z_if_eq (pc := 46) C dX1_overlap_46 (tgt := 53) (by decide) (fun c18 => ?_) (fun c18 => ?_)
      · have h := itt c18 h
        refine z_iconst (pc := 53) C dX1_overlap_53 ?_
        refine z_iadd (pc := 54) C dX1_overlap_54 ?_
        refine z_istore (pc := 55) C (lv' := [(3, .ref v3), (4, .ref v4), (5, vI (v5 + 0)), (6, vI v6)]) (by decide) rfl dX1_overlap_55 ?_
        refine z_iinc (pc := 57) C (lv' := [(3, .ref v3), (4, .ref v4), (5, vI (v5 + 0)), (6, vI (v6 + 1))]) 3 rfl (by decide) rfl dX1_overlap_57 ?_
        refine z_goto (pc := 60) C dX1_overlap_60 (tgt := 19) (by decide) ?_
        exact hk19 v3 v4 (v5 + 0) (v6 + 1) M _ _ hv3 hv4 h hR
      · have h := itf c18 h
        refine z_iconst (pc := 49) C dX1_overlap_49 ?_
        refine z_goto (pc := 50) C dX1_overlap_50 (tgt := 54) (by decide) ?_
        refine z_iadd (pc := 54) C dX1_overlap_54 ?_
        refine z_istore (pc := 55) C (lv' := [(3, .ref v3), (4, .ref v4), (5, vI (v5 + 1)), (6, vI v6)]) (by decide) rfl dX1_overlap_55 ?_
        refine z_iinc (pc := 57) C (lv' := [(3, .ref v3), (4, .ref v4), (5, vI (v5 + 1)), (6, vI (v6 + 1))]) 3 rfl (by decide) rfl dX1_overlap_57 ?_
        refine z_goto (pc := 60) C dX1_overlap_60 (tgt := 19) (by decide) ?_
        exact hk19 v3 v4 (v5 + 1) (v6 + 1) M _ _ hv3 hv4 h hR
theorem cL_X1_overlap_19 {X : x_Ctx} {M0 : Mem} (C : x_CC X 8 139 yX1_overlap cX1_overlap 7 (some .int) [])  : ∀ (n : Nat) (v3 : Nat) (v4 : Nat) (v5 : Int) (v6 : Int) (M : Mem) (r : Int ⊕ Nat) (M' : Mem) (hv3 : m_kd M v3 = 10) (hv4 : m_kd M v4 = 10) (h : L_X1_overlap_19  n v3 v4 v5 v6 M = some (r, M')) (hR : ocN r 0 1 ≤ (XR X).cells ∧ ocN r 0 6 ≤ (XR X).slots), x_Z X 0 0 (x_QF X M0 (ocI r) M' (ocN r 0 1) (ocN r 0 6)) M0 M 7 [(3, .ref v3), (4, .ref v4), (5, vI v5), (6, vI v6)] 19 [] := by
  intro n
  induction n with
  | zero => intro v3 v4 v5 v6 M r M' hv3 hv4 h hR; cases h
  | succ n ih => intro v3 v4 v5 v6 M r M' hv3 hv4 h hR; exact cB_X1_overlap_19 C (fun v3 v4 v5 v6 M r M' hv3 hv4 h hR => ih v3 v4 v5 v6 M r M' hv3 hv4 h hR) v3 v4 v5 v6 M r M' hv3 hv4 h hR
theorem ct_X1_overlap {l : Launch} {S0 : State} {D : va_G} {cA : Nat → ClassId} (hG : x_G l S0 D cA) (v0 : Nat) (v1 : Int) (v2 : Int) (M : Mem) (r : Int ⊕ Nat) (M' : Mem) (hv0 : m_kd M v0 = 1) (h : d_X1_overlap v0 v1 v2 M = some (r, M')) : x_Me l S0 D cA yX1_overlap cX1_overlap 7 (some .int) [] ({ frames := 8, cells := (ocN r 0 1), slots := (ocN r 0 6), locals := 139 }) [.ref v0, vI v1, vI v2] M (ocI r) M' := by
  refine x_begin (F := 8) (Lo := 139) (mc := (ocN r 0 1)) (ms := (ocN r 0 6)) hG (Nat.le_of_ble_eq_true rfl) (lv := [(0, .ref v0), (1, vI v1), (2, vI v2)]) rfl rfl rfl rfl rfl (fun X e1 e2 e3 e4 e5 C => ?_)
  have hR : _ ∧ _ := ⟨Nat.le_of_eq (congrArg Room.cells e5).symm, Nat.le_of_eq (congrArg Room.slots e5).symm⟩
  unfold d_X1_overlap at h
  refine z_aload_n (pc := 0) C 0 rfl dX1_overlap_0 ?_
  refine z_iload_n (pc := 1) C 1 rfl dX1_overlap_1 ?_
  rcases bTs h with ⟨x5, e3, er⟩ | ⟨r1, M2, e3, h⟩
  · subst er; exact tX1_478 (pc := 2) C rfl (rm := { frames := 7, cells := 1, slots := 6, locals := 114 }) (ct_X1_sampleOf C.2.1 v0 v1 M _ _ hv0 e3) ⟨by decide, by decide, Nat.le_trans (show 1 ≤ 1 from by decide) hR.1, Nat.le_trans (show 6 ≤ 6 from by decide) hR.2⟩ (Or.inl hv0) (Nat.le_of_ble_eq_true rfl) dX1_overlap_2 (by decide) (show 1 ≤ 1 from by decide) (show 6 ≤ 6 from by decide)
  refine cX1_478 (pc := 2) (st := []) (st1 := [.ref r1]) C rfl (rm := { frames := 7, cells := 0, slots := 0, locals := 114 }) (ct_X1_sampleOf C.2.1 v0 v1 M _ _ hv0 e3) ⟨by decide, by decide, Nat.zero_le _, Nat.zero_le _⟩ (Or.inl hv0) rfl (Nat.le_of_ble_eq_true rfl) dX1_overlap_2 (c2 := 0) (s2 := 0) rfl rfl (fun x4 => ?_)
  have k6 := x4 _ 1 (by decide) (Or.inl (by decide)) hv0
  obtain ⟨c7, h⟩ := ifn h
  refine z_astore_n (pc := 5) C (lv' := [(0, .ref v0), (1, vI v1), (2, vI v2), (3, .ref r1)]) (by decide) rfl dX1_overlap_5 ?_
  refine z_aload_n (pc := 6) C 0 rfl dX1_overlap_6 ?_
  refine z_iload_n (pc := 7) C 2 rfl dX1_overlap_7 ?_
  rcases bTs h with ⟨x12, e10, er⟩ | ⟨r8, M9, e10, h⟩
  · subst er; exact tX1_478 (pc := 8) C rfl (rm := { frames := 7, cells := 1, slots := 6, locals := 114 }) (ct_X1_sampleOf C.2.1 v0 v2 M2 _ _ k6 e10) ⟨by decide, by decide, Nat.le_trans (show 1 ≤ 1 from by decide) hR.1, Nat.le_trans (show 6 ≤ 6 from by decide) hR.2⟩ (Or.inl k6) (Nat.le_of_ble_eq_true rfl) dX1_overlap_8 (by decide) (show 1 ≤ 1 from by decide) (show 6 ≤ 6 from by decide)
  refine cX1_478 (pc := 8) (st := []) (st1 := [.ref r8]) C rfl (rm := { frames := 7, cells := 0, slots := 0, locals := 114 }) (ct_X1_sampleOf C.2.1 v0 v2 M2 _ _ k6 e10) ⟨by decide, by decide, Nat.zero_le _, Nat.zero_le _⟩ (Or.inl k6) rfl (Nat.le_of_ble_eq_true rfl) dX1_overlap_8 (c2 := 0) (s2 := 0) rfl rfl (fun x11 => ?_)
  have k13 := x11 _ 10 (by decide) (Or.inl (by decide)) c7
  obtain ⟨c14, h⟩ := ifn h
  refine z_astore (pc := 11) C (lv' := [(0, .ref v0), (1, vI v1), (2, vI v2), (3, .ref r1), (4, .ref r8)]) (by decide) rfl dX1_overlap_11 ?_
  refine z_iconst (pc := 13) C dX1_overlap_13 ?_
  refine z_istore (pc := 14) C (lv' := [(0, .ref v0), (1, vI v1), (2, vI v2), (3, .ref r1), (4, .ref r8), (5, vI 0)]) (by decide) rfl dX1_overlap_14 ?_
  refine z_iconst (pc := 16) C dX1_overlap_16 ?_
  refine z_istore (pc := 17) C (lv' := [(0, .ref v0), (1, vI v1), (2, vI v2), (3, .ref r1), (4, .ref r8), (5, vI 0), (6, vI 0)]) (by decide) rfl dX1_overlap_17 ?_
  exact z_lv [3, 4, 5, 6] rfl <| cL_X1_overlap_19 C FU r1 r8 0 0 M9 _ _ k13 c14 h hR
def d_X0_overlap (v0 : Nat) (v1 : Int) (v2 : Int) (v3 : Nat) (M : Mem) : Option (Int × Mem) :=
  bC (d_X1_overlap v0 v1 v2 M) (fun r1 M3 =>
    some (0, (m_si M3 9000 v3 (ixn 0) (w32 r1)))) (fun q2 M3 =>
    if m_kd M3 q2 = 115 then
      some (1, M3)
    else
      none)
theorem ct_X0_overlap {l : Launch} {S0 : State} {D : va_G} {cA : Nat → ClassId} (hG : x_G l S0 D cA) (v0 : Nat) (v1 : Int) (v2 : Int) (v3 : Nat) (M : Mem) (r : Int) (M' : Mem) (hv0 : m_kd M v0 = 1) (hv3 : m_kd M v3 = 19000) (h : d_X0_overlap v0 v1 v2 v3 M = some (r, M')) : x_Me l S0 D cA yX0_overlap cX0_overlap 5 (some .int) [(0, 10, 13, 25)] ({ frames := 9, cells := 1, slots := 6, locals := 169 }) [.ref v0, vI v1, vI v2, .ref v3] M (.returned (some (vI r))) M' := by
  refine x_begin (F := 9) (Lo := 169) (mc := 1) (ms := 6) hG (Nat.le_of_ble_eq_true rfl) (lv := [(0, .ref v0), (1, vI v1), (2, vI v2), (3, .ref v3)]) rfl rfl rfl rfl rfl (fun X e1 e2 e3 e4 e5 C => ?_)
  have hR : _ ∧ _ := ⟨Nat.le_of_eq (congrArg Room.cells e5).symm, Nat.le_of_eq (congrArg Room.slots e5).symm⟩
  unfold d_X0_overlap at h
  refine z_aload_n (pc := 0) C 3 rfl dX0_overlap_0 ?_
  refine z_iconst (pc := 1) C dX0_overlap_1 ?_
  refine z_aload_n (pc := 2) C 0 rfl dX0_overlap_2 ?_
  refine z_iload_n (pc := 3) C 1 rfl dX0_overlap_3 ?_
  refine z_iload_n (pc := 4) C 2 rfl dX0_overlap_4 ?_
  rcases bCs h with ⟨r1, M3, e4, h⟩ | ⟨q2, M3, e4, h⟩
  · refine cX0_104 (pc := 5) (st := [vI 0, .ref v3]) (st1 := [vI r1, vI 0, .ref v3]) C rfl (rm := { frames := 8, cells := 0, slots := 0, locals := 139 }) (ct_X1_overlap C.2.1 v0 v1 v2 M _ _ hv0 e4) ⟨by decide, by decide, Nat.zero_le _, Nat.zero_le _⟩ (Or.inl hv0) rfl (Nat.le_of_ble_eq_true rfl) dX0_overlap_5 (c2 := 0) (s2 := 0) rfl rfl (fun x5 => ?_)
    have k6 := x5 _ 19000 (by decide) (Or.inr (by decide)) hv3
    refine z_i2l (pc := 8) C dX0_overlap_8 ?_
    refine z_lsw (pc := 9) C k6 (by decide +kernel) dX0_overlap_9 ?_
    refine z_goto (pc := 10) C dX0_overlap_10 (tgt := 17) (by decide) ?_
    refine z_iconst (pc := 17) C dX0_overlap_17 ?_
    cases h
    exact z_iret (pc := 18) C rfl (show 0 ≤ 1 from by decide) (show 0 ≤ 6 from by decide) dX0_overlap_18
  · by_cases c7 : m_kd M3 q2 = 115
    · have h := itt c7 h
      refine kX0_104 (pc := 5) (st := [vI 0, .ref v3]) C rfl (rm := { frames := 8, cells := 1, slots := 6, locals := 139 }) (r := q2) (ct_X1_overlap C.2.1 v0 v1 v2 M _ _ hv0 e4) ⟨by decide, by decide, Nat.le_trans (show 1 ≤ 1 from by decide) hR.1, Nat.le_trans (show 6 ≤ 6 from by decide) hR.2⟩ (Or.inl hv0) (Nat.le_of_ble_eq_true rfl) dX0_overlap_5 (e := 15) (hpc := 13) (by decide) (Or.inr c7) (Or.inr ⟨by decide, by decide, 15, by decide, q560, Or.inl ⟨rfl, rfl⟩⟩) (c2 := 1) (s2 := 6) rfl rfl (fun x8 => ?_)
      refine z_astore (pc := 13) C (lv' := [(0, .ref v0), (1, vI v1), (2, vI v2), (3, .ref v3), (4, .ref q2)]) (by decide) rfl dX0_overlap_13 ?_
      refine z_iconst (pc := 15) C dX0_overlap_15 ?_
      cases h
      exact z_iret (pc := 16) C rfl (show 1 ≤ 1 from by decide) (show 6 ≤ 6 from by decide) dX0_overlap_16
    · have h := itf c7 h
      cases h
def d_X11_init (v0 : Nat) (v1 : Int) (v2 : Int) (M : Mem) : Option (Int × Mem) :=
  if m_sz M + 0 = v0 + 1 then 
  if x_whole (m_nw (m_nw (m_nw (m_nw M 11102) 11103) 11104) 11105) v0 11 = true then 
  some (0, (m_si (m_si (m_se (m_nw (m_nw (m_nw (m_nw M 11102) 11103) 11104) 11105) v0 11) 1100 v0 0 v1) 1101 v0 0 v2)) else none else none
theorem ct_X11_init {l : Launch} {S0 : State} {D : va_G} {cA : Nat → ClassId} (hG : x_G l S0 D cA) (v0 : Nat) (v1 : Int) (v2 : Int) (M : Mem) (r : Int) (M' : Mem) (hv0 : m_kd M v0 = 111) (h : d_X11_init v0 v1 v2 M = some (r, M')) : x_Me l S0 D cA yX11_init cX11_init 3 none [] ({ frames := 1, cells := 4, slots := 48, locals := 24 }) [.ref v0, vI v1, vI v2] M (.returned none) M' := by
  refine x_begin (F := 1) (Lo := 24) (mc := 4) (ms := 48) hG (Nat.le_of_ble_eq_true rfl) (lv := [(0, .ref v0), (1, vI v1), (2, vI v2)]) rfl rfl rfl rfl rfl (fun X e1 e2 e3 e4 e5 C => ?_)
  have hR : _ ∧ _ := ⟨Nat.le_of_eq (congrArg Room.cells e5).symm, Nat.le_of_eq (congrArg Room.slots e5).symm⟩
  unfold d_X11_init at h
  refine z_aload_n (pc := 0) C 0 rfl dX11_init_0 ?_
  refine z_obj (pc := 1) C q1286 q139 q140 (by decide) (by decide) (by decide) dX11_init_1 ?_
  refine z_aload_n (pc := 4) C 0 rfl dX11_init_4 ?_
  refine z_bipush (pc := 5) C (by decide +kernel) dX11_init_5 ?_
  obtain ⟨c1, h⟩ := ifn h
  refine aX11_1102 (pc := 7) C rfl rfl hv0 (show m_sz M + 0 = v0 + 1 from by have := c1; omega) (Nat.le_trans (show 1 ≤ 4 from by decide) hR.1) (Nat.le_trans (show 12 ≤ 48 from by decide) hR.2) dX11_init_7 dX11_init_9 (c2 := 1) (s2 := 12) rfl rfl (fun x2 => ?_)
  have k3 := x2.k hv0 (by decide)
  refine z_aload_n (pc := 12) C 0 rfl dX11_init_12 ?_
  refine z_bipush (pc := 13) C (by decide +kernel) dX11_init_13 ?_
  refine aX11_1103 (pc := 15) C rfl rfl k3 (show m_sz M + 1 = v0 + 2 from by have := c1; omega) (Nat.le_trans (show 2 ≤ 4 from by decide) hR.1) (Nat.le_trans (show 24 ≤ 48 from by decide) hR.2) dX11_init_15 dX11_init_17 (c2 := 2) (s2 := 24) rfl rfl (fun x4 => ?_)
  have k5 := x4.k k3 (by decide)
  refine z_aload_n (pc := 20) C 0 rfl dX11_init_20 ?_
  refine z_bipush (pc := 21) C (by decide +kernel) dX11_init_21 ?_
  refine aX11_1104 (pc := 23) C rfl rfl k5 (show m_sz M + 2 = v0 + 3 from by have := c1; omega) (Nat.le_trans (show 3 ≤ 4 from by decide) hR.1) (Nat.le_trans (show 36 ≤ 48 from by decide) hR.2) dX11_init_23 dX11_init_25 (c2 := 3) (s2 := 36) rfl rfl (fun x6 => ?_)
  have k7 := x6.k k5 (by decide)
  refine z_aload_n (pc := 28) C 0 rfl dX11_init_28 ?_
  refine z_bipush (pc := 29) C (by decide +kernel) dX11_init_29 ?_
  refine aX11_1105 (pc := 31) C rfl rfl k7 (show m_sz M + 3 = v0 + 4 from by have := c1; omega) (Nat.le_trans (show 4 ≤ 4 from by decide) hR.1) (Nat.le_trans (show 48 ≤ 48 from by decide) hR.2) dX11_init_31 dX11_init_33 (c2 := 4) (s2 := 48) rfl rfl (fun x8 => ?_)
  have k9 := x8.k k7 (by decide)
  obtain ⟨c10, h⟩ := ifn h
  refine z_sealW (k := 11) v0 k9 (by decide) (by decide) c10 (fun k11 x12 => ?_)
  refine z_aload_n (pc := 36) C 0 rfl dX11_init_36 ?_
  refine z_iload_n (pc := 37) C 1 rfl dX11_init_37 ?_
  refine pX11_1100 (pc := 38) C rfl rfl (Or.inl k11) dX11_init_38 ?_
  refine z_aload_n (pc := 41) C 0 rfl dX11_init_41 ?_
  refine z_iload_n (pc := 42) C 2 rfl dX11_init_42 ?_
  refine pX11_1101 (pc := 43) C rfl rfl (Or.inl k11) dX11_init_43 ?_
  cases h
  exact z_vret (pc := 46) C rfl (show 4 ≤ 4 from by decide) (show 48 ≤ 48 from by decide) dX11_init_46
