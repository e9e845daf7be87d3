set_option maxRecDepth 100000
def B_X5_find_232 (k140 : Nat → Int → Int → Int → Int → Int → Mem → Option (Int × Mem)) (v0 : Nat) (v1 : Int) (v2 : Int) (v3 : Int) (v4 : Int) (M : Mem) : Option (Int × Mem) :=
  if w32 v4 = w32 v3 then
    k140 v0 v1 v2 v3 (a32 (v4 - v3) v3) 0 M
  else
    k140 v0 v1 v2 v3 (a32 (v4 - v3) v3) 1 M
def B_X5_find_210 (k140 : Nat → Int → Int → Int → Int → Int → Mem → Option (Int × Mem)) (v0 : Nat) (v1 : Int) (v2 : Int) (v3 : Int) (v4 : Int) (v6 : Int) (M : Mem) : Option (Int × Mem) :=
  bN (d_X5_fits v0 v1 v4 M) fun r9 M10 => 
  if w32 r9 = 0 then
    B_X5_find_232 k140 v0 v1 v2 v3 v4 M10
  else
    B_X5_find_232 k140 v0 v1 v2 v3 v4 (m_si (m_si M10 562 v0 0 v6) 563 v0 0 v4)
def B_X5_find_151 (k140 : Nat → Int → Int → Int → Int → Int → Mem → Option (Int × Mem)) (k151 : Nat → Int → Int → Int → Int → Int → Int → Mem → Option (Int × Mem)) (v0 : Nat) (v1 : Int) (v2 : Int) (v3 : Int) (v4 : Int) (v6 : Int) (v7 : Int) (M : Mem) : Option (Int × Mem) :=
  if inb v2 6 then 
  if w32 (m_i M 515 v0 (ixn v2)) ≤ w32 v7 then
    if w32 (m_i M 562 v0 0) = w32 (-1) then
      B_X5_find_210 k140 v0 v1 v2 v3 v4 v6 M
    else
      if w32 (m_i M 562 v0 0) ≤ w32 v6 then
        B_X5_find_232 k140 v0 v1 v2 v3 v4 M
      else
        B_X5_find_210 k140 v0 v1 v2 v3 v4 v6 M
  else
    if inb ((20 * v2) + v7) 120 then 
    k151 v0 v1 v2 v3 v4 (v6 + ((a32 (s32 v4 v7) 1) * (m_i M 520 v0 (ixn ((20 * v2) + v7))))) (v7 + 1) M else none else none
def L_X5_find_151 (k140 : Nat → Int → Int → Int → Int → Int → Mem → Option (Int × Mem)) : Nat → Nat → Int → Int → Int → Int → Int → Int → Mem → Option (Int × Mem)
  | 0, _, _, _, _, _, _, _, _ => none
  | n + 1, v0, v1, v2, v3, v4, v6, v7, M => B_X5_find_151 k140 (L_X5_find_151 k140 n) v0 v1 v2 v3 v4 v6 v7 M
def B_X5_find_140 (k140 : Nat → Int → Int → Int → Int → Int → Mem → Option (Int × Mem)) (v0 : Nat) (v1 : Int) (v2 : Int) (v3 : Int) (v4 : Int) (v5 : Int) (M : Mem) : Option (Int × Mem) :=
  if w32 v5 = 0 then
    some (0, M)
  else
    L_X5_find_151 k140 FU v0 v1 v2 v3 v4 0 0 M
def L_X5_find_140  : Nat → Nat → Int → Int → Int → Int → Int → Mem → Option (Int × Mem)
  | 0, _, _, _, _, _, _, _ => none
  | n + 1, v0, v1, v2, v3, v4, v5, M => B_X5_find_140 (L_X5_find_140  n) v0 v1 v2 v3 v4 v5 M
def B_X5_find_92 (k21 : Nat → Int → Int → Int → Int → Mem → Option (Int × Mem)) (v0 : Nat) (v1 : Int) (v2 : Int) (v4 : Int) (v6 : Int) (s0 : Int) (s1 : Int) (M : Mem) : Option (Int × Mem) :=
  if w32 v6 = w32 (-1) then
    k21 v0 v1 v2 (o32 (o32 s0 s1) 0) (v4 + 1) M
  else
    if inb ((20 * v1) + v6) 1200 then 
    if w32 (m_i M 555 v0 (ixn ((20 * v1) + v6))) = w32 (-2000000) then
      k21 v0 v1 v2 (o32 (o32 s0 s1) 0) (v4 + 1) M
    else
      k21 v0 v1 v2 (o32 (o32 s0 s1) (l32 1 v6)) (v4 + 1) M else none
def B_X5_find_91 (k21 : Nat → Int → Int → Int → Int → Mem → Option (Int × Mem)) (v0 : Nat) (v1 : Int) (v2 : Int) (v4 : Int) (v6 : Int) (s0 : Int) (M : Mem) : Option (Int × Mem) :=
  B_X5_find_92 k21 v0 v1 v2 v4 v6 s0 0 M
def B_X5_find_21 (k21 : Nat → Int → Int → Int → Int → Mem → Option (Int × Mem)) (v0 : Nat) (v1 : Int) (v2 : Int) (v3 : Int) (v4 : Int) (M : Mem) : Option (Int × Mem) :=
  if inb v2 6 then 
  if w32 (m_i M 557 v0 (ixn v2)) ≤ w32 v4 then
    L_X5_find_140 FU v0 v1 v2 v3 0 1 M
  else
    if inb ((16 * v2) + v4) 96 then 
    if w32 (m_i M 558 v0 (ixn ((16 * v2) + v4))) = w32 (-1) then
      B_X5_find_91 k21 v0 v1 v2 v4 (m_i M 559 v0 (ixn ((16 * v2) + v4))) v3 M
    else
      if inb ((20 * v1) + (m_i M 558 v0 (ixn ((16 * v2) + v4)))) 1200 then 
      if w32 (m_i M 555 v0 (ixn ((20 * v1) + (m_i M 558 v0 (ixn ((16 * v2) + v4)))))) = w32 (-2000000) then
        B_X5_find_91 k21 v0 v1 v2 v4 (m_i M 559 v0 (ixn ((16 * v2) + v4))) v3 M
      else
        B_X5_find_92 k21 v0 v1 v2 v4 (m_i M 559 v0 (ixn ((16 * v2) + v4))) v3 (l32 1 (m_i M 558 v0 (ixn ((16 * v2) + v4)))) M else none else none else none
def L_X5_find_21  : Nat → Nat → Int → Int → Int → Int → Mem → Option (Int × Mem)
  | 0, _, _, _, _, _, _ => none
  | n + 1, v0, v1, v2, v3, v4, M => B_X5_find_21 (L_X5_find_21  n) v0 v1 v2 v3 v4 M
def d_X5_find (v0 : Nat) (v1 : Int) (M : Mem) : Option (Int × Mem) :=
  bR (d_X5_formOf v0 v1 M) fun r1 => 
  L_X5_find_21 FU v0 v1 r1 0 0 (m_si (m_si M 562 v0 0 (-1)) 563 v0 0 (-1))
theorem cB_X5_find_232 {X : x_Ctx} {M0 : Mem} (C : x_CC X 3 85 yX5_find cX5_find 8 none []) {k140 : Nat → Int → Int → Int → Int → Int → Mem → Option (Int × Mem)} (hk140 : ∀ (v0 : Nat) (v1 : Int) (v2 : Int) (v3 : Int) (v4 : Int) (v5 : Int) (M : Mem) (r : Int) (M' : Mem), m_kd M v0 = 5 → k140 v0 v1 v2 v3 v4 v5 M = some (r, M') → x_Z X 0 0 (x_QF X M0 (.returned none) M' 0 0) M0 M 8 [(0, .ref v0), (1, vI v1), (2, vI v2), (3, vI v3), (4, vI v4), (5, vI v5)] 140 []) (v0 : Nat) (v1 : Int) (v2 : Int) (v3 : Int) (v4 : Int) (M : Mem) (r : Int) (M' : Mem) (hv0 : m_kd M v0 = 5) (h : B_X5_find_232 k140 v0 v1 v2 v3 v4 M = some (r, M'))  : x_Z X 0 0 (x_QF X M0 (.returned none) M' 0 0) M0 M 8 [(0, .ref v0), (1, vI v1), (2, vI v2), (3, vI v3), (4, vI v4)] 232 [] := by
  unfold B_X5_find_232 at h
  refine z_iload (pc := 232) C 4 rfl dX5_find_232 ?_
  refine z_iload_n (pc := 234) C 3 rfl dX5_find_234 ?_
  refine z_ic_eq (pc := 235) C dX5_find_235 (tgt := 242) (by decide) (fun c15 => ?_) (fun c15 => ?_)
  · have h := itt c15 h
    refine z_iconst (pc := 242) C dX5_find_242 ?_
    refine z_istore (pc := 243) C (lv' := [(0, .ref v0), (1, vI v1), (2, vI v2), (3, vI v3), (4, vI v4), (5, vI 0)]) (by decide) rfl dX5_find_243 ?_
    refine z_iload (pc := 245) C 4 rfl dX5_find_245 ?_
    refine z_iload_n (pc := 247) C 3 rfl dX5_find_247 ?_
    refine z_isub (pc := 248) C dX5_find_248 ?_
    refine z_iload_n (pc := 249) C 3 rfl dX5_find_249 ?_
    refine z_iand (pc := 250) C dX5_find_250 ?_
    refine z_istore (pc := 251) C (lv' := [(0, .ref v0), (1, vI v1), (2, vI v2), (3, vI v3), (4, vI (a32 (v4 - v3) v3)), (5, vI 0)]) (by decide) rfl dX5_find_251 ?_
    refine z_goto (pc := 253) C dX5_find_253 (tgt := 140) (by decide) ?_
    exact hk140 v0 v1 v2 v3 (a32 (v4 - v3) v3) 0 M _ _ hv0 h
  · have h := itf c15 h
    refine z_iconst (pc := 238) C dX5_find_238 ?_
    refine z_goto (pc := 239) C dX5_find_239 (tgt := 243) (by decide) ?_
    refine z_istore (pc := 243) C (lv' := [(0, .ref v0), (1, vI v1), (2, vI v2), (3, vI v3), (4, vI v4), (5, vI 1)]) (by decide) rfl dX5_find_243 ?_
    refine z_iload (pc := 245) C 4 rfl dX5_find_245 ?_
    refine z_iload_n (pc := 247) C 3 rfl dX5_find_247 ?_
    refine z_isub (pc := 248) C dX5_find_248 ?_
    refine z_iload_n (pc := 249) C 3 rfl dX5_find_249 ?_
    refine z_iand (pc := 250) C dX5_find_250 ?_
    refine z_istore (pc := 251) C (lv' := [(0, .ref v0), (1, vI v1), (2, vI v2), (3, vI v3), (4, vI (a32 (v4 - v3) v3)), (5, vI 1)]) (by decide) rfl dX5_find_251 ?_
    refine z_goto (pc := 253) C dX5_find_253 (tgt := 140) (by decide) ?_
    exact hk140 v0 v1 v2 v3 (a32 (v4 - v3) v3) 1 M _ _ hv0 h
theorem cB_X5_find_210 {X : x_Ctx} {M0 : Mem} (C : x_CC X 3 85 yX5_find cX5_find 8 none []) {k140 : Nat → Int → Int → Int → Int → Int → Mem → Option (Int × Mem)} (hk140 : ∀ (v0 : Nat) (v1 : Int) (v2 : Int) (v3 : Int) (v4 : Int) (v5 : Int) (M : Mem) (r : Int) (M' : Mem), m_kd M v0 = 5 → k140 v0 v1 v2 v3 v4 v5 M = some (r, M') → x_Z X 0 0 (x_QF X M0 (.returned none) M' 0 0) M0 M 8 [(0, .ref v0), (1, vI v1), (2, vI v2), (3, vI v3), (4, vI v4), (5, vI v5)] 140 []) (v0 : Nat) (v1 : Int) (v2 : Int) (v3 : Int) (v4 : Int) (v6 : Int) (M : Mem) (r : Int) (M' : Mem) (hv0 : m_kd M v0 = 5) (h : B_X5_find_210 k140 v0 v1 v2 v3 v4 v6 M = some (r, M'))  : x_Z X 0 0 (x_QF X M0 (.returned none) M' 0 0) M0 M 8 [(0, .ref v0), (1, vI v1), (2, vI v2), (3, vI v3), (4, vI v4), (6, vI v6)] 210 [] := by
  unfold B_X5_find_210 at h
  refine z_aload_n (pc := 210) C 0 rfl dX5_find_210 ?_
  refine z_iload_n (pc := 211) C 1 rfl dX5_find_211 ?_
  refine z_iload (pc := 212) C 4 rfl dX5_find_212 ?_
  obtain ⟨r9, M10, e11, h⟩ := bNs h
  refine cX5_429 (pc := 214) (st := []) (st1 := [vI r9]) C rfl (rm := { frames := 2, cells := 0, slots := 0, locals := 51 }) (ct_X5_fits C.2.1 v0 v1 v4 M _ _ hv0 e11) ⟨by decide, by decide, Nat.zero_le _, Nat.zero_le _⟩ (Or.inl hv0) rfl (Nat.le_of_ble_eq_true rfl) dX5_find_214 (c2 := 0) (s2 := 0) rfl rfl (fun x12 => ?_)
  have k13 := x12 _ 5 (by decide) (Or.inl (by decide)) hv0
  refine z_if_eq (pc := 217) C dX5_find_217 (tgt := 232) (by decide) (fun c14 => ?_) (fun c14 => ?_)
  · have h := itt c14 h
    exact z_lv [0, 1, 2, 3, 4] rfl <| cB_X5_find_232 C hk140 v0 v1 v2 v3 v4 M10 _ _ k13 h
  · have h := itf c14 h
    refine z_aload_n (pc := 220) C 0 rfl dX5_find_220 ?_
    refine z_iload (pc := 221) C 5 rfl dX5_find_221 ?_
    refine pX5_562 (pc := 223) C rfl (Or.inl k13) dX5_find_223 ?_
    refine z_aload_n (pc := 226) C 0 rfl dX5_find_226 ?_
    refine z_iload (pc := 227) C 4 rfl dX5_find_227 ?_
    refine pX5_563 (pc := 229) C rfl (Or.inl k13) dX5_find_229 ?_
    exact z_lv [0, 1, 2, 3, 4] rfl <| cB_X5_find_232 C hk140 v0 v1 v2 v3 v4 (m_si (m_si M10 562 v0 0 v6) 563 v0 0 v4) _ _ k13 h
theorem cB_X5_find_151 {X : x_Ctx} {M0 : Mem} (C : x_CC X 3 85 yX5_find cX5_find 8 none []) {k140 : Nat → Int → Int → Int → Int → Int → Mem → Option (Int × Mem)} (hk140 : ∀ (v0 : Nat) (v1 : Int) (v2 : Int) (v3 : Int) (v4 : Int) (v5 : Int) (M : Mem) (r : Int) (M' : Mem), m_kd M v0 = 5 → k140 v0 v1 v2 v3 v4 v5 M = some (r, M') → x_Z X 0 0 (x_QF X M0 (.returned none) M' 0 0) M0 M 8 [(0, .ref v0), (1, vI v1), (2, vI v2), (3, vI v3), (4, vI v4), (5, vI v5)] 140 []) {k151 : Nat → Int → Int → Int → Int → Int → Int → Mem → Option (Int × Mem)} (hk151 : ∀ (v0 : Nat) (v1 : Int) (v2 : Int) (v3 : Int) (v4 : Int) (v6 : Int) (v7 : Int) (M : Mem) (r : Int) (M' : Mem), m_kd M v0 = 5 → k151 v0 v1 v2 v3 v4 v6 v7 M = some (r, M') → x_Z X 0 0 (x_QF X M0 (.returned none) M' 0 0) M0 M 8 [(0, .ref v0), (1, vI v1), (2, vI v2), (3, vI v3), (4, vI v4), (6, vI v6), (7, vI v7)] 151 []) (v0 : Nat) (v1 : Int) (v2 : Int) (v3 : Int) (v4 : Int) (v6 : Int) (v7 : Int) (M : Mem) (r : Int) (M' : Mem) (hv0 : m_kd M v0 = 5) (h : B_X5_find_151 k140 k151 v0 v1 v2 v3 v4 v6 v7 M = some (r, M'))  : x_Z X 0 0 (x_QF X M0 (.returned none) M' 0 0) M0 M 8 [(0, .ref v0), (1, vI v1), (2, vI v2), (3, vI v3), (4, vI v4), (6, vI v6), (7, vI v7)] 151 [] := by
  unfold B_X5_find_151 at h
  refine z_iload (pc := 151) C 6 rfl dX5_find_151 ?_
  refine z_aload_n (pc := 153) C 0 rfl dX5_find_153 ?_
  refine gX5_515 (pc := 154) C rfl hv0 dX5_find_154 ?_
  refine z_iload_n (pc := 157) C 2 rfl dX5_find_157 ?_
  obtain ⟨c6, h⟩ := ifn h
  refine z_iaO (pc := 158) (k := 5) (j := 15) C 515 rfl (by decide) (by decide) (by decide) rfl rfl rfl rfl hv0 c6 rfl dX5_find_158 ?_
  refine z_ic_ge (pc := 159) C dX5_find_159 (tgt := 193) (by decide) (fun c7 => ?_) (fun c7 => ?_)
  · have h := itt c7 h
    refine z_aload_n (pc := 193) C 0 rfl dX5_find_193 ?_
    refine gX5_562 (pc := 194) C rfl (Or.inl hv0) rfl dX5_find_194 ?_
    refine z_iconst (pc := 197) C dX5_find_197 ?_
    refine z_ic_eq (pc := 198) C dX5_find_198 (tgt := 210) (by decide) (fun c8 => ?_) (fun c8 => ?_)
    · have h := itt c8 h
      exact z_lv [0, 1, 2, 3, 4, 5] rfl <| cB_X5_find_210 C hk140 v0 v1 v2 v3 v4 v6 M _ _ hv0 h
    · have h := itf c8 h
      refine z_iload (pc := 201) C 5 rfl dX5_find_201 ?_
      refine z_aload_n (pc := 203) C 0 rfl dX5_find_203 ?_
      refine gX5_562 (pc := 204) C rfl (Or.inl hv0) rfl dX5_find_204 ?_
      refine z_ic_ge (pc := 207) C dX5_find_207 (tgt := 232) (by decide) (fun c16 => ?_) (fun c16 => ?_)
      · have h := itt c16 h
        exact z_lv [0, 1, 2, 3, 4] rfl <| cB_X5_find_232 C hk140 v0 v1 v2 v3 v4 M _ _ hv0 h
      · have h := itf c16 h
        exact z_lv [0, 1, 2, 3, 4, 5] rfl <| cB_X5_find_210 C hk140 v0 v1 v2 v3 v4 v6 M _ _ hv0 h
  · have h := itf c7 h
    refine z_iload (pc := 162) C 5 rfl dX5_find_162 ?_
    refine z_iload (pc := 164) C 4 rfl dX5_find_164 ?_
    refine z_iload (pc := 166) C 6 rfl dX5_find_166 ?_
    refine z_ishr (pc := 168) C dX5_find_168 ?_
    refine z_iconst (pc := 169) C dX5_find_169 ?_
    refine z_iand (pc := 170) C dX5_find_170 ?_
    refine z_aload_n (pc := 171) C 0 rfl dX5_find_171 ?_
    refine gX5_520 (pc := 172) C rfl hv0 dX5_find_172 ?_
    refine z_bipush (pc := 175) C (by decide +kernel) dX5_find_175 ?_
    refine z_iload_n (pc := 177) C 2 rfl dX5_find_177 ?_
    refine z_imul (pc := 178) C dX5_find_178 ?_
    refine z_iload (pc := 179) C 6 rfl dX5_find_179 ?_
    refine z_iadd (pc := 181) C dX5_find_181 ?_
    obtain ⟨c17, h⟩ := ifn h
    refine z_iaO (pc := 182) (k := 5) (j := 20) C 520 rfl (by decide) (by decide) (by decide) rfl rfl rfl rfl hv0 c17 rfl dX5_find_182 ?_
    refine z_imul (pc := 183) C dX5_find_183 ?_
    refine z_iadd (pc := 184) C dX5_find_184 ?_
    refine z_istore (pc := 185) C (lv' := [(0, .ref v0), (1, vI v1), (2, vI v2), (3, vI v3), (4, vI v4), (6, vI (v6 + ((a32 (s32 v4 v7) 1) * (m_i M 520 v0 (ixn ((20 * v2) + v7)))))), (7, vI v7)]) (by decide) rfl dX5_find_185 ?_
    refine z_iinc (pc := 187) C (lv' := [(0, .ref v0), (1, vI v1), (2, vI v2), (3, vI v3), (4, vI v4), (6, vI (v6 + ((a32 (s32 v4 v7) 1) * (m_i M 520 v0 (ixn ((20 * v2) + v7)))))), (7, vI (v7 + 1))]) 6 rfl (by decide) rfl dX5_find_187 ?_
    refine z_goto (pc := 190) C dX5_find_190 (tgt := 151) (by decide) ?_
    exact hk151 v0 v1 v2 v3 v4 (v6 + ((a32 (s32 v4 v7) 1) * (m_i M 520 v0 (ixn ((20 * v2) + v7))))) (v7 + 1) M _ _ hv0 h
theorem cL_X5_find_151 {X : x_Ctx} {M0 : Mem} (C : x_CC X 3 85 yX5_find cX5_find 8 none []) {k140 : Nat → Int → Int → Int → Int → Int → Mem → Option (Int × Mem)} (hk140 : ∀ (v0 : Nat) (v1 : Int) (v2 : Int) (v3 : Int) (v4 : Int) (v5 : Int) (M : Mem) (r : Int) (M' : Mem), m_kd M v0 = 5 → k140 v0 v1 v2 v3 v4 v5 M = some (r, M') → x_Z X 0 0 (x_QF X M0 (.returned none) M' 0 0) M0 M 8 [(0, .ref v0), (1, vI v1), (2, vI v2), (3, vI v3), (4, vI v4), (5, vI v5)] 140 []) : ∀ (n : Nat) (v0 : Nat) (v1 : Int) (v2 : Int) (v3 : Int) (v4 : Int) (v6 : Int) (v7 : Int) (M : Mem) (r : Int) (M' : Mem) (hv0 : m_kd M v0 = 5) (h : L_X5_find_151 k140 n v0 v1 v2 v3 v4 v6 v7 M = some (r, M')) , x_Z X 0 0 (x_QF X M0 (.returned none) M' 0 0) M0 M 8 [(0, .ref v0), (1, vI v1), (2, vI v2), (3, vI v3), (4, vI v4), (6, vI v6), (7, vI v7)] 151 [] := by
  intro n
  induction n with
  | zero => intro v0 v1 v2 v3 v4 v6 v7 M r M' hv0 h ; cases h
  | succ n ih => intro v0 v1 v2 v3 v4 v6 v7 M r M' hv0 h ; exact cB_X5_find_151 C hk140 (fun v0 v1 v2 v3 v4 v6 v7 M r M' hv0 h  => ih v0 v1 v2 v3 v4 v6 v7 M r M' hv0 h ) v0 v1 v2 v3 v4 v6 v7 M r M' hv0 h 
theorem cB_X5_find_140 {X : x_Ctx} {M0 : Mem} (C : x_CC X 3 85 yX5_find cX5_find 8 none []) {k140 : Nat → Int → Int → Int → Int → Int → Mem → Option (Int × Mem)} (hk140 : ∀ (v0 : Nat) (v1 : Int) (v2 : Int) (v3 : Int) (v4 : Int) (v5 : Int) (M : Mem) (r : Int) (M' : Mem), m_kd M v0 = 5 → k140 v0 v1 v2 v3 v4 v5 M = some (r, M') → x_Z X 0 0 (x_QF X M0 (.returned none) M' 0 0) M0 M 8 [(0, .ref v0), (1, vI v1), (2, vI v2), (3, vI v3), (4, vI v4), (5, vI v5)] 140 []) (v0 : Nat) (v1 : Int) (v2 : Int) (v3 : Int) (v4 : Int) (v5 : Int) (M : Mem) (r : Int) (M' : Mem) (hv0 : m_kd M v0 = 5) (h : B_X5_find_140 k140 v0 v1 v2 v3 v4 v5 M = some (r, M'))  : x_Z X 0 0 (x_QF X M0 (.returned none) M' 0 0) M0 M 8 [(0, .ref v0), (1, vI v1), (2, vI v2), (3, vI v3), (4, vI v4), (5, vI v5)] 140 [] := by
  unfold B_X5_find_140 at h
  refine z_iload (pc := 140) C 5 rfl dX5_find_140 ?_
  refine z_if_eq (pc := 142) C dX5_find_142 (tgt := 256) (by decide) (fun c5 => ?_) (fun c5 => ?_)
  · have h := itt c5 h
    cases h
    exact z_vret (pc := 256) C rfl (show 0 ≤ 0 from by decide) (show 0 ≤ 0 from by decide) dX5_find_256
  · have h := itf c5 h
    refine z_iconst (pc := 145) C dX5_find_145 ?_
    refine z_istore (pc := 146) C (lv' := [(0, .ref v0), (1, vI v1), (2, vI v2), (3, vI v3), (4, vI v4), (5, vI v5), (6, vI 0)]) (by decide) rfl dX5_find_146 ?_
    refine z_iconst (pc := 148) C dX5_find_148 ?_
    refine z_istore (pc := 149) C (lv' := [(0, .ref v0), (1, vI v1), (2, vI v2), (3, vI v3), (4, vI v4), (5, vI v5), (6, vI 0), (7, vI 0)]) (by decide) rfl dX5_find_149 ?_
    exact z_lv [0, 1, 2, 3, 4, 6, 7] rfl <| cL_X5_find_151 C hk140 FU v0 v1 v2 v3 v4 0 0 M _ _ hv0 h
theorem cL_X5_find_140 {X : x_Ctx} {M0 : Mem} (C : x_CC X 3 85 yX5_find cX5_find 8 none [])  : ∀ (n : Nat) (v0 : Nat) (v1 : Int) (v2 : Int) (v3 : Int) (v4 : Int) (v5 : Int) (M : Mem) (r : Int) (M' : Mem) (hv0 : m_kd M v0 = 5) (h : L_X5_find_140  n v0 v1 v2 v3 v4 v5 M = some (r, M')) , x_Z X 0 0 (x_QF X M0 (.returned none) M' 0 0) M0 M 8 [(0, .ref v0), (1, vI v1), (2, vI v2), (3, vI v3), (4, vI v4), (5, vI v5)] 140 [] := by
  intro n
  induction n with
  | zero => intro v0 v1 v2 v3 v4 v5 M r M' hv0 h ; cases h
  | succ n ih => intro v0 v1 v2 v3 v4 v5 M r M' hv0 h ; exact cB_X5_find_140 C (fun v0 v1 v2 v3 v4 v5 M r M' hv0 h  => ih v0 v1 v2 v3 v4 v5 M r M' hv0 h ) v0 v1 v2 v3 v4 v5 M r M' hv0 h 
theorem cB_X5_find_92 {X : x_Ctx} {M0 : Mem} (C : x_CC X 3 85 yX5_find cX5_find 8 none []) {k21 : Nat → Int → Int → Int → Int → Mem → Option (Int × Mem)} (hk21 : ∀ (v0 : Nat) (v1 : Int) (v2 : Int) (v3 : Int) (v4 : Int) (M : Mem) (r : Int) (M' : Mem), m_kd M v0 = 5 → k21 v0 v1 v2 v3 v4 M = some (r, M') → x_Z X 0 0 (x_QF X M0 (.returned none) M' 0 0) M0 M 8 [(0, .ref v0), (1, vI v1), (2, vI v2), (3, vI v3), (4, vI v4)] 21 []) (v0 : Nat) (v1 : Int) (v2 : Int) (v4 : Int) (v6 : Int) (s0 : Int) (s1 : Int) (M : Mem) (r : Int) (M' : Mem) (hv0 : m_kd M v0 = 5) (h : B_X5_find_92 k21 v0 v1 v2 v4 v6 s0 s1 M = some (r, M'))  : x_Z X 0 0 (x_QF X M0 (.returned none) M' 0 0) M0 M 8 [(0, .ref v0), (1, vI v1), (2, vI v2), (4, vI v4), (6, vI v6)] 92 [vI s1, vI s0] := by
  unfold B_X5_find_92 at h
  refine z_ior (pc := 92) C dX5_find_92 ?_
  refine z_istore_n (pc := 93) C (lv' := [(0, .ref v0), (1, vI v1), (2, vI v2), (3, vI (o32 s0 s1)), (4, vI v4), (6, vI v6)]) (by decide) rfl dX5_find_93 ?_
  refine z_iload_n (pc := 94) C 3 rfl dX5_find_94 ?_
  refine z_iload (pc := 95) C 5 rfl dX5_find_95 ?_
  refine z_iconst (pc := 97) C dX5_find_97 ?_
  refine z_ic_eq (pc := 98) C dX5_find_98 (tgt := 125) (by decide) (fun c20 => ?_) (fun c20 => ?_)
  · have h := itt c20 h
    refine z_iconst (pc := 125) C dX5_find_125 ?_
    refine z_ior (pc := 126) C dX5_find_126 ?_
    refine z_istore_n (pc := 127) C (lv' := [(0, .ref v0), (1, vI v1), (2, vI v2), (3, vI (o32 (o32 s0 s1) 0)), (4, vI v4), (6, vI v6)]) (by decide) rfl dX5_find_127 ?_
    refine z_iinc (pc := 128) C (lv' := [(0, .ref v0), (1, vI v1), (2, vI v2), (3, vI (o32 (o32 s0 s1) 0)), (4, vI (v4 + 1)), (6, vI v6)]) 4 rfl (by decide) rfl dX5_find_128 ?_
    refine z_goto (pc := 131) C dX5_find_131 (tgt := 21) (by decide) ?_
    exact z_lv [0, 1, 2, 3, 4] rfl <| hk21 v0 v1 v2 (o32 (o32 s0 s1) 0) (v4 + 1) M _ _ hv0 h
  · have h := itf c20 h
    refine z_aload_n (pc := 101) C 0 rfl dX5_find_101 ?_
    refine gX5_555 (pc := 102) C rfl hv0 dX5_find_102 ?_
    refine z_bipush (pc := 105) C (by decide +kernel) dX5_find_105 ?_
    refine z_iload_n (pc := 107) C 1 rfl dX5_find_107 ?_
    refine z_imul (pc := 108) C dX5_find_108 ?_
    refine z_iload (pc := 109) C 5 rfl dX5_find_109 ?_
    refine z_iadd (pc := 111) C dX5_find_111 ?_
    obtain ⟨c21, h⟩ := ifn h
    refine z_iaO (pc := 112) (k := 5) (j := 55) C 555 rfl (by decide) (by decide) (by decide) rfl rfl rfl rfl hv0 c21 rfl dX5_find_112 ?_
    refine z_ldc (pc := 113) C (x := -2000000) q1829 (by decide +kernel) dX5_find_113 ?_
    refine z_ic_eq (pc := 115) C dX5_find_115 (tgt := 125) (by decide) (fun c22 => ?_) (fun c22 => ?_)
    · have h := itt c22 h
      refine z_iconst (pc := 125) C dX5_find_125 ?_
      refine z_ior (pc := 126) C dX5_find_126 ?_
      refine z_istore_n (pc := 127) C (lv' := [(0, .ref v0), (1, vI v1), (2, vI v2), (3, vI (o32 (o32 s0 s1) 0)), (4, vI v4), (6, vI v6)]) (by decide) rfl dX5_find_127 ?_
      refine z_iinc (pc := 128) C (lv' := [(0, .ref v0), (1, vI v1), (2, vI v2), (3, vI (o32 (o32 s0 s1) 0)), (4, vI (v4 + 1)), (6, vI v6)]) 4 rfl (by decide) rfl dX5_find_128 ?_
      refine z_goto (pc := 131) C dX5_find_131 (tgt := 21) (by decide) ?_
      exact z_lv [0, 1, 2, 3, 4] rfl <| hk21 v0 v1 v2 (o32 (o32 s0 s1) 0) (v4 + 1) M _ _ hv0 h
    · have h := itf c22 h
      refine z_iconst (pc := 118) C dX5_find_118 ?_
      refine z_iload (pc := 119) C 5 rfl dX5_find_119 ?_
      refine z_ishl (pc := 121) C dX5_find_121 ?_
      refine z_goto (pc := 122) C dX5_find_122 (tgt := 126) (by decide) ?_
      refine z_ior (pc := 126) C dX5_find_126 ?_
      refine z_istore_n (pc := 127) C (lv' := [(0, .ref v0), (1, vI v1), (2, vI v2), (3, vI (o32 (o32 s0 s1) (l32 1 v6))), (4, vI v4), (6, vI v6)]) (by decide) rfl dX5_find_127 ?_
      refine z_iinc (pc := 128) C (lv' := [(0, .ref v0), (1, vI v1), (2, vI v2), (3, vI (o32 (o32 s0 s1) (l32 1 v6))), (4, vI (v4 + 1)), (6, vI v6)]) 4 rfl (by decide) rfl dX5_find_128 ?_
      refine z_goto (pc := 131) C dX5_find_131 (tgt := 21) (by decide) ?_
      exact z_lv [0, 1, 2, 3, 4] rfl <| hk21 v0 v1 v2 (o32 (o32 s0 s1) (l32 1 v6)) (v4 + 1) M _ _ hv0 h
theorem cB_X5_find_91 {X : x_Ctx} {M0 : Mem} (C : x_CC X 3 85 yX5_find cX5_find 8 none []) {k21 : Nat → Int → Int → Int → Int → Mem → Option (Int × Mem)} (hk21 : ∀ (v0 : Nat) (v1 : Int) (v2 : Int) (v3 : Int) (v4 : Int) (M : Mem) (r : Int) (M' : Mem), m_kd M v0 = 5 → k21 v0 v1 v2 v3 v4 M = some (r, M') → x_Z X 0 0 (x_QF X M0 (.returned none) M' 0 0) M0 M 8 [(0, .ref v0), (1, vI v1), (2, vI v2), (3, vI v3), (4, vI v4)] 21 []) (v0 : Nat) (v1 : Int) (v2 : Int) (v4 : Int) (v6 : Int) (s0 : Int) (M : Mem) (r : Int) (M' : Mem) (hv0 : m_kd M v0 = 5) (h : B_X5_find_91 k21 v0 v1 v2 v4 v6 s0 M = some (r, M'))  : x_Z X 0 0 (x_QF X M0 (.returned none) M' 0 0) M0 M 8 [(0, .ref v0), (1, vI v1), (2, vI v2), (4, vI v4), (6, vI v6)] 91 [vI s0] := by
  unfold B_X5_find_91 at h
  refine z_iconst (pc := 91) C dX5_find_91 ?_
  exact cB_X5_find_92 C hk21 v0 v1 v2 v4 v6 s0 0 M _ _ hv0 h
theorem cB_X5_find_21 {X : x_Ctx} {M0 : Mem} (C : x_CC X 3 85 yX5_find cX5_find 8 none []) {k21 : Nat → Int → Int → Int → Int → Mem → Option (Int × Mem)} (hk21 : ∀ (v0 : Nat) (v1 : Int) (v2 : Int) (v3 : Int) (v4 : Int) (M : Mem) (r : Int) (M' : Mem), m_kd M v0 = 5 → k21 v0 v1 v2 v3 v4 M = some (r, M') → x_Z X 0 0 (x_QF X M0 (.returned none) M' 0 0) M0 M 8 [(0, .ref v0), (1, vI v1), (2, vI v2), (3, vI v3), (4, vI v4)] 21 []) (v0 : Nat) (v1 : Int) (v2 : Int) (v3 : Int) (v4 : Int) (M : Mem) (r : Int) (M' : Mem) (hv0 : m_kd M v0 = 5) (h : B_X5_find_21 k21 v0 v1 v2 v3 v4 M = some (r, M'))  : x_Z X 0 0 (x_QF X M0 (.returned none) M' 0 0) M0 M 8 [(0, .ref v0), (1, vI v1), (2, vI v2), (3, vI v3), (4, vI v4)] 21 [] := by
  unfold B_X5_find_21 at h
  refine z_iload (pc := 21) C 4 rfl dX5_find_21 ?_
  refine z_aload_n (pc := 23) C 0 rfl dX5_find_23 ?_
  refine gX5_557 (pc := 24) C rfl hv0 dX5_find_24 ?_
  refine z_iload_n (pc := 27) C 2 rfl dX5_find_27 ?_
  obtain ⟨c3, h⟩ := ifn h
  refine z_iaO (pc := 28) (k := 5) (j := 57) C 557 rfl (by decide) (by decide) (by decide) rfl rfl rfl rfl hv0 c3 rfl dX5_find_28 ?_
  refine z_ic_ge (pc := 29) C dX5_find_29 (tgt := 134) (by decide) (fun c4 => ?_) (fun c4 => ?_)
  · have h := itt c4 h
    refine z_iconst (pc := 134) C dX5_find_134 ?_
    refine z_istore (pc := 135) C (lv' := [(0, .ref v0), (1, vI v1), (2, vI v2), (3, vI v3), (4, vI 0)]) (by decide) rfl dX5_find_135 ?_
    refine z_iconst (pc := 137) C dX5_find_137 ?_
    refine z_istore (pc := 138) C (lv' := [(0, .ref v0), (1, vI v1), (2, vI v2), (3, vI v3), (4, vI 0), (5, vI 1)]) (by decide) rfl dX5_find_138 ?_
    exact cL_X5_find_140 C FU v0 v1 v2 v3 0 1 M _ _ hv0 h
  · have h := itf c4 h
    refine z_aload_n (pc := 32) C 0 rfl dX5_find_32 ?_
    refine gX5_558 (pc := 33) C rfl hv0 dX5_find_33 ?_
    refine z_bipush (pc := 36) C (by decide +kernel) dX5_find_36 ?_
    refine z_iload_n (pc := 38) C 2 rfl dX5_find_38 ?_
    refine z_imul (pc := 39) C dX5_find_39 ?_
    refine z_iload (pc := 40) C 4 rfl dX5_find_40 ?_
    refine z_iadd (pc := 42) C dX5_find_42 ?_
    obtain ⟨c18, h⟩ := ifn h
    refine z_iaO (pc := 43) (k := 5) (j := 58) C 558 rfl (by decide) (by decide) (by decide) rfl rfl rfl rfl hv0 c18 rfl dX5_find_43 ?_
    refine z_istore (pc := 44) C (lv' := [(0, .ref v0), (1, vI v1), (2, vI v2), (3, vI v3), (4, vI v4), (5, vI (m_i M 558 v0 (ixn ((16 * v2) + v4))))]) (by decide) rfl dX5_find_44 ?_
    refine z_aload_n (pc := 46) C 0 rfl dX5_find_46 ?_
    refine gX5_559 (pc := 47) C rfl hv0 dX5_find_47 ?_
    refine z_bipush (pc := 50) C (by decide +kernel) dX5_find_50 ?_
    refine z_iload_n (pc := 52) C 2 rfl dX5_find_52 ?_
    refine z_imul (pc := 53) C dX5_find_53 ?_
    refine z_iload (pc := 54) C 4 rfl dX5_find_54 ?_
    refine z_iadd (pc := 56) C dX5_find_56 ?_
    refine z_iaO (pc := 57) (k := 5) (j := 59) C 559 rfl (by decide) (by decide) (by decide) rfl rfl rfl rfl hv0 c18 rfl dX5_find_57 ?_
    refine z_istore (pc := 58) C (lv' := [(0, .ref v0), (1, vI v1), (2, vI v2), (3, vI v3), (4, vI v4), (5, vI (m_i M 558 v0 (ixn ((16 * v2) + v4)))), (6, vI (m_i M 559 v0 (ixn ((16 * v2) + v4))))]) (by decide) rfl dX5_find_58 ?_
    refine z_iload_n (pc := 60) C 3 rfl dX5_find_60 ?_
    refine z_iload (pc := 61) C 5 rfl dX5_find_61 ?_
    refine z_iconst (pc := 63) C dX5_find_63 ?_
    refine z_ic_eq (pc := 64) C dX5_find_64 (tgt := 91) (by decide) (fun c19 => ?_) (fun c19 => ?_)
    · have h := itt c19 h
      exact z_lv [0, 1, 2, 4, 6] rfl <| cB_X5_find_91 C hk21 v0 v1 v2 v4 (m_i M 559 v0 (ixn ((16 * v2) + v4))) v3 M _ _ hv0 h
    · have h := itf c19 h
      refine z_aload_n (pc := 67) C 0 rfl dX5_find_67 ?_
      refine gX5_555 (pc := 68) C rfl hv0 dX5_find_68 ?_
      refine z_bipush (pc := 71) C (by decide +kernel) dX5_find_71 ?_
      refine z_iload_n (pc := 73) C 1 rfl dX5_find_73 ?_
      refine z_imul (pc := 74) C dX5_find_74 ?_
      refine z_iload (pc := 75) C 5 rfl dX5_find_75 ?_
      refine z_iadd (pc := 77) C dX5_find_77 ?_
      obtain ⟨c23, h⟩ := ifn h
      refine z_iaO (pc := 78) (k := 5) (j := 55) C 555 rfl (by decide) (by decide) (by decide) rfl rfl rfl rfl hv0 c23 rfl dX5_find_78 ?_
      refine z_ldc (pc := 79) C (x := -2000000) q1829 (by decide +kernel) dX5_find_79 ?_
      refine z_ic_eq (pc := 81) C dX5_find_81 (tgt := 91) (by decide) (fun c24 => ?_) (fun c24 => ?_)
      · have h := itt c24 h
        exact z_lv [0, 1, 2, 4, 6] rfl <| cB_X5_find_91 C hk21 v0 v1 v2 v4 (m_i M 559 v0 (ixn ((16 * v2) + v4))) v3 M _ _ hv0 h
      · have h := itf c24 h
        refine z_iconst (pc := 84) C dX5_find_84 ?_
        refine z_iload (pc := 85) C 5 rfl dX5_find_85 ?_
        refine z_ishl (pc := 87) C dX5_find_87 ?_
        refine z_goto (pc := 88) C dX5_find_88 (tgt := 92) (by decide) ?_
        exact z_lv [0, 1, 2, 4, 6] rfl <| cB_X5_find_92 C hk21 v0 v1 v2 v4 (m_i M 559 v0 (ixn ((16 * v2) + v4))) v3 (l32 1 (m_i M 558 v0 (ixn ((16 * v2) + v4)))) M _ _ hv0 h
theorem cL_X5_find_21 {X : x_Ctx} {M0 : Mem} (C : x_CC X 3 85 yX5_find cX5_find 8 none [])  : ∀ (n : Nat) (v0 : Nat) (v1 : Int) (v2 : Int) (v3 : Int) (v4 : Int) (M : Mem) (r : Int) (M' : Mem) (hv0 : m_kd M v0 = 5) (h : L_X5_find_21  n v0 v1 v2 v3 v4 M = some (r, M')) , x_Z X 0 0 (x_QF X M0 (.returned none) M' 0 0) M0 M 8 [(0, .ref v0), (1, vI v1), (2, vI v2), (3, vI v3), (4, vI v4)] 21 [] := by
  intro n
  induction n with
  | zero => intro v0 v1 v2 v3 v4 M r M' hv0 h ; cases h
  | succ n ih => intro v0 v1 v2 v3 v4 M r M' hv0 h ; exact cB_X5_find_21 C (fun v0 v1 v2 v3 v4 M r M' hv0 h  => ih v0 v1 v2 v3 v4 M r M' hv0 h ) v0 v1 v2 v3 v4 M r M' hv0 h 
theorem ct_X5_find {l : Launch} {S0 : State} {D : va_G} {cA : Nat → ClassId} (hG : x_G l S0 D cA) (v0 : Nat) (v1 : Int) (M : Mem) (r : Int) (M' : Mem) (hv0 : m_kd M v0 = 5) (h : d_X5_find v0 v1 M = some (r, M')) : x_Me l S0 D cA yX5_find cX5_find 8 none [] ({ frames := 3, cells := 0, slots := 0, locals := 85 }) [.ref v0, vI v1] M (.returned none) M' := by
  refine x_begin (F := 3) (Lo := 85) (mc := 0) (ms := 0) hG (Nat.le_of_ble_eq_true rfl) (lv := [(0, .ref v0), (1, vI v1)]) rfl rfl rfl rfl rfl (fun X e1 e2 e3 e4 e5 C => ?_)
  unfold d_X5_find at h
  refine z_aload_n (pc := 0) C 0 rfl dX5_find_0 ?_
  refine z_iload_n (pc := 1) C 1 rfl dX5_find_1 ?_
  obtain ⟨r1, e2, h⟩ := bRs h
  refine cX5_401 (pc := 2) (st := []) (st1 := [vI r1]) C rfl (rm := { frames := 1, cells := 0, slots := 0, locals := 24 }) (ct_X5_formOf C.2.1 v0 v1 M _ hv0 e2) ⟨by decide, by decide, Nat.zero_le _, Nat.zero_le _⟩ (Or.inl hv0) rfl (Nat.le_of_ble_eq_true rfl) dX5_find_2 (c2 := 0) (s2 := 0) rfl rfl (fun _ => ?_)
  refine z_istore_n (pc := 5) C (lv' := [(0, .ref v0), (1, vI v1), (2, vI r1)]) (by decide) rfl dX5_find_5 ?_
  refine z_aload_n (pc := 6) C 0 rfl dX5_find_6 ?_
  refine z_iconst (pc := 7) C dX5_find_7 ?_
  refine pX5_562 (pc := 8) C rfl (Or.inl hv0) dX5_find_8 ?_
  refine z_aload_n (pc := 11) C 0 rfl dX5_find_11 ?_
  refine z_iconst (pc := 12) C dX5_find_12 ?_
  refine pX5_563 (pc := 13) C rfl (Or.inl hv0) dX5_find_13 ?_
  refine z_iconst (pc := 16) C dX5_find_16 ?_
  refine z_istore_n (pc := 17) C (lv' := [(0, .ref v0), (1, vI v1), (2, vI r1), (3, vI 0)]) (by decide) rfl dX5_find_17 ?_
  refine z_iconst (pc := 18) C dX5_find_18 ?_
  refine z_istore (pc := 19) C (lv' := [(0, .ref v0), (1, vI v1), (2, vI r1), (3, vI 0), (4, vI 0)]) (by decide) rfl dX5_find_19 ?_
  exact cL_X5_find_21 C FU v0 v1 r1 0 0 (m_si (m_si M 562 v0 0 (-1)) 563 v0 0 (-1)) _ _ hv0 h
def d_X5_least (v0 : Nat) (v1 : Int) (v2 : Int) (M : Mem) : Option (Int × Mem) :=
  if w32 (d_X5_isIn (w32 v1) 0 (w32 ((m_i M 553 v0 0) - 1))) = 0 then
    bN (d_X5_fail v0 1 (m_si M 500 v0 0 0)) fun r9 M10 => 
    some (r9, M10)
  else
    bN (d_X5_find v0 v1 (m_si M 500 v0 0 0)) fun r3 M4 => 
    if w32 v2 = 0 then
      some (m_i M4 562 v0 0, M4)
    else
      some (m_i M4 563 v0 0, M4)
theorem ct_X5_least {l : Launch} {S0 : State} {D : va_G} {cA : Nat → ClassId} (hG : x_G l S0 D cA) (v0 : Nat) (v1 : Int) (v2 : Int) (M : Mem) (r : Int) (M' : Mem) (hv0 : m_kd M v0 = 5) (h : d_X5_least v0 v1 v2 M = some (r, M')) : x_Me l S0 D cA yX5_least cX5_least 3 (some .int) [] ({ frames := 4, cells := 0, slots := 0, locals := 116 }) [.ref v0, vI v1, vI v2] M (.returned (some (vI r))) M' := by
  refine x_begin (F := 4) (Lo := 116) (mc := 0) (ms := 0) hG (Nat.le_of_ble_eq_true rfl) (lv := [(0, .ref v0), (1, vI v1), (2, vI v2)]) rfl rfl rfl rfl rfl (fun X e1 e2 e3 e4 e5 C => ?_)
  unfold d_X5_least at h
  refine z_aload_n (pc := 0) C 0 rfl dX5_least_0 ?_
  refine z_iconst (pc := 1) C dX5_least_1 ?_
  refine pX5_500 (pc := 2) C rfl (Or.inl hv0) dX5_least_2 ?_
  refine z_iload_n (pc := 5) C 1 rfl dX5_least_5 ?_
  refine z_i2l (pc := 6) C dX5_least_6 ?_
  refine z_lconst (pc := 7) C (x := 0) (by decide +kernel) dX5_least_7 ?_
  refine z_aload_n (pc := 8) C 0 rfl dX5_least_8 ?_
  refine gX5_553 (pc := 9) C rfl (Or.inl hv0) (x := m_i M 553 v0 0) ((m_i_ne (by decide)).trans rfl) dX5_least_9 ?_
  refine z_iconst (pc := 12) C dX5_least_12 ?_
  refine z_isub (pc := 13) C dX5_least_13 ?_
  refine z_i2l (pc := 14) C dX5_least_14 ?_
  refine cX5_207 (pc := 15) (st := []) (st1 := [vI (d_X5_isIn (w32 v1) 0 (w32 ((m_i M 553 v0 0) - 1)))]) C rfl (rm := { frames := 1, cells := 0, slots := 0, locals := 24 }) (ct_X5_isIn C.2.1 (w32 v1) 0 (w32 ((m_i M 553 v0 0) - 1)) (m_si M 500 v0 0 0) _  rfl) ⟨by decide, by decide, Nat.zero_le _, Nat.zero_le _⟩ rfl (Nat.le_of_ble_eq_true rfl) dX5_least_15 (c2 := 0) (s2 := 0) rfl rfl (fun _ => ?_)
  refine z_if_ne (pc := 18) C dX5_least_18 (tgt := 27) (by decide) (fun c2 => ?_) (fun c2 => ?_)
  · have h := itf c2 h
    refine z_aload_n (pc := 27) C 0 rfl dX5_least_27 ?_
    refine z_iload_n (pc := 28) C 1 rfl dX5_least_28 ?_
    obtain ⟨r3, M4, e5, h⟩ := bNs h
    refine cX5_432 (pc := 29) (st := []) (st1 := []) C rfl (rm := { frames := 3, cells := 0, slots := 0, locals := 85 }) (ct_X5_find C.2.1 v0 v1 (m_si M 500 v0 0 0) _ _ hv0 e5) ⟨by decide, by decide, Nat.zero_le _, Nat.zero_le _⟩ (Or.inl hv0) rfl (Nat.le_of_ble_eq_true rfl) dX5_least_29 (c2 := 0) (s2 := 0) rfl rfl (fun x6 => ?_)
    have k7 := x6 _ 5 (by decide) (Or.inl (by decide)) hv0
    refine z_iload_n (pc := 32) C 2 rfl dX5_least_32 ?_
    refine z_if_eq (pc := 33) C dX5_least_33 (tgt := 43) (by decide) (fun c8 => ?_) (fun c8 => ?_)
    · have h := itt c8 h
      refine z_aload_n (pc := 43) C 0 rfl dX5_least_43 ?_
      refine gX5_562 (pc := 44) C rfl (Or.inl k7) rfl dX5_least_44 ?_
      cases h
      exact z_iret (pc := 47) C rfl (show 0 ≤ 0 from by decide) (show 0 ≤ 0 from by decide) dX5_least_47
    · have h := itf c8 h
      refine z_aload_n (pc := 36) C 0 rfl dX5_least_36 ?_
      refine gX5_563 (pc := 37) C rfl (Or.inl k7) rfl dX5_least_37 ?_
      refine z_goto (pc := 40) C dX5_least_40 (tgt := 47) (by decide) ?_
      cases h
      exact z_iret (pc := 47) C rfl (show 0 ≤ 0 from by decide) (show 0 ≤ 0 from by decide) dX5_least_47
  · have h := itt c2 h
    refine z_aload_n (pc := 21) C 0 rfl dX5_least_21 ?_
    refine z_iconst (pc := 22) C dX5_least_22 ?_
    obtain ⟨r9, M10, e11, h⟩ := bNs h
    refine cX5_213 (pc := 23) (st := []) (st1 := [vI r9]) C rfl (rm := { frames := 1, cells := 0, slots := 0, locals := 24 }) (ct_X5_fail C.2.1 v0 1 (m_si M 500 v0 0 0) _ _ hv0 e11) ⟨by decide, by decide, Nat.zero_le _, Nat.zero_le _⟩ (Or.inl hv0) rfl (Nat.le_of_ble_eq_true rfl) dX5_least_23 (c2 := 0) (s2 := 0) rfl rfl (fun x12 => ?_)
    cases h
    exact z_iret (pc := 26) C rfl (show 0 ≤ 0 from by decide) (show 0 ≤ 0 from by decide) dX5_least_26
def B_X5_isClean_8 (k8 : Nat → Int → Int → Int → Mem → Option Int) (v0 : Nat) (v1 : Int) (v2 : Int) (v3 : Int) (M : Mem) : Option Int :=
  if inb v2 6 then 
  if w32 (m_i M 557 v0 (ixn v2)) ≤ w32 v3 then
    some 1
  else
    bR (d_X5_breaks v0 v1 ((16 * v2) + v3) M) fun r5 => 
    if w32 r5 = 0 then
      k8 v0 v1 v2 (v3 + 1) M
    else
      some 0 else none
def L_X5_isClean_8  : Nat → Nat → Int → Int → Int → Mem → Option Int
  | 0, _, _, _, _, _ => none
  | n + 1, v0, v1, v2, v3, M => B_X5_isClean_8 (L_X5_isClean_8  n) v0 v1 v2 v3 M
def d_X5_isClean (v0 : Nat) (v1 : Int) (M : Mem) : Option Int :=
  bR (d_X5_formOf v0 v1 M) fun r1 => 
  L_X5_isClean_8 FU v0 v1 r1 0 M
theorem cB_X5_isClean_8 {X : x_Ctx} {M0 : Mem} (C : x_CC X 2 52 yX5_isClean cX5_isClean 4 (some .boolean) []) {k8 : Nat → Int → Int → Int → Mem → Option Int} (hk8 : ∀ (v0 : Nat) (v1 : Int) (v2 : Int) (v3 : Int) (M : Mem) (r : Int), m_kd M v0 = 5 → k8 v0 v1 v2 v3 M = some r → x_Z X 0 0 (x_QF X M0 (.returned (some (vI r))) M 0 0) M0 M 4 [(0, .ref v0), (1, vI v1), (2, vI v2), (3, vI v3)] 8 []) (v0 : Nat) (v1 : Int) (v2 : Int) (v3 : Int) (M : Mem) (r : Int) (hv0 : m_kd M v0 = 5) (h : B_X5_isClean_8 k8 v0 v1 v2 v3 M = some r)  : x_Z X 0 0 (x_QF X M0 (.returned (some (vI r))) M 0 0) M0 M 4 [(0, .ref v0), (1, vI v1), (2, vI v2), (3, vI v3)] 8 [] := by
  unfold B_X5_isClean_8 at h
  refine z_iload_n (pc := 8) C 3 rfl dX5_isClean_8 ?_
  refine z_aload_n (pc := 9) C 0 rfl dX5_isClean_9 ?_
  refine gX5_557 (pc := 10) C rfl hv0 dX5_isClean_10 ?_
  refine z_iload_n (pc := 13) C 2 rfl dX5_isClean_13 ?_
  obtain ⟨c3, h⟩ := ifn h
  refine z_iaO (pc := 14) (k := 5) (j := 57) C 557 rfl (by decide) (by decide) (by decide) rfl rfl rfl rfl hv0 c3 rfl dX5_isClean_14 ?_
  refine z_ic_ge (pc := 15) C dX5_isClean_15 (tgt := 40) (by decide) (fun c4 => ?_) (fun c4 => ?_)
  · have h := itt c4 h
    refine z_iconst (pc := 40) C dX5_isClean_40 ?_
    cases h
    exact z_zret (pc := 41) C rfl (Or.inr rfl) (show 0 ≤ 0 from by decide) (show 0 ≤ 0 from by decide) dX5_isClean_41
  · have h := itf c4 h
    refine z_aload_n (pc := 18) C 0 rfl dX5_isClean_18 ?_
    refine z_iload_n (pc := 19) C 1 rfl dX5_isClean_19 ?_
    refine z_bipush (pc := 20) C (by decide +kernel) dX5_isClean_20 ?_
    refine z_iload_n (pc := 22) C 2 rfl dX5_isClean_22 ?_
    refine z_imul (pc := 23) C dX5_isClean_23 ?_
    refine z_iload_n (pc := 24) C 3 rfl dX5_isClean_24 ?_
    refine z_iadd (pc := 25) C dX5_isClean_25 ?_
    obtain ⟨r5, e6, h⟩ := bRs h
    refine cX5_416 (pc := 26) (st := []) (st1 := [vI r5]) C rfl (rm := { frames := 1, cells := 0, slots := 0, locals := 24 }) (ct_X5_breaks C.2.1 v0 v1 ((16 * v2) + v3) M _ hv0 e6) ⟨by decide, by decide, Nat.zero_le _, Nat.zero_le _⟩ (Or.inl hv0) rfl (Nat.le_of_ble_eq_true rfl) dX5_isClean_26 (c2 := 0) (s2 := 0) rfl rfl (fun _ => ?_)
    refine z_if_eq (pc := 29) C dX5_isClean_29 (tgt := 34) (by decide) (fun c7 => ?_) (fun c7 => ?_)
    · have h := itt c7 h
      refine z_iinc (pc := 34) C (lv' := [(0, .ref v0), (1, vI v1), (2, vI v2), (3, vI (v3 + 1))]) 3 rfl (by decide) rfl dX5_isClean_34 ?_
      refine z_goto (pc := 37) C dX5_isClean_37 (tgt := 8) (by decide) ?_
      exact hk8 v0 v1 v2 (v3 + 1) M _ hv0 h
    · have h := itf c7 h
      refine z_iconst (pc := 32) C dX5_isClean_32 ?_
      cases h
      exact z_zret (pc := 33) C rfl (Or.inl rfl) (show 0 ≤ 0 from by decide) (show 0 ≤ 0 from by decide) dX5_isClean_33
theorem cL_X5_isClean_8 {X : x_Ctx} {M0 : Mem} (C : x_CC X 2 52 yX5_isClean cX5_isClean 4 (some .boolean) [])  : ∀ (n : Nat) (v0 : Nat) (v1 : Int) (v2 : Int) (v3 : Int) (M : Mem) (r : Int) (hv0 : m_kd M v0 = 5) (h : L_X5_isClean_8  n v0 v1 v2 v3 M = some r) , x_Z X 0 0 (x_QF X M0 (.returned (some (vI r))) M 0 0) M0 M 4 [(0, .ref v0), (1, vI v1), (2, vI v2), (3, vI v3)] 8 [] := by
  intro n
  induction n with
  | zero => intro v0 v1 v2 v3 M r hv0 h ; cases h
  | succ n ih => intro v0 v1 v2 v3 M r hv0 h ; exact cB_X5_isClean_8 C (fun v0 v1 v2 v3 M r hv0 h  => ih v0 v1 v2 v3 M r hv0 h ) v0 v1 v2 v3 M r hv0 h 
theorem ct_X5_isClean {l : Launch} {S0 : State} {D : va_G} {cA : Nat → ClassId} (hG : x_G l S0 D cA) (v0 : Nat) (v1 : Int) (M : Mem) (r : Int) (hv0 : m_kd M v0 = 5) (h : d_X5_isClean v0 v1 M = some r) : x_Me l S0 D cA yX5_isClean cX5_isClean 4 (some .boolean) [] ({ frames := 2, cells := 0, slots := 0, locals := 52 }) [.ref v0, vI v1] M (.returned (some (vI r))) M := by
  refine x_begin (F := 2) (Lo := 52) (mc := 0) (ms := 0) hG (Nat.le_of_ble_eq_true rfl) (lv := [(0, .ref v0), (1, vI v1)]) rfl rfl rfl rfl rfl (fun X e1 e2 e3 e4 e5 C => ?_)
  unfold d_X5_isClean at h
  refine z_aload_n (pc := 0) C 0 rfl dX5_isClean_0 ?_
  refine z_iload_n (pc := 1) C 1 rfl dX5_isClean_1 ?_
  obtain ⟨r1, e2, h⟩ := bRs h
  refine cX5_401 (pc := 2) (st := []) (st1 := [vI r1]) C rfl (rm := { frames := 1, cells := 0, slots := 0, locals := 24 }) (ct_X5_formOf C.2.1 v0 v1 M _ hv0 e2) ⟨by decide, by decide, Nat.zero_le _, Nat.zero_le _⟩ (Or.inl hv0) rfl (Nat.le_of_ble_eq_true rfl) dX5_isClean_2 (c2 := 0) (s2 := 0) rfl rfl (fun _ => ?_)
  refine z_istore_n (pc := 5) C (lv' := [(0, .ref v0), (1, vI v1), (2, vI r1)]) (by decide) rfl dX5_isClean_5 ?_
  refine z_iconst (pc := 6) C dX5_isClean_6 ?_
  refine z_istore_n (pc := 7) C (lv' := [(0, .ref v0), (1, vI v1), (2, vI r1), (3, vI 0)]) (by decide) rfl dX5_isClean_7 ?_
  exact cL_X5_isClean_8 C FU v0 v1 r1 0 M _ hv0 h
def B_X5_mayGive_146 (k146 : Nat → Int → Int → Int → Int → Int → Mem → Option (Int × Mem)) (v0 : Nat) (v1 : Int) (v3 : Int) (v4 : Int) (v5 : Int) (v6 : Int) (M : Mem) : Option (Int × Mem) :=
  if inb v4 6 then 
  if w32 (m_i M 557 v0 (ixn v4)) ≤ w32 v6 then
    if v5 = 0 ∨ v5 = 1 then 
    some (v5, M) else none
  else
    if inb ((16 * v4) + v6) 96 then 
    bR (d_X5_side v0 v1 (m_i M 558 v0 (ixn ((16 * v4) + v6))) v3 M) fun r13 => 
    bR (d_X5_side v0 v1 (m_i M 559 v0 (ixn ((16 * v4) + v6))) v3 M) fun r15 => 
    if w32 v5 = 0 then
      k146 v0 v1 v3 v4 0 (v6 + 1) M
    else
      if w32 r13 = w32 (-2000000) then
        k146 v0 v1 v3 v4 1 (v6 + 1) M
      else
        if w32 r15 = w32 (-2000000) then
          k146 v0 v1 v3 v4 1 (v6 + 1) M
        else
          if w32 (m_i M 560 v0 (ixn ((16 * v4) + v6))) < w32 (r13 - r15) then
            k146 v0 v1 v3 v4 0 (v6 + 1) M
          else
            k146 v0 v1 v3 v4 1 (v6 + 1) M else none else none
def L_X5_mayGive_146  : Nat → Nat → Int → Int → Int → Int → Int → Mem → Option (Int × Mem)
  | 0, _, _, _, _, _, _, _ => none
  | n + 1, v0, v1, v3, v4, v5, v6, M => B_X5_mayGive_146 (L_X5_mayGive_146  n) v0 v1 v3 v4 v5 v6 M
def B_X5_mayGive_106 (k106 : Nat → Int → Int → Int → Int → Int → Int → Mem → Option (Int × Mem)) (v0 : Nat) (v1 : Int) (v2 : Int) (v3 : Int) (v4 : Int) (v5 : Int) (v6 : Int) (M : Mem) : Option (Int × Mem) :=
  if inb v4 6 then 
  if w32 (m_i M 515 v0 (ixn v4)) ≤ w32 v6 then
    L_X5_mayGive_146 FU v0 v1 v3 v4 v5 0 M
  else
    if inb ((20 * v2) + v6) 1200 then 
    if inb v6 20 then 
    k106 v0 v1 v2 v3 v4 v5 (v6 + 1) (m_si M 561 v0 (ixn v6) (m_i M 555 v0 (ixn ((20 * v2) + v6)))) else none else none else none
def L_X5_mayGive_106  : Nat → Nat → Int → Int → Int → Int → Int → Int → Mem → Option (Int × Mem)
  | 0, _, _, _, _, _, _, _, _ => none
  | n + 1, v0, v1, v2, v3, v4, v5, v6, M => B_X5_mayGive_106 (L_X5_mayGive_106  n) v0 v1 v2 v3 v4 v5 v6 M
def B_X5_mayGive_40 (k40 : Nat → Int → Int → Int → Int → Int → Int → Mem → Option (Int × Mem)) (v0 : Nat) (v1 : Int) (v2 : Int) (v3 : Int) (v4 : Int) (v5 : Int) (v6 : Int) (M : Mem) : Option (Int × Mem) :=
  if inb v4 6 then 
  if w32 (m_i M 515 v0 (ixn v4)) ≤ w32 v6 then
    if w32 v5 = 0 then
      some (0, M)
    else
      L_X5_mayGive_106 FU v0 v1 v2 v3 v4 v5 0 M
  else
    if w32 v5 = 0 then
      k40 v0 v1 v2 v3 v4 0 (v6 + 1) M
    else
      if w32 (a32 (s32 v3 v6) 1) = 0 then
        k40 v0 v1 v2 v3 v4 1 (v6 + 1) M
      else
        if inb ((20 * v2) + v6) 1200 then 
        if w32 (m_i M 555 v0 (ixn ((20 * v2) + v6))) = w32 (-2000000) then
          k40 v0 v1 v2 v3 v4 0 (v6 + 1) M
        else
          k40 v0 v1 v2 v3 v4 1 (v6 + 1) M else none else none
def L_X5_mayGive_40  : Nat → Nat → Int → Int → Int → Int → Int → Int → Mem → Option (Int × Mem)
  | 0, _, _, _, _, _, _, _, _ => none
  | n + 1, v0, v1, v2, v3, v4, v5, v6, M => B_X5_mayGive_40 (L_X5_mayGive_40  n) v0 v1 v2 v3 v4 v5 v6 M
def d_X5_mayGive (v0 : Nat) (v1 : Int) (v2 : Int) (v3 : Int) (M : Mem) : Option (Int × Mem) :=
  bR (d_X5_formOf v0 v1 M) fun r1 => 
  if w32 v2 = w32 v1 then
    L_X5_mayGive_40 FU v0 v1 v2 v3 r1 0 0 M
  else
    bR (d_X5_formOf v0 v2 M) fun r27 => 
    if w32 r27 = w32 r1 then
      bR (d_X5_isClean v0 v2 M) fun r30 => 
      if w32 r30 = 0 then
        L_X5_mayGive_40 FU v0 v1 v2 v3 r1 0 0 M
      else
        L_X5_mayGive_40 FU v0 v1 v2 v3 r1 1 0 M
    else
      L_X5_mayGive_40 FU v0 v1 v2 v3 r1 0 0 M
theorem cB_X5_mayGive_146 {X : x_Ctx} {M0 : Mem} (C : x_CC X 3 79 yX5_mayGive cX5_mayGive 10 (some .boolean) []) {k146 : Nat → Int → Int → Int → Int → Int → Mem → Option (Int × Mem)} (hk146 : ∀ (v0 : Nat) (v1 : Int) (v3 : Int) (v4 : Int) (v5 : Int) (v6 : Int) (M : Mem) (r : Int) (M' : Mem), m_kd M v0 = 5 → k146 v0 v1 v3 v4 v5 v6 M = some (r, M') → x_Z X 0 0 (x_QF X M0 (.returned (some (vI r))) M' 0 0) M0 M 10 [(0, .ref v0), (1, vI v1), (3, vI v3), (4, vI v4), (5, vI v5), (6, vI v6)] 146 []) (v0 : Nat) (v1 : Int) (v3 : Int) (v4 : Int) (v5 : Int) (v6 : Int) (M : Mem) (r : Int) (M' : Mem) (hv0 : m_kd M v0 = 5) (h : B_X5_mayGive_146 k146 v0 v1 v3 v4 v5 v6 M = some (r, M'))  : x_Z X 0 0 (x_QF X M0 (.returned (some (vI r))) M' 0 0) M0 M 10 [(0, .ref v0), (1, vI v1), (3, vI v3), (4, vI v4), (5, vI v5), (6, vI v6)] 146 [] := by
  unfold B_X5_mayGive_146 at h
  refine z_iload (pc := 146) C 5 rfl dX5_mayGive_146 ?_
  refine z_aload_n (pc := 148) C 0 rfl dX5_mayGive_148 ?_
  refine gX5_557 (pc := 149) C rfl hv0 dX5_mayGive_149 ?_
  refine z_iload (pc := 152) C 3 rfl dX5_mayGive_152 ?_
  obtain ⟨c9, h⟩ := ifn h
  refine z_iaO (pc := 154) (k := 5) (j := 57) C 557 rfl (by decide) (by decide) (by decide) rfl rfl rfl rfl hv0 c9 rfl dX5_mayGive_154 ?_
  refine z_ic_ge (pc := 155) C dX5_mayGive_155 (tgt := 245) (by decide) (fun c10 => ?_) (fun c10 => ?_)
  · have h := itt c10 h
    refine z_iload (pc := 245) C 4 rfl dX5_mayGive_245 ?_
    obtain ⟨c11, h⟩ := ifn h
    cases h
    exact z_zret (pc := 247) C rfl c11 (show 0 ≤ 0 from by decide) (show 0 ≤ 0 from by decide) dX5_mayGive_247
  · have h := itf c10 h
    refine z_bipush (pc := 158) C (by decide +kernel) dX5_mayGive_158 ?_
    refine z_iload (pc := 160) C 3 rfl dX5_mayGive_160 ?_
    refine z_imul (pc := 162) C dX5_mayGive_162 ?_
    refine z_iload (pc := 163) C 5 rfl dX5_mayGive_163 ?_
    refine z_iadd (pc := 165) C dX5_mayGive_165 ?_
    refine z_istore (pc := 166) C (lv' := [(0, .ref v0), (1, vI v1), (3, vI v3), (4, vI v4), (5, vI v5), (6, vI v6), (7, vI ((16 * v4) + v6))]) (by decide) rfl dX5_mayGive_166 ?_
    refine z_aload_n (pc := 168) C 0 rfl dX5_mayGive_168 ?_
    refine z_iload_n (pc := 169) C 1 rfl dX5_mayGive_169 ?_
    refine z_aload_n (pc := 170) C 0 rfl dX5_mayGive_170 ?_
    refine gX5_558 (pc := 171) C rfl hv0 dX5_mayGive_171 ?_
    refine z_iload (pc := 174) C 6 rfl dX5_mayGive_174 ?_
    obtain ⟨c12, h⟩ := ifn h
    refine z_iaO (pc := 176) (k := 5) (j := 58) C 558 rfl (by decide) (by decide) (by decide) rfl rfl rfl rfl hv0 c12 rfl dX5_mayGive_176 ?_
    refine z_iload_n (pc := 177) C 2 rfl dX5_mayGive_177 ?_
    obtain ⟨r13, e14, h⟩ := bRs h
    refine cX5_419 (pc := 178) (st := []) (st1 := [vI r13]) C rfl (rm := { frames := 1, cells := 0, slots := 0, locals := 24 }) (ct_X5_side C.2.1 v0 v1 (m_i M 558 v0 (ixn ((16 * v4) + v6))) v3 M _ hv0 e14) ⟨by decide, by decide, Nat.zero_le _, Nat.zero_le _⟩ (Or.inl hv0) rfl (Nat.le_of_ble_eq_true rfl) dX5_mayGive_178 (c2 := 0) (s2 := 0) rfl rfl (fun _ => ?_)
    refine z_istore (pc := 181) C (lv' := [(0, .ref v0), (1, vI v1), (3, vI v3), (4, vI v4), (5, vI v5), (6, vI v6), (7, vI ((16 * v4) + v6)), (8, vI r13)]) (by decide) rfl dX5_mayGive_181 ?_
    refine z_aload_n (pc := 183) C 0 rfl dX5_mayGive_183 ?_
    refine z_iload_n (pc := 184) C 1 rfl dX5_mayGive_184 ?_
    refine z_aload_n (pc := 185) C 0 rfl dX5_mayGive_185 ?_
    refine gX5_559 (pc := 186) C rfl hv0 dX5_mayGive_186 ?_
    refine z_iload (pc := 189) C 6 rfl dX5_mayGive_189 ?_
    refine z_iaO (pc := 191) (k := 5) (j := 59) C 559 rfl (by decide) (by decide) (by decide) rfl rfl rfl rfl hv0 c12 rfl dX5_mayGive_191 ?_
    refine z_iload_n (pc := 192) C 2 rfl dX5_mayGive_192 ?_
    obtain ⟨r15, e16, h⟩ := bRs h
    refine cX5_419 (pc := 193) (st := []) (st1 := [vI r15]) C rfl (rm := { frames := 1, cells := 0, slots := 0, locals := 24 }) (ct_X5_side C.2.1 v0 v1 (m_i M 559 v0 (ixn ((16 * v4) + v6))) v3 M _ hv0 e16) ⟨by decide, by decide, Nat.zero_le _, Nat.zero_le _⟩ (Or.inl hv0) rfl (Nat.le_of_ble_eq_true rfl) dX5_mayGive_193 (c2 := 0) (s2 := 0) rfl rfl (fun _ => ?_)
    refine z_istore (pc := 196) C (lv' := [(0, .ref v0), (1, vI v1), (3, vI v3), (4, vI v4), (5, vI v5), (6, vI v6), (7, vI ((16 * v4) + v6)), (8, vI r13), (9, vI r15)]) (by decide) rfl dX5_mayGive_196 ?_
    refine z_iload (pc := 198) C 4 rfl dX5_mayGive_198 ?_
    refine z_if_eq (pc := 200) C dX5_mayGive_200 (tgt := 236) (by decide) (fun c17 => ?_) (fun c17 => ?_)
    · have h := itt c17 h
      refine z_iconst (pc := 236) C dX5_mayGive_236 ?_
      refine z_istore (pc := 237) C (lv' := [(0, .ref v0), (1, vI v1), (3, vI v3), (4, vI v4), (5, vI 0), (6, vI v6), (7, vI ((16 * v4) + v6)), (8, vI r13), (9, vI r15)]) (by decide) rfl dX5_mayGive_237 ?_
      refine z_iinc (pc := 239) C (lv' := [(0, .ref v0), (1, vI v1), (3, vI v3), (4, vI v4), (5, vI 0), (6, vI (v6 + 1)), (7, vI ((16 * v4) + v6)), (8, vI r13), (9, vI r15)]) 5 rfl (by decide) rfl dX5_mayGive_239 ?_
      refine z_goto (pc := 242) C dX5_mayGive_242 (tgt := 146) (by decide) ?_
      exact z_lv [0, 1, 2, 3, 4, 5] rfl <| hk146 v0 v1 v3 v4 0 (v6 + 1) M _ _ hv0 h
    · have h := itf c17 h
      refine z_iload (pc := 203) C 7 rfl dX5_mayGive_203 ?_
      refine z_ldc (pc := 205) C (x := -2000000) q1829 (by decide +kernel) dX5_mayGive_205 ?_
      refine z_ic_eq (pc := 207) C dX5_mayGive_207 (tgt := 232) (by decide) (fun c18 => ?_) (fun c18 => ?_)
      · have h := itt c18 h
        refine z_iconst (pc := 232) C dX5_mayGive_232 ?_
        refine z_goto (pc := 233) C dX5_mayGive_233 (tgt := 237) (by decide) ?_
        refine z_istore (pc := 237) C (lv' := [(0, .ref v0), (1, vI v1), (3, vI v3), (4, vI v4), (5, vI 1), (6, vI v6), (7, vI ((16 * v4) + v6)), (8, vI r13), (9, vI r15)]) (by decide) rfl dX5_mayGive_237 ?_
        refine z_iinc (pc := 239) C (lv' := [(0, .ref v0), (1, vI v1), (3, vI v3), (4, vI v4), (5, vI 1), (6, vI (v6 + 1)), (7, vI ((16 * v4) + v6)), (8, vI r13), (9, vI r15)]) 5 rfl (by decide) rfl dX5_mayGive_239 ?_
        refine z_goto (pc := 242) C dX5_mayGive_242 (tgt := 146) (by decide) ?_
        exact z_lv [0, 1, 2, 3, 4, 5] rfl <| hk146 v0 v1 v3 v4 1 (v6 + 1) M _ _ hv0 h
      · have h := itf c18 h
        refine z_iload (pc := 210) C 8 rfl dX5_mayGive_210 ?_
        refine z_ldc (pc := 212) C (x := -2000000) q1829 (by decide +kernel) dX5_mayGive_212 ?_
        refine z_ic_eq (pc := 214) C dX5_mayGive_214 (tgt := 232) (by decide) (fun c19 => ?_) (fun c19 => ?_)
        · have h := itt c19 h
          refine z_iconst (pc := 232) C dX5_mayGive_232 ?_
          refine z_goto (pc := 233) C dX5_mayGive_233 (tgt := 237) (by decide) ?_
          refine z_istore (pc := 237) C (lv' := [(0, .ref v0), (1, vI v1), (3, vI v3), (4, vI v4), (5, vI 1), (6, vI v6), (7, vI ((16 * v4) + v6)), (8, vI r13), (9, vI r15)]) (by decide) rfl dX5_mayGive_237 ?_
          refine z_iinc (pc := 239) C (lv' := [(0, .ref v0), (1, vI v1), (3, vI v3), (4, vI v4), (5, vI 1), (6, vI (v6 + 1)), (7, vI ((16 * v4) + v6)), (8, vI r13), (9, vI r15)]) 5 rfl (by decide) rfl dX5_mayGive_239 ?_
          refine z_goto (pc := 242) C dX5_mayGive_242 (tgt := 146) (by decide) ?_
          exact z_lv [0, 1, 2, 3, 4, 5] rfl <| hk146 v0 v1 v3 v4 1 (v6 + 1) M _ _ hv0 h
        · have h := itf c19 h
          refine z_iload (pc := 217) C 7 rfl dX5_mayGive_217 ?_
          refine z_iload (pc := 219) C 8 rfl dX5_mayGive_219 ?_
          refine z_isub (pc := 221) C dX5_mayGive_221 ?_
          refine z_aload_n (pc := 222) C 0 rfl dX5_mayGive_222 ?_
          refine gX5_560 (pc := 223) C rfl hv0 dX5_mayGive_223 ?_
          refine z_iload (pc := 226) C 6 rfl dX5_mayGive_226 ?_
          refine z_iaO (pc := 228) (k := 5) (j := 60) C 560 rfl (by decide) (by decide) (by decide) rfl rfl rfl rfl hv0 c12 rfl dX5_mayGive_228 ?_
          refine z_ic_gt (pc := 229) C dX5_mayGive_229 (tgt := 236) (by decide) (fun c20 => ?_) (fun c20 => ?_)
          · have h := itt c20 h
            refine z_iconst (pc := 236) C dX5_mayGive_236 ?_
            refine z_istore (pc := 237) C (lv' := [(0, .ref v0), (1, vI v1), (3, vI v3), (4, vI v4), (5, vI 0), (6, vI v6), (7, vI ((16 * v4) + v6)), (8, vI r13), (9, vI r15)]) (by decide) rfl dX5_mayGive_237 ?_
            refine z_iinc (pc := 239) C (lv' := [(0, .ref v0), (1, vI v1), (3, vI v3), (4, vI v4), (5, vI 0), (6, vI (v6 + 1)), (7, vI ((16 * v4) + v6)), (8, vI r13), (9, vI r15)]) 5 rfl (by decide) rfl dX5_mayGive_239 ?_
            refine z_goto (pc := 242) C dX5_mayGive_242 (tgt := 146) (by decide) ?_
            exact z_lv [0, 1, 2, 3, 4, 5] rfl <| hk146 v0 v1 v3 v4 0 (v6 + 1) M _ _ hv0 h
          · have h := itf c20 h
            refine z_iconst (pc := 232) C dX5_mayGive_232 ?_
            refine z_goto (pc := 233) C dX5_mayGive_233 (tgt := 237) (by decide) ?_
            refine z_istore (pc := 237) C (lv' := [(0, .ref v0), (1, vI v1), (3, vI v3), (4, vI v4), (5, vI 1), (6, vI v6), (7, vI ((16 * v4) + v6)), (8, vI r13), (9, vI r15)]) (by decide) rfl dX5_mayGive_237 ?_
            refine z_iinc (pc := 239) C (lv' := [(0, .ref v0), (1, vI v1), (3, vI v3), (4, vI v4), (5, vI 1), (6, vI (v6 + 1)), (7, vI ((16 * v4) + v6)), (8, vI r13), (9, vI r15)]) 5 rfl (by decide) rfl dX5_mayGive_239 ?_
            refine z_goto (pc := 242) C dX5_mayGive_242 (tgt := 146) (by decide) ?_
            exact z_lv [0, 1, 2, 3, 4, 5] rfl <| hk146 v0 v1 v3 v4 1 (v6 + 1) M _ _ hv0 h
theorem cL_X5_mayGive_146 {X : x_Ctx} {M0 : Mem} (C : x_CC X 3 79 yX5_mayGive cX5_mayGive 10 (some .boolean) [])  : ∀ (n : Nat) (v0 : Nat) (v1 : Int) (v3 : Int) (v4 : Int) (v5 : Int) (v6 : Int) (M : Mem) (r : Int) (M' : Mem) (hv0 : m_kd M v0 = 5) (h : L_X5_mayGive_146  n v0 v1 v3 v4 v5 v6 M = some (r, M')) , x_Z X 0 0 (x_QF X M0 (.returned (some (vI r))) M' 0 0) M0 M 10 [(0, .ref v0), (1, vI v1), (3, vI v3), (4, vI v4), (5, vI v5), (6, vI v6)] 146 [] := by
  intro n
  induction n with
  | zero => intro v0 v1 v3 v4 v5 v6 M r M' hv0 h ; cases h
  | succ n ih => intro v0 v1 v3 v4 v5 v6 M r M' hv0 h ; exact cB_X5_mayGive_146 C (fun v0 v1 v3 v4 v5 v6 M r M' hv0 h  => ih v0 v1 v3 v4 v5 v6 M r M' hv0 h ) v0 v1 v3 v4 v5 v6 M r M' hv0 h 
theorem cB_X5_mayGive_106 {X : x_Ctx} {M0 : Mem} (C : x_CC X 3 79 yX5_mayGive cX5_mayGive 10 (some .boolean) []) {k106 : Nat → Int → Int → Int → Int → Int → Int → Mem → Option (Int × Mem)} (hk106 : ∀ (v0 : Nat) (v1 : Int) (v2 : Int) (v3 : Int) (v4 : Int) (v5 : Int) (v6 : Int) (M : Mem) (r : Int) (M' : Mem), m_kd M v0 = 5 → k106 v0 v1 v2 v3 v4 v5 v6 M = some (r, M') → x_Z X 0 0 (x_QF X M0 (.returned (some (vI r))) M' 0 0) M0 M 10 [(0, .ref v0), (1, vI v1), (2, vI v2), (3, vI v3), (4, vI v4), (5, vI v5), (6, vI v6)] 106 []) (v0 : Nat) (v1 : Int) (v2 : Int) (v3 : Int) (v4 : Int) (v5 : Int) (v6 : Int) (M : Mem) (r : Int) (M' : Mem) (hv0 : m_kd M v0 = 5) (h : B_X5_mayGive_106 k106 v0 v1 v2 v3 v4 v5 v6 M = some (r, M'))  : x_Z X 0 0 (x_QF X M0 (.returned (some (vI r))) M' 0 0) M0 M 10 [(0, .ref v0), (1, vI v1), (2, vI v2), (3, vI v3), (4, vI v4), (5, vI v5), (6, vI v6)] 106 [] := by
  unfold B_X5_mayGive_106 at h
  refine z_iload (pc := 106) C 6 rfl dX5_mayGive_106 ?_
  refine z_aload_n (pc := 108) C 0 rfl dX5_mayGive_108 ?_
  refine gX5_515 (pc := 109) C rfl hv0 dX5_mayGive_109 ?_
  refine z_iload (pc := 112) C 4 rfl dX5_mayGive_112 ?_
  obtain ⟨c7, h⟩ := ifn h
  refine z_iaO (pc := 114) (k := 5) (j := 15) C 515 rfl (by decide) (by decide) (by decide) rfl rfl rfl rfl hv0 c7 rfl dX5_mayGive_114 ?_
  refine z_ic_ge (pc := 115) C dX5_mayGive_115 (tgt := 143) (by decide) (fun c8 => ?_) (fun c8 => ?_)
  · have h := itt c8 h
    refine z_iconst (pc := 143) C dX5_mayGive_143 ?_
    refine z_istore (pc := 144) C (lv' := [(0, .ref v0), (1, vI v1), (2, vI v2), (3, vI v3), (4, vI v4), (5, vI v5), (6, vI 0)]) (by decide) rfl dX5_mayGive_144 ?_
    exact z_lv [0, 1, 3, 4, 5, 6] rfl <| cL_X5_mayGive_146 C FU v0 v1 v3 v4 v5 0 M _ _ hv0 h
  · have h := itf c8 h
    refine z_aload_n (pc := 118) C 0 rfl dX5_mayGive_118 ?_
    refine gX5_561 (pc := 119) C rfl hv0 dX5_mayGive_119 ?_
    refine z_iload (pc := 122) C 6 rfl dX5_mayGive_122 ?_
    refine z_aload_n (pc := 124) C 0 rfl dX5_mayGive_124 ?_
    refine gX5_555 (pc := 125) C rfl hv0 dX5_mayGive_125 ?_
    refine z_bipush (pc := 128) C (by decide +kernel) dX5_mayGive_128 ?_
    refine z_iload_n (pc := 130) C 2 rfl dX5_mayGive_130 ?_
    refine z_imul (pc := 131) C dX5_mayGive_131 ?_
    refine z_iload (pc := 132) C 6 rfl dX5_mayGive_132 ?_
    refine z_iadd (pc := 134) C dX5_mayGive_134 ?_
    obtain ⟨c21, h⟩ := ifn h
    refine z_iaO (pc := 135) (k := 5) (j := 55) C 555 rfl (by decide) (by decide) (by decide) rfl rfl rfl rfl hv0 c21 rfl dX5_mayGive_135 ?_
    obtain ⟨c22, h⟩ := ifn h
    refine z_isO (pc := 136) (k := 5) (j := 61) C 561 rfl (by decide) (by decide) (by decide) rfl rfl rfl rfl hv0 c22 dX5_mayGive_136 ?_
    refine z_iinc (pc := 137) C (lv' := [(0, .ref v0), (1, vI v1), (2, vI v2), (3, vI v3), (4, vI v4), (5, vI v5), (6, vI (v6 + 1))]) 6 rfl (by decide) rfl dX5_mayGive_137 ?_
    refine z_goto (pc := 140) C dX5_mayGive_140 (tgt := 106) (by decide) ?_
    exact hk106 v0 v1 v2 v3 v4 v5 (v6 + 1) (m_si M 561 v0 (ixn v6) (m_i M 555 v0 (ixn ((20 * v2) + v6)))) _ _ hv0 h
theorem cL_X5_mayGive_106 {X : x_Ctx} {M0 : Mem} (C : x_CC X 3 79 yX5_mayGive cX5_mayGive 10 (some .boolean) [])  : ∀ (n : Nat) (v0 : Nat) (v1 : Int) (v2 : Int) (v3 : Int) (v4 : Int) (v5 : Int) (v6 : Int) (M : Mem) (r : Int) (M' : Mem) (hv0 : m_kd M v0 = 5) (h : L_X5_mayGive_106  n v0 v1 v2 v3 v4 v5 v6 M = some (r, M')) , x_Z X 0 0 (x_QF X M0 (.returned (some (vI r))) M' 0 0) M0 M 10 [(0, .ref v0), (1, vI v1), (2, vI v2), (3, vI v3), (4, vI v4), (5, vI v5), (6, vI v6)] 106 [] := by
  intro n
  induction n with
  | zero => intro v0 v1 v2 v3 v4 v5 v6 M r M' hv0 h ; cases h
  | succ n ih => intro v0 v1 v2 v3 v4 v5 v6 M r M' hv0 h ; exact cB_X5_mayGive_106 C (fun v0 v1 v2 v3 v4 v5 v6 M r M' hv0 h  => ih v0 v1 v2 v3 v4 v5 v6 M r M' hv0 h ) v0 v1 v2 v3 v4 v5 v6 M r M' hv0 h 
theorem cB_X5_mayGive_40 {X : x_Ctx} {M0 : Mem} (C : x_CC X 3 79 yX5_mayGive cX5_mayGive 10 (some .boolean) []) {k40 : Nat → Int → Int → Int → Int → Int → Int → Mem → Option (Int × Mem)} (hk40 : ∀ (v0 : Nat) (v1 : Int) (v2 : Int) (v3 : Int) (v4 : Int) (v5 : Int) (v6 : Int) (M : Mem) (r : Int) (M' : Mem), m_kd M v0 = 5 → k40 v0 v1 v2 v3 v4 v5 v6 M = some (r, M') → x_Z X 0 0 (x_QF X M0 (.returned (some (vI r))) M' 0 0) M0 M 10 [(0, .ref v0), (1, vI v1), (2, vI v2), (3, vI v3), (4, vI v4), (5, vI v5), (6, vI v6)] 40 []) (v0 : Nat) (v1 : Int) (v2 : Int) (v3 : Int) (v4 : Int) (v5 : Int) (v6 : Int) (M : Mem) (r : Int) (M' : Mem) (hv0 : m_kd M v0 = 5) (h : B_X5_mayGive_40 k40 v0 v1 v2 v3 v4 v5 v6 M = some (r, M'))  : x_Z X 0 0 (x_QF X M0 (.returned (some (vI r))) M' 0 0) M0 M 10 [(0, .ref v0), (1, vI v1), (2, vI v2), (3, vI v3), (4, vI v4), (5, vI v5), (6, vI v6)] 40 [] := by
  unfold B_X5_mayGive_40 at h
  refine z_iload (pc := 40) C 6 rfl dX5_mayGive_40 ?_
  refine z_aload_n (pc := 42) C 0 rfl dX5_mayGive_42 ?_
  refine gX5_515 (pc := 43) C rfl hv0 dX5_mayGive_43 ?_
  refine z_iload (pc := 46) C 4 rfl dX5_mayGive_46 ?_
  obtain ⟨c4, h⟩ := ifn h
  refine z_iaO (pc := 48) (k := 5) (j := 15) C 515 rfl (by decide) (by decide) (by decide) rfl rfl rfl rfl hv0 c4 rfl dX5_mayGive_48 ?_
  refine z_ic_ge (pc := 49) C dX5_mayGive_49 (tgt := 96) (by decide) (fun c5 => ?_) (fun c5 => ?_)
  · have h := itt c5 h
    refine z_iload (pc := 96) C 5 rfl dX5_mayGive_96 ?_
    refine z_if_ne (pc := 98) C dX5_mayGive_98 (tgt := 103) (by decide) (fun c6 => ?_) (fun c6 => ?_)
    · have h := itf c6 h
      refine z_iconst (pc := 103) C dX5_mayGive_103 ?_
      refine z_istore (pc := 104) C (lv' := [(0, .ref v0), (1, vI v1), (2, vI v2), (3, vI v3), (4, vI v4), (5, vI v5), (6, vI 0)]) (by decide) rfl dX5_mayGive_104 ?_
      exact cL_X5_mayGive_106 C FU v0 v1 v2 v3 v4 v5 0 M _ _ hv0 h
    · have h := itt c6 h
      refine z_iconst (pc := 101) C dX5_mayGive_101 ?_
      cases h
      exact z_zret (pc := 102) C rfl (Or.inl rfl) (show 0 ≤ 0 from by decide) (show 0 ≤ 0 from by decide) dX5_mayGive_102
  · have h := itf c5 h
    refine z_iload (pc := 52) C 5 rfl dX5_mayGive_52 ?_
    refine z_if_eq (pc := 54) C dX5_mayGive_54 (tgt := 87) (by decide) (fun c23 => ?_) (fun c23 => ?_)
    · have h := itt c23 h
      refine z_iconst (pc := 87) C dX5_mayGive_87 ?_
      refine z_istore (pc := 88) C (lv' := [(0, .ref v0), (1, vI v1), (2, vI v2), (3, vI v3), (4, vI v4), (5, vI 0), (6, vI v6)]) (by decide) rfl dX5_mayGive_88 ?_
      refine z_iinc (pc := 90) C (lv' := [(0, .ref v0), (1, vI v1), (2, vI v2), (3, vI v3), (4, vI v4), (5, vI 0), (6, vI (v6 + 1))]) 6 rfl (by decide) rfl dX5_mayGive_90 ?_
      refine z_goto (pc := 93) C dX5_mayGive_93 (tgt := 40) (by decide) ?_
      exact hk40 v0 v1 v2 v3 v4 0 (v6 + 1) M _ _ hv0 h
    · have h := itf c23 h
      refine z_iload_n (pc := 57) C 3 rfl dX5_mayGive_57 ?_
      refine z_iload (pc := 58) C 6 rfl dX5_mayGive_58 ?_
      refine z_ishr (pc := 60) C dX5_mayGive_60 ?_
      refine z_iconst (pc := 61) C dX5_mayGive_61 ?_
      refine z_iand (pc := 62) C dX5_mayGive_62 ?_
      refine z_if_eq (pc := 63) C dX5_mayGive_63 (tgt := 83) (by decide) (fun c24 => ?_) (fun c24 => ?_)
      · have h := itt c24 h
        refine z_iconst (pc := 83) C dX5_mayGive_83 ?_
        refine z_goto (pc := 84) C dX5_mayGive_84 (tgt := 88) (by decide) ?_
        refine z_istore (pc := 88) C (lv' := [(0, .ref v0), (1, vI v1), (2, vI v2), (3, vI v3), (4, vI v4), (5, vI 1), (6, vI v6)]) (by decide) rfl dX5_mayGive_88 ?_
        refine z_iinc (pc := 90) C (lv' := [(0, .ref v0), (1, vI v1), (2, vI v2), (3, vI v3), (4, vI v4), (5, vI 1), (6, vI (v6 + 1))]) 6 rfl (by decide) rfl dX5_mayGive_90 ?_
        refine z_goto (pc := 93) C dX5_mayGive_93 (tgt := 40) (by decide) ?_
        exact hk40 v0 v1 v2 v3 v4 1 (v6 + 1) M _ _ hv0 h
      · have h := itf c24 h
        refine z_aload_n (pc := 66) C 0 rfl dX5_mayGive_66 ?_
        refine gX5_555 (pc := 67) C rfl hv0 dX5_mayGive_67 ?_
        refine z_bipush (pc := 70) C (by decide +kernel) dX5_mayGive_70 ?_
        refine z_iload_n (pc := 72) C 2 rfl dX5_mayGive_72 ?_
        refine z_imul (pc := 73) C dX5_mayGive_73 ?_
        refine z_iload (pc := 74) C 6 rfl dX5_mayGive_74 ?_
        refine z_iadd (pc := 76) C dX5_mayGive_76 ?_
        obtain ⟨c25, h⟩ := ifn h
        refine z_iaO (pc := 77) (k := 5) (j := 55) C 555 rfl (by decide) (by decide) (by decide) rfl rfl rfl rfl hv0 c25 rfl dX5_mayGive_77 ?_
        refine z_ldc (pc := 78) C (x := -2000000) q1829 (by decide +kernel) dX5_mayGive_78 ?_
        refine z_ic_eq (pc := 80) C dX5_mayGive_80 (tgt := 87) (by decide) (fun c26 => ?_) (fun c26 => ?_)
        · have h := itt c26 h
          refine z_iconst (pc := 87) C dX5_mayGive_87 ?_
          refine z_istore (pc := 88) C (lv' := [(0, .ref v0), (1, vI v1), (2, vI v2), (3, vI v3), (4, vI v4), (5, vI 0), (6, vI v6)]) (by decide) rfl dX5_mayGive_88 ?_
          refine z_iinc (pc := 90) C (lv' := [(0, .ref v0), (1, vI v1), (2, vI v2), (3, vI v3), (4, vI v4), (5, vI 0), (6, vI (v6 + 1))]) 6 rfl (by decide) rfl dX5_mayGive_90 ?_
          refine z_goto (pc := 93) C dX5_mayGive_93 (tgt := 40) (by decide) ?_
          exact hk40 v0 v1 v2 v3 v4 0 (v6 + 1) M _ _ hv0 h
        · have h := itf c26 h
          refine z_iconst (pc := 83) C dX5_mayGive_83 ?_
          refine z_goto (pc := 84) C dX5_mayGive_84 (tgt := 88) (by decide) ?_
          refine z_istore (pc := 88) C (lv' := [(0, .ref v0), (1, vI v1), (2, vI v2), (3, vI v3), (4, vI v4), (5, vI 1), (6, vI v6)]) (by decide) rfl dX5_mayGive_88 ?_
          refine z_iinc (pc := 90) C (lv' := [(0, .ref v0), (1, vI v1), (2, vI v2), (3, vI v3), (4, vI v4), (5, vI 1), (6, vI (v6 + 1))]) 6 rfl (by decide) rfl dX5_mayGive_90 ?_
          refine z_goto (pc := 93) C dX5_mayGive_93 (tgt := 40) (by decide) ?_
          exact hk40 v0 v1 v2 v3 v4 1 (v6 + 1) M _ _ hv0 h
theorem cL_X5_mayGive_40 {X : x_Ctx} {M0 : Mem} (C : x_CC X 3 79 yX5_mayGive cX5_mayGive 10 (some .boolean) [])  : ∀ (n : Nat) (v0 : Nat) (v1 : Int) (v2 : Int) (v3 : Int) (v4 : Int) (v5 : Int) (v6 : Int) (M : Mem) (r : Int) (M' : Mem) (hv0 : m_kd M v0 = 5) (h : L_X5_mayGive_40  n v0 v1 v2 v3 v4 v5 v6 M = some (r, M')) , x_Z X 0 0 (x_QF X M0 (.returned (some (vI r))) M' 0 0) M0 M 10 [(0, .ref v0), (1, vI v1), (2, vI v2), (3, vI v3), (4, vI v4), (5, vI v5), (6, vI v6)] 40 [] := by
  intro n
  induction n with
  | zero => intro v0 v1 v2 v3 v4 v5 v6 M r M' hv0 h ; cases h
  | succ n ih => intro v0 v1 v2 v3 v4 v5 v6 M r M' hv0 h ; exact cB_X5_mayGive_40 C (fun v0 v1 v2 v3 v4 v5 v6 M r M' hv0 h  => ih v0 v1 v2 v3 v4 v5 v6 M r M' hv0 h ) v0 v1 v2 v3 v4 v5 v6 M r M' hv0 h 
theorem ct_X5_mayGive {l : Launch} {S0 : State} {D : va_G} {cA : Nat → ClassId} (hG : x_G l S0 D cA) (v0 : Nat) (v1 : Int) (v2 : Int) (v3 : Int) (M : Mem) (r : Int) (M' : Mem) (hv0 : m_kd M v0 = 5) (h : d_X5_mayGive v0 v1 v2 v3 M = some (r, M')) : x_Me l S0 D cA yX5_mayGive cX5_mayGive 10 (some .boolean) [] ({ frames := 3, cells := 0, slots := 0, locals := 79 }) [.ref v0, vI v1, vI v2, vI v3] M (.returned (some (vI r))) M' := by
  refine x_begin (F := 3) (Lo := 79) (mc := 0) (ms := 0) hG (Nat.le_of_ble_eq_true rfl) (lv := [(0, .ref v0), (1, vI v1), (2, vI v2), (3, vI v3)]) rfl rfl rfl rfl rfl (fun X e1 e2 e3 e4 e5 C => ?_)
  unfold d_X5_mayGive at h
  refine z_aload_n (pc := 0) C 0 rfl dX5_mayGive_0 ?_
  refine z_iload_n (pc := 1) C 1 rfl dX5_mayGive_1 ?_
  obtain ⟨r1, e2, h⟩ := bRs h
  refine cX5_401 (pc := 2) (st := []) (st1 := [vI r1]) C rfl (rm := { frames := 1, cells := 0, slots := 0, locals := 24 }) (ct_X5_formOf C.2.1 v0 v1 M _ hv0 e2) ⟨by decide, by decide, Nat.zero_le _, Nat.zero_le _⟩ (Or.inl hv0) rfl (Nat.le_of_ble_eq_true rfl) dX5_mayGive_2 (c2 := 0) (s2 := 0) rfl rfl (fun _ => ?_)
  refine z_istore (pc := 5) C (lv' := [(0, .ref v0), (1, vI v1), (2, vI v2), (3, vI v3), (4, vI r1)]) (by decide) rfl dX5_mayGive_5 ?_
  refine z_iload_n (pc := 7) C 2 rfl dX5_mayGive_7 ?_
  refine z_iload_n (pc := 8) C 1 rfl dX5_mayGive_8 ?_
  refine z_ic_eq (pc := 9) C dX5_mayGive_9 (tgt := 34) (by decide) (fun c3 => ?_) (fun c3 => ?_)
  · have h := itt c3 h
    refine z_iconst (pc := 34) C dX5_mayGive_34 ?_
    refine z_istore (pc := 35) C (lv' := [(0, .ref v0), (1, vI v1), (2, vI v2), (3, vI v3), (4, vI r1), (5, vI 0)]) (by decide) rfl dX5_mayGive_35 ?_
    refine z_iconst (pc := 37) C dX5_mayGive_37 ?_
    refine z_istore (pc := 38) C (lv' := [(0, .ref v0), (1, vI v1), (2, vI v2), (3, vI v3), (4, vI r1), (5, vI 0), (6, vI 0)]) (by decide) rfl dX5_mayGive_38 ?_
    exact cL_X5_mayGive_40 C FU v0 v1 v2 v3 r1 0 0 M _ _ hv0 h
  · have h := itf c3 h
    refine z_aload_n (pc := 12) C 0 rfl dX5_mayGive_12 ?_
    refine z_iload_n (pc := 13) C 2 rfl dX5_mayGive_13 ?_
    obtain ⟨r27, e28, h⟩ := bRs h
    refine cX5_401 (pc := 14) (st := []) (st1 := [vI r27]) C rfl (rm := { frames := 1, cells := 0, slots := 0, locals := 24 }) (ct_X5_formOf C.2.1 v0 v2 M _ hv0 e28) ⟨by decide, by decide, Nat.zero_le _, Nat.zero_le _⟩ (Or.inl hv0) rfl (Nat.le_of_ble_eq_true rfl) dX5_mayGive_14 (c2 := 0) (s2 := 0) rfl rfl (fun _ => ?_)
    refine z_iload (pc := 17) C 4 rfl dX5_mayGive_17 ?_
    refine z_ic_ne (pc := 19) C dX5_mayGive_19 (tgt := 34) (by decide) (fun c29 => ?_) (fun c29 => ?_)
    · have h := itf c29 h
      refine z_iconst (pc := 34) C dX5_mayGive_34 ?_
      refine z_istore (pc := 35) C (lv' := [(0, .ref v0), (1, vI v1), (2, vI v2), (3, vI v3), (4, vI r1), (5, vI 0)]) (by decide) rfl dX5_mayGive_35 ?_
      refine z_iconst (pc := 37) C dX5_mayGive_37 ?_
      refine z_istore (pc := 38) C (lv' := [(0, .ref v0), (1, vI v1), (2, vI v2), (3, vI v3), (4, vI r1), (5, vI 0), (6, vI 0)]) (by decide) rfl dX5_mayGive_38 ?_
      exact cL_X5_mayGive_40 C FU v0 v1 v2 v3 r1 0 0 M _ _ hv0 h
    · have h := itt c29 h
      refine z_aload_n (pc := 22) C 0 rfl dX5_mayGive_22 ?_
      refine z_iload_n (pc := 23) C 2 rfl dX5_mayGive_23 ?_
      obtain ⟨r30, e31, h⟩ := bRs h
      refine cX5_435 (pc := 24) (st := []) (st1 := [vI r30]) C rfl (rm := { frames := 2, cells := 0, slots := 0, locals := 52 }) (ct_X5_isClean C.2.1 v0 v2 M _ hv0 e31) ⟨by decide, by decide, Nat.zero_le _, Nat.zero_le _⟩ (Or.inl hv0) rfl (Nat.le_of_ble_eq_true rfl) dX5_mayGive_24 (c2 := 0) (s2 := 0) rfl rfl (fun _ => ?_)
      refine z_if_eq (pc := 27) C dX5_mayGive_27 (tgt := 34) (by decide) (fun c32 => ?_) (fun c32 => ?_)
      · have h := itt c32 h
        refine z_iconst (pc := 34) C dX5_mayGive_34 ?_
        refine z_istore (pc := 35) C (lv' := [(0, .ref v0), (1, vI v1), (2, vI v2), (3, vI v3), (4, vI r1), (5, vI 0)]) (by decide) rfl dX5_mayGive_35 ?_
        refine z_iconst (pc := 37) C dX5_mayGive_37 ?_
        refine z_istore (pc := 38) C (lv' := [(0, .ref v0), (1, vI v1), (2, vI v2), (3, vI v3), (4, vI r1), (5, vI 0), (6, vI 0)]) (by decide) rfl dX5_mayGive_38 ?_
        exact cL_X5_mayGive_40 C FU v0 v1 v2 v3 r1 0 0 M _ _ hv0 h
      · have h := itf c32 h
        refine z_iconst (pc := 30) C dX5_mayGive_30 ?_
        refine z_goto (pc := 31) C dX5_mayGive_31 (tgt := 35) (by decide) ?_
        refine z_istore (pc := 35) C (lv' := [(0, .ref v0), (1, vI v1), (2, vI v2), (3, vI v3), (4, vI r1), (5, vI 1)]) (by decide) rfl dX5_mayGive_35 ?_
        refine z_iconst (pc := 37) C dX5_mayGive_37 ?_
        refine z_istore (pc := 38) C (lv' := [(0, .ref v0), (1, vI v1), (2, vI v2), (3, vI v3), (4, vI r1), (5, vI 1), (6, vI 0)]) (by decide) rfl dX5_mayGive_38 ?_
        exact cL_X5_mayGive_40 C FU v0 v1 v2 v3 r1 1 0 M _ _ hv0 h
def B_X5_distance_92 (k13 : Nat → Int → Int → Int → Int → Int → Int → Mem → Option Int) (v0 : Nat) (v1 : Int) (v2 : Int) (v3 : Int) (v4 : Int) (v5 : Int) (v7 : Int) (v8 : Int) (v9 : Int) (s0 : Int) (M : Mem) : Option Int :=
  if w32 s0 = 0 then
    k13 v0 v1 v2 v3 v4 (v5 + 0) (v7 + 1) M
  else
    if w32 v9 ≤ w32 v8 then
      k13 v0 v1 v2 v3 v4 (v5 + (w32 (v8 - v9))) (v7 + 1) M
    else
      k13 v0 v1 v2 v3 v4 (v5 + (w32 (v9 - v8))) (v7 + 1) M
def B_X5_distance_91 (k13 : Nat → Int → Int → Int → Int → Int → Int → Mem → Option Int) (v0 : Nat) (v1 : Int) (v2 : Int) (v3 : Int) (v4 : Int) (v5 : Int) (v7 : Int) (v8 : Int) (v9 : Int) (M : Mem) : Option Int :=
  B_X5_distance_92 k13 v0 v1 v2 v3 v4 v5 v7 v8 v9 0 M
def B_X5_distance_13 (k13 : Nat → Int → Int → Int → Int → Int → Int → Mem → Option Int) (v0 : Nat) (v1 : Int) (v2 : Int) (v3 : Int) (v4 : Int) (v5 : Int) (v7 : Int) (M : Mem) : Option Int :=
  if inb v4 6 then 
  if w32 (m_i M 515 v0 (ixn v4)) ≤ w32 v7 then
    some v5
  else
    if inb ((20 * v1) + v7) 1200 then 
    if inb ((20 * v2) + v7) 1200 then 
    bR (d_X5_isAsk v0 v4 v7 M) fun r7 => 
    if w32 r7 = 0 then
      B_X5_distance_91 k13 v0 v1 v2 v3 v4 v5 v7 (m_i M 555 v0 (ixn ((20 * v1) + v7))) (m_i M 555 v0 (ixn ((20 * v2) + v7))) M
    else
      if w32 (a32 (s32 v3 v7) 1) = 0 then
        if w32 (m_i M 555 v0 (ixn ((20 * v1) + v7))) = w32 (-2000000) then
          B_X5_distance_91 k13 v0 v1 v2 v3 v4 v5 v7 (m_i M 555 v0 (ixn ((20 * v1) + v7))) (m_i M 555 v0 (ixn ((20 * v2) + v7))) M
        else
          if w32 (m_i M 555 v0 (ixn ((20 * v2) + v7))) = w32 (-2000000) then
            B_X5_distance_91 k13 v0 v1 v2 v3 v4 v5 v7 (m_i M 555 v0 (ixn ((20 * v1) + v7))) (m_i M 555 v0 (ixn ((20 * v2) + v7))) M
          else
            B_X5_distance_92 k13 v0 v1 v2 v3 v4 v5 v7 (m_i M 555 v0 (ixn ((20 * v1) + v7))) (m_i M 555 v0 (ixn ((20 * v2) + v7))) 1 M
      else
        B_X5_distance_91 k13 v0 v1 v2 v3 v4 v5 v7 (m_i M 555 v0 (ixn ((20 * v1) + v7))) (m_i M 555 v0 (ixn ((20 * v2) + v7))) M else none else none else none
def L_X5_distance_13  : Nat → Nat → Int → Int → Int → Int → Int → Int → Mem → Option Int
  | 0, _, _, _, _, _, _, _, _ => none
  | n + 1, v0, v1, v2, v3, v4, v5, v7, M => B_X5_distance_13 (L_X5_distance_13  n) v0 v1 v2 v3 v4 v5 v7 M
def d_X5_distance (v0 : Nat) (v1 : Int) (v2 : Int) (v3 : Int) (M : Mem) : Option Int :=
  bR (d_X5_formOf v0 v1 M) fun r1 => 
  L_X5_distance_13 FU v0 v1 v2 v3 r1 0 0 M
theorem cB_X5_distance_92 {X : x_Ctx} {M0 : Mem} (C : x_CC X 2 50 yX5_distance cX5_distance 11 (some .long) []) {k13 : Nat → Int → Int → Int → Int → Int → Int → Mem → Option Int} (hk13 : ∀ (v0 : Nat) (v1 : Int) (v2 : Int) (v3 : Int) (v4 : Int) (v5 : Int) (v7 : Int) (M : Mem) (r : Int), m_kd M v0 = 5 → k13 v0 v1 v2 v3 v4 v5 v7 M = some r → x_Z X 0 0 (x_QF X M0 (.returned (some (vL r))) M 0 0) M0 M 11 [(0, .ref v0), (1, vI v1), (2, vI v2), (3, vI v3), (4, vI v4), (5, vL v5), (7, vI v7)] 13 []) (v0 : Nat) (v1 : Int) (v2 : Int) (v3 : Int) (v4 : Int) (v5 : Int) (v7 : Int) (v8 : Int) (v9 : Int) (s0 : Int) (M : Mem) (r : Int) (hv0 : m_kd M v0 = 5) (h : B_X5_distance_92 k13 v0 v1 v2 v3 v4 v5 v7 v8 v9 s0 M = some r)  : x_Z X 0 0 (x_QF X M0 (.returned (some (vL r))) M 0 0) M0 M 11 [(0, .ref v0), (1, vI v1), (2, vI v2), (3, vI v3), (4, vI v4), (5, vL v5), (7, vI v7), (8, vI v8), (9, vI v9)] 92 [vI s0] := by
  unfold B_X5_distance_92 at h
  refine z_istore (pc := 92) C (lv' := [(0, .ref v0), (1, vI v1), (2, vI v2), (3, vI v3), (4, vI v4), (5, vL v5), (7, vI v7), (8, vI v8), (9, vI v9), (10, vI s0)]) (by decide) rfl dX5_distance_92 ?_
  refine z_lload (pc := 94) C 5 rfl dX5_distance_94 ?_
  refine z_iload (pc := 96) C 9 rfl dX5_distance_96 ?_
  refine z_if_ne (pc := 98) C dX5_distance_98 (tgt := 105) (by decide) (fun c10 => ?_) (fun c10 => ?_)
  · have h := itf c10 h
    refine z_iload (pc := 105) C 7 rfl dX5_distance_105 ?_
    refine z_iload (pc := 107) C 8 rfl dX5_distance_107 ?_
    refine z_ic_ge (pc := 109) C dX5_distance_109 (tgt := 121) (by decide) (fun c11 => ?_) (fun c11 => ?_)
    · have h := itt c11 h
      refine z_iload (pc := 121) C 7 rfl dX5_distance_121 ?_
      refine z_iload (pc := 123) C 8 rfl dX5_distance_123 ?_
      refine z_isub (pc := 125) C dX5_distance_125 ?_
      refine z_i2l (pc := 126) C dX5_distance_126 ?_
      refine z_ladd (pc := 127) C dX5_distance_127 ?_
      refine z_lstore (pc := 128) C (lv' := [(0, .ref v0), (1, vI v1), (2, vI v2), (3, vI v3), (4, vI v4), (5, vL (v5 + (w32 (v8 - v9)))), (7, vI v7), (8, vI v8), (9, vI v9), (10, vI s0)]) (by decide) rfl dX5_distance_128 ?_
      refine z_iinc (pc := 130) C (lv' := [(0, .ref v0), (1, vI v1), (2, vI v2), (3, vI v3), (4, vI v4), (5, vL (v5 + (w32 (v8 - v9)))), (7, vI (v7 + 1)), (8, vI v8), (9, vI v9), (10, vI s0)]) 6 rfl (by decide) rfl dX5_distance_130 ?_
      refine z_goto (pc := 133) C dX5_distance_133 (tgt := 13) (by decide) ?_
      exact z_lv [0, 1, 2, 3, 4, 5, 6] rfl <| hk13 v0 v1 v2 v3 v4 (v5 + (w32 (v8 - v9))) (v7 + 1) M _ hv0 h
    · have h := itf c11 h
      refine z_iload (pc := 112) C 8 rfl dX5_distance_112 ?_
      refine z_iload (pc := 114) C 7 rfl dX5_distance_114 ?_
      refine z_isub (pc := 116) C dX5_distance_116 ?_
      refine z_i2l (pc := 117) C dX5_distance_117 ?_
      refine z_goto (pc := 118) C dX5_distance_118 (tgt := 127) (by decide) ?_
      refine z_ladd (pc := 127) C dX5_distance_127 ?_
      refine z_lstore (pc := 128) C (lv' := [(0, .ref v0), (1, vI v1), (2, vI v2), (3, vI v3), (4, vI v4), (5, vL (v5 + (w32 (v9 - v8)))), (7, vI v7), (8, vI v8), (9, vI v9), (10, vI s0)]) (by decide) rfl dX5_distance_128 ?_
      refine z_iinc (pc := 130) C (lv' := [(0, .ref v0), (1, vI v1), (2, vI v2), (3, vI v3), (4, vI v4), (5, vL (v5 + (w32 (v9 - v8)))), (7, vI (v7 + 1)), (8, vI v8), (9, vI v9), (10, vI s0)]) 6 rfl (by decide) rfl dX5_distance_130 ?_
      refine z_goto (pc := 133) C dX5_distance_133 (tgt := 13) (by decide) ?_
      exact z_lv [0, 1, 2, 3, 4, 5, 6] rfl <| hk13 v0 v1 v2 v3 v4 (v5 + (w32 (v9 - v8))) (v7 + 1) M _ hv0 h
  · have h := itt c10 h
    refine z_lconst (pc := 101) C (x := 0) (by decide +kernel) dX5_distance_101 ?_
    refine z_goto (pc := 102) C dX5_distance_102 (tgt := 127) (by decide) ?_
    refine z_ladd (pc := 127) C dX5_distance_127 ?_
    refine z_lstore (pc := 128) C (lv' := [(0, .ref v0), (1, vI v1), (2, vI v2), (3, vI v3), (4, vI v4), (5, vL (v5 + 0)), (7, vI v7), (8, vI v8), (9, vI v9), (10, vI s0)]) (by decide) rfl dX5_distance_128 ?_
    refine z_iinc (pc := 130) C (lv' := [(0, .ref v0), (1, vI v1), (2, vI v2), (3, vI v3), (4, vI v4), (5, vL (v5 + 0)), (7, vI (v7 + 1)), (8, vI v8), (9, vI v9), (10, vI s0)]) 6 rfl (by decide) rfl dX5_distance_130 ?_
    refine z_goto (pc := 133) C dX5_distance_133 (tgt := 13) (by decide) ?_
    exact z_lv [0, 1, 2, 3, 4, 5, 6] rfl <| hk13 v0 v1 v2 v3 v4 (v5 + 0) (v7 + 1) M _ hv0 h
theorem cB_X5_distance_91 {X : x_Ctx} {M0 : Mem} (C : x_CC X 2 50 yX5_distance cX5_distance 11 (some .long) []) {k13 : Nat → Int → Int → Int → Int → Int → Int → Mem → Option Int} (hk13 : ∀ (v0 : Nat) (v1 : Int) (v2 : Int) (v3 : Int) (v4 : Int) (v5 : Int) (v7 : Int) (M : Mem) (r : Int), m_kd M v0 = 5 → k13 v0 v1 v2 v3 v4 v5 v7 M = some r → x_Z X 0 0 (x_QF X M0 (.returned (some (vL r))) M 0 0) M0 M 11 [(0, .ref v0), (1, vI v1), (2, vI v2), (3, vI v3), (4, vI v4), (5, vL v5), (7, vI v7)] 13 []) (v0 : Nat) (v1 : Int) (v2 : Int) (v3 : Int) (v4 : Int) (v5 : Int) (v7 : Int) (v8 : Int) (v9 : Int) (M : Mem) (r : Int) (hv0 : m_kd M v0 = 5) (h : B_X5_distance_91 k13 v0 v1 v2 v3 v4 v5 v7 v8 v9 M = some r)  : x_Z X 0 0 (x_QF X M0 (.returned (some (vL r))) M 0 0) M0 M 11 [(0, .ref v0), (1, vI v1), (2, vI v2), (3, vI v3), (4, vI v4), (5, vL v5), (7, vI v7), (8, vI v8), (9, vI v9)] 91 [] := by
  unfold B_X5_distance_91 at h
  refine z_iconst (pc := 91) C dX5_distance_91 ?_
  exact cB_X5_distance_92 C hk13 v0 v1 v2 v3 v4 v5 v7 v8 v9 0 M _ hv0 h
theorem cB_X5_distance_13 {X : x_Ctx} {M0 : Mem} (C : x_CC X 2 50 yX5_distance cX5_distance 11 (some .long) []) {k13 : Nat → Int → Int → Int → Int → Int → Int → Mem → Option Int} (hk13 : ∀ (v0 : Nat) (v1 : Int) (v2 : Int) (v3 : Int) (v4 : Int) (v5 : Int) (v7 : Int) (M : Mem) (r : Int), m_kd M v0 = 5 → k13 v0 v1 v2 v3 v4 v5 v7 M = some r → x_Z X 0 0 (x_QF X M0 (.returned (some (vL r))) M 0 0) M0 M 11 [(0, .ref v0), (1, vI v1), (2, vI v2), (3, vI v3), (4, vI v4), (5, vL v5), (7, vI v7)] 13 []) (v0 : Nat) (v1 : Int) (v2 : Int) (v3 : Int) (v4 : Int) (v5 : Int) (v7 : Int) (M : Mem) (r : Int) (hv0 : m_kd M v0 = 5) (h : B_X5_distance_13 k13 v0 v1 v2 v3 v4 v5 v7 M = some r)  : x_Z X 0 0 (x_QF X M0 (.returned (some (vL r))) M 0 0) M0 M 11 [(0, .ref v0), (1, vI v1), (2, vI v2), (3, vI v3), (4, vI v4), (5, vL v5), (7, vI v7)] 13 [] := by
  unfold B_X5_distance_13 at h
  refine z_iload (pc := 13) C 6 rfl dX5_distance_13 ?_
  refine z_aload_n (pc := 15) C 0 rfl dX5_distance_15 ?_
  refine gX5_515 (pc := 16) C rfl hv0 dX5_distance_16 ?_
  refine z_iload (pc := 19) C 4 rfl dX5_distance_19 ?_
  obtain ⟨c3, h⟩ := ifn h
  refine z_iaO (pc := 21) (k := 5) (j := 15) C 515 rfl (by decide) (by decide) (by decide) rfl rfl rfl rfl hv0 c3 rfl dX5_distance_21 ?_
  refine z_ic_ge (pc := 22) C dX5_distance_22 (tgt := 136) (by decide) (fun c4 => ?_) (fun c4 => ?_)
  · have h := itt c4 h
    refine z_lload (pc := 136) C 5 rfl dX5_distance_136 ?_
    cases h
    exact z_lret (pc := 138) C rfl (show 0 ≤ 0 from by decide) (show 0 ≤ 0 from by decide) dX5_distance_138
  · have h := itf c4 h
    refine z_aload_n (pc := 25) C 0 rfl dX5_distance_25 ?_
    refine gX5_555 (pc := 26) C rfl hv0 dX5_distance_26 ?_
    refine z_bipush (pc := 29) C (by decide +kernel) dX5_distance_29 ?_
    refine z_iload_n (pc := 31) C 1 rfl dX5_distance_31 ?_
    refine z_imul (pc := 32) C dX5_distance_32 ?_
    refine z_iload (pc := 33) C 6 rfl dX5_distance_33 ?_
    refine z_iadd (pc := 35) C dX5_distance_35 ?_
    obtain ⟨c5, h⟩ := ifn h
    refine z_iaO (pc := 36) (k := 5) (j := 55) C 555 rfl (by decide) (by decide) (by decide) rfl rfl rfl rfl hv0 c5 rfl dX5_distance_36 ?_
    refine z_istore (pc := 37) C (lv' := [(0, .ref v0), (1, vI v1), (2, vI v2), (3, vI v3), (4, vI v4), (5, vL v5), (7, vI v7), (8, vI (m_i M 555 v0 (ixn ((20 * v1) + v7))))]) (by decide) rfl dX5_distance_37 ?_
    refine z_aload_n (pc := 39) C 0 rfl dX5_distance_39 ?_
    refine gX5_555 (pc := 40) C rfl hv0 dX5_distance_40 ?_
    refine z_bipush (pc := 43) C (by decide +kernel) dX5_distance_43 ?_
    refine z_iload_n (pc := 45) C 2 rfl dX5_distance_45 ?_
    refine z_imul (pc := 46) C dX5_distance_46 ?_
    refine z_iload (pc := 47) C 6 rfl dX5_distance_47 ?_
    refine z_iadd (pc := 49) C dX5_distance_49 ?_
    obtain ⟨c6, h⟩ := ifn h
    refine z_iaO (pc := 50) (k := 5) (j := 55) C 555 rfl (by decide) (by decide) (by decide) rfl rfl rfl rfl hv0 c6 rfl dX5_distance_50 ?_
    refine z_istore (pc := 51) C (lv' := [(0, .ref v0), (1, vI v1), (2, vI v2), (3, vI v3), (4, vI v4), (5, vL v5), (7, vI v7), (8, vI (m_i M 555 v0 (ixn ((20 * v1) + v7)))), (9, vI (m_i M 555 v0 (ixn ((20 * v2) + v7))))]) (by decide) rfl dX5_distance_51 ?_
    refine z_aload_n (pc := 53) C 0 rfl dX5_distance_53 ?_
    refine z_iload (pc := 54) C 4 rfl dX5_distance_54 ?_
    refine z_iload (pc := 56) C 6 rfl dX5_distance_56 ?_
    obtain ⟨r7, e8, h⟩ := bRs h
    refine cX5_407 (pc := 58) (st := []) (st1 := [vI r7]) C rfl (rm := { frames := 1, cells := 0, slots := 0, locals := 24 }) (ct_X5_isAsk C.2.1 v0 v4 v7 M _ hv0 e8) ⟨by decide, by decide, Nat.zero_le _, Nat.zero_le _⟩ (Or.inl hv0) rfl (Nat.le_of_ble_eq_true rfl) dX5_distance_58 (c2 := 0) (s2 := 0) rfl rfl (fun _ => ?_)
    refine z_if_eq (pc := 61) C dX5_distance_61 (tgt := 91) (by decide) (fun c9 => ?_) (fun c9 => ?_)
    · have h := itt c9 h
      exact cB_X5_distance_91 C hk13 v0 v1 v2 v3 v4 v5 v7 (m_i M 555 v0 (ixn ((20 * v1) + v7))) (m_i M 555 v0 (ixn ((20 * v2) + v7))) M _ hv0 h
    · have h := itf c9 h
      refine z_iload_n (pc := 64) C 3 rfl dX5_distance_64 ?_
      refine z_iload (pc := 65) C 6 rfl dX5_distance_65 ?_
      refine z_ishr (pc := 67) C dX5_distance_67 ?_
      refine z_iconst (pc := 68) C dX5_distance_68 ?_
      refine z_iand (pc := 69) C dX5_distance_69 ?_
      refine z_if_ne (pc := 70) C dX5_distance_70 (tgt := 91) (by decide) (fun c12 => ?_) (fun c12 => ?_)
      · have h := itf c12 h
        exact cB_X5_distance_91 C hk13 v0 v1 v2 v3 v4 v5 v7 (m_i M 555 v0 (ixn ((20 * v1) + v7))) (m_i M 555 v0 (ixn ((20 * v2) + v7))) M _ hv0 h
      · have h := itt c12 h
        refine z_iload (pc := 73) C 7 rfl dX5_distance_73 ?_
        refine z_ldc (pc := 75) C (x := -2000000) q1829 (by decide +kernel) dX5_distance_75 ?_
        refine z_ic_eq (pc := 77) C dX5_distance_77 (tgt := 91) (by decide) (fun c13 => ?_) (fun c13 => ?_)
        · have h := itt c13 h
          exact cB_X5_distance_91 C hk13 v0 v1 v2 v3 v4 v5 v7 (m_i M 555 v0 (ixn ((20 * v1) + v7))) (m_i M 555 v0 (ixn ((20 * v2) + v7))) M _ hv0 h
        · have h := itf c13 h
          refine z_iload (pc := 80) C 8 rfl dX5_distance_80 ?_
          refine z_ldc (pc := 82) C (x := -2000000) q1829 (by decide +kernel) dX5_distance_82 ?_
          refine z_ic_eq (pc := 84) C dX5_distance_84 (tgt := 91) (by decide) (fun c14 => ?_) (fun c14 => ?_)
          · have h := itt c14 h
            exact cB_X5_distance_91 C hk13 v0 v1 v2 v3 v4 v5 v7 (m_i M 555 v0 (ixn ((20 * v1) + v7))) (m_i M 555 v0 (ixn ((20 * v2) + v7))) M _ hv0 h
          · have h := itf c14 h
            refine z_iconst (pc := 87) C dX5_distance_87 ?_
            refine z_goto (pc := 88) C dX5_distance_88 (tgt := 92) (by decide) ?_
            exact cB_X5_distance_92 C hk13 v0 v1 v2 v3 v4 v5 v7 (m_i M 555 v0 (ixn ((20 * v1) + v7))) (m_i M 555 v0 (ixn ((20 * v2) + v7))) 1 M _ hv0 h
theorem cL_X5_distance_13 {X : x_Ctx} {M0 : Mem} (C : x_CC X 2 50 yX5_distance cX5_distance 11 (some .long) [])  : ∀ (n : Nat) (v0 : Nat) (v1 : Int) (v2 : Int) (v3 : Int) (v4 : Int) (v5 : Int) (v7 : Int) (M : Mem) (r : Int) (hv0 : m_kd M v0 = 5) (h : L_X5_distance_13  n v0 v1 v2 v3 v4 v5 v7 M = some r) , x_Z X 0 0 (x_QF X M0 (.returned (some (vL r))) M 0 0) M0 M 11 [(0, .ref v0), (1, vI v1), (2, vI v2), (3, vI v3), (4, vI v4), (5, vL v5), (7, vI v7)] 13 [] := by
  intro n
  induction n with
  | zero => intro v0 v1 v2 v3 v4 v5 v7 M r hv0 h ; cases h
  | succ n ih => intro v0 v1 v2 v3 v4 v5 v7 M r hv0 h ; exact cB_X5_distance_13 C (fun v0 v1 v2 v3 v4 v5 v7 M r hv0 h  => ih v0 v1 v2 v3 v4 v5 v7 M r hv0 h ) v0 v1 v2 v3 v4 v5 v7 M r hv0 h 
theorem ct_X5_distance {l : Launch} {S0 : State} {D : va_G} {cA : Nat → ClassId} (hG : x_G l S0 D cA) (v0 : Nat) (v1 : Int) (v2 : Int) (v3 : Int) (M : Mem) (r : Int) (hv0 : m_kd M v0 = 5) (h : d_X5_distance v0 v1 v2 v3 M = some r) : x_Me l S0 D cA yX5_distance cX5_distance 11 (some .long) [] ({ frames := 2, cells := 0, slots := 0, locals := 50 }) [.ref v0, vI v1, vI v2, vI v3] M (.returned (some (vL r))) M := by
  refine x_begin (F := 2) (Lo := 50) (mc := 0) (ms := 0) hG (Nat.le_of_ble_eq_true rfl) (lv := [(0, .ref v0), (1, vI v1), (2, vI v2), (3, vI v3)]) rfl rfl rfl rfl rfl (fun X e1 e2 e3 e4 e5 C => ?_)
  unfold d_X5_distance at h
  refine z_aload_n (pc := 0) C 0 rfl dX5_distance_0 ?_
  refine z_iload_n (pc := 1) C 1 rfl dX5_distance_1 ?_
  obtain ⟨r1, e2, h⟩ := bRs h
  refine cX5_401 (pc := 2) (st := []) (st1 := [vI r1]) C rfl (rm := { frames := 1, cells := 0, slots := 0, locals := 24 }) (ct_X5_formOf C.2.1 v0 v1 M _ hv0 e2) ⟨by decide, by decide, Nat.zero_le _, Nat.zero_le _⟩ (Or.inl hv0) rfl (Nat.le_of_ble_eq_true rfl) dX5_distance_2 (c2 := 0) (s2 := 0) rfl rfl (fun _ => ?_)
  refine z_istore (pc := 5) C (lv' := [(0, .ref v0), (1, vI v1), (2, vI v2), (3, vI v3), (4, vI r1)]) (by decide) rfl dX5_distance_5 ?_
  refine z_lconst (pc := 7) C (x := 0) (by decide +kernel) dX5_distance_7 ?_
  refine z_lstore (pc := 8) C (lv' := [(0, .ref v0), (1, vI v1), (2, vI v2), (3, vI v3), (4, vI r1), (5, vL 0)]) (by decide) rfl dX5_distance_8 ?_
  refine z_iconst (pc := 10) C dX5_distance_10 ?_
  refine z_istore (pc := 11) C (lv' := [(0, .ref v0), (1, vI v1), (2, vI v2), (3, vI v3), (4, vI r1), (5, vL 0), (7, vI 0)]) (by decide) rfl dX5_distance_11 ?_
  exact cL_X5_distance_13 C FU v0 v1 v2 v3 r1 0 0 M _ hv0 h
def B_X5_letsOf_176 (k75 : Nat → Int → Int → Int → Mem → Option (Int × Mem)) (v0 : Nat) (v1 : Int) (v2 : Int) (v3 : Int) (s0 : Nat) (s1 : Int) (s2 : Int) (M : Mem) : Option (Int × Mem) :=
  if inb s1 20 then 
  if inb v3 20 then 
  if inb ((20 * v1) + v3) 1200 then 
  k75 v0 v1 v2 (v3 + 1) (m_si (m_si M 534 s0 (ixn s1) s2) 555 v0 (ixn ((20 * v1) + v3)) (m_i (m_si M 534 s0 (ixn s1) s2) 534 v0 (ixn v3))) else none else none else none
def B_X5_letsOf_141 (k75 : Nat → Int → Int → Int → Mem → Option (Int × Mem)) (v0 : Nat) (v1 : Int) (v2 : Int) (v3 : Int) (v4 : Int) (s0 : Int) (M : Mem) : Option (Int × Mem) :=
  if w32 s0 = 0 then
    B_X5_letsOf_176 k75 v0 v1 v2 v3 v0 v3 (-2000000) M
  else
    if inb v4 120 then 
    bN (d_X5_sum v0 (m_i M 521 v0 (ixn v4)) (m_i M 522 v0 (ixn v4)) M) fun r15 M16 => 
    B_X5_letsOf_176 k75 v0 v1 v2 v3 v0 v3 r15 M16 else none
def B_X5_letsOf_136 (k75 : Nat → Int → Int → Int → Mem → Option (Int × Mem)) (v0 : Nat) (v1 : Int) (v2 : Int) (v3 : Int) (v4 : Int) (M : Mem) : Option (Int × Mem) :=
  B_X5_letsOf_141 k75 v0 v1 v2 v3 v4 1 M
def B_X5_letsOf_75 (k75 : Nat → Int → Int → Int → Mem → Option (Int × Mem)) (v0 : Nat) (v1 : Int) (v2 : Int) (v3 : Int) (M : Mem) : Option (Int × Mem) :=
  if inb v2 6 then 
  if w32 (m_i M 515 v0 (ixn v2)) ≤ w32 v3 then
    some (0, M)
  else
    if inb ((20 * v2) + v3) 120 then 
    if w32 (m_i M 516 v0 (ixn ((20 * v2) + v3))) = w32 1 then
      if w32 (m_i M 523 v0 (ixn ((20 * v2) + v3))) = w32 (-1) then
        B_X5_letsOf_136 k75 v0 v1 v2 v3 ((20 * v2) + v3) M
      else
        bN (d_X5_holds v0 (m_i M 523 v0 (ixn ((20 * v2) + v3))) (m_i M 524 v0 (ixn ((20 * v2) + v3))) M) fun r21 M22 => 
        if w32 r21 = 0 then
          B_X5_letsOf_141 k75 v0 v1 v2 v3 ((20 * v2) + v3) 0 M22
        else
          B_X5_letsOf_136 k75 v0 v1 v2 v3 ((20 * v2) + v3) M22
    else
      k75 v0 v1 v2 (v3 + 1) M else none else none
def L_X5_letsOf_75  : Nat → Nat → Int → Int → Int → Mem → Option (Int × Mem)
  | 0, _, _, _, _, _ => none
  | n + 1, v0, v1, v2, v3, M => B_X5_letsOf_75 (L_X5_letsOf_75  n) v0 v1 v2 v3 M
def B_X5_letsOf_39 (k39 : Nat → Int → Int → Int → Mem → Option (Int × Mem)) (v0 : Nat) (v1 : Int) (v2 : Int) (v3 : Int) (M : Mem) : Option (Int × Mem) :=
  if w32 6 ≤ w32 v3 then
    L_X5_letsOf_75 FU v0 v1 v2 0 M
  else
    if inb v1 60 then 
    if inb ((6 * (m_i M 554 v0 (ixn v1))) + v3) 360 then 
    if inb v3 6 then 
    k39 v0 v1 v2 (v3 + 1) (m_si M 535 v0 (ixn v3) (m_i M 541 v0 (ixn ((6 * (m_i M 554 v0 (ixn v1))) + v3)))) else none else none else none
def L_X5_letsOf_39  : Nat → Nat → Int → Int → Int → Mem → Option (Int × Mem)
  | 0, _, _, _, _, _ => none
  | n + 1, v0, v1, v2, v3, M => B_X5_letsOf_39 (L_X5_letsOf_39  n) v0 v1 v2 v3 M
def B_X5_letsOf_8 (k8 : Nat → Int → Int → Int → Mem → Option (Int × Mem)) (v0 : Nat) (v1 : Int) (v2 : Int) (v3 : Int) (M : Mem) : Option (Int × Mem) :=
  if w32 20 ≤ w32 v3 then
    L_X5_letsOf_39 FU v0 v1 v2 0 M
  else
    if inb ((20 * v1) + v3) 1200 then 
    if inb v3 20 then 
    k8 v0 v1 v2 (v3 + 1) (m_si M 534 v0 (ixn v3) (m_i M 555 v0 (ixn ((20 * v1) + v3)))) else none else none
def L_X5_letsOf_8  : Nat → Nat → Int → Int → Int → Mem → Option (Int × Mem)
  | 0, _, _, _, _, _ => none
  | n + 1, v0, v1, v2, v3, M => B_X5_letsOf_8 (L_X5_letsOf_8  n) v0 v1 v2 v3 M
def d_X5_letsOf (v0 : Nat) (v1 : Int) (M : Mem) : Option (Int × Mem) :=
  bR (d_X5_formOf v0 v1 M) fun r1 => 
  L_X5_letsOf_8 FU v0 v1 r1 0 M
theorem cB_X5_letsOf_176 {X : x_Ctx} {M0 : Mem} (C : x_CC X 4 117 yX5_letsOf cX5_letsOf 6 none []) {k75 : Nat → Int → Int → Int → Mem → Option (Int × Mem)} (hk75 : ∀ (v0 : Nat) (v1 : Int) (v2 : Int) (v3 : Int) (M : Mem) (r : Int) (M' : Mem), m_kd M v0 = 5 → k75 v0 v1 v2 v3 M = some (r, M') → x_Z X 0 0 (x_QF X M0 (.returned none) M' 0 0) M0 M 6 [(0, .ref v0), (1, vI v1), (2, vI v2), (3, vI v3)] 75 []) (v0 : Nat) (v1 : Int) (v2 : Int) (v3 : Int) (s0 : Nat) (s1 : Int) (s2 : Int) (M : Mem) (r : Int) (M' : Mem) (hv0 : m_kd M v0 = 5) (hs0 : m_kd M s0 = 5) (h : B_X5_letsOf_176 k75 v0 v1 v2 v3 s0 s1 s2 M = some (r, M'))  : x_Z X 0 0 (x_QF X M0 (.returned none) M' 0 0) M0 M 6 [(0, .ref v0), (1, vI v1), (2, vI v2), (3, vI v3)] 176 [vI s2, vI s1, .ref (s0 + 21)] := by
  unfold B_X5_letsOf_176 at h
  obtain ⟨c11, h⟩ := ifn h
  refine z_isO (pc := 176) (k := 5) (j := 34) C 534 rfl (by decide) (by decide) (by decide) rfl rfl rfl rfl hs0 c11 dX5_letsOf_176 ?_
  refine z_aload_n (pc := 177) C 0 rfl dX5_letsOf_177 ?_
  refine gX5_555 (pc := 178) C rfl hv0 dX5_letsOf_178 ?_
  refine z_bipush (pc := 181) C (by decide +kernel) dX5_letsOf_181 ?_
  refine z_iload_n (pc := 183) C 1 rfl dX5_letsOf_183 ?_
  refine z_imul (pc := 184) C dX5_letsOf_184 ?_
  refine z_iload_n (pc := 185) C 3 rfl dX5_letsOf_185 ?_
  refine z_iadd (pc := 186) C dX5_letsOf_186 ?_
  refine z_aload_n (pc := 187) C 0 rfl dX5_letsOf_187 ?_
  refine gX5_534 (pc := 188) C rfl hv0 dX5_letsOf_188 ?_
  refine z_iload_n (pc := 191) C 3 rfl dX5_letsOf_191 ?_
  obtain ⟨c12, h⟩ := ifn h
  refine z_iaO (pc := 192) (k := 5) (j := 34) C 534 rfl (by decide) (by decide) (by decide) rfl rfl rfl rfl hv0 c12 rfl dX5_letsOf_192 ?_
  obtain ⟨c13, h⟩ := ifn h
  refine z_isO (pc := 193) (k := 5) (j := 55) C 555 rfl (by decide) (by decide) (by decide) rfl rfl rfl rfl hv0 c13 dX5_letsOf_193 ?_
  refine z_iinc (pc := 194) C (lv' := [(0, .ref v0), (1, vI v1), (2, vI v2), (3, vI (v3 + 1))]) 3 rfl (by decide) rfl dX5_letsOf_194 ?_
  refine z_goto (pc := 197) C dX5_letsOf_197 (tgt := 75) (by decide) ?_
  exact hk75 v0 v1 v2 (v3 + 1) (m_si (m_si M 534 s0 (ixn s1) s2) 555 v0 (ixn ((20 * v1) + v3)) (m_i (m_si M 534 s0 (ixn s1) s2) 534 v0 (ixn v3))) _ _ hv0 h
theorem cB_X5_letsOf_141 {X : x_Ctx} {M0 : Mem} (C : x_CC X 4 117 yX5_letsOf cX5_letsOf 6 none []) {k75 : Nat → Int → Int → Int → Mem → Option (Int × Mem)} (hk75 : ∀ (v0 : Nat) (v1 : Int) (v2 : Int) (v3 : Int) (M : Mem) (r : Int) (M' : Mem), m_kd M v0 = 5 → k75 v0 v1 v2 v3 M = some (r, M') → x_Z X 0 0 (x_QF X M0 (.returned none) M' 0 0) M0 M 6 [(0, .ref v0), (1, vI v1), (2, vI v2), (3, vI v3)] 75 []) (v0 : Nat) (v1 : Int) (v2 : Int) (v3 : Int) (v4 : Int) (s0 : Int) (M : Mem) (r : Int) (M' : Mem) (hv0 : m_kd M v0 = 5) (h : B_X5_letsOf_141 k75 v0 v1 v2 v3 v4 s0 M = some (r, M'))  : x_Z X 0 0 (x_QF X M0 (.returned none) M' 0 0) M0 M 6 [(0, .ref v0), (1, vI v1), (2, vI v2), (3, vI v3), (4, vI v4)] 141 [vI s0] := by
  unfold B_X5_letsOf_141 at h
  refine z_istore (pc := 141) C (lv' := [(0, .ref v0), (1, vI v1), (2, vI v2), (3, vI v3), (4, vI v4), (5, vI s0)]) (by decide) rfl dX5_letsOf_141 ?_
  refine z_aload_n (pc := 143) C 0 rfl dX5_letsOf_143 ?_
  refine gX5_534 (pc := 144) C rfl hv0 dX5_letsOf_144 ?_
  refine z_iload_n (pc := 147) C 3 rfl dX5_letsOf_147 ?_
  refine z_iload (pc := 148) C 5 rfl dX5_letsOf_148 ?_
  refine z_if_eq (pc := 150) C dX5_letsOf_150 (tgt := 174) (by decide) (fun c10 => ?_) (fun c10 => ?_)
  · have h := itt c10 h
    refine z_ldc (pc := 174) C (x := -2000000) q1829 (by decide +kernel) dX5_letsOf_174 ?_
    exact z_lv [0, 1, 2, 3] rfl <| cB_X5_letsOf_176 C hk75 v0 v1 v2 v3 v0 v3 (-2000000) M _ _ hv0 hv0 h
  · have h := itf c10 h
    refine z_aload_n (pc := 153) C 0 rfl dX5_letsOf_153 ?_
    refine z_aload_n (pc := 154) C 0 rfl dX5_letsOf_154 ?_
    refine gX5_521 (pc := 155) C rfl hv0 dX5_letsOf_155 ?_
    refine z_iload (pc := 158) C 4 rfl dX5_letsOf_158 ?_
    obtain ⟨c14, h⟩ := ifn h
    refine z_iaO (pc := 160) (k := 5) (j := 21) C 521 rfl (by decide) (by decide) (by decide) rfl rfl rfl rfl hv0 c14 rfl dX5_letsOf_160 ?_
    refine z_aload_n (pc := 161) C 0 rfl dX5_letsOf_161 ?_
    refine gX5_522 (pc := 162) C rfl hv0 dX5_letsOf_162 ?_
    refine z_iload (pc := 165) C 4 rfl dX5_letsOf_165 ?_
    refine z_iaO (pc := 167) (k := 5) (j := 22) C 522 rfl (by decide) (by decide) (by decide) rfl rfl rfl rfl hv0 c14 rfl dX5_letsOf_167 ?_
    obtain ⟨r15, M16, e17, h⟩ := bNs h
    refine cX5_365 (pc := 168) (st := [vI v3, .ref (v0 + 21)]) (st1 := [vI r15, vI v3, .ref (v0 + 21)]) C rfl (rm := { frames := 2, cells := 0, slots := 0, locals := 53 }) (ct_X5_sum C.2.1 v0 (m_i M 521 v0 (ixn v4)) (m_i M 522 v0 (ixn v4)) M _ _ hv0 e17) ⟨by decide, by decide, Nat.zero_le _, Nat.zero_le _⟩ (Or.inl hv0) rfl (Nat.le_of_ble_eq_true rfl) dX5_letsOf_168 (c2 := 0) (s2 := 0) rfl rfl (fun x18 => ?_)
    have k19 := x18 _ 5 (by decide) (Or.inl (by decide)) hv0
    have k20 := x18 _ 5 (by decide) (Or.inl (by decide)) hv0
    refine z_goto (pc := 171) C dX5_letsOf_171 (tgt := 176) (by decide) ?_
    exact z_lv [0, 1, 2, 3] rfl <| cB_X5_letsOf_176 C hk75 v0 v1 v2 v3 v0 v3 r15 M16 _ _ k20 k19 h
theorem cB_X5_letsOf_136 {X : x_Ctx} {M0 : Mem} (C : x_CC X 4 117 yX5_letsOf cX5_letsOf 6 none []) {k75 : Nat → Int → Int → Int → Mem → Option (Int × Mem)} (hk75 : ∀ (v0 : Nat) (v1 : Int) (v2 : Int) (v3 : Int) (M : Mem) (r : Int) (M' : Mem), m_kd M v0 = 5 → k75 v0 v1 v2 v3 M = some (r, M') → x_Z X 0 0 (x_QF X M0 (.returned none) M' 0 0) M0 M 6 [(0, .ref v0), (1, vI v1), (2, vI v2), (3, vI v3)] 75 []) (v0 : Nat) (v1 : Int) (v2 : Int) (v3 : Int) (v4 : Int) (M : Mem) (r : Int) (M' : Mem) (hv0 : m_kd M v0 = 5) (h : B_X5_letsOf_136 k75 v0 v1 v2 v3 v4 M = some (r, M'))  : x_Z X 0 0 (x_QF X M0 (.returned none) M' 0 0) M0 M 6 [(0, .ref v0), (1, vI v1), (2, vI v2), (3, vI v3), (4, vI v4)] 136 [] := by
  unfold B_X5_letsOf_136 at h
  refine z_iconst (pc := 136) C dX5_letsOf_136 ?_
  refine z_goto (pc := 137) C dX5_letsOf_137 (tgt := 141) (by decide) ?_
  exact cB_X5_letsOf_141 C hk75 v0 v1 v2 v3 v4 1 M _ _ hv0 h
theorem cB_X5_letsOf_75 {X : x_Ctx} {M0 : Mem} (C : x_CC X 4 117 yX5_letsOf cX5_letsOf 6 none []) {k75 : Nat → Int → Int → Int → Mem → Option (Int × Mem)} (hk75 : ∀ (v0 : Nat) (v1 : Int) (v2 : Int) (v3 : Int) (M : Mem) (r : Int) (M' : Mem), m_kd M v0 = 5 → k75 v0 v1 v2 v3 M = some (r, M') → x_Z X 0 0 (x_QF X M0 (.returned none) M' 0 0) M0 M 6 [(0, .ref v0), (1, vI v1), (2, vI v2), (3, vI v3)] 75 []) (v0 : Nat) (v1 : Int) (v2 : Int) (v3 : Int) (M : Mem) (r : Int) (M' : Mem) (hv0 : m_kd M v0 = 5) (h : B_X5_letsOf_75 k75 v0 v1 v2 v3 M = some (r, M'))  : x_Z X 0 0 (x_QF X M0 (.returned none) M' 0 0) M0 M 6 [(0, .ref v0), (1, vI v1), (2, vI v2), (3, vI v3)] 75 [] := by
  unfold B_X5_letsOf_75 at h
  refine z_iload_n (pc := 75) C 3 rfl dX5_letsOf_75 ?_
  refine z_aload_n (pc := 76) C 0 rfl dX5_letsOf_76 ?_
  refine gX5_515 (pc := 77) C rfl hv0 dX5_letsOf_77 ?_
  refine z_iload_n (pc := 80) C 2 rfl dX5_letsOf_80 ?_
  obtain ⟨c5, h⟩ := ifn h
  refine z_iaO (pc := 81) (k := 5) (j := 15) C 515 rfl (by decide) (by decide) (by decide) rfl rfl rfl rfl hv0 c5 rfl dX5_letsOf_81 ?_
  refine z_ic_ge (pc := 82) C dX5_letsOf_82 (tgt := 200) (by decide) (fun c6 => ?_) (fun c6 => ?_)
  · have h := itt c6 h
    cases h
    exact z_vret (pc := 200) C rfl (show 0 ≤ 0 from by decide) (show 0 ≤ 0 from by decide) dX5_letsOf_200
  · have h := itf c6 h
    refine z_bipush (pc := 85) C (by decide +kernel) dX5_letsOf_85 ?_
    refine z_iload_n (pc := 87) C 2 rfl dX5_letsOf_87 ?_
    refine z_imul (pc := 88) C dX5_letsOf_88 ?_
    refine z_iload_n (pc := 89) C 3 rfl dX5_letsOf_89 ?_
    refine z_iadd (pc := 90) C dX5_letsOf_90 ?_
    refine z_istore (pc := 91) C (lv' := [(0, .ref v0), (1, vI v1), (2, vI v2), (3, vI v3), (4, vI ((20 * v2) + v3))]) (by decide) rfl dX5_letsOf_91 ?_
    refine z_aload_n (pc := 93) C 0 rfl dX5_letsOf_93 ?_
    refine gX5_516 (pc := 94) C rfl hv0 dX5_letsOf_94 ?_
    refine z_iload (pc := 97) C 4 rfl dX5_letsOf_97 ?_
    obtain ⟨c7, h⟩ := ifn h
    refine z_iaO (pc := 99) (k := 5) (j := 16) C 516 rfl (by decide) (by decide) (by decide) rfl rfl rfl rfl hv0 c7 rfl dX5_letsOf_99 ?_
    refine z_iconst (pc := 100) C dX5_letsOf_100 ?_
    refine z_ic_ne (pc := 101) C dX5_letsOf_101 (tgt := 194) (by decide) (fun c8 => ?_) (fun c8 => ?_)
    · have h := itf c8 h
      refine z_iinc (pc := 194) C (lv' := [(0, .ref v0), (1, vI v1), (2, vI v2), (3, vI (v3 + 1)), (4, vI ((20 * v2) + v3))]) 3 rfl (by decide) rfl dX5_letsOf_194 ?_
      refine z_goto (pc := 197) C dX5_letsOf_197 (tgt := 75) (by decide) ?_
      exact z_lv [0, 1, 2, 3] rfl <| hk75 v0 v1 v2 (v3 + 1) M _ _ hv0 h
    · have h := itt c8 h
      refine z_aload_n (pc := 104) C 0 rfl dX5_letsOf_104 ?_
      refine gX5_523 (pc := 105) C rfl hv0 dX5_letsOf_105 ?_
      refine z_iload (pc := 108) C 4 rfl dX5_letsOf_108 ?_
      refine z_iaO (pc := 110) (k := 5) (j := 23) C 523 rfl (by decide) (by decide) (by decide) rfl rfl rfl rfl hv0 c7 rfl dX5_letsOf_110 ?_
      refine z_iconst (pc := 111) C dX5_letsOf_111 ?_
      refine z_ic_eq (pc := 112) C dX5_letsOf_112 (tgt := 136) (by decide) (fun c9 => ?_) (fun c9 => ?_)
      · have h := itt c9 h
        exact cB_X5_letsOf_136 C hk75 v0 v1 v2 v3 ((20 * v2) + v3) M _ _ hv0 h
      · have h := itf c9 h
        refine z_aload_n (pc := 115) C 0 rfl dX5_letsOf_115 ?_
        refine z_aload_n (pc := 116) C 0 rfl dX5_letsOf_116 ?_
        refine gX5_523 (pc := 117) C rfl hv0 dX5_letsOf_117 ?_
        refine z_iload (pc := 120) C 4 rfl dX5_letsOf_120 ?_
        refine z_iaO (pc := 122) (k := 5) (j := 23) C 523 rfl (by decide) (by decide) (by decide) rfl rfl rfl rfl hv0 c7 rfl dX5_letsOf_122 ?_
        refine z_aload_n (pc := 123) C 0 rfl dX5_letsOf_123 ?_
        refine gX5_524 (pc := 124) C rfl hv0 dX5_letsOf_124 ?_
        refine z_iload (pc := 127) C 4 rfl dX5_letsOf_127 ?_
        refine z_iaO (pc := 129) (k := 5) (j := 24) C 524 rfl (by decide) (by decide) (by decide) rfl rfl rfl rfl hv0 c7 rfl dX5_letsOf_129 ?_
        obtain ⟨r21, M22, e23, h⟩ := bNs h
        refine cX5_380 (pc := 130) (st := []) (st1 := [vI r21]) C rfl (rm := { frames := 3, cells := 0, slots := 0, locals := 84 }) (ct_X5_holds C.2.1 v0 (m_i M 523 v0 (ixn ((20 * v2) + v3))) (m_i M 524 v0 (ixn ((20 * v2) + v3))) M _ _ hv0 e23) ⟨by decide, by decide, Nat.zero_le _, Nat.zero_le _⟩ (Or.inl hv0) rfl (Nat.le_of_ble_eq_true rfl) dX5_letsOf_130 (c2 := 0) (s2 := 0) rfl rfl (fun x24 => ?_)
        have k25 := x24 _ 5 (by decide) (Or.inl (by decide)) hv0
        refine z_if_eq (pc := 133) C dX5_letsOf_133 (tgt := 140) (by decide) (fun c26 => ?_) (fun c26 => ?_)
        · have h := itt c26 h
          refine z_iconst (pc := 140) C dX5_letsOf_140 ?_
          exact cB_X5_letsOf_141 C hk75 v0 v1 v2 v3 ((20 * v2) + v3) 0 M22 _ _ k25 h
        · have h := itf c26 h
          exact cB_X5_letsOf_136 C hk75 v0 v1 v2 v3 ((20 * v2) + v3) M22 _ _ k25 h
theorem cL_X5_letsOf_75 {X : x_Ctx} {M0 : Mem} (C : x_CC X 4 117 yX5_letsOf cX5_letsOf 6 none [])  : ∀ (n : Nat) (v0 : Nat) (v1 : Int) (v2 : Int) (v3 : Int) (M : Mem) (r : Int) (M' : Mem) (hv0 : m_kd M v0 = 5) (h : L_X5_letsOf_75  n v0 v1 v2 v3 M = some (r, M')) , x_Z X 0 0 (x_QF X M0 (.returned none) M' 0 0) M0 M 6 [(0, .ref v0), (1, vI v1), (2, vI v2), (3, vI v3)] 75 [] := by
  intro n
  induction n with
  | zero => intro v0 v1 v2 v3 M r M' hv0 h ; cases h
  | succ n ih => intro v0 v1 v2 v3 M r M' hv0 h ; exact cB_X5_letsOf_75 C (fun v0 v1 v2 v3 M r M' hv0 h  => ih v0 v1 v2 v3 M r M' hv0 h ) v0 v1 v2 v3 M r M' hv0 h 
theorem cB_X5_letsOf_39 {X : x_Ctx} {M0 : Mem} (C : x_CC X 4 117 yX5_letsOf cX5_letsOf 6 none []) {k39 : Nat → Int → Int → Int → Mem → Option (Int × Mem)} (hk39 : ∀ (v0 : Nat) (v1 : Int) (v2 : Int) (v3 : Int) (M : Mem) (r : Int) (M' : Mem), m_kd M v0 = 5 → k39 v0 v1 v2 v3 M = some (r, M') → x_Z X 0 0 (x_QF X M0 (.returned none) M' 0 0) M0 M 6 [(0, .ref v0), (1, vI v1), (2, vI v2), (3, vI v3)] 39 []) (v0 : Nat) (v1 : Int) (v2 : Int) (v3 : Int) (M : Mem) (r : Int) (M' : Mem) (hv0 : m_kd M v0 = 5) (h : B_X5_letsOf_39 k39 v0 v1 v2 v3 M = some (r, M'))  : x_Z X 0 0 (x_QF X M0 (.returned none) M' 0 0) M0 M 6 [(0, .ref v0), (1, vI v1), (2, vI v2), (3, vI v3)] 39 [] := by
  unfold B_X5_letsOf_39 at h
  refine z_iload_n (pc := 39) C 3 rfl dX5_letsOf_39 ?_
  refine z_bipush (pc := 40) C (by decide +kernel) dX5_letsOf_40 ?_
  refine z_ic_ge (pc := 42) C dX5_letsOf_42 (tgt := 73) (by decide) (fun c4 => ?_) (fun c4 => ?_)
  · have h := itt c4 h
    refine z_iconst (pc := 73) C dX5_letsOf_73 ?_
    refine z_istore_n (pc := 74) C (lv' := [(0, .ref v0), (1, vI v1), (2, vI v2), (3, vI 0)]) (by decide) rfl dX5_letsOf_74 ?_
    exact cL_X5_letsOf_75 C FU v0 v1 v2 0 M _ _ hv0 h
  · have h := itf c4 h
    refine z_aload_n (pc := 45) C 0 rfl dX5_letsOf_45 ?_
    refine gX5_535 (pc := 46) C rfl hv0 dX5_letsOf_46 ?_
    refine z_iload_n (pc := 49) C 3 rfl dX5_letsOf_49 ?_
    refine z_aload_n (pc := 50) C 0 rfl dX5_letsOf_50 ?_
    refine gX5_541 (pc := 51) C rfl hv0 dX5_letsOf_51 ?_
    refine z_bipush (pc := 54) C (by decide +kernel) dX5_letsOf_54 ?_
    refine z_aload_n (pc := 56) C 0 rfl dX5_letsOf_56 ?_
    refine gX5_554 (pc := 57) C rfl hv0 dX5_letsOf_57 ?_
    refine z_iload_n (pc := 60) C 1 rfl dX5_letsOf_60 ?_
    obtain ⟨c27, h⟩ := ifn h
    refine z_iaO (pc := 61) (k := 5) (j := 54) C 554 rfl (by decide) (by decide) (by decide) rfl rfl rfl rfl hv0 c27 rfl dX5_letsOf_61 ?_
    refine z_imul (pc := 62) C dX5_letsOf_62 ?_
    refine z_iload_n (pc := 63) C 3 rfl dX5_letsOf_63 ?_
    refine z_iadd (pc := 64) C dX5_letsOf_64 ?_
    obtain ⟨c28, h⟩ := ifn h
    refine z_iaO (pc := 65) (k := 5) (j := 41) C 541 rfl (by decide) (by decide) (by decide) rfl rfl rfl rfl hv0 c28 rfl dX5_letsOf_65 ?_
    obtain ⟨c29, h⟩ := ifn h
    refine z_isO (pc := 66) (k := 5) (j := 35) C 535 rfl (by decide) (by decide) (by decide) rfl rfl rfl rfl hv0 c29 dX5_letsOf_66 ?_
    refine z_iinc (pc := 67) C (lv' := [(0, .ref v0), (1, vI v1), (2, vI v2), (3, vI (v3 + 1))]) 3 rfl (by decide) rfl dX5_letsOf_67 ?_
    refine z_goto (pc := 70) C dX5_letsOf_70 (tgt := 39) (by decide) ?_
    exact hk39 v0 v1 v2 (v3 + 1) (m_si M 535 v0 (ixn v3) (m_i M 541 v0 (ixn ((6 * (m_i M 554 v0 (ixn v1))) + v3)))) _ _ hv0 h
theorem cL_X5_letsOf_39 {X : x_Ctx} {M0 : Mem} (C : x_CC X 4 117 yX5_letsOf cX5_letsOf 6 none [])  : ∀ (n : Nat) (v0 : Nat) (v1 : Int) (v2 : Int) (v3 : Int) (M : Mem) (r : Int) (M' : Mem) (hv0 : m_kd M v0 = 5) (h : L_X5_letsOf_39  n v0 v1 v2 v3 M = some (r, M')) , x_Z X 0 0 (x_QF X M0 (.returned none) M' 0 0) M0 M 6 [(0, .ref v0), (1, vI v1), (2, vI v2), (3, vI v3)] 39 [] := by
  intro n
  induction n with
  | zero => intro v0 v1 v2 v3 M r M' hv0 h ; cases h
  | succ n ih => intro v0 v1 v2 v3 M r M' hv0 h ; exact cB_X5_letsOf_39 C (fun v0 v1 v2 v3 M r M' hv0 h  => ih v0 v1 v2 v3 M r M' hv0 h ) v0 v1 v2 v3 M r M' hv0 h 
theorem cB_X5_letsOf_8 {X : x_Ctx} {M0 : Mem} (C : x_CC X 4 117 yX5_letsOf cX5_letsOf 6 none []) {k8 : Nat → Int → Int → Int → Mem → Option (Int × Mem)} (hk8 : ∀ (v0 : Nat) (v1 : Int) (v2 : Int) (v3 : Int) (M : Mem) (r : Int) (M' : Mem), m_kd M v0 = 5 → k8 v0 v1 v2 v3 M = some (r, M') → x_Z X 0 0 (x_QF X M0 (.returned none) M' 0 0) M0 M 6 [(0, .ref v0), (1, vI v1), (2, vI v2), (3, vI v3)] 8 []) (v0 : Nat) (v1 : Int) (v2 : Int) (v3 : Int) (M : Mem) (r : Int) (M' : Mem) (hv0 : m_kd M v0 = 5) (h : B_X5_letsOf_8 k8 v0 v1 v2 v3 M = some (r, M'))  : x_Z X 0 0 (x_QF X M0 (.returned none) M' 0 0) M0 M 6 [(0, .ref v0), (1, vI v1), (2, vI v2), (3, vI v3)] 8 [] := by
  unfold B_X5_letsOf_8 at h
  refine z_iload_n (pc := 8) C 3 rfl dX5_letsOf_8 ?_
  refine z_bipush (pc := 9) C (by decide +kernel) dX5_letsOf_9 ?_
  refine z_ic_ge (pc := 11) C dX5_letsOf_11 (tgt := 37) (by decide) (fun c3 => ?_) (fun c3 => ?_)
  · have h := itt c3 h
    refine z_iconst (pc := 37) C dX5_letsOf_37 ?_
    refine z_istore_n (pc := 38) C (lv' := [(0, .ref v0), (1, vI v1), (2, vI v2), (3, vI 0)]) (by decide) rfl dX5_letsOf_38 ?_
    exact cL_X5_letsOf_39 C FU v0 v1 v2 0 M _ _ hv0 h
  · have h := itf c3 h
    refine z_aload_n (pc := 14) C 0 rfl dX5_letsOf_14 ?_
    refine gX5_534 (pc := 15) C rfl hv0 dX5_letsOf_15 ?_
    refine z_iload_n (pc := 18) C 3 rfl dX5_letsOf_18 ?_
    refine z_aload_n (pc := 19) C 0 rfl dX5_letsOf_19 ?_
    refine gX5_555 (pc := 20) C rfl hv0 dX5_letsOf_20 ?_
    refine z_bipush (pc := 23) C (by decide +kernel) dX5_letsOf_23 ?_
    refine z_iload_n (pc := 25) C 1 rfl dX5_letsOf_25 ?_
    refine z_imul (pc := 26) C dX5_letsOf_26 ?_
    refine z_iload_n (pc := 27) C 3 rfl dX5_letsOf_27 ?_
    refine z_iadd (pc := 28) C dX5_letsOf_28 ?_
    obtain ⟨c30, h⟩ := ifn h
    refine z_iaO (pc := 29) (k := 5) (j := 55) C 555 rfl (by decide) (by decide) (by decide) rfl rfl rfl rfl hv0 c30 rfl dX5_letsOf_29 ?_
    obtain ⟨c31, h⟩ := ifn h
    refine z_isO (pc := 30) (k := 5) (j := 34) C 534 rfl (by decide) (by decide) (by decide) rfl rfl rfl rfl hv0 c31 dX5_letsOf_30 ?_
    refine z_iinc (pc := 31) C (lv' := [(0, .ref v0), (1, vI v1), (2, vI v2), (3, vI (v3 + 1))]) 3 rfl (by decide) rfl dX5_letsOf_31 ?_
    refine z_goto (pc := 34) C dX5_letsOf_34 (tgt := 8) (by decide) ?_
    exact hk8 v0 v1 v2 (v3 + 1) (m_si M 534 v0 (ixn v3) (m_i M 555 v0 (ixn ((20 * v1) + v3)))) _ _ hv0 h
theorem cL_X5_letsOf_8 {X : x_Ctx} {M0 : Mem} (C : x_CC X 4 117 yX5_letsOf cX5_letsOf 6 none [])  : ∀ (n : Nat) (v0 : Nat) (v1 : Int) (v2 : Int) (v3 : Int) (M : Mem) (r : Int) (M' : Mem) (hv0 : m_kd M v0 = 5) (h : L_X5_letsOf_8  n v0 v1 v2 v3 M = some (r, M')) , x_Z X 0 0 (x_QF X M0 (.returned none) M' 0 0) M0 M 6 [(0, .ref v0), (1, vI v1), (2, vI v2), (3, vI v3)] 8 [] := by
  intro n
  induction n with
  | zero => intro v0 v1 v2 v3 M r M' hv0 h ; cases h
  | succ n ih => intro v0 v1 v2 v3 M r M' hv0 h ; exact cB_X5_letsOf_8 C (fun v0 v1 v2 v3 M r M' hv0 h  => ih v0 v1 v2 v3 M r M' hv0 h ) v0 v1 v2 v3 M r M' hv0 h 
theorem ct_X5_letsOf {l : Launch} {S0 : State} {D : va_G} {cA : Nat → ClassId} (hG : x_G l S0 D cA) (v0 : Nat) (v1 : Int) (M : Mem) (r : Int) (M' : Mem) (hv0 : m_kd M v0 = 5) (h : d_X5_letsOf v0 v1 M = some (r, M')) : x_Me l S0 D cA yX5_letsOf cX5_letsOf 6 none [] ({ frames := 4, cells := 0, slots := 0, locals := 117 }) [.ref v0, vI v1] M (.returned none) M' := by
  refine x_begin (F := 4) (Lo := 117) (mc := 0) (ms := 0) hG (Nat.le_of_ble_eq_true rfl) (lv := [(0, .ref v0), (1, vI v1)]) rfl rfl rfl rfl rfl (fun X e1 e2 e3 e4 e5 C => ?_)
  unfold d_X5_letsOf at h
  refine z_aload_n (pc := 0) C 0 rfl dX5_letsOf_0 ?_
  refine z_iload_n (pc := 1) C 1 rfl dX5_letsOf_1 ?_
  obtain ⟨r1, e2, h⟩ := bRs h
  refine cX5_401 (pc := 2) (st := []) (st1 := [vI r1]) C rfl (rm := { frames := 1, cells := 0, slots := 0, locals := 24 }) (ct_X5_formOf C.2.1 v0 v1 M _ hv0 e2) ⟨by decide, by decide, Nat.zero_le _, Nat.zero_le _⟩ (Or.inl hv0) rfl (Nat.le_of_ble_eq_true rfl) dX5_letsOf_2 (c2 := 0) (s2 := 0) rfl rfl (fun _ => ?_)
  refine z_istore_n (pc := 5) C (lv' := [(0, .ref v0), (1, vI v1), (2, vI r1)]) (by decide) rfl dX5_letsOf_5 ?_
  refine z_iconst (pc := 6) C dX5_letsOf_6 ?_
  refine z_istore_n (pc := 7) C (lv' := [(0, .ref v0), (1, vI v1), (2, vI r1), (3, vI 0)]) (by decide) rfl dX5_letsOf_7 ?_
  exact cL_X5_letsOf_8 C FU v0 v1 r1 0 M _ _ hv0 h
def B_X5_impute_226 (k164 : Nat → Int → Int → Int → Int → Int → Int → Mem → Option (Int × Mem)) (v0 : Nat) (v1 : Int) (v3 : Int) (v4 : Int) (v5 : Int) (v6 : Int) (v7 : Int) (s0 : Nat) (s1 : Int) (s2 : Int) (M : Mem) : Option (Int × Mem) :=
  if inb s1 1200 then 
  if w32 v5 = w32 (-1) then
    if inb ((20 * v1) + v7) 1200 then 
    k164 v0 v1 v3 v4 v5 (v6 + 1) (v7 + 1) (m_si (m_si M 555 s0 (ixn s1) s2) 556 v0 (ixn ((20 * v1) + v7)) 1) else none
  else
    if inb ((20 * v1) + v7) 1200 then 
    k164 v0 v1 v3 v4 v5 (v6 + 1) (v7 + 1) (m_si (m_si M 555 s0 (ixn s1) s2) 556 v0 (ixn ((20 * v1) + v7)) 2) else none else none
def B_X5_impute_164 (k164 : Nat → Int → Int → Int → Int → Int → Int → Mem → Option (Int × Mem)) (v0 : Nat) (v1 : Int) (v3 : Int) (v4 : Int) (v5 : Int) (v6 : Int) (v7 : Int) (M : Mem) : Option (Int × Mem) :=
  if inb v3 6 then 
  if w32 (m_i M 515 v0 (ixn v3)) ≤ w32 v7 then
    bN (d_X5_letsOf v0 v1 M) fun r17 M18 => 
    some (v6, M18)
  else
    if w32 (a32 (s32 v4 v7) 1) = w32 1 then
      if w32 v5 = w32 (-1) then
        if inb v7 20 then 
        B_X5_impute_226 k164 v0 v1 v3 v4 v5 v6 v7 v0 ((20 * v1) + v7) (m_i M 561 v0 (ixn v7)) M else none
      else
        if inb ((20 * v5) + v7) 1200 then 
        B_X5_impute_226 k164 v0 v1 v3 v4 v5 v6 v7 v0 ((20 * v1) + v7) (m_i M 555 v0 (ixn ((20 * v5) + v7))) M else none
    else
      k164 v0 v1 v3 v4 v5 v6 (v7 + 1) M else none
def L_X5_impute_164  : Nat → Nat → Int → Int → Int → Int → Int → Int → Mem → Option (Int × Mem)
  | 0, _, _, _, _, _, _, _, _ => none
  | n + 1, v0, v1, v3, v4, v5, v6, v7, M => B_X5_impute_164 (L_X5_impute_164  n) v0 v1 v3 v4 v5 v6 v7 M
def B_X5_impute_144  (v0 : Nat) (v1 : Int) (v3 : Int) (v4 : Int) (v5 : Int) (M : Mem) : Option (Int × Mem) :=
  if w32 v5 = w32 (-1) then
    bN (d_X5_fits v0 v1 v4 M) fun r29 M30 => 
    L_X5_impute_164 FU v0 v1 v3 v4 v5 0 0 M30
  else
    L_X5_impute_164 FU v0 v1 v3 v4 v5 0 0 M
def B_X5_impute_80 (k80 : Nat → Int → Int → Int → Int → Int → Int → Mem → Option (Int × Mem)) (v0 : Nat) (v1 : Int) (v2 : Int) (v3 : Int) (v4 : Int) (v5 : Int) (v6 : Int) (M : Mem) : Option (Int × Mem) :=
  if w32 (m_i M 553 v0 0) ≤ w32 v6 then
    B_X5_impute_144 v0 v1 v3 v4 v5 M
  else
    if w32 v2 = w32 1 then
      bN (d_X5_mayGive v0 v1 v6 v4 M) fun r35 M36 => 
      if w32 r35 = 0 then
        k80 v0 v1 v2 v3 v4 v5 (v6 + 1) M36
      else
        if w32 v5 = w32 (-1) then
          k80 v0 v1 v2 v3 v4 v6 (v6 + 1) M36
        else
          bR (d_X5_distance v0 v1 v6 v4 M36) fun r42 => 
          bR (d_X5_distance v0 v1 v5 v4 M36) fun r44 => 
          if w64 r44 ≤ w64 r42 then
            k80 v0 v1 v2 v3 v4 v5 (v6 + 1) M36
          else
            k80 v0 v1 v2 v3 v4 v6 (v6 + 1) M36
    else
      B_X5_impute_144 v0 v1 v3 v4 v5 M
def L_X5_impute_80  : Nat → Nat → Int → Int → Int → Int → Int → Int → Mem → Option (Int × Mem)
  | 0, _, _, _, _, _, _, _, _ => none
  | n + 1, v0, v1, v2, v3, v4, v5, v6, M => B_X5_impute_80 (L_X5_impute_80  n) v0 v1 v2 v3 v4 v5 v6 M
def d_X5_impute (v0 : Nat) (v1 : Int) (v2 : Int) (M : Mem) : Option (Int × Mem) :=
  if w32 (d_X5_isIn (w32 v1) 0 (w32 ((m_i M 553 v0 0) - 1))) = 0 then
    bN (d_X5_fail v0 1 (m_si M 500 v0 0 0)) fun r55 M56 => 
    some (r55, M56)
  else
    if w32 (d_X5_isIn (w32 v2) 0 1) = 0 then
      bN (d_X5_fail v0 2 (m_si M 500 v0 0 0)) fun r51 M52 => 
      some (r51, M52)
    else
      bN (d_X5_find v0 v1 (m_si M 500 v0 0 0)) fun r5 M6 => 
      if w32 (m_i M6 563 v0 0) = w32 (-1) then
        bN (d_X5_fail v0 3 M6) fun r47 M48 => 
        some (r47, M48)
      else
        bR (d_X5_formOf v0 v1 M6) fun r11 => 
        L_X5_impute_80 FU v0 v1 v2 r11 (m_i M6 563 v0 0) (-1) 0 M6
theorem cB_X5_impute_226 {X : x_Ctx} {M0 : Mem} (C : x_CC X 5 146 yX5_impute cX5_impute 8 (some .int) []) {k164 : Nat → Int → Int → Int → Int → Int → Int → Mem → Option (Int × Mem)} (hk164 : ∀ (v0 : Nat) (v1 : Int) (v3 : Int) (v4 : Int) (v5 : Int) (v6 : Int) (v7 : Int) (M : Mem) (r : Int) (M' : Mem), m_kd M v0 = 5 → k164 v0 v1 v3 v4 v5 v6 v7 M = some (r, M') → x_Z X 0 0 (x_QF X M0 (.returned (some (vI r))) M' 0 0) M0 M 8 [(0, .ref v0), (1, vI v1), (3, vI v3), (4, vI v4), (5, vI v5), (6, vI v6), (7, vI v7)] 164 []) (v0 : Nat) (v1 : Int) (v3 : Int) (v4 : Int) (v5 : Int) (v6 : Int) (v7 : Int) (s0 : Nat) (s1 : Int) (s2 : Int) (M : Mem) (r : Int) (M' : Mem) (hv0 : m_kd M v0 = 5) (hs0 : m_kd M s0 = 5) (h : B_X5_impute_226 k164 v0 v1 v3 v4 v5 v6 v7 s0 s1 s2 M = some (r, M'))  : x_Z X 0 0 (x_QF X M0 (.returned (some (vI r))) M' 0 0) M0 M 8 [(0, .ref v0), (1, vI v1), (3, vI v3), (4, vI v4), (5, vI v5), (6, vI v6), (7, vI v7)] 226 [vI s2, vI s1, .ref (s0 + 35)] := by
  unfold B_X5_impute_226 at h
  obtain ⟨c24, h⟩ := ifn h
  refine z_isO (pc := 226) (k := 5) (j := 55) C 555 rfl (by decide) (by decide) (by decide) rfl rfl rfl rfl hs0 c24 dX5_impute_226 ?_
  refine z_aload_n (pc := 227) C 0 rfl dX5_impute_227 ?_
  refine gX5_556 (pc := 228) C rfl hv0 dX5_impute_228 ?_
  refine z_bipush (pc := 231) C (by decide +kernel) dX5_impute_231 ?_
  refine z_iload_n (pc := 233) C 1 rfl dX5_impute_233 ?_
  refine z_imul (pc := 234) C dX5_impute_234 ?_
  refine z_iload (pc := 235) C 6 rfl dX5_impute_235 ?_
  refine z_iadd (pc := 237) C dX5_impute_237 ?_
  refine z_iload (pc := 238) C 4 rfl dX5_impute_238 ?_
  refine z_iconst (pc := 240) C dX5_impute_240 ?_
  refine z_ic_ne (pc := 241) C dX5_impute_241 (tgt := 248) (by decide) (fun c25 => ?_) (fun c25 => ?_)
  · have h := itf c25 h
    refine z_iconst (pc := 248) C dX5_impute_248 ?_
    obtain ⟨c26, h⟩ := ifn h
    refine z_isO (pc := 249) (k := 5) (j := 56) C 556 rfl (by decide) (by decide) (by decide) rfl rfl rfl rfl hv0 c26 dX5_impute_249 ?_
    refine z_iinc (pc := 250) C (lv' := [(0, .ref v0), (1, vI v1), (3, vI v3), (4, vI v4), (5, vI v5), (6, vI (v6 + 1)), (7, vI v7)]) 5 rfl (by decide) rfl dX5_impute_250 ?_
    refine z_iinc (pc := 253) C (lv' := [(0, .ref v0), (1, vI v1), (3, vI v3), (4, vI v4), (5, vI v5), (6, vI (v6 + 1)), (7, vI (v7 + 1))]) 6 rfl (by decide) rfl dX5_impute_253 ?_
    refine z_goto (pc := 256) C dX5_impute_256 (tgt := 164) (by decide) ?_
    exact hk164 v0 v1 v3 v4 v5 (v6 + 1) (v7 + 1) (m_si (m_si M 555 s0 (ixn s1) s2) 556 v0 (ixn ((20 * v1) + v7)) 2) _ _ hv0 h
  · have h := itt c25 h
    refine z_iconst (pc := 244) C dX5_impute_244 ?_
    refine z_goto (pc := 245) C dX5_impute_245 (tgt := 249) (by decide) ?_
    obtain ⟨c27, h⟩ := ifn h
    refine z_isO (pc := 249) (k := 5) (j := 56) C 556 rfl (by decide) (by decide) (by decide) rfl rfl rfl rfl hv0 c27 dX5_impute_249 ?_
    refine z_iinc (pc := 250) C (lv' := [(0, .ref v0), (1, vI v1), (3, vI v3), (4, vI v4), (5, vI v5), (6, vI (v6 + 1)), (7, vI v7)]) 5 rfl (by decide) rfl dX5_impute_250 ?_
    refine z_iinc (pc := 253) C (lv' := [(0, .ref v0), (1, vI v1), (3, vI v3), (4, vI v4), (5, vI v5), (6, vI (v6 + 1)), (7, vI (v7 + 1))]) 6 rfl (by decide) rfl dX5_impute_253 ?_
    refine z_goto (pc := 256) C dX5_impute_256 (tgt := 164) (by decide) ?_
    exact hk164 v0 v1 v3 v4 v5 (v6 + 1) (v7 + 1) (m_si (m_si M 555 s0 (ixn s1) s2) 556 v0 (ixn ((20 * v1) + v7)) 1) _ _ hv0 h
theorem cB_X5_impute_164 {X : x_Ctx} {M0 : Mem} (C : x_CC X 5 146 yX5_impute cX5_impute 8 (some .int) []) {k164 : Nat → Int → Int → Int → Int → Int → Int → Mem → Option (Int × Mem)} (hk164 : ∀ (v0 : Nat) (v1 : Int) (v3 : Int) (v4 : Int) (v5 : Int) (v6 : Int) (v7 : Int) (M : Mem) (r : Int) (M' : Mem), m_kd M v0 = 5 → k164 v0 v1 v3 v4 v5 v6 v7 M = some (r, M') → x_Z X 0 0 (x_QF X M0 (.returned (some (vI r))) M' 0 0) M0 M 8 [(0, .ref v0), (1, vI v1), (3, vI v3), (4, vI v4), (5, vI v5), (6, vI v6), (7, vI v7)] 164 []) (v0 : Nat) (v1 : Int) (v3 : Int) (v4 : Int) (v5 : Int) (v6 : Int) (v7 : Int) (M : Mem) (r : Int) (M' : Mem) (hv0 : m_kd M v0 = 5) (h : B_X5_impute_164 k164 v0 v1 v3 v4 v5 v6 v7 M = some (r, M'))  : x_Z X 0 0 (x_QF X M0 (.returned (some (vI r))) M' 0 0) M0 M 8 [(0, .ref v0), (1, vI v1), (3, vI v3), (4, vI v4), (5, vI v5), (6, vI v6), (7, vI v7)] 164 [] := by
  unfold B_X5_impute_164 at h
  refine z_iload (pc := 164) C 6 rfl dX5_impute_164 ?_
  refine z_aload_n (pc := 166) C 0 rfl dX5_impute_166 ?_
  refine gX5_515 (pc := 167) C rfl hv0 dX5_impute_167 ?_
  refine z_iload_n (pc := 170) C 2 rfl dX5_impute_170 ?_
  obtain ⟨c15, h⟩ := ifn h
  refine z_iaO (pc := 171) (k := 5) (j := 15) C 515 rfl (by decide) (by decide) (by decide) rfl rfl rfl rfl hv0 c15 rfl dX5_impute_171 ?_
  refine z_ic_ge (pc := 172) C dX5_impute_172 (tgt := 259) (by decide) (fun c16 => ?_) (fun c16 => ?_)
  · have h := itt c16 h
    refine z_aload_n (pc := 259) C 0 rfl dX5_impute_259 ?_
    refine z_iload_n (pc := 260) C 1 rfl dX5_impute_260 ?_
    obtain ⟨r17, M18, e19, h⟩ := bNs h
    refine cX5_446 (pc := 261) (st := []) (st1 := []) C rfl (rm := { frames := 4, cells := 0, slots := 0, locals := 117 }) (ct_X5_letsOf C.2.1 v0 v1 M _ _ hv0 e19) ⟨by decide, by decide, Nat.zero_le _, Nat.zero_le _⟩ (Or.inl hv0) rfl (Nat.le_of_ble_eq_true rfl) dX5_impute_261 (c2 := 0) (s2 := 0) rfl rfl (fun x20 => ?_)
    refine z_iload (pc := 264) C 5 rfl dX5_impute_264 ?_
    cases h
    exact z_iret (pc := 266) C rfl (show 0 ≤ 0 from by decide) (show 0 ≤ 0 from by decide) dX5_impute_266
  · have h := itf c16 h
    refine z_iload (pc := 175) C 3 rfl dX5_impute_175 ?_
    refine z_iload (pc := 177) C 6 rfl dX5_impute_177 ?_
    refine z_ishr (pc := 179) C dX5_impute_179 ?_
    refine z_iconst (pc := 180) C dX5_impute_180 ?_
    refine z_iand (pc := 181) C dX5_impute_181 ?_
    refine z_iconst (pc := 182) C dX5_impute_182 ?_
    refine z_ic_ne (pc := 183) C dX5_impute_183 (tgt := 253) (by decide) (fun c21 => ?_) (fun c21 => ?_)
    · have h := itf c21 h
      refine z_iinc (pc := 253) C (lv' := [(0, .ref v0), (1, vI v1), (3, vI v3), (4, vI v4), (5, vI v5), (6, vI v6), (7, vI (v7 + 1))]) 6 rfl (by decide) rfl dX5_impute_253 ?_
      refine z_goto (pc := 256) C dX5_impute_256 (tgt := 164) (by decide) ?_
      exact hk164 v0 v1 v3 v4 v5 v6 (v7 + 1) M _ _ hv0 h
    · have h := itt c21 h
      refine z_aload_n (pc := 186) C 0 rfl dX5_impute_186 ?_
      refine gX5_555 (pc := 187) C rfl hv0 dX5_impute_187 ?_
      refine z_bipush (pc := 190) C (by decide +kernel) dX5_impute_190 ?_
      refine z_iload_n (pc := 192) C 1 rfl dX5_impute_192 ?_
      refine z_imul (pc := 193) C dX5_impute_193 ?_
      refine z_iload (pc := 194) C 6 rfl dX5_impute_194 ?_
      refine z_iadd (pc := 196) C dX5_impute_196 ?_
      refine z_iload (pc := 197) C 4 rfl dX5_impute_197 ?_
      refine z_iconst (pc := 199) C dX5_impute_199 ?_
      refine z_ic_ne (pc := 200) C dX5_impute_200 (tgt := 213) (by decide) (fun c22 => ?_) (fun c22 => ?_)
      · have h := itf c22 h
        refine z_aload_n (pc := 213) C 0 rfl dX5_impute_213 ?_
        refine gX5_555 (pc := 214) C rfl hv0 dX5_impute_214 ?_
        refine z_bipush (pc := 217) C (by decide +kernel) dX5_impute_217 ?_
        refine z_iload (pc := 219) C 4 rfl dX5_impute_219 ?_
        refine z_imul (pc := 221) C dX5_impute_221 ?_
        refine z_iload (pc := 222) C 6 rfl dX5_impute_222 ?_
        refine z_iadd (pc := 224) C dX5_impute_224 ?_
        obtain ⟨c23, h⟩ := ifn h
        refine z_iaO (pc := 225) (k := 5) (j := 55) C 555 rfl (by decide) (by decide) (by decide) rfl rfl rfl rfl hv0 c23 rfl dX5_impute_225 ?_
        exact cB_X5_impute_226 C hk164 v0 v1 v3 v4 v5 v6 v7 v0 ((20 * v1) + v7) (m_i M 555 v0 (ixn ((20 * v5) + v7))) M _ _ hv0 hv0 h
      · have h := itt c22 h
        refine z_aload_n (pc := 203) C 0 rfl dX5_impute_203 ?_
        refine gX5_561 (pc := 204) C rfl hv0 dX5_impute_204 ?_
        refine z_iload (pc := 207) C 6 rfl dX5_impute_207 ?_
        obtain ⟨c28, h⟩ := ifn h
        refine z_iaO (pc := 209) (k := 5) (j := 61) C 561 rfl (by decide) (by decide) (by decide) rfl rfl rfl rfl hv0 c28 rfl dX5_impute_209 ?_
        refine z_goto (pc := 210) C dX5_impute_210 (tgt := 226) (by decide) ?_
        exact cB_X5_impute_226 C hk164 v0 v1 v3 v4 v5 v6 v7 v0 ((20 * v1) + v7) (m_i M 561 v0 (ixn v7)) M _ _ hv0 hv0 h
theorem cL_X5_impute_164 {X : x_Ctx} {M0 : Mem} (C : x_CC X 5 146 yX5_impute cX5_impute 8 (some .int) [])  : ∀ (n : Nat) (v0 : Nat) (v1 : Int) (v3 : Int) (v4 : Int) (v5 : Int) (v6 : Int) (v7 : Int) (M : Mem) (r : Int) (M' : Mem) (hv0 : m_kd M v0 = 5) (h : L_X5_impute_164  n v0 v1 v3 v4 v5 v6 v7 M = some (r, M')) , x_Z X 0 0 (x_QF X M0 (.returned (some (vI r))) M' 0 0) M0 M 8 [(0, .ref v0), (1, vI v1), (3, vI v3), (4, vI v4), (5, vI v5), (6, vI v6), (7, vI v7)] 164 [] := by
  intro n
  induction n with
  | zero => intro v0 v1 v3 v4 v5 v6 v7 M r M' hv0 h ; cases h
  | succ n ih => intro v0 v1 v3 v4 v5 v6 v7 M r M' hv0 h ; exact cB_X5_impute_164 C (fun v0 v1 v3 v4 v5 v6 v7 M r M' hv0 h  => ih v0 v1 v3 v4 v5 v6 v7 M r M' hv0 h ) v0 v1 v3 v4 v5 v6 v7 M r M' hv0 h 
theorem cB_X5_impute_144 {X : x_Ctx} {M0 : Mem} (C : x_CC X 5 146 yX5_impute cX5_impute 8 (some .int) [])  (v0 : Nat) (v1 : Int) (v3 : Int) (v4 : Int) (v5 : Int) (M : Mem) (r : Int) (M' : Mem) (hv0 : m_kd M v0 = 5) (h : B_X5_impute_144  v0 v1 v3 v4 v5 M = some (r, M'))  : x_Z X 0 0 (x_QF X M0 (.returned (some (vI r))) M' 0 0) M0 M 8 [(0, .ref v0), (1, vI v1), (3, vI v3), (4, vI v4), (5, vI v5)] 144 [] := by
  unfold B_X5_impute_144 at h
  refine z_iload (pc := 144) C 4 rfl dX5_impute_144 ?_
  refine z_iconst (pc := 146) C dX5_impute_146 ?_
  refine z_ic_ne (pc := 147) C dX5_impute_147 (tgt := 158) (by decide) (fun c14 => ?_) (fun c14 => ?_)
  · have h := itf c14 h
    refine z_iconst (pc := 158) C dX5_impute_158 ?_
    refine z_istore (pc := 159) C (lv' := [(0, .ref v0), (1, vI v1), (3, vI v3), (4, vI v4), (5, vI v5), (6, vI 0)]) (by decide) rfl dX5_impute_159 ?_
    refine z_iconst (pc := 161) C dX5_impute_161 ?_
    refine z_istore (pc := 162) C (lv' := [(0, .ref v0), (1, vI v1), (3, vI v3), (4, vI v4), (5, vI v5), (6, vI 0), (7, vI 0)]) (by decide) rfl dX5_impute_162 ?_
    exact cL_X5_impute_164 C FU v0 v1 v3 v4 v5 0 0 M _ _ hv0 h
  · have h := itt c14 h
    refine z_aload_n (pc := 150) C 0 rfl dX5_impute_150 ?_
    refine z_iload_n (pc := 151) C 1 rfl dX5_impute_151 ?_
    refine z_iload (pc := 152) C 3 rfl dX5_impute_152 ?_
    obtain ⟨r29, M30, e31, h⟩ := bNs h
    refine cX5_429 (pc := 154) (st := []) (st1 := [vI r29]) C rfl (rm := { frames := 2, cells := 0, slots := 0, locals := 51 }) (ct_X5_fits C.2.1 v0 v1 v4 M _ _ hv0 e31) ⟨by decide, by decide, Nat.zero_le _, Nat.zero_le _⟩ (Or.inl hv0) rfl (Nat.le_of_ble_eq_true rfl) dX5_impute_154 (c2 := 0) (s2 := 0) rfl rfl (fun x32 => ?_)
    have k33 := x32 _ 5 (by decide) (Or.inl (by decide)) hv0
    refine z_pop (pc := 157) C rfl dX5_impute_157 ?_
    refine z_iconst (pc := 158) C dX5_impute_158 ?_
    refine z_istore (pc := 159) C (lv' := [(0, .ref v0), (1, vI v1), (3, vI v3), (4, vI v4), (5, vI v5), (6, vI 0)]) (by decide) rfl dX5_impute_159 ?_
    refine z_iconst (pc := 161) C dX5_impute_161 ?_
    refine z_istore (pc := 162) C (lv' := [(0, .ref v0), (1, vI v1), (3, vI v3), (4, vI v4), (5, vI v5), (6, vI 0), (7, vI 0)]) (by decide) rfl dX5_impute_162 ?_
    exact cL_X5_impute_164 C FU v0 v1 v3 v4 v5 0 0 M30 _ _ k33 h
theorem cB_X5_impute_80 {X : x_Ctx} {M0 : Mem} (C : x_CC X 5 146 yX5_impute cX5_impute 8 (some .int) []) {k80 : Nat → Int → Int → Int → Int → Int → Int → Mem → Option (Int × Mem)} (hk80 : ∀ (v0 : Nat) (v1 : Int) (v2 : Int) (v3 : Int) (v4 : Int) (v5 : Int) (v6 : Int) (M : Mem) (r : Int) (M' : Mem), m_kd M v0 = 5 → k80 v0 v1 v2 v3 v4 v5 v6 M = some (r, M') → x_Z X 0 0 (x_QF X M0 (.returned (some (vI r))) M' 0 0) M0 M 8 [(0, .ref v0), (1, vI v1), (2, vI v2), (3, vI v3), (4, vI v4), (5, vI v5), (6, vI v6)] 80 []) (v0 : Nat) (v1 : Int) (v2 : Int) (v3 : Int) (v4 : Int) (v5 : Int) (v6 : Int) (M : Mem) (r : Int) (M' : Mem) (hv0 : m_kd M v0 = 5) (h : B_X5_impute_80 k80 v0 v1 v2 v3 v4 v5 v6 M = some (r, M'))  : x_Z X 0 0 (x_QF X M0 (.returned (some (vI r))) M' 0 0) M0 M 8 [(0, .ref v0), (1, vI v1), (2, vI v2), (3, vI v3), (4, vI v4), (5, vI v5), (6, vI v6)] 80 [] := by
  unfold B_X5_impute_80 at h
  refine z_iload (pc := 80) C 6 rfl dX5_impute_80 ?_
  refine z_aload_n (pc := 82) C 0 rfl dX5_impute_82 ?_
  refine gX5_553 (pc := 83) C rfl (Or.inl hv0) rfl dX5_impute_83 ?_
  refine z_ic_ge (pc := 86) C dX5_impute_86 (tgt := 144) (by decide) (fun c13 => ?_) (fun c13 => ?_)
  · have h := itt c13 h
    exact z_lv [0, 1, 3, 4, 5] rfl <| cB_X5_impute_144 C v0 v1 v3 v4 v5 M _ _ hv0 h
  · have h := itf c13 h
    refine z_iload_n (pc := 89) C 2 rfl dX5_impute_89 ?_
    refine z_iconst (pc := 90) C dX5_impute_90 ?_
    refine z_ic_ne (pc := 91) C dX5_impute_91 (tgt := 144) (by decide) (fun c34 => ?_) (fun c34 => ?_)
    · have h := itf c34 h
      exact z_lv [0, 1, 3, 4, 5] rfl <| cB_X5_impute_144 C v0 v1 v3 v4 v5 M _ _ hv0 h
    · have h := itt c34 h
      refine z_aload_n (pc := 94) C 0 rfl dX5_impute_94 ?_
      refine z_iload_n (pc := 95) C 1 rfl dX5_impute_95 ?_
      refine z_iload (pc := 96) C 6 rfl dX5_impute_96 ?_
      refine z_iload (pc := 98) C 4 rfl dX5_impute_98 ?_
      obtain ⟨r35, M36, e37, h⟩ := bNs h
      refine cX5_438 (pc := 100) (st := []) (st1 := [vI r35]) C rfl (rm := { frames := 3, cells := 0, slots := 0, locals := 79 }) (ct_X5_mayGive C.2.1 v0 v1 v6 v4 M _ _ hv0 e37) ⟨by decide, by decide, Nat.zero_le _, Nat.zero_le _⟩ (Or.inl hv0) rfl (Nat.le_of_ble_eq_true rfl) dX5_impute_100 (c2 := 0) (s2 := 0) rfl rfl (fun x38 => ?_)
      have k39 := x38 _ 5 (by decide) (Or.inl (by decide)) hv0
      refine z_if_eq (pc := 103) C dX5_impute_103 (tgt := 138) (by decide) (fun c40 => ?_) (fun c40 => ?_)
      · have h := itt c40 h
        refine z_iinc (pc := 138) C (lv' := [(0, .ref v0), (1, vI v1), (2, vI v2), (3, vI v3), (4, vI v4), (5, vI v5), (6, vI (v6 + 1))]) 6 rfl (by decide) rfl dX5_impute_138 ?_
        refine z_goto (pc := 141) C dX5_impute_141 (tgt := 80) (by decide) ?_
        exact hk80 v0 v1 v2 v3 v4 v5 (v6 + 1) M36 _ _ k39 h
      · have h := itf c40 h
        refine z_iload (pc := 106) C 5 rfl dX5_impute_106 ?_
        refine z_iconst (pc := 108) C dX5_impute_108 ?_
        refine z_ic_eq (pc := 109) C dX5_impute_109 (tgt := 134) (by decide) (fun c41 => ?_) (fun c41 => ?_)
        · have h := itt c41 h
          refine z_iload (pc := 134) C 6 rfl dX5_impute_134 ?_
          refine z_istore (pc := 136) C (lv' := [(0, .ref v0), (1, vI v1), (2, vI v2), (3, vI v3), (4, vI v4), (5, vI v6), (6, vI v6)]) (by decide) rfl dX5_impute_136 ?_
          refine z_iinc (pc := 138) C (lv' := [(0, .ref v0), (1, vI v1), (2, vI v2), (3, vI v3), (4, vI v4), (5, vI v6), (6, vI (v6 + 1))]) 6 rfl (by decide) rfl dX5_impute_138 ?_
          refine z_goto (pc := 141) C dX5_impute_141 (tgt := 80) (by decide) ?_
          exact hk80 v0 v1 v2 v3 v4 v6 (v6 + 1) M36 _ _ k39 h
        · have h := itf c41 h
          refine z_aload_n (pc := 112) C 0 rfl dX5_impute_112 ?_
          refine z_iload_n (pc := 113) C 1 rfl dX5_impute_113 ?_
          refine z_iload (pc := 114) C 6 rfl dX5_impute_114 ?_
          refine z_iload (pc := 116) C 4 rfl dX5_impute_116 ?_
          obtain ⟨r42, e43, h⟩ := bRs h
          refine cX5_442 (pc := 118) (st := []) (st1 := [vL r42]) C rfl (rm := { frames := 2, cells := 0, slots := 0, locals := 50 }) (ct_X5_distance C.2.1 v0 v1 v6 v4 M36 _ k39 e43) ⟨by decide, by decide, Nat.zero_le _, Nat.zero_le _⟩ (Or.inl k39) rfl (Nat.le_of_ble_eq_true rfl) dX5_impute_118 (c2 := 0) (s2 := 0) rfl rfl (fun _ => ?_)
          refine z_aload_n (pc := 121) C 0 rfl dX5_impute_121 ?_
          refine z_iload_n (pc := 122) C 1 rfl dX5_impute_122 ?_
          refine z_iload (pc := 123) C 5 rfl dX5_impute_123 ?_
          refine z_iload (pc := 125) C 4 rfl dX5_impute_125 ?_
          obtain ⟨r44, e45, h⟩ := bRs h
          refine cX5_442 (pc := 127) (st := [vL r42]) (st1 := [vL r44, vL r42]) C rfl (rm := { frames := 2, cells := 0, slots := 0, locals := 50 }) (ct_X5_distance C.2.1 v0 v1 v5 v4 M36 _ k39 e45) ⟨by decide, by decide, Nat.zero_le _, Nat.zero_le _⟩ (Or.inl k39) rfl (Nat.le_of_ble_eq_true rfl) dX5_impute_127 (c2 := 0) (s2 := 0) rfl rfl (fun _ => ?_)
          refine z_lc_ge (pc := 130) C dX5_impute_130 dX5_impute_131 (tgt := 138) (by decide) (fun c46 => ?_) (fun c46 => ?_)
          · have h := itt c46 h
            refine z_iinc (pc := 138) C (lv' := [(0, .ref v0), (1, vI v1), (2, vI v2), (3, vI v3), (4, vI v4), (5, vI v5), (6, vI (v6 + 1))]) 6 rfl (by decide) rfl dX5_impute_138 ?_
            refine z_goto (pc := 141) C dX5_impute_141 (tgt := 80) (by decide) ?_
            exact hk80 v0 v1 v2 v3 v4 v5 (v6 + 1) M36 _ _ k39 h
          · have h := itf c46 h
            refine z_iload (pc := 134) C 6 rfl dX5_impute_134 ?_
            refine z_istore (pc := 136) C (lv' := [(0, .ref v0), (1, vI v1), (2, vI v2), (3, vI v3), (4, vI v4), (5, vI v6), (6, vI v6)]) (by decide) rfl dX5_impute_136 ?_
            refine z_iinc (pc := 138) C (lv' := [(0, .ref v0), (1, vI v1), (2, vI v2), (3, vI v3), (4, vI v4), (5, vI v6), (6, vI (v6 + 1))]) 6 rfl (by decide) rfl dX5_impute_138 ?_
            refine z_goto (pc := 141) C dX5_impute_141 (tgt := 80) (by decide) ?_
            exact hk80 v0 v1 v2 v3 v4 v6 (v6 + 1) M36 _ _ k39 h
theorem cL_X5_impute_80 {X : x_Ctx} {M0 : Mem} (C : x_CC X 5 146 yX5_impute cX5_impute 8 (some .int) [])  : ∀ (n : Nat) (v0 : Nat) (v1 : Int) (v2 : Int) (v3 : Int) (v4 : Int) (v5 : Int) (v6 : Int) (M : Mem) (r : Int) (M' : Mem) (hv0 : m_kd M v0 = 5) (h : L_X5_impute_80  n v0 v1 v2 v3 v4 v5 v6 M = some (r, M')) , x_Z X 0 0 (x_QF X M0 (.returned (some (vI r))) M' 0 0) M0 M 8 [(0, .ref v0), (1, vI v1), (2, vI v2), (3, vI v3), (4, vI v4), (5, vI v5), (6, vI v6)] 80 [] := by
  intro n
  induction n with
  | zero => intro v0 v1 v2 v3 v4 v5 v6 M r M' hv0 h ; cases h
  | succ n ih => intro v0 v1 v2 v3 v4 v5 v6 M r M' hv0 h ; exact cB_X5_impute_80 C (fun v0 v1 v2 v3 v4 v5 v6 M r M' hv0 h  => ih v0 v1 v2 v3 v4 v5 v6 M r M' hv0 h ) v0 v1 v2 v3 v4 v5 v6 M r M' hv0 h 
theorem ct_X5_impute {l : Launch} {S0 : State} {D : va_G} {cA : Nat → ClassId} (hG : x_G l S0 D cA) (v0 : Nat) (v1 : Int) (v2 : Int) (M : Mem) (r : Int) (M' : Mem) (hv0 : m_kd M v0 = 5) (h : d_X5_impute v0 v1 v2 M = some (r, M')) : x_Me l S0 D cA yX5_impute cX5_impute 8 (some .int) [] ({ frames := 5, cells := 0, slots := 0, locals := 146 }) [.ref v0, vI v1, vI v2] M (.returned (some (vI r))) M' := by
  refine x_begin (F := 5) (Lo := 146) (mc := 0) (ms := 0) hG (Nat.le_of_ble_eq_true rfl) (lv := [(0, .ref v0), (1, vI v1), (2, vI v2)]) rfl rfl rfl rfl rfl (fun X e1 e2 e3 e4 e5 C => ?_)
  unfold d_X5_impute at h
  refine z_aload_n (pc := 0) C 0 rfl dX5_impute_0 ?_
  refine z_iconst (pc := 1) C dX5_impute_1 ?_
  refine pX5_500 (pc := 2) C rfl (Or.inl hv0) dX5_impute_2 ?_
  refine z_iload_n (pc := 5) C 1 rfl dX5_impute_5 ?_
  refine z_i2l (pc := 6) C dX5_impute_6 ?_
  refine z_lconst (pc := 7) C (x := 0) (by decide +kernel) dX5_impute_7 ?_
  refine z_aload_n (pc := 8) C 0 rfl dX5_impute_8 ?_
  refine gX5_553 (pc := 9) C rfl (Or.inl hv0) (x := m_i M 553 v0 0) ((m_i_ne (by decide)).trans rfl) dX5_impute_9 ?_
  refine z_iconst (pc := 12) C dX5_impute_12 ?_
  refine z_isub (pc := 13) C dX5_impute_13 ?_
  refine z_i2l (pc := 14) C dX5_impute_14 ?_
  refine cX5_207 (pc := 15) (st := []) (st1 := [vI (d_X5_isIn (w32 v1) 0 (w32 ((m_i M 553 v0 0) - 1)))]) C rfl (rm := { frames := 1, cells := 0, slots := 0, locals := 24 }) (ct_X5_isIn C.2.1 (w32 v1) 0 (w32 ((m_i M 553 v0 0) - 1)) (m_si M 500 v0 0 0) _  rfl) ⟨by decide, by decide, Nat.zero_le _, Nat.zero_le _⟩ rfl (Nat.le_of_ble_eq_true rfl) dX5_impute_15 (c2 := 0) (s2 := 0) rfl rfl (fun _ => ?_)
  refine z_if_ne (pc := 18) C dX5_impute_18 (tgt := 27) (by decide) (fun c2 => ?_) (fun c2 => ?_)
  · have h := itf c2 h
    refine z_iload_n (pc := 27) C 2 rfl dX5_impute_27 ?_
    refine z_i2l (pc := 28) C dX5_impute_28 ?_
    refine z_lconst (pc := 29) C (x := 0) (by decide +kernel) dX5_impute_29 ?_
    refine z_lconst (pc := 30) C (x := 1) (by decide +kernel) dX5_impute_30 ?_
    refine cX5_207 (pc := 31) (st := []) (st1 := [vI (d_X5_isIn (w32 v2) 0 1)]) C rfl (rm := { frames := 1, cells := 0, slots := 0, locals := 24 }) (ct_X5_isIn C.2.1 (w32 v2) 0 1 (m_si M 500 v0 0 0) _  rfl) ⟨by decide, by decide, Nat.zero_le _, Nat.zero_le _⟩ rfl (Nat.le_of_ble_eq_true rfl) dX5_impute_31 (c2 := 0) (s2 := 0) rfl rfl (fun _ => ?_)
    refine z_if_ne (pc := 34) C dX5_impute_34 (tgt := 43) (by decide) (fun c4 => ?_) (fun c4 => ?_)
    · have h := itf c4 h
      refine z_aload_n (pc := 43) C 0 rfl dX5_impute_43 ?_
      refine z_iload_n (pc := 44) C 1 rfl dX5_impute_44 ?_
      obtain ⟨r5, M6, e7, h⟩ := bNs h
      refine cX5_432 (pc := 45) (st := []) (st1 := []) C rfl (rm := { frames := 3, cells := 0, slots := 0, locals := 85 }) (ct_X5_find C.2.1 v0 v1 (m_si M 500 v0 0 0) _ _ hv0 e7) ⟨by decide, by decide, Nat.zero_le _, Nat.zero_le _⟩ (Or.inl hv0) rfl (Nat.le_of_ble_eq_true rfl) dX5_impute_45 (c2 := 0) (s2 := 0) rfl rfl (fun x8 => ?_)
      have k9 := x8 _ 5 (by decide) (Or.inl (by decide)) hv0
      refine z_aload_n (pc := 48) C 0 rfl dX5_impute_48 ?_
      refine gX5_563 (pc := 49) C rfl (Or.inl k9) rfl dX5_impute_49 ?_
      refine z_iconst (pc := 52) C dX5_impute_52 ?_
      refine z_ic_ne (pc := 53) C dX5_impute_53 (tgt := 62) (by decide) (fun c10 => ?_) (fun c10 => ?_)
      · have h := itf c10 h
        refine z_aload_n (pc := 62) C 0 rfl dX5_impute_62 ?_
        refine z_iload_n (pc := 63) C 1 rfl dX5_impute_63 ?_
        obtain ⟨r11, e12, h⟩ := bRs h
        refine cX5_401 (pc := 64) (st := []) (st1 := [vI r11]) C rfl (rm := { frames := 1, cells := 0, slots := 0, locals := 24 }) (ct_X5_formOf C.2.1 v0 v1 M6 _ k9 e12) ⟨by decide, by decide, Nat.zero_le _, Nat.zero_le _⟩ (Or.inl k9) rfl (Nat.le_of_ble_eq_true rfl) dX5_impute_64 (c2 := 0) (s2 := 0) rfl rfl (fun _ => ?_)
        refine z_istore_n (pc := 67) C (lv' := [(0, .ref v0), (1, vI v1), (2, vI v2), (3, vI r11)]) (by decide) rfl dX5_impute_67 ?_
        refine z_aload_n (pc := 68) C 0 rfl dX5_impute_68 ?_
        refine gX5_563 (pc := 69) C rfl (Or.inl k9) rfl dX5_impute_69 ?_
        refine z_istore (pc := 72) C (lv' := [(0, .ref v0), (1, vI v1), (2, vI v2), (3, vI r11), (4, vI (m_i M6 563 v0 0))]) (by decide) rfl dX5_impute_72 ?_
        refine z_iconst (pc := 74) C dX5_impute_74 ?_
        refine z_istore (pc := 75) C (lv' := [(0, .ref v0), (1, vI v1), (2, vI v2), (3, vI r11), (4, vI (m_i M6 563 v0 0)), (5, vI (-1))]) (by decide) rfl dX5_impute_75 ?_
        refine z_iconst (pc := 77) C dX5_impute_77 ?_
        refine z_istore (pc := 78) C (lv' := [(0, .ref v0), (1, vI v1), (2, vI v2), (3, vI r11), (4, vI (m_i M6 563 v0 0)), (5, vI (-1)), (6, vI 0)]) (by decide) rfl dX5_impute_78 ?_
        exact cL_X5_impute_80 C FU v0 v1 v2 r11 (m_i M6 563 v0 0) (-1) 0 M6 _ _ k9 h
      · have h := itt c10 h
        refine z_aload_n (pc := 56) C 0 rfl dX5_impute_56 ?_
        refine z_iconst (pc := 57) C dX5_impute_57 ?_
        obtain ⟨r47, M48, e49, h⟩ := bNs h
        refine cX5_213 (pc := 58) (st := []) (st1 := [vI r47]) C rfl (rm := { frames := 1, cells := 0, slots := 0, locals := 24 }) (ct_X5_fail C.2.1 v0 3 M6 _ _ k9 e49) ⟨by decide, by decide, Nat.zero_le _, Nat.zero_le _⟩ (Or.inl k9) rfl (Nat.le_of_ble_eq_true rfl) dX5_impute_58 (c2 := 0) (s2 := 0) rfl rfl (fun x50 => ?_)
        cases h
        exact z_iret (pc := 61) C rfl (show 0 ≤ 0 from by decide) (show 0 ≤ 0 from by decide) dX5_impute_61
    · have h := itt c4 h
      refine z_aload_n (pc := 37) C 0 rfl dX5_impute_37 ?_
      refine z_iconst (pc := 38) C dX5_impute_38 ?_
      obtain ⟨r51, M52, e53, h⟩ := bNs h
      refine cX5_213 (pc := 39) (st := []) (st1 := [vI r51]) C rfl (rm := { frames := 1, cells := 0, slots := 0, locals := 24 }) (ct_X5_fail C.2.1 v0 2 (m_si M 500 v0 0 0) _ _ hv0 e53) ⟨by decide, by decide, Nat.zero_le _, Nat.zero_le _⟩ (Or.inl hv0) rfl (Nat.le_of_ble_eq_true rfl) dX5_impute_39 (c2 := 0) (s2 := 0) rfl rfl (fun x54 => ?_)
      cases h
      exact z_iret (pc := 42) C rfl (show 0 ≤ 0 from by decide) (show 0 ≤ 0 from by decide) dX5_impute_42
  · have h := itt c2 h
    refine z_aload_n (pc := 21) C 0 rfl dX5_impute_21 ?_
    refine z_iconst (pc := 22) C dX5_impute_22 ?_
    obtain ⟨r55, M56, e57, h⟩ := bNs h
    refine cX5_213 (pc := 23) (st := []) (st1 := [vI r55]) C rfl (rm := { frames := 1, cells := 0, slots := 0, locals := 24 }) (ct_X5_fail C.2.1 v0 1 (m_si M 500 v0 0 0) _ _ hv0 e57) ⟨by decide, by decide, Nat.zero_le _, Nat.zero_le _⟩ (Or.inl hv0) rfl (Nat.le_of_ble_eq_true rfl) dX5_impute_23 (c2 := 0) (s2 := 0) rfl rfl (fun x58 => ?_)
    cases h
    exact z_iret (pc := 26) C rfl (show 0 ≤ 0 from by decide) (show 0 ≤ 0 from by decide) dX5_impute_26
def B_X5_isFirst_19 (k19 : Nat → Int → Int → Int → Mem → Option Int) (v0 : Nat) (v1 : Int) (v2 : Int) (v3 : Int) (M : Mem) : Option Int :=
  if w32 v1 ≤ w32 v3 then
    if v2 = 0 ∨ v2 = 1 then 
    some v2 else none
  else
    if w32 v2 = 0 then
      k19 v0 v1 0 (v3 + 1) M
    else
      if inb v3 100 then 
      if inb v1 100 then 
      if w32 (m_i M 568 v0 (ixn v3)) = w32 (m_i M 568 v0 (ixn v1)) then
        k19 v0 v1 0 (v3 + 1) M
      else
        k19 v0 v1 1 (v3 + 1) M else none else none
def L_X5_isFirst_19  : Nat → Nat → Int → Int → Int → Mem → Option Int
  | 0, _, _, _, _, _ => none
  | n + 1, v0, v1, v2, v3, M => B_X5_isFirst_19 (L_X5_isFirst_19  n) v0 v1 v2 v3 M
def d_X5_isFirst (v0 : Nat) (v1 : Int) (M : Mem) : Option Int :=
  if inb v1 100 then 
  if w32 (m_i M 568 v0 (ixn v1)) = w32 (-2000000) then
    L_X5_isFirst_19 FU v0 v1 0 0 M
  else
    L_X5_isFirst_19 FU v0 v1 1 0 M else none
theorem cB_X5_isFirst_19 {X : x_Ctx} {M0 : Mem} (C : x_CC X 1 24 yX5_isFirst cX5_isFirst 4 (some .boolean) []) {k19 : Nat → Int → Int → Int → Mem → Option Int} (hk19 : ∀ (v0 : Nat) (v1 : Int) (v2 : Int) (v3 : Int) (M : Mem) (r : Int), m_kd M v0 = 5 → k19 v0 v1 v2 v3 M = some r → x_Z X 0 0 (x_QF X M0 (.returned (some (vI r))) M 0 0) M0 M 4 [(0, .ref v0), (1, vI v1), (2, vI v2), (3, vI v3)] 19 []) (v0 : Nat) (v1 : Int) (v2 : Int) (v3 : Int) (M : Mem) (r : Int) (hv0 : m_kd M v0 = 5) (h : B_X5_isFirst_19 k19 v0 v1 v2 v3 M = some r)  : x_Z X 0 0 (x_QF X M0 (.returned (some (vI r))) M 0 0) M0 M 4 [(0, .ref v0), (1, vI v1), (2, vI v2), (3, vI v3)] 19 [] := by
  unfold B_X5_isFirst_19 at h
  refine z_iload_n (pc := 19) C 3 rfl dX5_isFirst_19 ?_
  refine z_iload_n (pc := 20) C 1 rfl dX5_isFirst_20 ?_
  refine z_ic_ge (pc := 21) C dX5_isFirst_21 (tgt := 55) (by decide) (fun c3 => ?_) (fun c3 => ?_)
  · have h := itt c3 h
    refine z_iload_n (pc := 55) C 2 rfl dX5_isFirst_55 ?_
    obtain ⟨c4, h⟩ := ifn h
    cases h
    exact z_zret (pc := 56) C rfl c4 (show 0 ≤ 0 from by decide) (show 0 ≤ 0 from by decide) dX5_isFirst_56
  · have h := itf c3 h
    refine z_iload_n (pc := 24) C 2 rfl dX5_isFirst_24 ?_
    refine z_if_eq (pc := 25) C dX5_isFirst_25 (tgt := 47) (by decide) (fun c5 => ?_) (fun c5 => ?_)
    · have h := itt c5 h
      refine z_iconst (pc := 47) C dX5_isFirst_47 ?_
      refine z_istore_n (pc := 48) C (lv' := [(0, .ref v0), (1, vI v1), (2, vI 0), (3, vI v3)]) (by decide) rfl dX5_isFirst_48 ?_
      refine z_iinc (pc := 49) C (lv' := [(0, .ref v0), (1, vI v1), (2, vI 0), (3, vI (v3 + 1))]) 3 rfl (by decide) rfl dX5_isFirst_49 ?_
      refine z_goto (pc := 52) C dX5_isFirst_52 (tgt := 19) (by decide) ?_
      exact hk19 v0 v1 0 (v3 + 1) M _ hv0 h
    · have h := itf c5 h
      refine z_aload_n (pc := 28) C 0 rfl dX5_isFirst_28 ?_
      refine gX5_568 (pc := 29) C rfl hv0 dX5_isFirst_29 ?_
      refine z_iload_n (pc := 32) C 3 rfl dX5_isFirst_32 ?_
      obtain ⟨c6, h⟩ := ifn h
      refine z_iaO (pc := 33) (k := 5) (j := 68) C 568 rfl (by decide) (by decide) (by decide) rfl rfl rfl rfl hv0 c6 rfl dX5_isFirst_33 ?_
      refine z_aload_n (pc := 34) C 0 rfl dX5_isFirst_34 ?_
      refine gX5_568 (pc := 35) C rfl hv0 dX5_isFirst_35 ?_
      refine z_iload_n (pc := 38) C 1 rfl dX5_isFirst_38 ?_
      obtain ⟨c7, h⟩ := ifn h
      refine z_iaO (pc := 39) (k := 5) (j := 68) C 568 rfl (by decide) (by decide) (by decide) rfl rfl rfl rfl hv0 c7 rfl dX5_isFirst_39 ?_
      refine z_ic_eq (pc := 40) C dX5_isFirst_40 (tgt := 47) (by decide) (fun c8 => ?_) (fun c8 => ?_)
      · have h := itt c8 h
        refine z_iconst (pc := 47) C dX5_isFirst_47 ?_
        refine z_istore_n (pc := 48) C (lv' := [(0, .ref v0), (1, vI v1), (2, vI 0), (3, vI v3)]) (by decide) rfl dX5_isFirst_48 ?_
        refine z_iinc (pc := 49) C (lv' := [(0, .ref v0), (1, vI v1), (2, vI 0), (3, vI (v3 + 1))]) 3 rfl (by decide) rfl dX5_isFirst_49 ?_
        refine z_goto (pc := 52) C dX5_isFirst_52 (tgt := 19) (by decide) ?_
        exact hk19 v0 v1 0 (v3 + 1) M _ hv0 h
      · have h := itf c8 h
        refine z_iconst (pc := 43) C dX5_isFirst_43 ?_
        refine z_goto (pc := 44) C dX5_isFirst_44 (tgt := 48) (by decide) ?_
        refine z_istore_n (pc := 48) C (lv' := [(0, .ref v0), (1, vI v1), (2, vI 1), (3, vI v3)]) (by decide) rfl dX5_isFirst_48 ?_
        refine z_iinc (pc := 49) C (lv' := [(0, .ref v0), (1, vI v1), (2, vI 1), (3, vI (v3 + 1))]) 3 rfl (by decide) rfl dX5_isFirst_49 ?_
        refine z_goto (pc := 52) C dX5_isFirst_52 (tgt := 19) (by decide) ?_
        exact hk19 v0 v1 1 (v3 + 1) M _ hv0 h
theorem cL_X5_isFirst_19 {X : x_Ctx} {M0 : Mem} (C : x_CC X 1 24 yX5_isFirst cX5_isFirst 4 (some .boolean) [])  : ∀ (n : Nat) (v0 : Nat) (v1 : Int) (v2 : Int) (v3 : Int) (M : Mem) (r : Int) (hv0 : m_kd M v0 = 5) (h : L_X5_isFirst_19  n v0 v1 v2 v3 M = some r) , x_Z X 0 0 (x_QF X M0 (.returned (some (vI r))) M 0 0) M0 M 4 [(0, .ref v0), (1, vI v1), (2, vI v2), (3, vI v3)] 19 [] := by
  intro n
  induction n with
  | zero => intro v0 v1 v2 v3 M r hv0 h ; cases h
  | succ n ih => intro v0 v1 v2 v3 M r hv0 h ; exact cB_X5_isFirst_19 C (fun v0 v1 v2 v3 M r hv0 h  => ih v0 v1 v2 v3 M r hv0 h ) v0 v1 v2 v3 M r hv0 h 
theorem ct_X5_isFirst {l : Launch} {S0 : State} {D : va_G} {cA : Nat → ClassId} (hG : x_G l S0 D cA) (v0 : Nat) (v1 : Int) (M : Mem) (r : Int) (hv0 : m_kd M v0 = 5) (h : d_X5_isFirst v0 v1 M = some r) : x_Me l S0 D cA yX5_isFirst cX5_isFirst 4 (some .boolean) [] ({ frames := 1, cells := 0, slots := 0, locals := 24 }) [.ref v0, vI v1] M (.returned (some (vI r))) M := by
  refine x_begin (F := 1) (Lo := 24) (mc := 0) (ms := 0) hG (Nat.le_of_ble_eq_true rfl) (lv := [(0, .ref v0), (1, vI v1)]) rfl rfl rfl rfl rfl (fun X e1 e2 e3 e4 e5 C => ?_)
  unfold d_X5_isFirst at h
  refine z_aload_n (pc := 0) C 0 rfl dX5_isFirst_0 ?_
  refine gX5_568 (pc := 1) C rfl hv0 dX5_isFirst_1 ?_
  refine z_iload_n (pc := 4) C 1 rfl dX5_isFirst_4 ?_
  obtain ⟨c1, h⟩ := ifn h
  refine z_iaO (pc := 5) (k := 5) (j := 68) C 568 rfl (by decide) (by decide) (by decide) rfl rfl rfl rfl hv0 c1 rfl dX5_isFirst_5 ?_
  refine z_ldc (pc := 6) C (x := -2000000) q1829 (by decide +kernel) dX5_isFirst_6 ?_
  refine z_ic_eq (pc := 8) C dX5_isFirst_8 (tgt := 15) (by decide) (fun c2 => ?_) (fun c2 => ?_)
  · have h := itt c2 h
    refine z_iconst (pc := 15) C dX5_isFirst_15 ?_
    refine z_istore_n (pc := 16) C (lv' := [(0, .ref v0), (1, vI v1), (2, vI 0)]) (by decide) rfl dX5_isFirst_16 ?_
    refine z_iconst (pc := 17) C dX5_isFirst_17 ?_
    refine z_istore_n (pc := 18) C (lv' := [(0, .ref v0), (1, vI v1), (2, vI 0), (3, vI 0)]) (by decide) rfl dX5_isFirst_18 ?_
    exact cL_X5_isFirst_19 C FU v0 v1 0 0 M _ hv0 h
  · have h := itf c2 h
    refine z_iconst (pc := 11) C dX5_isFirst_11 ?_
    refine z_goto (pc := 12) C dX5_isFirst_12 (tgt := 16) (by decide) ?_
    refine z_istore_n (pc := 16) C (lv' := [(0, .ref v0), (1, vI v1), (2, vI 1)]) (by decide) rfl dX5_isFirst_16 ?_
    refine z_iconst (pc := 17) C dX5_isFirst_17 ?_
    refine z_istore_n (pc := 18) C (lv' := [(0, .ref v0), (1, vI v1), (2, vI 1), (3, vI 0)]) (by decide) rfl dX5_isFirst_18 ?_
    exact cL_X5_isFirst_19 C FU v0 v1 1 0 M _ hv0 h
