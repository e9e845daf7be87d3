set_option maxRecDepth 100000
def B_X3_lay_218 (k149 : Nat → Int → Mem → Option (Int × Mem)) (v0 : Nat) (v2 : Int) (v3 : Int) (v4 : Int) (M : Mem) : Option (Int × Mem) :=
  bR (m_r M 307 v0 0) fun q57 => 
  if inb v2 16 then 
  bN (d_X3_arc v0 (v4 + 1) (v3 + 1) (w32 (m_i M 215 q57 (ixn v2))) (-1) M) fun r61 M62 => 
  k149 v0 (v2 + 1) M62 else none
def B_X3_lay_197 (k149 : Nat → Int → Mem → Option (Int × Mem)) (v0 : Nat) (v2 : Int) (v3 : Int) (v4 : Int) (M : Mem) : Option (Int × Mem) :=
  if w32 v4 = w32 (-1) then
    B_X3_lay_218 k149 v0 v2 v3 v4 M
  else
    bR (m_r M 308 v0 0) fun q66 => 
    if inb v4 (p_n M q66) then 
    if w32 (p_i M q66 (ixn v4)) = w32 (-2000000) then
      k149 v0 (v2 + 1) M
    else
      B_X3_lay_218 k149 v0 v2 v3 v4 M else none
def B_X3_lay_149 (k149 : Nat → Int → Mem → Option (Int × Mem)) (v0 : Nat) (v2 : Int) (M : Mem) : Option (Int × Mem) :=
  bR (m_r M 307 v0 0) fun q44 => 
  if w32 (m_i M 212 q44 0) ≤ w32 v2 then
    some (0, M)
  else
    bR (m_r M 307 v0 0) fun q48 => 
    if inb v2 16 then 
    bR (m_r M 307 v0 0) fun q52 => 
    if w32 (m_i M 213 q48 (ixn v2)) = w32 (-1) then
      B_X3_lay_197 k149 v0 v2 (m_i M 213 q48 (ixn v2)) (m_i M 214 q52 (ixn v2)) M
    else
      bR (m_r M 308 v0 0) fun q71 => 
      if inb (m_i M 213 q48 (ixn v2)) (p_n M q71) then 
      if w32 (p_i M q71 (ixn (m_i M 213 q48 (ixn v2)))) = w32 (-2000000) then
        k149 v0 (v2 + 1) M
      else
        B_X3_lay_197 k149 v0 v2 (m_i M 213 q48 (ixn v2)) (m_i M 214 q52 (ixn v2)) M else none else none
def L_X3_lay_149  : Nat → Nat → Int → Mem → Option (Int × Mem)
  | 0, _, _, _ => none
  | n + 1, v0, v2, M => B_X3_lay_149 (L_X3_lay_149  n) v0 v2 M
def B_X3_lay_129 (k7 : Nat → Int → Int → Mem → Option (Int × Mem)) (v0 : Nat) (v1 : Int) (v2 : Int) (v3 : Int) (s0 : Nat) (s1 : Int) (s2 : Int) (s3 : Int) (M : Mem) : Option (Int × Mem) :=
  if w32 v3 = 0 then
    bN (d_X3_arc s0 s1 s2 s3 v2 M) fun r105 M106 => 
    k7 v0 v1 (v2 + 1) M106
  else
    bN (d_X3_arc s0 s1 s2 s3 (-1) M) fun r110 M111 => 
    k7 v0 v1 (v2 + 1) M111
def B_X3_lay_95 (k7 : Nat → Int → Int → Mem → Option (Int × Mem)) (v0 : Nat) (v1 : Int) (v2 : Int) (v3 : Int) (s0 : Nat) (s1 : Int) (s2 : Int) (s3 : Int) (s4 : Int) (M : Mem) : Option (Int × Mem) :=
  bN (d_X3_arc s0 s1 s2 s3 s4 M) fun r94 M95 => 
  if w32 v3 = 0 then
    bR (m_r M95 308 v0 0) fun q100 => 
    if inb v2 (p_n M95 q100) then 
    B_X3_lay_129 k7 v0 v1 v2 v3 v0 (v2 + 1) 0 (w32 (-(p_i M95 q100 (ixn v2)))) M95 else none
  else
    bR (m_r M95 307 v0 0) fun q115 => 
    if inb v2 20 then 
    B_X3_lay_129 k7 v0 v1 v2 v3 v0 (v2 + 1) 0 (w32 (-(m_i M95 203 q115 (ixn v2)))) M95 else none
def B_X3_lay_86 (k7 : Nat → Int → Int → Mem → Option (Int × Mem)) (v0 : Nat) (v1 : Int) (v2 : Int) (v3 : Int) (s0 : Nat) (s1 : Int) (s2 : Int) (s3 : Int) (M : Mem) : Option (Int × Mem) :=
  if w32 v3 = 0 then
    B_X3_lay_95 k7 v0 v1 v2 v3 s0 s1 s2 s3 v2 M
  else
    B_X3_lay_95 k7 v0 v1 v2 v3 s0 s1 s2 s3 (-1) M
def B_X3_lay_56 (k7 : Nat → Int → Int → Mem → Option (Int × Mem)) (v0 : Nat) (v1 : Int) (v2 : Int) (s0 : Int) (M : Mem) : Option (Int × Mem) :=
  if w32 s0 = 0 then
    bR (m_r M 308 v0 0) fun q89 => 
    if inb v2 (p_n M q89) then 
    B_X3_lay_86 k7 v0 v1 v2 s0 v0 0 (v2 + 1) (w32 (p_i M q89 (ixn v2))) M else none
  else
    bR (m_r M 307 v0 0) fun q119 => 
    if inb v2 20 then 
    B_X3_lay_86 k7 v0 v1 v2 s0 v0 0 (v2 + 1) (w32 (m_i M 204 q119 (ixn v2))) M else none
def B_X3_lay_7 (k7 : Nat → Int → Int → Mem → Option (Int × Mem)) (v0 : Nat) (v1 : Int) (v2 : Int) (M : Mem) : Option (Int × Mem) :=
  bR (m_r M 307 v0 0) fun q40 => 
  if w32 (m_i M 200 q40 0) ≤ w32 v2 then
    L_X3_lay_149 FU v0 0 M
  else
    bR (m_r M 307 v0 0) fun q76 => 
    bR (d_X2_isAsk q76 v2 M) fun r79 => 
    if w32 r79 = 0 then
      k7 v0 v1 (v2 + 1) M
    else
      bR (m_r M 308 v0 0) fun q82 => 
      if inb v2 (p_n M q82) then 
      if w32 (p_i M q82 (ixn v2)) = w32 (-2000000) then
        k7 v0 v1 (v2 + 1) M
      else
        if w32 (a32 (s32 v1 v2) 1) = 0 then
          B_X3_lay_56 k7 v0 v1 v2 0 M
        else
          B_X3_lay_56 k7 v0 v1 v2 1 M else none
def L_X3_lay_7  : Nat → Nat → Int → Int → Mem → Option (Int × Mem)
  | 0, _, _, _, _ => none
  | n + 1, v0, v1, v2, M => B_X3_lay_7 (L_X3_lay_7  n) v0 v1 v2 M
def d_X3_lay (v0 : Nat) (v1 : Int) (M : Mem) : Option (Int × Mem) :=
  L_X3_lay_7 FU v0 v1 0 (m_si M 304 v0 0 0)
theorem cB_X3_lay_218 {X : x_Ctx} {M0 : Mem} (C : x_CC X 2 53 yX3_lay cX3_lay 5 none []) {k149 : Nat → Int → Mem → Option (Int × Mem)} (hk149 : ∀ (v0 : Nat) (v2 : Int) (M : Mem) (r : Int) (M' : Mem), m_kd M v0 = 3 → k149 v0 v2 M = some (r, M') → x_Z X 0 0 (x_QF X M0 (.returned none) M' 0 0) M0 M 5 [(0, .ref v0), (2, vI v2)] 149 []) (v0 : Nat) (v2 : Int) (v3 : Int) (v4 : Int) (M : Mem) (r : Int) (M' : Mem) (hv0 : m_kd M v0 = 3) (h : B_X3_lay_218 k149 v0 v2 v3 v4 M = some (r, M'))  : x_Z X 0 0 (x_QF X M0 (.returned none) M' 0 0) M0 M 5 [(0, .ref v0), (2, vI v2), (3, vI v3), (4, vI v4)] 218 [] := by
  unfold B_X3_lay_218 at h
  refine z_aload_n (pc := 218) C 0 rfl dX3_lay_218 ?_
  refine z_iload (pc := 219) C 3 rfl dX3_lay_219 ?_
  refine z_iconst (pc := 221) C dX3_lay_221 ?_
  refine z_iadd (pc := 222) C dX3_lay_222 ?_
  refine z_iload_n (pc := 223) C 2 rfl dX3_lay_223 ?_
  refine z_iconst (pc := 224) C dX3_lay_224 ?_
  refine z_iadd (pc := 225) C dX3_lay_225 ?_
  refine z_aload_n (pc := 226) C 0 rfl dX3_lay_226 ?_
  obtain ⟨q57, e58, h⟩ := bRs h
  refine gX3_307 (pc := 227) C rfl (Or.inl hv0) e58 dX3_lay_227 (fun k59 => ?_)
  refine gX3_215 (pc := 230) C rfl k59 dX3_lay_230 ?_
  refine z_iload_n (pc := 233) C 1 rfl dX3_lay_233 ?_
  obtain ⟨c60, h⟩ := ifn h
  refine z_iaO (pc := 234) (k := 2) (j := 15) C 215 rfl (by decide) (by decide) (by decide) rfl rfl rfl rfl k59 c60 rfl dX3_lay_234 ?_
  refine z_i2l (pc := 235) C dX3_lay_235 ?_
  refine z_iconst (pc := 236) C dX3_lay_236 ?_
  obtain ⟨r61, M62, e63, h⟩ := bNs h
  refine cX3_59 (pc := 237) (st := []) (st1 := []) C rfl (rm := { frames := 1, cells := 0, slots := 0, locals := 24 }) (ct_X3_arc C.2.1 v0 (v4 + 1) (v3 + 1) (w32 (m_i M 215 q57 (ixn v2))) (-1) M _ _ hv0 e63) ⟨by decide, by decide, Nat.zero_le _, Nat.zero_le _⟩ (Or.inl hv0) rfl (Nat.le_of_ble_eq_true rfl) dX3_lay_237 (c2 := 0) (s2 := 0) rfl rfl (fun x64 => ?_)
  have k65 := x64 _ 3 (by decide) (Or.inl (by decide)) hv0
  refine z_iinc (pc := 240) C (lv' := [(0, .ref v0), (2, vI (v2 + 1)), (3, vI v3), (4, vI v4)]) 1 rfl (by decide) rfl dX3_lay_240 ?_
  refine z_goto (pc := 243) C dX3_lay_243 (tgt := 149) (by decide) ?_
  exact z_lv [0, 1] rfl <| hk149 v0 (v2 + 1) M62 _ _ k65 h
theorem cB_X3_lay_197 {X : x_Ctx} {M0 : Mem} (C : x_CC X 2 53 yX3_lay cX3_lay 5 none []) {k149 : Nat → Int → Mem → Option (Int × Mem)} (hk149 : ∀ (v0 : Nat) (v2 : Int) (M : Mem) (r : Int) (M' : Mem), m_kd M v0 = 3 → k149 v0 v2 M = some (r, M') → x_Z X 0 0 (x_QF X M0 (.returned none) M' 0 0) M0 M 5 [(0, .ref v0), (2, vI v2)] 149 []) (v0 : Nat) (v2 : Int) (v3 : Int) (v4 : Int) (M : Mem) (r : Int) (M' : Mem) (hv0 : m_kd M v0 = 3) (h : B_X3_lay_197 k149 v0 v2 v3 v4 M = some (r, M'))  : x_Z X 0 0 (x_QF X M0 (.returned none) M' 0 0) M0 M 5 [(0, .ref v0), (2, vI v2), (3, vI v3), (4, vI v4)] 197 [] := by
  unfold B_X3_lay_197 at h
  refine z_iload (pc := 197) C 3 rfl dX3_lay_197 ?_
  refine z_iconst (pc := 199) C dX3_lay_199 ?_
  refine z_ic_eq (pc := 200) C dX3_lay_200 (tgt := 218) (by decide) (fun c56 => ?_) (fun c56 => ?_)
  · have h := itt c56 h
    exact cB_X3_lay_218 C hk149 v0 v2 v3 v4 M _ _ hv0 h
  · have h := itf c56 h
    refine z_aload_n (pc := 203) C 0 rfl dX3_lay_203 ?_
    obtain ⟨q66, e67, h⟩ := bRs h
    refine gX3_308 (pc := 204) C rfl (Or.inl hv0) e67 dX3_lay_204 (fun k68 => ?_)
    refine z_iload (pc := 207) C 3 rfl dX3_lay_207 ?_
    obtain ⟨c69, h⟩ := ifn h
    refine z_iaP (pc := 209) C k68 c69 dX3_lay_209 ?_
    refine z_ldc (pc := 210) C (x := -2000000) q1160 (by decide +kernel) dX3_lay_210 ?_
    refine z_ic_ne (pc := 212) C dX3_lay_212 (tgt := 218) (by decide) (fun c70 => ?_) (fun c70 => ?_)
    · have h := itf c70 h
      exact cB_X3_lay_218 C hk149 v0 v2 v3 v4 M _ _ hv0 h
    · have h := itt c70 h
      refine z_goto (pc := 215) C dX3_lay_215 (tgt := 240) (by decide) ?_
      refine z_iinc (pc := 240) C (lv' := [(0, .ref v0), (2, vI (v2 + 1)), (3, vI v3), (4, vI v4)]) 1 rfl (by decide) rfl dX3_lay_240 ?_
      refine z_goto (pc := 243) C dX3_lay_243 (tgt := 149) (by decide) ?_
      exact z_lv [0, 1] rfl <| hk149 v0 (v2 + 1) M _ _ hv0 h
theorem cB_X3_lay_149 {X : x_Ctx} {M0 : Mem} (C : x_CC X 2 53 yX3_lay cX3_lay 5 none []) {k149 : Nat → Int → Mem → Option (Int × Mem)} (hk149 : ∀ (v0 : Nat) (v2 : Int) (M : Mem) (r : Int) (M' : Mem), m_kd M v0 = 3 → k149 v0 v2 M = some (r, M') → x_Z X 0 0 (x_QF X M0 (.returned none) M' 0 0) M0 M 5 [(0, .ref v0), (2, vI v2)] 149 []) (v0 : Nat) (v2 : Int) (M : Mem) (r : Int) (M' : Mem) (hv0 : m_kd M v0 = 3) (h : B_X3_lay_149 k149 v0 v2 M = some (r, M'))  : x_Z X 0 0 (x_QF X M0 (.returned none) M' 0 0) M0 M 5 [(0, .ref v0), (2, vI v2)] 149 [] := by
  unfold B_X3_lay_149 at h
  refine z_iload_n (pc := 149) C 1 rfl dX3_lay_149 ?_
  refine z_aload_n (pc := 150) C 0 rfl dX3_lay_150 ?_
  obtain ⟨q44, e45, h⟩ := bRs h
  refine gX3_307 (pc := 151) C rfl (Or.inl hv0) e45 dX3_lay_151 (fun k46 => ?_)
  refine gX3_212 (pc := 154) C rfl (Or.inl k46) rfl dX3_lay_154 ?_
  refine z_ic_ge (pc := 157) C dX3_lay_157 (tgt := 246) (by decide) (fun c47 => ?_) (fun c47 => ?_)
  · have h := itt c47 h
    cases h
    exact z_vret (pc := 246) C rfl (show 0 ≤ 0 from by decide) (show 0 ≤ 0 from by decide) dX3_lay_246
  · have h := itf c47 h
    refine z_aload_n (pc := 160) C 0 rfl dX3_lay_160 ?_
    obtain ⟨q48, e49, h⟩ := bRs h
    refine gX3_307 (pc := 161) C rfl (Or.inl hv0) e49 dX3_lay_161 (fun k50 => ?_)
    refine gX3_213 (pc := 164) C rfl k50 dX3_lay_164 ?_
    refine z_iload_n (pc := 167) C 1 rfl dX3_lay_167 ?_
    obtain ⟨c51, h⟩ := ifn h
    refine z_iaO (pc := 168) (k := 2) (j := 13) C 213 rfl (by decide) (by decide) (by decide) rfl rfl rfl rfl k50 c51 rfl dX3_lay_168 ?_
    refine z_istore_n (pc := 169) C (lv' := [(0, .ref v0), (2, vI v2), (3, vI (m_i M 213 q48 (ixn v2)))]) (by decide) rfl dX3_lay_169 ?_
    refine z_aload_n (pc := 170) C 0 rfl dX3_lay_170 ?_
    obtain ⟨q52, e53, h⟩ := bRs h
    refine gX3_307 (pc := 171) C rfl (Or.inl hv0) e53 dX3_lay_171 (fun k54 => ?_)
    refine gX3_214 (pc := 174) C rfl k54 dX3_lay_174 ?_
    refine z_iload_n (pc := 177) C 1 rfl dX3_lay_177 ?_
    refine z_iaO (pc := 178) (k := 2) (j := 14) C 214 rfl (by decide) (by decide) (by decide) rfl rfl rfl rfl k54 c51 rfl dX3_lay_178 ?_
    refine z_istore (pc := 179) C (lv' := [(0, .ref v0), (2, vI v2), (3, vI (m_i M 213 q48 (ixn v2))), (4, vI (m_i M 214 q52 (ixn v2)))]) (by decide) rfl dX3_lay_179 ?_
    refine z_iload_n (pc := 181) C 2 rfl dX3_lay_181 ?_
    refine z_iconst (pc := 182) C dX3_lay_182 ?_
    refine z_ic_eq (pc := 183) C dX3_lay_183 (tgt := 197) (by decide) (fun c55 => ?_) (fun c55 => ?_)
    · have h := itt c55 h
      exact cB_X3_lay_197 C hk149 v0 v2 (m_i M 213 q48 (ixn v2)) (m_i M 214 q52 (ixn v2)) M _ _ hv0 h
    · have h := itf c55 h
      refine z_aload_n (pc := 186) C 0 rfl dX3_lay_186 ?_
      obtain ⟨q71, e72, h⟩ := bRs h
      refine gX3_308 (pc := 187) C rfl (Or.inl hv0) e72 dX3_lay_187 (fun k73 => ?_)
      refine z_iload_n (pc := 190) C 2 rfl dX3_lay_190 ?_
      obtain ⟨c74, h⟩ := ifn h
      refine z_iaP (pc := 191) C k73 c74 dX3_lay_191 ?_
      refine z_ldc (pc := 192) C (x := -2000000) q1160 (by decide +kernel) dX3_lay_192 ?_
      refine z_ic_eq (pc := 194) C dX3_lay_194 (tgt := 240) (by decide) (fun c75 => ?_) (fun c75 => ?_)
      · have h := itt c75 h
        refine z_iinc (pc := 240) C (lv' := [(0, .ref v0), (2, vI (v2 + 1)), (3, vI (m_i M 213 q48 (ixn v2))), (4, vI (m_i M 214 q52 (ixn v2)))]) 1 rfl (by decide) rfl dX3_lay_240 ?_
        refine z_goto (pc := 243) C dX3_lay_243 (tgt := 149) (by decide) ?_
        exact z_lv [0, 1] rfl <| hk149 v0 (v2 + 1) M _ _ hv0 h
      · have h := itf c75 h
        exact cB_X3_lay_197 C hk149 v0 v2 (m_i M 213 q48 (ixn v2)) (m_i M 214 q52 (ixn v2)) M _ _ hv0 h
theorem cL_X3_lay_149 {X : x_Ctx} {M0 : Mem} (C : x_CC X 2 53 yX3_lay cX3_lay 5 none [])  : ∀ (n : Nat) (v0 : Nat) (v2 : Int) (M : Mem) (r : Int) (M' : Mem) (hv0 : m_kd M v0 = 3) (h : L_X3_lay_149  n v0 v2 M = some (r, M')) , x_Z X 0 0 (x_QF X M0 (.returned none) M' 0 0) M0 M 5 [(0, .ref v0), (2, vI v2)] 149 [] := by
  intro n
  induction n with
  | zero => intro v0 v2 M r M' hv0 h ; cases h
  | succ n ih => intro v0 v2 M r M' hv0 h ; exact cB_X3_lay_149 C (fun v0 v2 M r M' hv0 h  => ih v0 v2 M r M' hv0 h ) v0 v2 M r M' hv0 h 
theorem cB_X3_lay_129 {X : x_Ctx} {M0 : Mem} (C : x_CC X 2 53 yX3_lay cX3_lay 5 none []) {k7 : Nat → Int → Int → Mem → Option (Int × Mem)} (hk7 : ∀ (v0 : Nat) (v1 : Int) (v2 : Int) (M : Mem) (r : Int) (M' : Mem), m_kd M v0 = 3 → k7 v0 v1 v2 M = some (r, M') → x_Z X 0 0 (x_QF X M0 (.returned none) M' 0 0) M0 M 5 [(0, .ref v0), (1, vI v1), (2, vI v2)] 7 []) (v0 : Nat) (v1 : Int) (v2 : Int) (v3 : Int) (s0 : Nat) (s1 : Int) (s2 : Int) (s3 : Int) (M : Mem) (r : Int) (M' : Mem) (hv0 : m_kd M v0 = 3) (hs0 : m_kd M s0 = 3) (h : B_X3_lay_129 k7 v0 v1 v2 v3 s0 s1 s2 s3 M = some (r, M'))  : x_Z X 0 0 (x_QF X M0 (.returned none) M' 0 0) M0 M 5 [(0, .ref v0), (1, vI v1), (2, vI v2), (3, vI v3)] 129 [vL s3, vI s2, vI s1, .ref s0] := by
  unfold B_X3_lay_129 at h
  refine z_iload_n (pc := 129) C 3 rfl dX3_lay_129 ?_
  refine z_if_eq (pc := 130) C dX3_lay_130 (tgt := 137) (by decide) (fun c104 => ?_) (fun c104 => ?_)
  · have h := itt c104 h
    refine z_iload_n (pc := 137) C 2 rfl dX3_lay_137 ?_
    obtain ⟨r105, M106, e107, h⟩ := bNs h
    refine cX3_59 (pc := 138) (st := []) (st1 := []) C rfl (rm := { frames := 1, cells := 0, slots := 0, locals := 24 }) (ct_X3_arc C.2.1 s0 s1 s2 s3 v2 M _ _ hs0 e107) ⟨by decide, by decide, Nat.zero_le _, Nat.zero_le _⟩ (Or.inl hs0) rfl (Nat.le_of_ble_eq_true rfl) dX3_lay_138 (c2 := 0) (s2 := 0) rfl rfl (fun x108 => ?_)
    have k109 := x108 _ 3 (by decide) (Or.inl (by decide)) hv0
    refine z_iinc (pc := 141) C (lv' := [(0, .ref v0), (1, vI v1), (2, vI (v2 + 1)), (3, vI v3)]) 2 rfl (by decide) rfl dX3_lay_141 ?_
    refine z_goto (pc := 144) C dX3_lay_144 (tgt := 7) (by decide) ?_
    exact z_lv [0, 1, 2] rfl <| hk7 v0 v1 (v2 + 1) M106 _ _ k109 h
  · have h := itf c104 h
    refine z_iconst (pc := 133) C dX3_lay_133 ?_
    refine z_goto (pc := 134) C dX3_lay_134 (tgt := 138) (by decide) ?_
    obtain ⟨r110, M111, e112, h⟩ := bNs h
    refine cX3_59 (pc := 138) (st := []) (st1 := []) C rfl (rm := { frames := 1, cells := 0, slots := 0, locals := 24 }) (ct_X3_arc C.2.1 s0 s1 s2 s3 (-1) M _ _ hs0 e112) ⟨by decide, by decide, Nat.zero_le _, Nat.zero_le _⟩ (Or.inl hs0) rfl (Nat.le_of_ble_eq_true rfl) dX3_lay_138 (c2 := 0) (s2 := 0) rfl rfl (fun x113 => ?_)
    have k114 := x113 _ 3 (by decide) (Or.inl (by decide)) hv0
    refine z_iinc (pc := 141) C (lv' := [(0, .ref v0), (1, vI v1), (2, vI (v2 + 1)), (3, vI v3)]) 2 rfl (by decide) rfl dX3_lay_141 ?_
    refine z_goto (pc := 144) C dX3_lay_144 (tgt := 7) (by decide) ?_
    exact z_lv [0, 1, 2] rfl <| hk7 v0 v1 (v2 + 1) M111 _ _ k114 h
theorem cB_X3_lay_95 {X : x_Ctx} {M0 : Mem} (C : x_CC X 2 53 yX3_lay cX3_lay 5 none []) {k7 : Nat → Int → Int → Mem → Option (Int × Mem)} (hk7 : ∀ (v0 : Nat) (v1 : Int) (v2 : Int) (M : Mem) (r : Int) (M' : Mem), m_kd M v0 = 3 → k7 v0 v1 v2 M = some (r, M') → x_Z X 0 0 (x_QF X M0 (.returned none) M' 0 0) M0 M 5 [(0, .ref v0), (1, vI v1), (2, vI v2)] 7 []) (v0 : Nat) (v1 : Int) (v2 : Int) (v3 : Int) (s0 : Nat) (s1 : Int) (s2 : Int) (s3 : Int) (s4 : Int) (M : Mem) (r : Int) (M' : Mem) (hv0 : m_kd M v0 = 3) (hs0 : m_kd M s0 = 3) (h : B_X3_lay_95 k7 v0 v1 v2 v3 s0 s1 s2 s3 s4 M = some (r, M'))  : x_Z X 0 0 (x_QF X M0 (.returned none) M' 0 0) M0 M 5 [(0, .ref v0), (1, vI v1), (2, vI v2), (3, vI v3)] 95 [vI s4, vL s3, vI s2, vI s1, .ref s0] := by
  unfold B_X3_lay_95 at h
  obtain ⟨r94, M95, e96, h⟩ := bNs h
  refine cX3_59 (pc := 95) (st := []) (st1 := []) C rfl (rm := { frames := 1, cells := 0, slots := 0, locals := 24 }) (ct_X3_arc C.2.1 s0 s1 s2 s3 s4 M _ _ hs0 e96) ⟨by decide, by decide, Nat.zero_le _, Nat.zero_le _⟩ (Or.inl hs0) rfl (Nat.le_of_ble_eq_true rfl) dX3_lay_95 (c2 := 0) (s2 := 0) rfl rfl (fun x97 => ?_)
  have k98 := x97 _ 3 (by decide) (Or.inl (by decide)) hv0
  refine z_aload_n (pc := 98) C 0 rfl dX3_lay_98 ?_
  refine z_iload_n (pc := 99) C 2 rfl dX3_lay_99 ?_
  refine z_iconst (pc := 100) C dX3_lay_100 ?_
  refine z_iadd (pc := 101) C dX3_lay_101 ?_
  refine z_iconst (pc := 102) C dX3_lay_102 ?_
  refine z_iload_n (pc := 103) C 3 rfl dX3_lay_103 ?_
  refine z_if_eq (pc := 104) C dX3_lay_104 (tgt := 121) (by decide) (fun c99 => ?_) (fun c99 => ?_)
  · have h := itt c99 h
    refine z_aload_n (pc := 121) C 0 rfl dX3_lay_121 ?_
    obtain ⟨q100, e101, h⟩ := bRs h
    refine gX3_308 (pc := 122) C rfl (Or.inl k98) e101 dX3_lay_122 (fun k102 => ?_)
    refine z_iload_n (pc := 125) C 2 rfl dX3_lay_125 ?_
    obtain ⟨c103, h⟩ := ifn h
    refine z_iaP (pc := 126) C k102 c103 dX3_lay_126 ?_
    refine z_ineg (pc := 127) C dX3_lay_127 ?_
    refine z_i2l (pc := 128) C dX3_lay_128 ?_
    exact cB_X3_lay_129 C hk7 v0 v1 v2 v3 v0 (v2 + 1) 0 (w32 (-(p_i M95 q100 (ixn v2)))) M95 _ _ k98 k98 h
  · have h := itf c99 h
    refine z_aload_n (pc := 107) C 0 rfl dX3_lay_107 ?_
    obtain ⟨q115, e116, h⟩ := bRs h
    refine gX3_307 (pc := 108) C rfl (Or.inl k98) e116 dX3_lay_108 (fun k117 => ?_)
    refine gX3_203 (pc := 111) C rfl k117 dX3_lay_111 ?_
    refine z_iload_n (pc := 114) C 2 rfl dX3_lay_114 ?_
    obtain ⟨c118, h⟩ := ifn h
    refine z_iaO (pc := 115) (k := 2) (j := 3) C 203 rfl (by decide) (by decide) (by decide) rfl rfl rfl rfl k117 c118 rfl dX3_lay_115 ?_
    refine z_ineg (pc := 116) C dX3_lay_116 ?_
    refine z_i2l (pc := 117) C dX3_lay_117 ?_
    refine z_goto (pc := 118) C dX3_lay_118 (tgt := 129) (by decide) ?_
    exact cB_X3_lay_129 C hk7 v0 v1 v2 v3 v0 (v2 + 1) 0 (w32 (-(m_i M95 203 q115 (ixn v2)))) M95 _ _ k98 k98 h
theorem cB_X3_lay_86 {X : x_Ctx} {M0 : Mem} (C : x_CC X 2 53 yX3_lay cX3_lay 5 none []) {k7 : Nat → Int → Int → Mem → Option (Int × Mem)} (hk7 : ∀ (v0 : Nat) (v1 : Int) (v2 : Int) (M : Mem) (r : Int) (M' : Mem), m_kd M v0 = 3 → k7 v0 v1 v2 M = some (r, M') → x_Z X 0 0 (x_QF X M0 (.returned none) M' 0 0) M0 M 5 [(0, .ref v0), (1, vI v1), (2, vI v2)] 7 []) (v0 : Nat) (v1 : Int) (v2 : Int) (v3 : Int) (s0 : Nat) (s1 : Int) (s2 : Int) (s3 : Int) (M : Mem) (r : Int) (M' : Mem) (hv0 : m_kd M v0 = 3) (hs0 : m_kd M s0 = 3) (h : B_X3_lay_86 k7 v0 v1 v2 v3 s0 s1 s2 s3 M = some (r, M'))  : x_Z X 0 0 (x_QF X M0 (.returned none) M' 0 0) M0 M 5 [(0, .ref v0), (1, vI v1), (2, vI v2), (3, vI v3)] 86 [vL s3, vI s2, vI s1, .ref s0] := by
  unfold B_X3_lay_86 at h
  refine z_iload_n (pc := 86) C 3 rfl dX3_lay_86 ?_
  refine z_if_eq (pc := 87) C dX3_lay_87 (tgt := 94) (by decide) (fun c93 => ?_) (fun c93 => ?_)
  · have h := itt c93 h
    refine z_iload_n (pc := 94) C 2 rfl dX3_lay_94 ?_
    exact cB_X3_lay_95 C hk7 v0 v1 v2 v3 s0 s1 s2 s3 v2 M _ _ hv0 hs0 h
  · have h := itf c93 h
    refine z_iconst (pc := 90) C dX3_lay_90 ?_
    refine z_goto (pc := 91) C dX3_lay_91 (tgt := 95) (by decide) ?_
    exact cB_X3_lay_95 C hk7 v0 v1 v2 v3 s0 s1 s2 s3 (-1) M _ _ hv0 hs0 h
theorem cB_X3_lay_56 {X : x_Ctx} {M0 : Mem} (C : x_CC X 2 53 yX3_lay cX3_lay 5 none []) {k7 : Nat → Int → Int → Mem → Option (Int × Mem)} (hk7 : ∀ (v0 : Nat) (v1 : Int) (v2 : Int) (M : Mem) (r : Int) (M' : Mem), m_kd M v0 = 3 → k7 v0 v1 v2 M = some (r, M') → x_Z X 0 0 (x_QF X M0 (.returned none) M' 0 0) M0 M 5 [(0, .ref v0), (1, vI v1), (2, vI v2)] 7 []) (v0 : Nat) (v1 : Int) (v2 : Int) (s0 : Int) (M : Mem) (r : Int) (M' : Mem) (hv0 : m_kd M v0 = 3) (h : B_X3_lay_56 k7 v0 v1 v2 s0 M = some (r, M'))  : x_Z X 0 0 (x_QF X M0 (.returned none) M' 0 0) M0 M 5 [(0, .ref v0), (1, vI v1), (2, vI v2)] 56 [vI s0] := by
  unfold B_X3_lay_56 at h
  refine z_istore_n (pc := 56) C (lv' := [(0, .ref v0), (1, vI v1), (2, vI v2), (3, vI s0)]) (by decide) rfl dX3_lay_56 ?_
  refine z_aload_n (pc := 57) C 0 rfl dX3_lay_57 ?_
  refine z_iconst (pc := 58) C dX3_lay_58 ?_
  refine z_iload_n (pc := 59) C 2 rfl dX3_lay_59 ?_
  refine z_iconst (pc := 60) C dX3_lay_60 ?_
  refine z_iadd (pc := 61) C dX3_lay_61 ?_
  refine z_iload_n (pc := 62) C 3 rfl dX3_lay_62 ?_
  refine z_if_eq (pc := 63) C dX3_lay_63 (tgt := 79) (by decide) (fun c88 => ?_) (fun c88 => ?_)
  · have h := itt c88 h
    refine z_aload_n (pc := 79) C 0 rfl dX3_lay_79 ?_
    obtain ⟨q89, e90, h⟩ := bRs h
    refine gX3_308 (pc := 80) C rfl (Or.inl hv0) e90 dX3_lay_80 (fun k91 => ?_)
    refine z_iload_n (pc := 83) C 2 rfl dX3_lay_83 ?_
    obtain ⟨c92, h⟩ := ifn h
    refine z_iaP (pc := 84) C k91 c92 dX3_lay_84 ?_
    refine z_i2l (pc := 85) C dX3_lay_85 ?_
    exact cB_X3_lay_86 C hk7 v0 v1 v2 s0 v0 0 (v2 + 1) (w32 (p_i M q89 (ixn v2))) M _ _ hv0 hv0 h
  · have h := itf c88 h
    refine z_aload_n (pc := 66) C 0 rfl dX3_lay_66 ?_
    obtain ⟨q119, e120, h⟩ := bRs h
    refine gX3_307 (pc := 67) C rfl (Or.inl hv0) e120 dX3_lay_67 (fun k121 => ?_)
    refine gX3_204 (pc := 70) C rfl k121 dX3_lay_70 ?_
    refine z_iload_n (pc := 73) C 2 rfl dX3_lay_73 ?_
    obtain ⟨c122, h⟩ := ifn h
    refine z_iaO (pc := 74) (k := 2) (j := 4) C 204 rfl (by decide) (by decide) (by decide) rfl rfl rfl rfl k121 c122 rfl dX3_lay_74 ?_
    refine z_i2l (pc := 75) C dX3_lay_75 ?_
    refine z_goto (pc := 76) C dX3_lay_76 (tgt := 86) (by decide) ?_
    exact cB_X3_lay_86 C hk7 v0 v1 v2 s0 v0 0 (v2 + 1) (w32 (m_i M 204 q119 (ixn v2))) M _ _ hv0 hv0 h
theorem cB_X3_lay_7 {X : x_Ctx} {M0 : Mem} (C : x_CC X 2 53 yX3_lay cX3_lay 5 none []) {k7 : Nat → Int → Int → Mem → Option (Int × Mem)} (hk7 : ∀ (v0 : Nat) (v1 : Int) (v2 : Int) (M : Mem) (r : Int) (M' : Mem), m_kd M v0 = 3 → k7 v0 v1 v2 M = some (r, M') → x_Z X 0 0 (x_QF X M0 (.returned none) M' 0 0) M0 M 5 [(0, .ref v0), (1, vI v1), (2, vI v2)] 7 []) (v0 : Nat) (v1 : Int) (v2 : Int) (M : Mem) (r : Int) (M' : Mem) (hv0 : m_kd M v0 = 3) (h : B_X3_lay_7 k7 v0 v1 v2 M = some (r, M'))  : x_Z X 0 0 (x_QF X M0 (.returned none) M' 0 0) M0 M 5 [(0, .ref v0), (1, vI v1), (2, vI v2)] 7 [] := by
  unfold B_X3_lay_7 at h
  refine z_iload_n (pc := 7) C 2 rfl dX3_lay_7 ?_
  refine z_aload_n (pc := 8) C 0 rfl dX3_lay_8 ?_
  obtain ⟨q40, e41, h⟩ := bRs h
  refine gX3_307 (pc := 9) C rfl (Or.inl hv0) e41 dX3_lay_9 (fun k42 => ?_)
  refine gX3_200 (pc := 12) C rfl (Or.inl k42) rfl dX3_lay_12 ?_
  refine z_ic_ge (pc := 15) C dX3_lay_15 (tgt := 147) (by decide) (fun c43 => ?_) (fun c43 => ?_)
  · have h := itt c43 h
    refine z_iconst (pc := 147) C dX3_lay_147 ?_
    refine z_istore_n (pc := 148) C (lv' := [(0, .ref v0), (1, vI v1), (2, vI 0)]) (by decide) rfl dX3_lay_148 ?_
    exact z_lv [0, 2] rfl <| cL_X3_lay_149 C FU v0 0 M _ _ hv0 h
  · have h := itf c43 h
    refine z_aload_n (pc := 18) C 0 rfl dX3_lay_18 ?_
    obtain ⟨q76, e77, h⟩ := bRs h
    refine gX3_307 (pc := 19) C rfl (Or.inl hv0) e77 dX3_lay_19 (fun k78 => ?_)
    refine z_iload_n (pc := 22) C 2 rfl dX3_lay_22 ?_
    obtain ⟨r79, e80, h⟩ := bRs h
    refine cX3_48 (pc := 23) (st := []) (st1 := [vI r79]) C rfl (rm := { frames := 1, cells := 0, slots := 0, locals := 24 }) (ct_X2_isAsk C.2.1 q76 v2 M _ k78 e80) ⟨by decide, by decide, Nat.zero_le _, Nat.zero_le _⟩ (Or.inl k78) rfl (Nat.le_of_ble_eq_true rfl) dX3_lay_23 (c2 := 0) (s2 := 0) rfl rfl (fun _ => ?_)
    refine z_if_eq (pc := 26) C dX3_lay_26 (tgt := 141) (by decide) (fun c81 => ?_) (fun c81 => ?_)
    · have h := itt c81 h
      refine z_iinc (pc := 141) C (lv' := [(0, .ref v0), (1, vI v1), (2, vI (v2 + 1))]) 2 rfl (by decide) rfl dX3_lay_141 ?_
      refine z_goto (pc := 144) C dX3_lay_144 (tgt := 7) (by decide) ?_
      exact hk7 v0 v1 (v2 + 1) M _ _ hv0 h
    · have h := itf c81 h
      refine z_aload_n (pc := 29) C 0 rfl dX3_lay_29 ?_
      obtain ⟨q82, e83, h⟩ := bRs h
      refine gX3_308 (pc := 30) C rfl (Or.inl hv0) e83 dX3_lay_30 (fun k84 => ?_)
      refine z_iload_n (pc := 33) C 2 rfl dX3_lay_33 ?_
      obtain ⟨c85, h⟩ := ifn h
      refine z_iaP (pc := 34) C k84 c85 dX3_lay_34 ?_
      refine z_ldc (pc := 35) C (x := -2000000) q1160 (by decide +kernel) dX3_lay_35 ?_
      refine z_ic_ne (pc := 37) C dX3_lay_37 (tgt := 43) (by decide) (fun c86 => ?_) (fun c86 => ?_)
      · have h := itf c86 h
        refine z_iload_n (pc := 43) C 1 rfl dX3_lay_43 ?_
        refine z_iload_n (pc := 44) C 2 rfl dX3_lay_44 ?_
        refine z_ishr (pc := 45) C dX3_lay_45 ?_
        refine z_iconst (pc := 46) C dX3_lay_46 ?_
        refine z_iand (pc := 47) C dX3_lay_47 ?_
        refine z_if_eq (pc := 48) C dX3_lay_48 (tgt := 55) (by decide) (fun c87 => ?_) (fun c87 => ?_)
        · have h := itt c87 h
          refine z_iconst (pc := 55) C dX3_lay_55 ?_
          exact cB_X3_lay_56 C hk7 v0 v1 v2 0 M _ _ hv0 h
        · have h := itf c87 h
          refine z_iconst (pc := 51) C dX3_lay_51 ?_
          refine z_goto (pc := 52) C dX3_lay_52 (tgt := 56) (by decide) ?_
          exact cB_X3_lay_56 C hk7 v0 v1 v2 1 M _ _ hv0 h
      · have h := itt c86 h
        refine z_goto (pc := 40) C dX3_lay_40 (tgt := 141) (by decide) ?_
        refine z_iinc (pc := 141) C (lv' := [(0, .ref v0), (1, vI v1), (2, vI (v2 + 1))]) 2 rfl (by decide) rfl dX3_lay_141 ?_
        refine z_goto (pc := 144) C dX3_lay_144 (tgt := 7) (by decide) ?_
        exact hk7 v0 v1 (v2 + 1) M _ _ hv0 h
theorem cL_X3_lay_7 {X : x_Ctx} {M0 : Mem} (C : x_CC X 2 53 yX3_lay cX3_lay 5 none [])  : ∀ (n : Nat) (v0 : Nat) (v1 : Int) (v2 : Int) (M : Mem) (r : Int) (M' : Mem) (hv0 : m_kd M v0 = 3) (h : L_X3_lay_7  n v0 v1 v2 M = some (r, M')) , x_Z X 0 0 (x_QF X M0 (.returned none) M' 0 0) M0 M 5 [(0, .ref v0), (1, vI v1), (2, vI v2)] 7 [] := by
  intro n
  induction n with
  | zero => intro v0 v1 v2 M r M' hv0 h ; cases h
  | succ n ih => intro v0 v1 v2 M r M' hv0 h ; exact cB_X3_lay_7 C (fun v0 v1 v2 M r M' hv0 h  => ih v0 v1 v2 M r M' hv0 h ) v0 v1 v2 M r M' hv0 h 
theorem ct_X3_lay {l : Launch} {S0 : State} {D : va_G} {cA : Nat → ClassId} (hG : x_G l S0 D cA) (v0 : Nat) (v1 : Int) (M : Mem) (r : Int) (M' : Mem) (hv0 : m_kd M v0 = 3) (h : d_X3_lay v0 v1 M = some (r, M')) : x_Me l S0 D cA yX3_lay cX3_lay 5 none [] ({ frames := 2, cells := 0, slots := 0, locals := 53 }) [.ref v0, vI v1] M (.returned none) M' := by
  refine x_begin (F := 2) (Lo := 53) (mc := 0) (ms := 0) hG (Nat.le_of_ble_eq_true rfl) (lv := [(0, .ref v0), (1, vI v1)]) rfl rfl rfl rfl rfl (fun X e1 e2 e3 e4 e5 C => ?_)
  unfold d_X3_lay at h
  refine z_aload_n (pc := 0) C 0 rfl dX3_lay_0 ?_
  refine z_iconst (pc := 1) C dX3_lay_1 ?_
  refine pX3_304 (pc := 2) C rfl (Or.inl hv0) dX3_lay_2 ?_
  refine z_iconst (pc := 5) C dX3_lay_5 ?_
  refine z_istore_n (pc := 6) C (lv' := [(0, .ref v0), (1, vI v1), (2, vI 0)]) (by decide) rfl dX3_lay_6 ?_
  exact cL_X3_lay_7 C FU v0 v1 0 (m_si M 304 v0 0 0) _ _ hv0 h
def B_X3_settle_162 (k162 : Nat → Int → Int → Mem → Option (Int × Mem)) (v0 : Nat) (v1 : Int) (v2 : Int) (M : Mem) : Option (Int × Mem) :=
  bR (m_r M 307 v0 0) fun q12 => 
  if w32 (m_i M 200 q12 0) < w32 v2 then
    some (v1, M)
  else
    if inb v1 21 then 
    if inb (m_i M 306 v0 (ixn v1)) 56 then 
    k162 v0 (m_i M 301 v0 (ixn (m_i M 306 v0 (ixn v1)))) (v2 + 1) M else none else none
def L_X3_settle_162  : Nat → Nat → Int → Int → Mem → Option (Int × Mem)
  | 0, _, _, _, _ => none
  | n + 1, v0, v1, v2, M => B_X3_settle_162 (L_X3_settle_162  n) v0 v1 v2 M
def B_X3_settle_49 (k32 : Nat → Int → Int → Mem → Option (Int × Mem)) (k49 : Nat → Int → Int → Int → Mem → Option (Int × Mem)) (v0 : Nat) (v1 : Int) (v2 : Int) (v3 : Int) (M : Mem) : Option (Int × Mem) :=
  if w32 (m_i M 304 v0 0) ≤ w32 v3 then
    if w32 v1 = w32 (-1) then
      some (-1, M)
    else
      k32 v0 v1 (v2 + 1) M
  else
    if inb v3 56 then 
    if inb (m_i M 301 v0 (ixn v3)) 21 then 
    if inb (m_i M 300 v0 (ixn v3)) 21 then 
    if w64 ((m_i M 305 v0 (ixn (m_i M 301 v0 (ixn v3)))) + (m_i M 302 v0 (ixn v3))) < w64 (m_i M 305 v0 (ixn (m_i M 300 v0 (ixn v3)))) then
      k49 v0 (m_i M 300 v0 (ixn v3)) v2 (v3 + 1) (m_si (m_si M 305 v0 (ixn (m_i M 300 v0 (ixn v3))) ((m_i M 305 v0 (ixn (m_i M 301 v0 (ixn v3)))) + (m_i M 302 v0 (ixn v3)))) 306 v0 (ixn (m_i M 300 v0 (ixn v3))) v3)
    else
      k49 v0 v1 v2 (v3 + 1) M else none else none else none
def L_X3_settle_49 (k32 : Nat → Int → Int → Mem → Option (Int × Mem)) : Nat → Nat → Int → Int → Int → Mem → Option (Int × Mem)
  | 0, _, _, _, _, _ => none
  | n + 1, v0, v1, v2, v3, M => B_X3_settle_49 k32 (L_X3_settle_49 k32 n) v0 v1 v2 v3 M
def B_X3_settle_32 (k32 : Nat → Int → Int → Mem → Option (Int × Mem)) (v0 : Nat) (v1 : Int) (v2 : Int) (M : Mem) : Option (Int × Mem) :=
  bR (m_r M 307 v0 0) fun q8 => 
  if w32 ((m_i M 200 q8 0) + 1) < w32 v2 then
    L_X3_settle_162 FU v0 v1 0 M
  else
    L_X3_settle_49 k32 FU v0 (-1) v2 0 M
def L_X3_settle_32  : Nat → Nat → Int → Int → Mem → Option (Int × Mem)
  | 0, _, _, _, _ => none
  | n + 1, v0, v1, v2, M => B_X3_settle_32 (L_X3_settle_32  n) v0 v1 v2 M
def B_X3_settle_2 (k2 : Nat → Int → Mem → Option (Int × Mem)) (v0 : Nat) (v1 : Int) (M : Mem) : Option (Int × Mem) :=
  if w32 20 < w32 v1 then
    L_X3_settle_32 FU v0 (-1) 0 M
  else
    if inb v1 21 then 
    k2 v0 (v1 + 1) (m_si (m_si M 305 v0 (ixn v1) 0) 306 v0 (ixn v1) (-1)) else none
def L_X3_settle_2  : Nat → Nat → Int → Mem → Option (Int × Mem)
  | 0, _, _, _ => none
  | n + 1, v0, v1, M => B_X3_settle_2 (L_X3_settle_2  n) v0 v1 M
def d_X3_settle (v0 : Nat) (M : Mem) : Option (Int × Mem) :=
  L_X3_settle_2 FU v0 0 M
theorem cB_X3_settle_162 {X : x_Ctx} {M0 : Mem} (C : x_CC X 1 24 yX3_settle cX3_settle 4 (some .int) []) {k162 : Nat → Int → Int → Mem → Option (Int × Mem)} (hk162 : ∀ (v0 : Nat) (v1 : Int) (v2 : Int) (M : Mem) (r : Int) (M' : Mem), m_kd M v0 = 3 → k162 v0 v1 v2 M = some (r, M') → x_Z X 0 0 (x_QF X M0 (.returned (some (vI r))) M' 0 0) M0 M 4 [(0, .ref v0), (1, vI v1), (2, vI v2)] 162 []) (v0 : Nat) (v1 : Int) (v2 : Int) (M : Mem) (r : Int) (M' : Mem) (hv0 : m_kd M v0 = 3) (h : B_X3_settle_162 k162 v0 v1 v2 M = some (r, M'))  : x_Z X 0 0 (x_QF X M0 (.returned (some (vI r))) M' 0 0) M0 M 4 [(0, .ref v0), (1, vI v1), (2, vI v2)] 162 [] := by
  unfold B_X3_settle_162 at h
  refine z_iload_n (pc := 162) C 2 rfl dX3_settle_162 ?_
  refine z_aload_n (pc := 163) C 0 rfl dX3_settle_163 ?_
  obtain ⟨q12, e13, h⟩ := bRs h
  refine gX3_307 (pc := 164) C rfl (Or.inl hv0) e13 dX3_settle_164 (fun k14 => ?_)
  refine gX3_200 (pc := 167) C rfl (Or.inl k14) rfl dX3_settle_167 ?_
  refine z_ic_gt (pc := 170) C dX3_settle_170 (tgt := 191) (by decide) (fun c15 => ?_) (fun c15 => ?_)
  · have h := itt c15 h
    refine z_iload_n (pc := 191) C 1 rfl dX3_settle_191 ?_
    cases h
    exact z_iret (pc := 192) C rfl (show 0 ≤ 0 from by decide) (show 0 ≤ 0 from by decide) dX3_settle_192
  · have h := itf c15 h
    refine z_aload_n (pc := 173) C 0 rfl dX3_settle_173 ?_
    refine gX3_301 (pc := 174) C rfl hv0 dX3_settle_174 ?_
    refine z_aload_n (pc := 177) C 0 rfl dX3_settle_177 ?_
    refine gX3_306 (pc := 178) C rfl hv0 dX3_settle_178 ?_
    refine z_iload_n (pc := 181) C 1 rfl dX3_settle_181 ?_
    obtain ⟨c16, h⟩ := ifn h
    refine z_iaO (pc := 182) (k := 3) (j := 6) C 306 rfl (by decide) (by decide) (by decide) rfl rfl rfl rfl hv0 c16 rfl dX3_settle_182 ?_
    obtain ⟨c17, h⟩ := ifn h
    refine z_iaO (pc := 183) (k := 3) (j := 1) C 301 rfl (by decide) (by decide) (by decide) rfl rfl rfl rfl hv0 c17 rfl dX3_settle_183 ?_
    refine z_istore_n (pc := 184) C (lv' := [(0, .ref v0), (1, vI (m_i M 301 v0 (ixn (m_i M 306 v0 (ixn v1))))), (2, vI v2)]) (by decide) rfl dX3_settle_184 ?_
    refine z_iinc (pc := 185) C (lv' := [(0, .ref v0), (1, vI (m_i M 301 v0 (ixn (m_i M 306 v0 (ixn v1))))), (2, vI (v2 + 1))]) 2 rfl (by decide) rfl dX3_settle_185 ?_
    refine z_goto (pc := 188) C dX3_settle_188 (tgt := 162) (by decide) ?_
    exact hk162 v0 (m_i M 301 v0 (ixn (m_i M 306 v0 (ixn v1)))) (v2 + 1) M _ _ hv0 h
theorem cL_X3_settle_162 {X : x_Ctx} {M0 : Mem} (C : x_CC X 1 24 yX3_settle cX3_settle 4 (some .int) [])  : ∀ (n : Nat) (v0 : Nat) (v1 : Int) (v2 : Int) (M : Mem) (r : Int) (M' : Mem) (hv0 : m_kd M v0 = 3) (h : L_X3_settle_162  n v0 v1 v2 M = some (r, M')) , x_Z X 0 0 (x_QF X M0 (.returned (some (vI r))) M' 0 0) M0 M 4 [(0, .ref v0), (1, vI v1), (2, vI v2)] 162 [] := by
  intro n
  induction n with
  | zero => intro v0 v1 v2 M r M' hv0 h ; cases h
  | succ n ih => intro v0 v1 v2 M r M' hv0 h ; exact cB_X3_settle_162 C (fun v0 v1 v2 M r M' hv0 h  => ih v0 v1 v2 M r M' hv0 h ) v0 v1 v2 M r M' hv0 h 
theorem cB_X3_settle_49 {X : x_Ctx} {M0 : Mem} (C : x_CC X 1 24 yX3_settle cX3_settle 4 (some .int) []) {k32 : Nat → Int → Int → Mem → Option (Int × Mem)} (hk32 : ∀ (v0 : Nat) (v1 : Int) (v2 : Int) (M : Mem) (r : Int) (M' : Mem), m_kd M v0 = 3 → k32 v0 v1 v2 M = some (r, M') → x_Z X 0 0 (x_QF X M0 (.returned (some (vI r))) M' 0 0) M0 M 4 [(0, .ref v0), (1, vI v1), (2, vI v2)] 32 []) {k49 : Nat → Int → Int → Int → Mem → Option (Int × Mem)} (hk49 : ∀ (v0 : Nat) (v1 : Int) (v2 : Int) (v3 : Int) (M : Mem) (r : Int) (M' : Mem), m_kd M v0 = 3 → k49 v0 v1 v2 v3 M = some (r, M') → x_Z X 0 0 (x_QF X M0 (.returned (some (vI r))) M' 0 0) M0 M 4 [(0, .ref v0), (1, vI v1), (2, vI v2), (3, vI v3)] 49 []) (v0 : Nat) (v1 : Int) (v2 : Int) (v3 : Int) (M : Mem) (r : Int) (M' : Mem) (hv0 : m_kd M v0 = 3) (h : B_X3_settle_49 k32 k49 v0 v1 v2 v3 M = some (r, M'))  : x_Z X 0 0 (x_QF X M0 (.returned (some (vI r))) M' 0 0) M0 M 4 [(0, .ref v0), (1, vI v1), (2, vI v2), (3, vI v3)] 49 [] := by
  unfold B_X3_settle_49 at h
  refine z_iload_n (pc := 49) C 3 rfl dX3_settle_49 ?_
  refine z_aload_n (pc := 50) C 0 rfl dX3_settle_50 ?_
  refine gX3_304 (pc := 51) C rfl (Or.inl hv0) rfl dX3_settle_51 ?_
  refine z_ic_ge (pc := 54) C dX3_settle_54 (tgt := 147) (by decide) (fun c18 => ?_) (fun c18 => ?_)
  · have h := itt c18 h
    refine z_iload_n (pc := 147) C 1 rfl dX3_settle_147 ?_
    refine z_iconst (pc := 148) C dX3_settle_148 ?_
    refine z_ic_ne (pc := 149) C dX3_settle_149 (tgt := 154) (by decide) (fun c19 => ?_) (fun c19 => ?_)
    · have h := itf c19 h
      refine z_iinc (pc := 154) C (lv' := [(0, .ref v0), (1, vI v1), (2, vI (v2 + 1)), (3, vI v3)]) 2 rfl (by decide) rfl dX3_settle_154 ?_
      refine z_goto (pc := 157) C dX3_settle_157 (tgt := 32) (by decide) ?_
      exact z_lv [0, 1, 2] rfl <| hk32 v0 v1 (v2 + 1) M _ _ hv0 h
    · have h := itt c19 h
      refine z_iconst (pc := 152) C dX3_settle_152 ?_
      cases h
      exact z_iret (pc := 153) C rfl (show 0 ≤ 0 from by decide) (show 0 ≤ 0 from by decide) dX3_settle_153
  · have h := itf c18 h
    refine z_aload_n (pc := 57) C 0 rfl dX3_settle_57 ?_
    refine gX3_305 (pc := 58) C rfl hv0 dX3_settle_58 ?_
    refine z_aload_n (pc := 61) C 0 rfl dX3_settle_61 ?_
    refine gX3_301 (pc := 62) C rfl hv0 dX3_settle_62 ?_
    refine z_iload_n (pc := 65) C 3 rfl dX3_settle_65 ?_
    obtain ⟨c20, h⟩ := ifn h
    refine z_iaO (pc := 66) (k := 3) (j := 1) C 301 rfl (by decide) (by decide) (by decide) rfl rfl rfl rfl hv0 c20 rfl dX3_settle_66 ?_
    obtain ⟨c21, h⟩ := ifn h
    refine z_laO (pc := 67) (k := 3) (j := 5) C 305 rfl (by decide) (by decide) (by decide) rfl rfl rfl rfl hv0 c21 rfl dX3_settle_67 ?_
    refine z_aload_n (pc := 68) C 0 rfl dX3_settle_68 ?_
    refine gX3_302 (pc := 69) C rfl hv0 dX3_settle_69 ?_
    refine z_iload_n (pc := 72) C 3 rfl dX3_settle_72 ?_
    refine z_laO (pc := 73) (k := 3) (j := 2) C 302 rfl (by decide) (by decide) (by decide) rfl rfl rfl rfl hv0 c20 rfl dX3_settle_73 ?_
    refine z_ladd (pc := 74) C dX3_settle_74 ?_
    refine z_aload_n (pc := 75) C 0 rfl dX3_settle_75 ?_
    refine gX3_305 (pc := 76) C rfl hv0 dX3_settle_76 ?_
    refine z_aload_n (pc := 79) C 0 rfl dX3_settle_79 ?_
    refine gX3_300 (pc := 80) C rfl hv0 dX3_settle_80 ?_
    refine z_iload_n (pc := 83) C 3 rfl dX3_settle_83 ?_
    refine z_iaO (pc := 84) (k := 3) (j := 0) C 300 rfl (by decide) (by decide) (by decide) rfl rfl rfl rfl hv0 c20 rfl dX3_settle_84 ?_
    obtain ⟨c22, h⟩ := ifn h
    refine z_laO (pc := 85) (k := 3) (j := 5) C 305 rfl (by decide) (by decide) (by decide) rfl rfl rfl rfl hv0 c22 rfl dX3_settle_85 ?_
    refine z_lc_lt (pc := 86) C dX3_settle_86 dX3_settle_87 (tgt := 93) (by decide) (fun c23 => ?_) (fun c23 => ?_)
    · have h := itt c23 h
      refine z_aload_n (pc := 93) C 0 rfl dX3_settle_93 ?_
      refine gX3_305 (pc := 94) C rfl hv0 dX3_settle_94 ?_
      refine z_aload_n (pc := 97) C 0 rfl dX3_settle_97 ?_
      refine gX3_300 (pc := 98) C rfl hv0 dX3_settle_98 ?_
      refine z_iload_n (pc := 101) C 3 rfl dX3_settle_101 ?_
      refine z_iaO (pc := 102) (k := 3) (j := 0) C 300 rfl (by decide) (by decide) (by decide) rfl rfl rfl rfl hv0 c20 rfl dX3_settle_102 ?_
      refine z_aload_n (pc := 103) C 0 rfl dX3_settle_103 ?_
      refine gX3_305 (pc := 104) C rfl hv0 dX3_settle_104 ?_
      refine z_aload_n (pc := 107) C 0 rfl dX3_settle_107 ?_
      refine gX3_301 (pc := 108) C rfl hv0 dX3_settle_108 ?_
      refine z_iload_n (pc := 111) C 3 rfl dX3_settle_111 ?_
      refine z_iaO (pc := 112) (k := 3) (j := 1) C 301 rfl (by decide) (by decide) (by decide) rfl rfl rfl rfl hv0 c20 rfl dX3_settle_112 ?_
      refine z_laO (pc := 113) (k := 3) (j := 5) C 305 rfl (by decide) (by decide) (by decide) rfl rfl rfl rfl hv0 c21 rfl dX3_settle_113 ?_
      refine z_aload_n (pc := 114) C 0 rfl dX3_settle_114 ?_
      refine gX3_302 (pc := 115) C rfl hv0 dX3_settle_115 ?_
      refine z_iload_n (pc := 118) C 3 rfl dX3_settle_118 ?_
      refine z_laO (pc := 119) (k := 3) (j := 2) C 302 rfl (by decide) (by decide) (by decide) rfl rfl rfl rfl hv0 c20 rfl dX3_settle_119 ?_
      refine z_ladd (pc := 120) C dX3_settle_120 ?_
      refine z_lsO (pc := 121) (k := 3) (j := 5) C 305 rfl (by decide) (by decide) (by decide) rfl rfl rfl rfl hv0 c22 dX3_settle_121 ?_
      refine z_aload_n (pc := 122) C 0 rfl dX3_settle_122 ?_
      refine gX3_306 (pc := 123) C rfl hv0 dX3_settle_123 ?_
      refine z_aload_n (pc := 126) C 0 rfl dX3_settle_126 ?_
      refine gX3_300 (pc := 127) C rfl hv0 dX3_settle_127 ?_
      refine z_iload_n (pc := 130) C 3 rfl dX3_settle_130 ?_
      refine z_iaO (pc := 131) (k := 3) (j := 0) C 300 rfl (by decide) (by decide) (by decide) rfl rfl rfl rfl hv0 c20 (x := m_i M 300 v0 (ixn v3)) ((m_i_ne (by decide)).trans rfl) dX3_settle_131 ?_
      refine z_iload_n (pc := 132) C 3 rfl dX3_settle_132 ?_
      refine z_isO (pc := 133) (k := 3) (j := 6) C 306 rfl (by decide) (by decide) (by decide) rfl rfl rfl rfl hv0 c22 dX3_settle_133 ?_
      refine z_aload_n (pc := 134) C 0 rfl dX3_settle_134 ?_
      refine gX3_300 (pc := 135) C rfl hv0 dX3_settle_135 ?_
      refine z_iload_n (pc := 138) C 3 rfl dX3_settle_138 ?_
      refine z_iaO (pc := 139) (k := 3) (j := 0) C 300 rfl (by decide) (by decide) (by decide) rfl rfl rfl rfl hv0 c20 (x := m_i M 300 v0 (ixn v3)) ((m_i_ne (by decide)).trans ((m_i_ne (by decide)).trans rfl)) dX3_settle_139 ?_
      refine z_istore_n (pc := 140) C (lv' := [(0, .ref v0), (1, vI (m_i M 300 v0 (ixn v3))), (2, vI v2), (3, vI v3)]) (by decide) rfl dX3_settle_140 ?_
      refine z_iinc (pc := 141) C (lv' := [(0, .ref v0), (1, vI (m_i M 300 v0 (ixn v3))), (2, vI v2), (3, vI (v3 + 1))]) 3 rfl (by decide) rfl dX3_settle_141 ?_
      refine z_goto (pc := 144) C dX3_settle_144 (tgt := 49) (by decide) ?_
      exact hk49 v0 (m_i M 300 v0 (ixn v3)) v2 (v3 + 1) (m_si (m_si M 305 v0 (ixn (m_i M 300 v0 (ixn v3))) ((m_i M 305 v0 (ixn (m_i M 301 v0 (ixn v3)))) + (m_i M 302 v0 (ixn v3)))) 306 v0 (ixn (m_i M 300 v0 (ixn v3))) v3) _ _ hv0 h
    · have h := itf c23 h
      refine z_goto (pc := 90) C dX3_settle_90 (tgt := 141) (by decide) ?_
      refine z_iinc (pc := 141) C (lv' := [(0, .ref v0), (1, vI v1), (2, vI v2), (3, vI (v3 + 1))]) 3 rfl (by decide) rfl dX3_settle_141 ?_
      refine z_goto (pc := 144) C dX3_settle_144 (tgt := 49) (by decide) ?_
      exact hk49 v0 v1 v2 (v3 + 1) M _ _ hv0 h
theorem cL_X3_settle_49 {X : x_Ctx} {M0 : Mem} (C : x_CC X 1 24 yX3_settle cX3_settle 4 (some .int) []) {k32 : Nat → Int → Int → Mem → Option (Int × Mem)} (hk32 : ∀ (v0 : Nat) (v1 : Int) (v2 : Int) (M : Mem) (r : Int) (M' : Mem), m_kd M v0 = 3 → k32 v0 v1 v2 M = some (r, M') → x_Z X 0 0 (x_QF X M0 (.returned (some (vI r))) M' 0 0) M0 M 4 [(0, .ref v0), (1, vI v1), (2, vI v2)] 32 []) : ∀ (n : Nat) (v0 : Nat) (v1 : Int) (v2 : Int) (v3 : Int) (M : Mem) (r : Int) (M' : Mem) (hv0 : m_kd M v0 = 3) (h : L_X3_settle_49 k32 n v0 v1 v2 v3 M = some (r, M')) , x_Z X 0 0 (x_QF X M0 (.returned (some (vI r))) M' 0 0) M0 M 4 [(0, .ref v0), (1, vI v1), (2, vI v2), (3, vI v3)] 49 [] := by
  intro n
  induction n with
  | zero => intro v0 v1 v2 v3 M r M' hv0 h ; cases h
  | succ n ih => intro v0 v1 v2 v3 M r M' hv0 h ; exact cB_X3_settle_49 C hk32 (fun v0 v1 v2 v3 M r M' hv0 h  => ih v0 v1 v2 v3 M r M' hv0 h ) v0 v1 v2 v3 M r M' hv0 h 
theorem cB_X3_settle_32 {X : x_Ctx} {M0 : Mem} (C : x_CC X 1 24 yX3_settle cX3_settle 4 (some .int) []) {k32 : Nat → Int → Int → Mem → Option (Int × Mem)} (hk32 : ∀ (v0 : Nat) (v1 : Int) (v2 : Int) (M : Mem) (r : Int) (M' : Mem), m_kd M v0 = 3 → k32 v0 v1 v2 M = some (r, M') → x_Z X 0 0 (x_QF X M0 (.returned (some (vI r))) M' 0 0) M0 M 4 [(0, .ref v0), (1, vI v1), (2, vI v2)] 32 []) (v0 : Nat) (v1 : Int) (v2 : Int) (M : Mem) (r : Int) (M' : Mem) (hv0 : m_kd M v0 = 3) (h : B_X3_settle_32 k32 v0 v1 v2 M = some (r, M'))  : x_Z X 0 0 (x_QF X M0 (.returned (some (vI r))) M' 0 0) M0 M 4 [(0, .ref v0), (1, vI v1), (2, vI v2)] 32 [] := by
  unfold B_X3_settle_32 at h
  refine z_iload_n (pc := 32) C 2 rfl dX3_settle_32 ?_
  refine z_aload_n (pc := 33) C 0 rfl dX3_settle_33 ?_
  obtain ⟨q8, e9, h⟩ := bRs h
  refine gX3_307 (pc := 34) C rfl (Or.inl hv0) e9 dX3_settle_34 (fun k10 => ?_)
  refine gX3_200 (pc := 37) C rfl (Or.inl k10) rfl dX3_settle_37 ?_
  refine z_iconst (pc := 40) C dX3_settle_40 ?_
  refine z_iadd (pc := 41) C dX3_settle_41 ?_
  refine z_ic_gt (pc := 42) C dX3_settle_42 (tgt := 160) (by decide) (fun c11 => ?_) (fun c11 => ?_)
  · have h := itt c11 h
    refine z_iconst (pc := 160) C dX3_settle_160 ?_
    refine z_istore_n (pc := 161) C (lv' := [(0, .ref v0), (1, vI v1), (2, vI 0)]) (by decide) rfl dX3_settle_161 ?_
    exact cL_X3_settle_162 C FU v0 v1 0 M _ _ hv0 h
  · have h := itf c11 h
    refine z_iconst (pc := 45) C dX3_settle_45 ?_
    refine z_istore_n (pc := 46) C (lv' := [(0, .ref v0), (1, vI (-1)), (2, vI v2)]) (by decide) rfl dX3_settle_46 ?_
    refine z_iconst (pc := 47) C dX3_settle_47 ?_
    refine z_istore_n (pc := 48) C (lv' := [(0, .ref v0), (1, vI (-1)), (2, vI v2), (3, vI 0)]) (by decide) rfl dX3_settle_48 ?_
    exact cL_X3_settle_49 C hk32 FU v0 (-1) v2 0 M _ _ hv0 h
theorem cL_X3_settle_32 {X : x_Ctx} {M0 : Mem} (C : x_CC X 1 24 yX3_settle cX3_settle 4 (some .int) [])  : ∀ (n : Nat) (v0 : Nat) (v1 : Int) (v2 : Int) (M : Mem) (r : Int) (M' : Mem) (hv0 : m_kd M v0 = 3) (h : L_X3_settle_32  n v0 v1 v2 M = some (r, M')) , x_Z X 0 0 (x_QF X M0 (.returned (some (vI r))) M' 0 0) M0 M 4 [(0, .ref v0), (1, vI v1), (2, vI v2)] 32 [] := by
  intro n
  induction n with
  | zero => intro v0 v1 v2 M r M' hv0 h ; cases h
  | succ n ih => intro v0 v1 v2 M r M' hv0 h ; exact cB_X3_settle_32 C (fun v0 v1 v2 M r M' hv0 h  => ih v0 v1 v2 M r M' hv0 h ) v0 v1 v2 M r M' hv0 h 
theorem cB_X3_settle_2 {X : x_Ctx} {M0 : Mem} (C : x_CC X 1 24 yX3_settle cX3_settle 4 (some .int) []) {k2 : Nat → Int → Mem → Option (Int × Mem)} (hk2 : ∀ (v0 : Nat) (v1 : Int) (M : Mem) (r : Int) (M' : Mem), m_kd M v0 = 3 → k2 v0 v1 M = some (r, M') → x_Z X 0 0 (x_QF X M0 (.returned (some (vI r))) M' 0 0) M0 M 4 [(0, .ref v0), (1, vI v1)] 2 []) (v0 : Nat) (v1 : Int) (M : Mem) (r : Int) (M' : Mem) (hv0 : m_kd M v0 = 3) (h : B_X3_settle_2 k2 v0 v1 M = some (r, M'))  : x_Z X 0 0 (x_QF X M0 (.returned (some (vI r))) M' 0 0) M0 M 4 [(0, .ref v0), (1, vI v1)] 2 [] := by
  unfold B_X3_settle_2 at h
  refine z_iload_n (pc := 2) C 1 rfl dX3_settle_2 ?_
  refine z_bipush (pc := 3) C (by decide +kernel) dX3_settle_3 ?_
  refine z_ic_gt (pc := 5) C dX3_settle_5 (tgt := 28) (by decide) (fun c7 => ?_) (fun c7 => ?_)
  · have h := itt c7 h
    refine z_iconst (pc := 28) C dX3_settle_28 ?_
    refine z_istore_n (pc := 29) C (lv' := [(0, .ref v0), (1, vI (-1))]) (by decide) rfl dX3_settle_29 ?_
    refine z_iconst (pc := 30) C dX3_settle_30 ?_
    refine z_istore_n (pc := 31) C (lv' := [(0, .ref v0), (1, vI (-1)), (2, vI 0)]) (by decide) rfl dX3_settle_31 ?_
    exact cL_X3_settle_32 C FU v0 (-1) 0 M _ _ hv0 h
  · have h := itf c7 h
    refine z_aload_n (pc := 8) C 0 rfl dX3_settle_8 ?_
    refine gX3_305 (pc := 9) C rfl hv0 dX3_settle_9 ?_
    refine z_iload_n (pc := 12) C 1 rfl dX3_settle_12 ?_
    refine z_lconst (pc := 13) C (x := 0) (by decide +kernel) dX3_settle_13 ?_
    obtain ⟨c24, h⟩ := ifn h
    refine z_lsO (pc := 14) (k := 3) (j := 5) C 305 rfl (by decide) (by decide) (by decide) rfl rfl rfl rfl hv0 c24 dX3_settle_14 ?_
    refine z_aload_n (pc := 15) C 0 rfl dX3_settle_15 ?_
    refine gX3_306 (pc := 16) C rfl hv0 dX3_settle_16 ?_
    refine z_iload_n (pc := 19) C 1 rfl dX3_settle_19 ?_
    refine z_iconst (pc := 20) C dX3_settle_20 ?_
    refine z_isO (pc := 21) (k := 3) (j := 6) C 306 rfl (by decide) (by decide) (by decide) rfl rfl rfl rfl hv0 c24 dX3_settle_21 ?_
    refine z_iinc (pc := 22) C (lv' := [(0, .ref v0), (1, vI (v1 + 1))]) 1 rfl (by decide) rfl dX3_settle_22 ?_
    refine z_goto (pc := 25) C dX3_settle_25 (tgt := 2) (by decide) ?_
    exact hk2 v0 (v1 + 1) (m_si (m_si M 305 v0 (ixn v1) 0) 306 v0 (ixn v1) (-1)) _ _ hv0 h
theorem cL_X3_settle_2 {X : x_Ctx} {M0 : Mem} (C : x_CC X 1 24 yX3_settle cX3_settle 4 (some .int) [])  : ∀ (n : Nat) (v0 : Nat) (v1 : Int) (M : Mem) (r : Int) (M' : Mem) (hv0 : m_kd M v0 = 3) (h : L_X3_settle_2  n v0 v1 M = some (r, M')) , x_Z X 0 0 (x_QF X M0 (.returned (some (vI r))) M' 0 0) M0 M 4 [(0, .ref v0), (1, vI v1)] 2 [] := by
  intro n
  induction n with
  | zero => intro v0 v1 M r M' hv0 h ; cases h
  | succ n ih => intro v0 v1 M r M' hv0 h ; exact cB_X3_settle_2 C (fun v0 v1 M r M' hv0 h  => ih v0 v1 M r M' hv0 h ) v0 v1 M r M' hv0 h 
theorem ct_X3_settle {l : Launch} {S0 : State} {D : va_G} {cA : Nat → ClassId} (hG : x_G l S0 D cA) (v0 : Nat) (M : Mem) (r : Int) (M' : Mem) (hv0 : m_kd M v0 = 3) (h : d_X3_settle v0 M = some (r, M')) : x_Me l S0 D cA yX3_settle cX3_settle 4 (some .int) [] ({ frames := 1, cells := 0, slots := 0, locals := 24 }) [.ref v0] M (.returned (some (vI r))) M' := by
  refine x_begin (F := 1) (Lo := 24) (mc := 0) (ms := 0) hG (Nat.le_of_ble_eq_true rfl) (lv := [(0, .ref v0)]) rfl rfl rfl rfl rfl (fun X e1 e2 e3 e4 e5 C => ?_)
  unfold d_X3_settle at h
  refine z_iconst (pc := 0) C dX3_settle_0 ?_
  refine z_istore_n (pc := 1) C (lv' := [(0, .ref v0), (1, vI 0)]) (by decide) rfl dX3_settle_1 ?_
  exact cL_X3_settle_2 C FU v0 0 M _ _ hv0 h
def B_X3_ring_35 (k4 : Nat → Int → Int → Int → Mem → Option Int) (v0 : Nat) (v1 : Int) (v2 : Int) (v4 : Int) (M : Mem) : Option Int :=
  if inb v4 56 then 
  if w32 (m_i M 301 v0 (ixn v4)) = w32 v1 then
    some v2
  else
    k4 v0 v1 v2 (m_i M 301 v0 (ixn v4)) M else none
def B_X3_ring_4 (k4 : Nat → Int → Int → Int → Mem → Option Int) (v0 : Nat) (v1 : Int) (v2 : Int) (v3 : Int) (M : Mem) : Option Int :=
  if inb v3 21 then 
  if inb (m_i M 306 v0 (ixn v3)) 56 then 
  if w32 (m_i M 303 v0 (ixn (m_i M 306 v0 (ixn v3)))) = w32 (-1) then
    B_X3_ring_35 k4 v0 v1 v2 (m_i M 306 v0 (ixn v3)) M
  else
    B_X3_ring_35 k4 v0 v1 (o32 v2 (l32 1 (m_i M 303 v0 (ixn (m_i M 306 v0 (ixn v3)))))) (m_i M 306 v0 (ixn v3)) M else none else none
def L_X3_ring_4  : Nat → Nat → Int → Int → Int → Mem → Option Int
  | 0, _, _, _, _, _ => none
  | n + 1, v0, v1, v2, v3, M => B_X3_ring_4 (L_X3_ring_4  n) v0 v1 v2 v3 M
def d_X3_ring (v0 : Nat) (v1 : Int) (M : Mem) : Option Int :=
  L_X3_ring_4 FU v0 v1 0 v1 M
theorem cB_X3_ring_35 {X : x_Ctx} {M0 : Mem} (C : x_CC X 1 24 yX3_ring cX3_ring 5 (some .int) []) {k4 : Nat → Int → Int → Int → Mem → Option Int} (hk4 : ∀ (v0 : Nat) (v1 : Int) (v2 : Int) (v3 : Int) (M : Mem) (r : Int), m_kd M v0 = 3 → k4 v0 v1 v2 v3 M = some r → x_Z X 0 0 (x_QF X M0 (.returned (some (vI r))) M 0 0) M0 M 5 [(0, .ref v0), (1, vI v1), (2, vI v2), (3, vI v3)] 4 []) (v0 : Nat) (v1 : Int) (v2 : Int) (v4 : Int) (M : Mem) (r : Int) (hv0 : m_kd M v0 = 3) (h : B_X3_ring_35 k4 v0 v1 v2 v4 M = some r)  : x_Z X 0 0 (x_QF X M0 (.returned (some (vI r))) M 0 0) M0 M 5 [(0, .ref v0), (1, vI v1), (2, vI v2), (4, vI v4)] 35 [] := by
  unfold B_X3_ring_35 at h
  refine z_aload_n (pc := 35) C 0 rfl dX3_ring_35 ?_
  refine gX3_301 (pc := 36) C rfl hv0 dX3_ring_36 ?_
  refine z_iload (pc := 39) C 3 rfl dX3_ring_39 ?_
  obtain ⟨c4, h⟩ := ifn h
  refine z_iaO (pc := 41) (k := 3) (j := 1) C 301 rfl (by decide) (by decide) (by decide) rfl rfl rfl rfl hv0 c4 rfl dX3_ring_41 ?_
  refine z_istore_n (pc := 42) C (lv' := [(0, .ref v0), (1, vI v1), (2, vI v2), (3, vI (m_i M 301 v0 (ixn v4))), (4, vI v4)]) (by decide) rfl dX3_ring_42 ?_
  refine z_iload_n (pc := 43) C 3 rfl dX3_ring_43 ?_
  refine z_iload_n (pc := 44) C 1 rfl dX3_ring_44 ?_
  refine z_ic_ne (pc := 45) C dX3_ring_45 (tgt := 4) (by decide) (fun c5 => ?_) (fun c5 => ?_)
  · have h := itf c5 h
    exact z_lv [0, 1, 2, 3] rfl <| hk4 v0 v1 v2 (m_i M 301 v0 (ixn v4)) M _ hv0 h
  · have h := itt c5 h
    refine z_iload_n (pc := 48) C 2 rfl dX3_ring_48 ?_
    cases h
    exact z_iret (pc := 49) C rfl (show 0 ≤ 0 from by decide) (show 0 ≤ 0 from by decide) dX3_ring_49
theorem cB_X3_ring_4 {X : x_Ctx} {M0 : Mem} (C : x_CC X 1 24 yX3_ring cX3_ring 5 (some .int) []) {k4 : Nat → Int → Int → Int → Mem → Option Int} (hk4 : ∀ (v0 : Nat) (v1 : Int) (v2 : Int) (v3 : Int) (M : Mem) (r : Int), m_kd M v0 = 3 → k4 v0 v1 v2 v3 M = some r → x_Z X 0 0 (x_QF X M0 (.returned (some (vI r))) M 0 0) M0 M 5 [(0, .ref v0), (1, vI v1), (2, vI v2), (3, vI v3)] 4 []) (v0 : Nat) (v1 : Int) (v2 : Int) (v3 : Int) (M : Mem) (r : Int) (hv0 : m_kd M v0 = 3) (h : B_X3_ring_4 k4 v0 v1 v2 v3 M = some r)  : x_Z X 0 0 (x_QF X M0 (.returned (some (vI r))) M 0 0) M0 M 5 [(0, .ref v0), (1, vI v1), (2, vI v2), (3, vI v3)] 4 [] := by
  unfold B_X3_ring_4 at h
  refine z_aload_n (pc := 4) C 0 rfl dX3_ring_4 ?_
  refine gX3_306 (pc := 5) C rfl hv0 dX3_ring_5 ?_
  refine z_iload_n (pc := 8) C 3 rfl dX3_ring_8 ?_
  obtain ⟨c1, h⟩ := ifn h
  refine z_iaO (pc := 9) (k := 3) (j := 6) C 306 rfl (by decide) (by decide) (by decide) rfl rfl rfl rfl hv0 c1 rfl dX3_ring_9 ?_
  refine z_istore (pc := 10) C (lv' := [(0, .ref v0), (1, vI v1), (2, vI v2), (3, vI v3), (4, vI (m_i M 306 v0 (ixn v3)))]) (by decide) rfl dX3_ring_10 ?_
  refine z_aload_n (pc := 12) C 0 rfl dX3_ring_12 ?_
  refine gX3_303 (pc := 13) C rfl hv0 dX3_ring_13 ?_
  refine z_iload (pc := 16) C 4 rfl dX3_ring_16 ?_
  obtain ⟨c2, h⟩ := ifn h
  refine z_iaO (pc := 18) (k := 3) (j := 3) C 303 rfl (by decide) (by decide) (by decide) rfl rfl rfl rfl hv0 c2 rfl dX3_ring_18 ?_
  refine z_iconst (pc := 19) C dX3_ring_19 ?_
  refine z_ic_eq (pc := 20) C dX3_ring_20 (tgt := 35) (by decide) (fun c3 => ?_) (fun c3 => ?_)
  · have h := itt c3 h
    exact z_lv [0, 1, 2, 4] rfl <| cB_X3_ring_35 C hk4 v0 v1 v2 (m_i M 306 v0 (ixn v3)) M _ hv0 h
  · have h := itf c3 h
    refine z_iload_n (pc := 23) C 2 rfl dX3_ring_23 ?_
    refine z_iconst (pc := 24) C dX3_ring_24 ?_
    refine z_aload_n (pc := 25) C 0 rfl dX3_ring_25 ?_
    refine gX3_303 (pc := 26) C rfl hv0 dX3_ring_26 ?_
    refine z_iload (pc := 29) C 4 rfl dX3_ring_29 ?_
    refine z_iaO (pc := 31) (k := 3) (j := 3) C 303 rfl (by decide) (by decide) (by decide) rfl rfl rfl rfl hv0 c2 rfl dX3_ring_31 ?_
    refine z_ishl (pc := 32) C dX3_ring_32 ?_
    refine z_ior (pc := 33) C dX3_ring_33 ?_
    refine z_istore_n (pc := 34) C (lv' := [(0, .ref v0), (1, vI v1), (2, vI (o32 v2 (l32 1 (m_i M 303 v0 (ixn (m_i M 306 v0 (ixn v3))))))), (3, vI v3), (4, vI (m_i M 306 v0 (ixn v3)))]) (by decide) rfl dX3_ring_34 ?_
    exact z_lv [0, 1, 2, 4] rfl <| cB_X3_ring_35 C hk4 v0 v1 (o32 v2 (l32 1 (m_i M 303 v0 (ixn (m_i M 306 v0 (ixn v3)))))) (m_i M 306 v0 (ixn v3)) M _ hv0 h
theorem cL_X3_ring_4 {X : x_Ctx} {M0 : Mem} (C : x_CC X 1 24 yX3_ring cX3_ring 5 (some .int) [])  : ∀ (n : Nat) (v0 : Nat) (v1 : Int) (v2 : Int) (v3 : Int) (M : Mem) (r : Int) (hv0 : m_kd M v0 = 3) (h : L_X3_ring_4  n v0 v1 v2 v3 M = some r) , x_Z X 0 0 (x_QF X M0 (.returned (some (vI r))) M 0 0) M0 M 5 [(0, .ref v0), (1, vI v1), (2, vI v2), (3, vI v3)] 4 [] := by
  intro n
  induction n with
  | zero => intro v0 v1 v2 v3 M r hv0 h ; cases h
  | succ n ih => intro v0 v1 v2 v3 M r hv0 h ; exact cB_X3_ring_4 C (fun v0 v1 v2 v3 M r hv0 h  => ih v0 v1 v2 v3 M r hv0 h ) v0 v1 v2 v3 M r hv0 h 
theorem ct_X3_ring {l : Launch} {S0 : State} {D : va_G} {cA : Nat → ClassId} (hG : x_G l S0 D cA) (v0 : Nat) (v1 : Int) (M : Mem) (r : Int) (hv0 : m_kd M v0 = 3) (h : d_X3_ring v0 v1 M = some r) : x_Me l S0 D cA yX3_ring cX3_ring 5 (some .int) [] ({ frames := 1, cells := 0, slots := 0, locals := 24 }) [.ref v0, vI v1] M (.returned (some (vI r))) M := by
  refine x_begin (F := 1) (Lo := 24) (mc := 0) (ms := 0) hG (Nat.le_of_ble_eq_true rfl) (lv := [(0, .ref v0), (1, vI v1)]) rfl rfl rfl rfl rfl (fun X e1 e2 e3 e4 e5 C => ?_)
  unfold d_X3_ring at h
  refine z_iconst (pc := 0) C dX3_ring_0 ?_
  refine z_istore_n (pc := 1) C (lv' := [(0, .ref v0), (1, vI v1), (2, vI 0)]) (by decide) rfl dX3_ring_1 ?_
  refine z_iload_n (pc := 2) C 1 rfl dX3_ring_2 ?_
  refine z_istore_n (pc := 3) C (lv' := [(0, .ref v0), (1, vI v1), (2, vI 0), (3, vI v1)]) (by decide) rfl dX3_ring_3 ?_
  exact cL_X3_ring_4 C FU v0 v1 0 v1 M _ hv0 h
def B_X3_search_71 (rec : Nat → Int → Int → Int → Mem → Option (Int × Mem)) (k71 : Nat → Int → Int → Int → Int → Int → Mem → Option (Int × Mem)) (v0 : Nat) (v1 : Int) (v3 : Int) (v5 : Int) (v6 : Int) (v7 : Int) (M : Mem) : Option (Int × Mem) :=
  bR (m_r M 307 v0 0) fun q21 => 
  if w32 (m_i M 200 q21 0) ≤ w32 v7 then
    some (0, M)
  else
    if w32 (a32 (s32 v5 v7) 1) = 0 then
      k71 v0 v1 v3 v5 v6 (v7 + 1) M
    else
      bR (m_r M 307 v0 0) fun q26 => 
      if inb v7 20 then 
      bN (rec v0 (o32 v1 (l32 1 v7)) v6 (v3 + (m_i M 205 q26 (ixn v7))) M) fun r30 M31 => 
      k71 v0 v1 v3 v5 (o32 v6 (l32 1 v7)) (v7 + 1) M31 else none
def L_X3_search_71 (rec : Nat → Int → Int → Int → Mem → Option (Int × Mem))  : Nat → Nat → Int → Int → Int → Int → Int → Mem → Option (Int × Mem)
  | 0, _, _, _, _, _, _, _ => none
  | n + 1, v0, v1, v3, v5, v6, v7, M => B_X3_search_71 rec (L_X3_search_71 rec  n) v0 v1 v3 v5 v6 v7 M
def b_X3_search (rec : Nat → Int → Int → Int → Mem → Option (Int × Mem))  (v0 : Nat) (v1 : Int) (v2 : Int) (v3 : Int) (M : Mem) : Option (Int × Mem) :=
  if w32 v3 ≤ w32 (m_i M 309 v0 0) then
    bN (d_X3_lay v0 v1 M) fun r8 M9 => 
    bN (d_X3_settle v0 M9) fun r13 M14 => 
    if w32 r13 = w32 (-1) then
      if w32 v3 < w32 (m_i M14 309 v0 0) then
        some (0, (m_si (m_si M14 309 v0 0 v3) 310 v0 0 v1))
      else
        if w32 (m_i M14 310 v0 0) ≤ w32 v1 then
          some (0, M14)
        else
          some (0, (m_si (m_si M14 309 v0 0 v3) 310 v0 0 v1))
    else
      bR (d_X3_ring v0 r13 M14) fun r19 => 
      L_X3_search_71 rec FU v0 v1 v3 (a32 r19 (e32 v2 (-1))) v2 0 M14
  else
    some (0, M)
def d_X3_search : Nat → Nat → Int → Int → Int → Mem → Option (Int × Mem)
  | 0, _, _, _, _, _ => none
  | n + 1, v0, v1, v2, v3, M => b_X3_search (d_X3_search n) v0 v1 v2 v3 M
theorem cB_X3_search_71 {X : x_Ctx} {M0 : Mem} {dn : Nat} (C : x_CC X (3 + (dn + 1)) (81 + 31 * (dn + 1)) yX3_search cX3_search 8 none []) {rec : Nat → Int → Int → Int → Mem → Option (Int × Mem)} (hrec : ∀ (a0 : Nat) (a1 : Int) (a2 : Int) (a3 : Int) (M : Mem) (r : Int) (M' : Mem), m_kd M a0 = 3 → rec a0 a1 a2 a3 M = some (r, M') → x_Me (Xl X) (XS X) (XD X) (XA X) yX3_search cX3_search 8 none [] { frames := 3 + dn, cells := 0, slots := 0, locals := 81 + 31 * dn } [.ref a0, vI a1, vI a2, vI a3] M (.returned none) M') {k71 : Nat → Int → Int → Int → Int → Int → Mem → Option (Int × Mem)} (hk71 : ∀ (v0 : Nat) (v1 : Int) (v3 : Int) (v5 : Int) (v6 : Int) (v7 : Int) (M : Mem) (r : Int) (M' : Mem), m_kd M v0 = 3 → k71 v0 v1 v3 v5 v6 v7 M = some (r, M') → x_Z X 0 0 (x_QF X M0 (.returned none) M' 0 0) M0 M 8 [(0, .ref v0), (1, vI v1), (3, vI v3), (5, vI v5), (6, vI v6), (7, vI v7)] 71 []) (v0 : Nat) (v1 : Int) (v3 : Int) (v5 : Int) (v6 : Int) (v7 : Int) (M : Mem) (r : Int) (M' : Mem) (hv0 : m_kd M v0 = 3) (h : B_X3_search_71 rec k71 v0 v1 v3 v5 v6 v7 M = some (r, M'))  : x_Z X 0 0 (x_QF X M0 (.returned none) M' 0 0) M0 M 8 [(0, .ref v0), (1, vI v1), (3, vI v3), (5, vI v5), (6, vI v6), (7, vI v7)] 71 [] := by
  unfold B_X3_search_71 at h
  refine z_iload (pc := 71) C 5 rfl dX3_search_71 ?_
  refine z_aload_n (pc := 73) C 0 rfl dX3_search_73 ?_
  obtain ⟨q21, e22, h⟩ := bRs h
  refine gX3_307 (pc := 74) C rfl (Or.inl hv0) e22 dX3_search_74 (fun k23 => ?_)
  refine gX3_200 (pc := 77) C rfl (Or.inl k23) rfl dX3_search_77 ?_
  refine z_ic_ge (pc := 80) C dX3_search_80 (tgt := 135) (by decide) (fun c24 => ?_) (fun c24 => ?_)
  · have h := itt c24 h
    cases h
    exact z_vret (pc := 135) C rfl (show 0 ≤ 0 from by decide) (show 0 ≤ 0 from by decide) dX3_search_135
  · have h := itf c24 h
    refine z_iload (pc := 83) C 3 rfl dX3_search_83 ?_
    refine z_iload (pc := 85) C 5 rfl dX3_search_85 ?_
    refine z_ishr (pc := 87) C dX3_search_87 ?_
    refine z_iconst (pc := 88) C dX3_search_88 ?_
    refine z_iand (pc := 89) C dX3_search_89 ?_
    refine z_if_ne (pc := 90) C dX3_search_90 (tgt := 96) (by decide) (fun c25 => ?_) (fun c25 => ?_)
    · have h := itf c25 h
      refine z_aload_n (pc := 96) C 0 rfl dX3_search_96 ?_
      refine z_iload_n (pc := 97) C 1 rfl dX3_search_97 ?_
      refine z_iconst (pc := 98) C dX3_search_98 ?_
      refine z_iload (pc := 99) C 5 rfl dX3_search_99 ?_
      refine z_ishl (pc := 101) C dX3_search_101 ?_
      refine z_ior (pc := 102) C dX3_search_102 ?_
      refine z_iload (pc := 103) C 4 rfl dX3_search_103 ?_
      refine z_iload_n (pc := 105) C 2 rfl dX3_search_105 ?_
      refine z_aload_n (pc := 106) C 0 rfl dX3_search_106 ?_
      obtain ⟨q26, e27, h⟩ := bRs h
      refine gX3_307 (pc := 107) C rfl (Or.inl hv0) e27 dX3_search_107 (fun k28 => ?_)
      refine gX3_205 (pc := 110) C rfl k28 dX3_search_110 ?_
      refine z_iload (pc := 113) C 5 rfl dX3_search_113 ?_
      obtain ⟨c29, h⟩ := ifn h
      refine z_iaO (pc := 115) (k := 2) (j := 5) C 205 rfl (by decide) (by decide) (by decide) rfl rfl rfl rfl k28 c29 rfl dX3_search_115 ?_
      refine z_iadd (pc := 116) C dX3_search_116 ?_
      obtain ⟨r30, M31, e32, h⟩ := bNs h
      refine cX3_99 (pc := 117) (st := []) (st1 := []) C rfl (rm := { frames := 3 + dn, cells := 0, slots := 0, locals := 81 + 31 * dn }) (hrec v0 (o32 v1 (l32 1 v7)) v6 (v3 + (m_i M 205 q26 (ixn v7))) M _ _ hv0 e32) ⟨show 3 + dn + 1 ≤ (3 + (dn + 1)) from by omega, show 12 + (8 + 11) + (81 + 31 * dn) ≤ (81 + 31 * (dn + 1)) from by omega, Nat.zero_le _, Nat.zero_le _⟩ (Or.inl hv0) rfl (Nat.le_of_ble_eq_true rfl) dX3_search_117 (c2 := 0) (s2 := 0) rfl rfl (fun x33 => ?_)
      have k34 := x33 _ 3 (by decide) (Or.inl (by decide)) hv0
      refine z_iload (pc := 120) C 4 rfl dX3_search_120 ?_
      refine z_iconst (pc := 122) C dX3_search_122 ?_
      refine z_iload (pc := 123) C 5 rfl dX3_search_123 ?_
      refine z_ishl (pc := 125) C dX3_search_125 ?_
      refine z_ior (pc := 126) C dX3_search_126 ?_
      refine z_istore (pc := 127) C (lv' := [(0, .ref v0), (1, vI v1), (3, vI v3), (5, vI v5), (6, vI (o32 v6 (l32 1 v7))), (7, vI v7)]) (by decide) rfl dX3_search_127 ?_
      refine z_iinc (pc := 129) C (lv' := [(0, .ref v0), (1, vI v1), (3, vI v3), (5, vI v5), (6, vI (o32 v6 (l32 1 v7))), (7, vI (v7 + 1))]) 5 rfl (by decide) rfl dX3_search_129 ?_
      refine z_goto (pc := 132) C dX3_search_132 (tgt := 71) (by decide) ?_
      exact hk71 v0 v1 v3 v5 (o32 v6 (l32 1 v7)) (v7 + 1) M31 _ _ k34 h
    · have h := itt c25 h
      refine z_goto (pc := 93) C dX3_search_93 (tgt := 129) (by decide) ?_
      refine z_iinc (pc := 129) C (lv' := [(0, .ref v0), (1, vI v1), (3, vI v3), (5, vI v5), (6, vI v6), (7, vI (v7 + 1))]) 5 rfl (by decide) rfl dX3_search_129 ?_
      refine z_goto (pc := 132) C dX3_search_132 (tgt := 71) (by decide) ?_
      exact hk71 v0 v1 v3 v5 v6 (v7 + 1) M _ _ hv0 h
theorem cL_X3_search_71 {X : x_Ctx} {M0 : Mem} {dn : Nat} (C : x_CC X (3 + (dn + 1)) (81 + 31 * (dn + 1)) yX3_search cX3_search 8 none []) {rec : Nat → Int → Int → Int → Mem → Option (Int × Mem)} (hrec : ∀ (a0 : Nat) (a1 : Int) (a2 : Int) (a3 : Int) (M : Mem) (r : Int) (M' : Mem), m_kd M a0 = 3 → rec a0 a1 a2 a3 M = some (r, M') → x_Me (Xl X) (XS X) (XD X) (XA X) yX3_search cX3_search 8 none [] { frames := 3 + dn, cells := 0, slots := 0, locals := 81 + 31 * dn } [.ref a0, vI a1, vI a2, vI a3] M (.returned none) M')  : ∀ (n : Nat) (v0 : Nat) (v1 : Int) (v3 : Int) (v5 : Int) (v6 : Int) (v7 : Int) (M : Mem) (r : Int) (M' : Mem) (hv0 : m_kd M v0 = 3) (h : L_X3_search_71 rec  n v0 v1 v3 v5 v6 v7 M = some (r, M')) , x_Z X 0 0 (x_QF X M0 (.returned none) M' 0 0) M0 M 8 [(0, .ref v0), (1, vI v1), (3, vI v3), (5, vI v5), (6, vI v6), (7, vI v7)] 71 [] := by
  intro n
  induction n with
  | zero => intro v0 v1 v3 v5 v6 v7 M r M' hv0 h ; cases h
  | succ n ih => intro v0 v1 v3 v5 v6 v7 M r M' hv0 h ; exact cB_X3_search_71 C hrec (fun v0 v1 v3 v5 v6 v7 M r M' hv0 h  => ih v0 v1 v3 v5 v6 v7 M r M' hv0 h ) v0 v1 v3 v5 v6 v7 M r M' hv0 h 
theorem ct_X3_search (n : Nat) : ∀ {l : Launch} {S0 : State} {D : va_G} {cA : Nat → ClassId} (hG : x_G l S0 D cA) (v0 : Nat) (v1 : Int) (v2 : Int) (v3 : Int) (M : Mem) (r : Int) (M' : Mem) (hv0 : m_kd M v0 = 3) (h : d_X3_search n v0 v1 v2 v3 M = some (r, M')), x_Me l S0 D cA yX3_search cX3_search 8 none [] ({ frames := 3 + n, cells := 0, slots := 0, locals := 81 + 31 * n }) [.ref v0, vI v1, vI v2, vI v3] M (.returned none) M' := by
  induction n with
  | zero => intro l S0 D cA hG v0 v1 v2 v3 M r M' hv0 h; cases h
  | succ dn ih =>
  intro l S0 D cA hG v0 v1 v2 v3 M r M' hv0 h
  refine x_begin (F := (3 + (dn + 1))) (Lo := (81 + 31 * (dn + 1))) (mc := 0) (ms := 0) hG (Nat.le_of_ble_eq_true rfl) (lv := [(0, .ref v0), (1, vI v1), (2, vI v2), (3, vI v3)]) rfl rfl rfl rfl rfl (fun X e1 e2 e3 e4 e5 C => ?_)
  have hrec := fun v0 v1 v2 v3 M r M' hv0 h => ih C.2.1 v0 v1 v2 v3 M r M' hv0 h
  unfold d_X3_search b_X3_search at h
  refine z_iload_n (pc := 0) C 3 rfl dX3_search_0 ?_
  refine z_aload_n (pc := 1) C 0 rfl dX3_search_1 ?_
  refine gX3_309 (pc := 2) C rfl (Or.inl hv0) rfl dX3_search_2 ?_
  refine z_ic_le (pc := 5) C dX3_search_5 (tgt := 9) (by decide) (fun c7 => ?_) (fun c7 => ?_)
  · have h := itt c7 h
    refine z_aload_n (pc := 9) C 0 rfl dX3_search_9 ?_
    refine z_iload_n (pc := 10) C 1 rfl dX3_search_10 ?_
    obtain ⟨r8, M9, e10, h⟩ := bNs h
    refine cX3_81 (pc := 11) (st := []) (st1 := []) C rfl (rm := { frames := 2, cells := 0, slots := 0, locals := 53 }) (ct_X3_lay C.2.1 v0 v1 M _ _ hv0 e10) ⟨show 2 + 1 ≤ (3 + (dn + 1)) from by omega, show 12 + (5 + 11) + 53 ≤ (81 + 31 * (dn + 1)) from by omega, Nat.zero_le _, Nat.zero_le _⟩ (Or.inl hv0) rfl (Nat.le_of_ble_eq_true rfl) dX3_search_11 (c2 := 0) (s2 := 0) rfl rfl (fun x11 => ?_)
    have k12 := x11 _ 3 (by decide) (Or.inl (by decide)) hv0
    refine z_aload_n (pc := 14) C 0 rfl dX3_search_14 ?_
    obtain ⟨r13, M14, e15, h⟩ := bNs h
    refine cX3_85 (pc := 15) (st := []) (st1 := [vI r13]) C rfl (rm := { frames := 1, cells := 0, slots := 0, locals := 24 }) (ct_X3_settle C.2.1 v0 M9 _ _ k12 e15) ⟨show 1 + 1 ≤ (3 + (dn + 1)) from by omega, show 12 + (4 + 11) + 24 ≤ (81 + 31 * (dn + 1)) from by omega, Nat.zero_le _, Nat.zero_le _⟩ (Or.inl k12) rfl (Nat.le_of_ble_eq_true rfl) dX3_search_15 (c2 := 0) (s2 := 0) rfl rfl (fun x16 => ?_)
    have k17 := x16 _ 3 (by decide) (Or.inl (by decide)) k12
    refine z_istore (pc := 18) C (lv' := [(0, .ref v0), (1, vI v1), (2, vI v2), (3, vI v3), (4, vI r13)]) (by decide) rfl dX3_search_18 ?_
    refine z_iload (pc := 20) C 4 rfl dX3_search_20 ?_
    refine z_iconst (pc := 22) C dX3_search_22 ?_
    refine z_ic_ne (pc := 23) C dX3_search_23 (tgt := 53) (by decide) (fun c18 => ?_) (fun c18 => ?_)
    · have h := itf c18 h
      refine z_aload_n (pc := 53) C 0 rfl dX3_search_53 ?_
      refine z_iload (pc := 54) C 4 rfl dX3_search_54 ?_
      obtain ⟨r19, e20, h⟩ := bRs h
      refine cX3_92 (pc := 56) (st := []) (st1 := [vI r19]) C rfl (rm := { frames := 1, cells := 0, slots := 0, locals := 24 }) (ct_X3_ring C.2.1 v0 r13 M14 _ k17 e20) ⟨show 1 + 1 ≤ (3 + (dn + 1)) from by omega, show 12 + (5 + 11) + 24 ≤ (81 + 31 * (dn + 1)) from by omega, Nat.zero_le _, Nat.zero_le _⟩ (Or.inl k17) rfl (Nat.le_of_ble_eq_true rfl) dX3_search_56 (c2 := 0) (s2 := 0) rfl rfl (fun _ => ?_)
      refine z_iload_n (pc := 59) C 2 rfl dX3_search_59 ?_
      refine z_iconst (pc := 60) C dX3_search_60 ?_
      refine z_ixor (pc := 61) C dX3_search_61 ?_
      refine z_iand (pc := 62) C dX3_search_62 ?_
      refine z_istore (pc := 63) C (lv' := [(0, .ref v0), (1, vI v1), (2, vI v2), (3, vI v3), (4, vI r13), (5, vI (a32 r19 (e32 v2 (-1))))]) (by decide) rfl dX3_search_63 ?_
      refine z_iload_n (pc := 65) C 2 rfl dX3_search_65 ?_
      refine z_istore (pc := 66) C (lv' := [(0, .ref v0), (1, vI v1), (2, vI v2), (3, vI v3), (4, vI r13), (5, vI (a32 r19 (e32 v2 (-1)))), (6, vI v2)]) (by decide) rfl dX3_search_66 ?_
      refine z_iconst (pc := 68) C dX3_search_68 ?_
      refine z_istore (pc := 69) C (lv' := [(0, .ref v0), (1, vI v1), (2, vI v2), (3, vI v3), (4, vI r13), (5, vI (a32 r19 (e32 v2 (-1)))), (6, vI v2), (7, vI 0)]) (by decide) rfl dX3_search_69 ?_
      exact z_lv [0, 1, 3, 5, 6, 7] rfl <| cL_X3_search_71 C hrec FU v0 v1 v3 (a32 r19 (e32 v2 (-1))) v2 0 M14 _ _ k17 h
    · have h := itt c18 h
      refine z_iload_n (pc := 26) C 3 rfl dX3_search_26 ?_
      refine z_aload_n (pc := 27) C 0 rfl dX3_search_27 ?_
      refine gX3_309 (pc := 28) C rfl (Or.inl k17) rfl dX3_search_28 ?_
      refine z_ic_lt (pc := 31) C dX3_search_31 (tgt := 42) (by decide) (fun c35 => ?_) (fun c35 => ?_)
      · have h := itt c35 h
        refine z_aload_n (pc := 42) C 0 rfl dX3_search_42 ?_
        refine z_iload_n (pc := 43) C 3 rfl dX3_search_43 ?_
        refine pX3_309 (pc := 44) C rfl (Or.inl k17) dX3_search_44 ?_
        refine z_aload_n (pc := 47) C 0 rfl dX3_search_47 ?_
        refine z_iload_n (pc := 48) C 1 rfl dX3_search_48 ?_
        refine pX3_310 (pc := 49) C rfl (Or.inl k17) dX3_search_49 ?_
        cases h
        exact z_vret (pc := 52) C rfl (show 0 ≤ 0 from by decide) (show 0 ≤ 0 from by decide) dX3_search_52
      · have h := itf c35 h
        refine z_iload_n (pc := 34) C 1 rfl dX3_search_34 ?_
        refine z_aload_n (pc := 35) C 0 rfl dX3_search_35 ?_
        refine gX3_310 (pc := 36) C rfl (Or.inl k17) rfl dX3_search_36 ?_
        refine z_ic_ge (pc := 39) C dX3_search_39 (tgt := 52) (by decide) (fun c36 => ?_) (fun c36 => ?_)
        · have h := itt c36 h
          cases h
          exact z_vret (pc := 52) C rfl (show 0 ≤ 0 from by decide) (show 0 ≤ 0 from by decide) dX3_search_52
        · have h := itf c36 h
          refine z_aload_n (pc := 42) C 0 rfl dX3_search_42 ?_
          refine z_iload_n (pc := 43) C 3 rfl dX3_search_43 ?_
          refine pX3_309 (pc := 44) C rfl (Or.inl k17) dX3_search_44 ?_
          refine z_aload_n (pc := 47) C 0 rfl dX3_search_47 ?_
          refine z_iload_n (pc := 48) C 1 rfl dX3_search_48 ?_
          refine pX3_310 (pc := 49) C rfl (Or.inl k17) dX3_search_49 ?_
          cases h
          exact z_vret (pc := 52) C rfl (show 0 ≤ 0 from by decide) (show 0 ≤ 0 from by decide) dX3_search_52
  · have h := itf c7 h
    cases h
    exact z_vret (pc := 8) C rfl (show 0 ≤ 0 from by decide) (show 0 ≤ 0 from by decide) dX3_search_8
def d_X3_find (v0 : Nat) (v1 : Nat) (v2 : Nat) (M : Mem) : Option (Int × Mem) :=
  bN (d_X3_search 100 v0 0 0 0 (m_si (m_si (m_sr (m_sr M 307 v0 0 (some v1)) 308 v0 0 (some v2)) 309 v0 0 2147483647) 310 v0 0 0)) fun r1 M2 => 
  if w32 2147483647 ≤ w32 (m_i M2 309 v0 0) then
    some (0, M2)
  else
    some (1, M2)
theorem ct_X3_find {l : Launch} {S0 : State} {D : va_G} {cA : Nat → ClassId} (hG : x_G l S0 D cA) (v0 : Nat) (v1 : Nat) (v2 : Nat) (M : Mem) (r : Int) (M' : Mem) (hv0 : m_kd M v0 = 3) (hv1 : m_kd M v1 = 2) (hv2 : x_IA M v2) (h : d_X3_find v0 v1 v2 M = some (r, M')) : x_Me l S0 D cA yX3_find cX3_find 3 (some .boolean) [] ({ frames := 104, cells := 0, slots := 0, locals := 3212 }) [.ref v0, .ref v1, .ref v2] M (.returned (some (vI r))) M' := by
  refine x_begin (F := 104) (Lo := 3212) (mc := 0) (ms := 0) hG (Nat.le_of_ble_eq_true rfl) (lv := [(0, .ref v0), (1, .ref v1), (2, .ref v2)]) rfl rfl rfl rfl rfl (fun X e1 e2 e3 e4 e5 C => ?_)
  unfold d_X3_find at h
  refine z_aload_n (pc := 0) C 0 rfl dX3_find_0 ?_
  refine z_aload_n (pc := 1) C 1 rfl dX3_find_1 ?_
  refine pX3_307 (pc := 2) C rfl (Or.inl hv0) (x_rkk (k := 2) hv1 (by unfold x_rk; decide)) dX3_find_2 ?_
  refine z_aload_n (pc := 5) C 0 rfl dX3_find_5 ?_
  refine z_aload_n (pc := 6) C 2 rfl dX3_find_6 ?_
  refine pX3_308 (pc := 7) C rfl (Or.inl hv0) (x_rki (by decide) hv2) dX3_find_7 ?_
  refine z_aload_n (pc := 10) C 0 rfl dX3_find_10 ?_
  refine z_ldc (pc := 11) C (x := 2147483647) q1150 (by decide +kernel) dX3_find_11 ?_
  refine pX3_309 (pc := 13) C rfl (Or.inl hv0) dX3_find_13 ?_
  refine z_aload_n (pc := 16) C 0 rfl dX3_find_16 ?_
  refine z_iconst (pc := 17) C dX3_find_17 ?_
  refine pX3_310 (pc := 18) C rfl (Or.inl hv0) dX3_find_18 ?_
  refine z_aload_n (pc := 21) C 0 rfl dX3_find_21 ?_
  refine z_iconst (pc := 22) C dX3_find_22 ?_
  refine z_iconst (pc := 23) C dX3_find_23 ?_
  refine z_iconst (pc := 24) C dX3_find_24 ?_
  obtain ⟨r1, M2, e3, h⟩ := bNs h
  refine cX3_99 (pc := 25) (st := []) (st1 := []) C rfl (rm := { frames := 103, cells := 0, slots := 0, locals := 3181 }) (ct_X3_search 100 C.2.1 v0 0 0 0 (m_si (m_si (m_sr (m_sr M 307 v0 0 (some v1)) 308 v0 0 (some v2)) 309 v0 0 2147483647) 310 v0 0 0) _ _ hv0 e3) ⟨by decide, by decide, Nat.zero_le _, Nat.zero_le _⟩ (Or.inl hv0) rfl (Nat.le_of_ble_eq_true rfl) dX3_find_25 (c2 := 0) (s2 := 0) rfl rfl (fun x4 => ?_)
  have k5 := x4 _ 3 (by decide) (Or.inl (by decide)) hv0
  refine z_aload_n (pc := 28) C 0 rfl dX3_find_28 ?_
  refine gX3_309 (pc := 29) C rfl (Or.inl k5) rfl dX3_find_29 ?_
  refine z_ldc (pc := 32) C (x := 2147483647) q1150 (by decide +kernel) dX3_find_32 ?_
  refine z_ic_ge (pc := 34) C dX3_find_34 (tgt := 41) (by decide) (fun c6 => ?_) (fun c6 => ?_)
  · have h := itt c6 h
    refine z_iconst (pc := 41) C dX3_find_41 ?_
    cases h
    exact z_zret (pc := 42) C rfl (Or.inl rfl) (show 0 ≤ 0 from by decide) (show 0 ≤ 0 from by decide) dX3_find_42
  · have h := itf c6 h
    refine z_iconst (pc := 37) C dX3_find_37 ?_
    refine z_goto (pc := 38) C dX3_find_38 (tgt := 42) (by decide) ?_
    cases h
    exact z_zret (pc := 42) C rfl (Or.inr rfl) (show 0 ≤ 0 from by decide) (show 0 ≤ 0 from by decide) dX3_find_42
def d_X1_least (v0 : Nat) (v1 : Int) (v2 : Int) (M : Mem) : Option ((Int ⊕ Nat) × Mem) :=
  bT (d_X1_recordOf v0 v1 M) fun r13 M14 => 
  if m_kd M14 r13 = 9 then 
  bR (m_r M14 122 v0 0) fun q20 => 
  bR (m_r M14 901 r13 0) fun q23 => 
  bN (d_X3_find q20 q23 (r13 + 1) M14) fun r27 M28 => 
  if w32 r27 = 0 then
    some (.inl (-1), M28)
  else
    if w32 v2 = 0 then
      bR (m_r M28 122 v0 0) fun q34 => 
      some (.inl (m_i M28 309 q34 0), M28)
    else
      bR (m_r M28 122 v0 0) fun q37 => 
      some (.inl (m_i M28 310 q37 0), M28) else none
theorem ct_X1_least {l : Launch} {S0 : State} {D : va_G} {cA : Nat → ClassId} (hG : x_G l S0 D cA) (v0 : Nat) (v1 : Int) (v2 : Int) (M : Mem) (r : Int ⊕ Nat) (M' : Mem) (hv0 : m_kd M v0 = 1) (h : d_X1_least v0 v1 v2 M = some (r, M')) : x_Me l S0 D cA yX1_least cX1_least 4 (some .int) [] ({ frames := 105, cells := (ocN r 0 1), slots := (ocN r 0 6), locals := 3238 }) [.ref v0, vI v1, vI v2] M (ocI r) M' := by
  refine x_begin (F := 105) (Lo := 3238) (mc := (ocN r 0 1)) (ms := (ocN r 0 6)) hG (Nat.le_of_ble_eq_true rfl) (lv := [(0, .ref v0), (1, vI v1), (2, vI v2)]) rfl rfl rfl rfl rfl (fun X e1 e2 e3 e4 e5 C => ?_)
  have hR : _ ∧ _ := ⟨Nat.le_of_eq (congrArg Room.cells e5).symm, Nat.le_of_eq (congrArg Room.slots e5).symm⟩
  unfold d_X1_least at h
  refine z_aload_n (pc := 0) C 0 rfl dX1_least_0 ?_
  refine z_iload_n (pc := 1) C 1 rfl dX1_least_1 ?_
  rcases bTs h with ⟨x17, e15, er⟩ | ⟨r13, M14, e15, h⟩
  · subst er; exact tX1_365 (pc := 2) C rfl (rm := { frames := 7, cells := 1, slots := 6, locals := 114 }) (ct_X1_recordOf C.2.1 v0 v1 M _ _ hv0 e15) ⟨by decide, by decide, Nat.le_trans (show 1 ≤ 1 from by decide) hR.1, Nat.le_trans (show 6 ≤ 6 from by decide) hR.2⟩ (Or.inl hv0) (Nat.le_of_ble_eq_true rfl) dX1_least_2 (by decide) (show 1 ≤ 1 from by decide) (show 6 ≤ 6 from by decide)
  refine cX1_365 (pc := 2) (st := []) (st1 := [.ref r13]) C rfl (rm := { frames := 7, cells := 0, slots := 0, locals := 114 }) (ct_X1_recordOf C.2.1 v0 v1 M _ _ hv0 e15) ⟨by decide, by decide, Nat.zero_le _, Nat.zero_le _⟩ (Or.inl hv0) rfl (Nat.le_of_ble_eq_true rfl) dX1_least_2 (c2 := 0) (s2 := 0) rfl rfl (fun x16 => ?_)
  have k18 := x16 _ 1 (by decide) (Or.inl (by decide)) hv0
  obtain ⟨c19, h⟩ := ifn h
  refine z_astore_n (pc := 5) C (lv' := [(0, .ref v0), (1, vI v1), (2, vI v2), (3, .ref r13)]) (by decide) rfl dX1_least_5 ?_
  refine z_aload_n (pc := 6) C 0 rfl dX1_least_6 ?_
  obtain ⟨q20, e21, h⟩ := bRs h
  refine gX1_122 (pc := 7) C rfl (Or.inl k18) e21 dX1_least_7 (fun k22 => ?_)
  refine z_aload_n (pc := 10) C 3 rfl dX1_least_10 ?_
  obtain ⟨q23, e24, h⟩ := bRs h
  refine gX1_901 (pc := 11) C rfl (Or.inl c19) e24 dX1_least_11 (fun k25 => ?_)
  refine z_aload_n (pc := 14) C 3 rfl dX1_least_14 ?_
  refine gX1_902 (pc := 15) C rfl c19 dX1_least_15 ?_
  refine z_ia (k := 9) (j := 2) 902 rfl (by decide) (by decide) (by decide) rfl rfl rfl c19 (fun k26 => ?_)
  obtain ⟨r27, M28, e29, h⟩ := bNs h
  refine cX1_409 (pc := 18) (st := []) (st1 := [vI r27]) C rfl (rm := { frames := 104, cells := 0, slots := 0, locals := 3212 }) (ct_X3_find C.2.1 q20 q23 (r13 + 1) M14 _ _ k22 k25 k26.1 e29) ⟨by decide, by decide, Nat.zero_le _, Nat.zero_le _⟩ (Or.inl k22) rfl (Nat.le_of_ble_eq_true rfl) dX1_least_18 (c2 := 0) (s2 := 0) rfl rfl (fun x30 => ?_)
  have k31 := x30 _ 1 (by decide) (Or.inl (by decide)) k18
  refine z_if_ne (pc := 21) C dX1_least_21 (tgt := 26) (by decide) (fun c32 => ?_) (fun c32 => ?_)
  · have h := itf c32 h
    refine z_iload_n (pc := 26) C 2 rfl dX1_least_26 ?_
    refine z_if_eq (pc := 27) C dX1_least_27 (tgt := 40) (by decide) (fun c33 => ?_) (fun c33 => ?_)
    · have h := itt c33 h
      refine z_aload_n (pc := 40) C 0 rfl dX1_least_40 ?_
      obtain ⟨q34, e35, h⟩ := bRs h
      refine gX1_122 (pc := 41) C rfl (Or.inl k31) e35 dX1_least_41 (fun k36 => ?_)
      refine gX1_309 (pc := 44) C rfl (Or.inl k36) rfl dX1_least_44 ?_
      cases h
      exact z_iret (pc := 47) C rfl (show 0 ≤ 0 from by decide) (show 0 ≤ 0 from by decide) dX1_least_47
    · have h := itf c33 h
      refine z_aload_n (pc := 30) C 0 rfl dX1_least_30 ?_
      obtain ⟨q37, e38, h⟩ := bRs h
      refine gX1_122 (pc := 31) C rfl (Or.inl k31) e38 dX1_least_31 (fun k39 => ?_)
      refine gX1_310 (pc := 34) C rfl (Or.inl k39) rfl dX1_least_34 ?_
      refine z_goto (pc := 37) C dX1_least_37 (tgt := 47) (by decide) ?_
      cases h
      exact z_iret (pc := 47) C rfl (show 0 ≤ 0 from by decide) (show 0 ≤ 0 from by decide) dX1_least_47
  · have h := itt c32 h
    refine z_iconst (pc := 24) C dX1_least_24 ?_
    cases h
    exact z_iret (pc := 25) C rfl (show 0 ≤ 0 from by decide) (show 0 ≤ 0 from by decide) dX1_least_25
def d_X0_least (v0 : Nat) (v1 : Int) (v2 : Int) (v3 : Nat) (M : Mem) : Option (Int × Mem) :=
  bC (d_X1_least v0 v1 v2 M) (fun r1 M3 =>
    some (0, (m_si M3 9000 v3 (ixn 0) (w32 r1)))) (fun q2 M3 =>
    if m_kd M3 q2 = 115 then
      some (1, M3)
    else
      none)
theorem ct_X0_least {l : Launch} {S0 : State} {D : va_G} {cA : Nat → ClassId} (hG : x_G l S0 D cA) (v0 : Nat) (v1 : Int) (v2 : Int) (v3 : Nat) (M : Mem) (r : Int) (M' : Mem) (hv0 : m_kd M v0 = 1) (hv3 : m_kd M v3 = 19000) (h : d_X0_least v0 v1 v2 v3 M = some (r, M')) : x_Me l S0 D cA yX0_least cX0_least 5 (some .int) [(0, 10, 13, 25)] ({ frames := 106, cells := 1, slots := 6, locals := 3265 }) [.ref v0, vI v1, vI v2, .ref v3] M (.returned (some (vI r))) M' := by
  refine x_begin (F := 106) (Lo := 3265) (mc := 1) (ms := 6) hG (Nat.le_of_ble_eq_true rfl) (lv := [(0, .ref v0), (1, vI v1), (2, vI v2), (3, .ref v3)]) rfl rfl rfl rfl rfl (fun X e1 e2 e3 e4 e5 C => ?_)
  have hR : _ ∧ _ := ⟨Nat.le_of_eq (congrArg Room.cells e5).symm, Nat.le_of_eq (congrArg Room.slots e5).symm⟩
  unfold d_X0_least at h
  refine z_aload_n (pc := 0) C 3 rfl dX0_least_0 ?_
  refine z_iconst (pc := 1) C dX0_least_1 ?_
  refine z_aload_n (pc := 2) C 0 rfl dX0_least_2 ?_
  refine z_iload_n (pc := 3) C 1 rfl dX0_least_3 ?_
  refine z_iload_n (pc := 4) C 2 rfl dX0_least_4 ?_
  rcases bCs h with ⟨r1, M3, e4, h⟩ | ⟨q2, M3, e4, h⟩
  · refine cX0_87 (pc := 5) (st := [vI 0, .ref v3]) (st1 := [vI r1, vI 0, .ref v3]) C rfl (rm := { frames := 105, cells := 0, slots := 0, locals := 3238 }) (ct_X1_least C.2.1 v0 v1 v2 M _ _ hv0 e4) ⟨by decide, by decide, Nat.zero_le _, Nat.zero_le _⟩ (Or.inl hv0) rfl (Nat.le_of_ble_eq_true rfl) dX0_least_5 (c2 := 0) (s2 := 0) rfl rfl (fun x5 => ?_)
    have k6 := x5 _ 19000 (by decide) (Or.inr (by decide)) hv3
    refine z_i2l (pc := 8) C dX0_least_8 ?_
    refine z_lsw (pc := 9) C k6 (by decide +kernel) dX0_least_9 ?_
    refine z_goto (pc := 10) C dX0_least_10 (tgt := 17) (by decide) ?_
    refine z_iconst (pc := 17) C dX0_least_17 ?_
    cases h
    exact z_iret (pc := 18) C rfl (show 0 ≤ 1 from by decide) (show 0 ≤ 6 from by decide) dX0_least_18
  · by_cases c7 : m_kd M3 q2 = 115
    · have h := itt c7 h
      refine kX0_87 (pc := 5) (st := [vI 0, .ref v3]) C rfl (rm := { frames := 105, cells := 1, slots := 6, locals := 3238 }) (r := q2) (ct_X1_least C.2.1 v0 v1 v2 M _ _ hv0 e4) ⟨by decide, by decide, Nat.le_trans (show 1 ≤ 1 from by decide) hR.1, Nat.le_trans (show 6 ≤ 6 from by decide) hR.2⟩ (Or.inl hv0) (Nat.le_of_ble_eq_true rfl) dX0_least_5 (e := 15) (hpc := 13) (by decide) (Or.inr c7) (Or.inr ⟨by decide, by decide, 15, by decide, q560, Or.inl ⟨rfl, rfl⟩⟩) (c2 := 1) (s2 := 6) rfl rfl (fun x8 => ?_)
      refine z_astore (pc := 13) C (lv' := [(0, .ref v0), (1, vI v1), (2, vI v2), (3, .ref v3), (4, .ref q2)]) (by decide) rfl dX0_least_13 ?_
      refine z_iconst (pc := 15) C dX0_least_15 ?_
      cases h
      exact z_iret (pc := 16) C rfl (show 1 ≤ 1 from by decide) (show 6 ≤ 6 from by decide) dX0_least_16
    · have h := itf c7 h
      cases h
def B_X1_isDonor_39 (k39 : Nat → Nat → Int → Int → Int → Mem → Option Int) (v0 : Nat) (v1 : Nat) (v2 : Int) (v3 : Int) (v4 : Int) (M : Mem) : Option Int :=
  bR (m_r M 901 v0 0) fun q14 => 
  if w32 (m_i M 200 q14 0) ≤ w32 v4 then
    if v3 = 0 ∨ v3 = 1 then 
    some v3 else none
  else
    if w32 (a32 (s32 v2 v4) 1) = 0 then
      k39 v0 v1 v2 (a32 v3 1) (v4 + 1) M
    else
      if inb v4 20 then 
      if w32 (m_i M 902 v1 (ixn v4)) = w32 (-2000000) then
        k39 v0 v1 v2 (a32 v3 0) (v4 + 1) M
      else
        k39 v0 v1 v2 (a32 v3 1) (v4 + 1) M else none
def L_X1_isDonor_39  : Nat → Nat → Nat → Int → Int → Int → Mem → Option Int
  | 0, _, _, _, _, _, _ => none
  | n + 1, v0, v1, v2, v3, v4, M => B_X1_isDonor_39 (L_X1_isDonor_39  n) v0 v1 v2 v3 v4 M
def d_X1_isDonor (v0 : Nat) (v1 : Nat) (v2 : Int) (M : Mem) : Option Int :=
  if v1 = v0 then
    L_X1_isDonor_39 FU v0 v1 v2 0 0 M
  else
    bR (m_r M 901 v1 0) fun q22 => 
    bR (m_r M 901 v0 0) fun q25 => 
    if q22 = q25 then
      bR (m_r M 901 v1 0) fun q29 => 
      bR (d_X1_countBroken q29 (v1 + 1) M) fun r33 => 
      if w32 r33 = 0 then
        L_X1_isDonor_39 FU v0 v1 v2 1 0 M
      else
        L_X1_isDonor_39 FU v0 v1 v2 0 0 M
    else
      L_X1_isDonor_39 FU v0 v1 v2 0 0 M
theorem cB_X1_isDonor_39 {X : x_Ctx} {M0 : Mem} (C : x_CC X 3 79 yX1_isDonor cX1_isDonor 5 (some .boolean) []) {k39 : Nat → Nat → Int → Int → Int → Mem → Option Int} (hk39 : ∀ (v0 : Nat) (v1 : Nat) (v2 : Int) (v3 : Int) (v4 : Int) (M : Mem) (r : Int), m_kd M v0 = 9 → m_kd M v1 = 9 → k39 v0 v1 v2 v3 v4 M = some r → x_Z X 0 0 (x_QF X M0 (.returned (some (vI r))) M 0 0) M0 M 5 [(0, .ref v0), (1, .ref v1), (2, vI v2), (3, vI v3), (4, vI v4)] 39 []) (v0 : Nat) (v1 : Nat) (v2 : Int) (v3 : Int) (v4 : Int) (M : Mem) (r : Int) (hv0 : m_kd M v0 = 9) (hv1 : m_kd M v1 = 9) (h : B_X1_isDonor_39 k39 v0 v1 v2 v3 v4 M = some r)  : x_Z X 0 0 (x_QF X M0 (.returned (some (vI r))) M 0 0) M0 M 5 [(0, .ref v0), (1, .ref v1), (2, vI v2), (3, vI v3), (4, vI v4)] 39 [] := by
  unfold B_X1_isDonor_39 at h
  refine z_iload (pc := 39) C 4 rfl dX1_isDonor_39 ?_
  refine z_aload_n (pc := 41) C 0 rfl dX1_isDonor_41 ?_
  obtain ⟨q14, e15, h⟩ := bRs h
  refine gX1_901 (pc := 42) C rfl (Or.inl hv0) e15 dX1_isDonor_42 (fun k16 => ?_)
  refine gX1_200 (pc := 45) C rfl (Or.inl k16) rfl dX1_isDonor_45 ?_
  refine z_ic_ge (pc := 48) C dX1_isDonor_48 (tgt := 86) (by decide) (fun c17 => ?_) (fun c17 => ?_)
  · have h := itt c17 h
    refine z_iload_n (pc := 86) C 3 rfl dX1_isDonor_86 ?_
    obtain ⟨c18, h⟩ := ifn h
    cases h
    exact z_zret (pc := 87) C rfl c18 (show 0 ≤ 0 from by decide) (show 0 ≤ 0 from by decide) dX1_isDonor_87
  · have h := itf c17 h
    refine z_iload_n (pc := 51) C 3 rfl dX1_isDonor_51 ?_
    refine z_iload_n (pc := 52) C 2 rfl dX1_isDonor_52 ?_
    refine z_iload (pc := 53) C 4 rfl dX1_isDonor_53 ?_
    refine z_ishr (pc := 55) C dX1_isDonor_55 ?_
    refine z_iconst (pc := 56) C dX1_isDonor_56 ?_
    refine z_iand (pc := 57) C dX1_isDonor_57 ?_
    refine z_if_eq (pc := 58) C dX1_isDonor_58 (tgt := 73) (by decide) (fun c19 => ?_) (fun c19 => ?_)
    · have h := itt c19 h
      refine z_iconst (pc := 73) C dX1_isDonor_73 ?_
      refine z_goto (pc := 74) C dX1_isDonor_74 (tgt := 78) (by decide) ?_
      refine z_iand (pc := 78) C dX1_isDonor_78 ?_
      refine z_istore_n (pc := 79) C (lv' := [(0, .ref v0), (1, .ref v1), (2, vI v2), (3, vI (a32 v3 1)), (4, vI v4)]) (by decide) rfl dX1_isDonor_79 ?_
      refine z_iinc (pc := 80) C (lv' := [(0, .ref v0), (1, .ref v1), (2, vI v2), (3, vI (a32 v3 1)), (4, vI (v4 + 1))]) 4 rfl (by decide) rfl dX1_isDonor_80 ?_
      refine z_goto (pc := 83) C dX1_isDonor_83 (tgt := 39) (by decide) ?_
      exact hk39 v0 v1 v2 (a32 v3 1) (v4 + 1) M _ hv0 hv1 h
    · have h := itf c19 h
      refine z_aload_n (pc := 61) C 1 rfl dX1_isDonor_61 ?_
      refine gX1_902 (pc := 62) C rfl hv1 dX1_isDonor_62 ?_
      refine z_iload (pc := 65) C 4 rfl dX1_isDonor_65 ?_
      obtain ⟨c20, h⟩ := ifn h
      refine z_iaO (pc := 67) (k := 9) (j := 2) C 902 rfl (by decide) (by decide) (by decide) rfl rfl rfl rfl hv1 c20 rfl dX1_isDonor_67 ?_
      refine z_ldc (pc := 68) C (x := -2000000) q661 (by decide +kernel) dX1_isDonor_68 ?_
      refine z_ic_eq (pc := 70) C dX1_isDonor_70 (tgt := 77) (by decide) (fun c21 => ?_) (fun c21 => ?_)
      · have h := itt c21 h
        refine z_iconst (pc := 77) C dX1_isDonor_77 ?_
        refine z_iand (pc := 78) C dX1_isDonor_78 ?_
        refine z_istore_n (pc := 79) C (lv' := [(0, .ref v0), (1, .ref v1), (2, vI v2), (3, vI (a32 v3 0)), (4, vI v4)]) (by decide) rfl dX1_isDonor_79 ?_
        refine z_iinc (pc := 80) C (lv' := [(0, .ref v0), (1, .ref v1), (2, vI v2), (3, vI (a32 v3 0)), (4, vI (v4 + 1))]) 4 rfl (by decide) rfl dX1_isDonor_80 ?_
        refine z_goto (pc := 83) C dX1_isDonor_83 (tgt := 39) (by decide) ?_
        exact hk39 v0 v1 v2 (a32 v3 0) (v4 + 1) M _ hv0 hv1 h
      · have h := itf c21 h
        refine z_iconst (pc := 73) C dX1_isDonor_73 ?_
        refine z_goto (pc := 74) C dX1_isDonor_74 (tgt := 78) (by decide) ?_
        refine z_iand (pc := 78) C dX1_isDonor_78 ?_
        refine z_istore_n (pc := 79) C (lv' := [(0, .ref v0), (1, .ref v1), (2, vI v2), (3, vI (a32 v3 1)), (4, vI v4)]) (by decide) rfl dX1_isDonor_79 ?_
        refine z_iinc (pc := 80) C (lv' := [(0, .ref v0), (1, .ref v1), (2, vI v2), (3, vI (a32 v3 1)), (4, vI (v4 + 1))]) 4 rfl (by decide) rfl dX1_isDonor_80 ?_
        refine z_goto (pc := 83) C dX1_isDonor_83 (tgt := 39) (by decide) ?_
        exact hk39 v0 v1 v2 (a32 v3 1) (v4 + 1) M _ hv0 hv1 h
theorem cL_X1_isDonor_39 {X : x_Ctx} {M0 : Mem} (C : x_CC X 3 79 yX1_isDonor cX1_isDonor 5 (some .boolean) [])  : ∀ (n : Nat) (v0 : Nat) (v1 : Nat) (v2 : Int) (v3 : Int) (v4 : Int) (M : Mem) (r : Int) (hv0 : m_kd M v0 = 9) (hv1 : m_kd M v1 = 9) (h : L_X1_isDonor_39  n v0 v1 v2 v3 v4 M = some r) , x_Z X 0 0 (x_QF X M0 (.returned (some (vI r))) M 0 0) M0 M 5 [(0, .ref v0), (1, .ref v1), (2, vI v2), (3, vI v3), (4, vI v4)] 39 [] := by
  intro n
  induction n with
  | zero => intro v0 v1 v2 v3 v4 M r hv0 hv1 h ; cases h
  | succ n ih => intro v0 v1 v2 v3 v4 M r hv0 hv1 h ; exact cB_X1_isDonor_39 C (fun v0 v1 v2 v3 v4 M r hv0 hv1 h  => ih v0 v1 v2 v3 v4 M r hv0 hv1 h ) v0 v1 v2 v3 v4 M r hv0 hv1 h 
theorem ct_X1_isDonor {l : Launch} {S0 : State} {D : va_G} {cA : Nat → ClassId} (hG : x_G l S0 D cA) (v0 : Nat) (v1 : Nat) (v2 : Int) (M : Mem) (r : Int) (hv0 : m_kd M v0 = 9) (hv1 : m_kd M v1 = 9) (h : d_X1_isDonor v0 v1 v2 M = some r) : x_Me l S0 D cA yX1_isDonor cX1_isDonor 5 (some .boolean) [] ({ frames := 3, cells := 0, slots := 0, locals := 79 }) [.ref v0, .ref v1, vI v2] M (.returned (some (vI r))) M := by
  refine x_begin (F := 3) (Lo := 79) (mc := 0) (ms := 0) hG (Nat.le_of_ble_eq_true rfl) (lv := [(0, .ref v0), (1, .ref v1), (2, vI v2)]) rfl rfl rfl rfl rfl (fun X e1 e2 e3 e4 e5 C => ?_)
  unfold d_X1_isDonor at h
  refine z_aload_n (pc := 0) C 1 rfl dX1_isDonor_0 ?_
  refine z_aload_n (pc := 1) C 0 rfl dX1_isDonor_1 ?_
  refine z_ac_eq (pc := 2) C dX1_isDonor_2 (tgt := 34) (by decide) (fun c13 => ?_) (fun c13 => ?_)
  · have h := itt c13 h
    refine z_iconst (pc := 34) C dX1_isDonor_34 ?_
    refine z_istore_n (pc := 35) C (lv' := [(0, .ref v0), (1, .ref v1), (2, vI v2), (3, vI 0)]) (by decide) rfl dX1_isDonor_35 ?_
    refine z_iconst (pc := 36) C dX1_isDonor_36 ?_
    refine z_istore (pc := 37) C (lv' := [(0, .ref v0), (1, .ref v1), (2, vI v2), (3, vI 0), (4, vI 0)]) (by decide) rfl dX1_isDonor_37 ?_
    exact cL_X1_isDonor_39 C FU v0 v1 v2 0 0 M _ hv0 hv1 h
  · have h := itf c13 h
    refine z_aload_n (pc := 5) C 1 rfl dX1_isDonor_5 ?_
    obtain ⟨q22, e23, h⟩ := bRs h
    refine gX1_901 (pc := 6) C rfl (Or.inl hv1) e23 dX1_isDonor_6 (fun k24 => ?_)
    refine z_aload_n (pc := 9) C 0 rfl dX1_isDonor_9 ?_
    obtain ⟨q25, e26, h⟩ := bRs h
    refine gX1_901 (pc := 10) C rfl (Or.inl hv0) e26 dX1_isDonor_10 (fun k27 => ?_)
    refine z_ac_ne (pc := 13) C dX1_isDonor_13 (tgt := 34) (by decide) (fun c28 => ?_) (fun c28 => ?_)
    · have h := itf c28 h
      refine z_iconst (pc := 34) C dX1_isDonor_34 ?_
      refine z_istore_n (pc := 35) C (lv' := [(0, .ref v0), (1, .ref v1), (2, vI v2), (3, vI 0)]) (by decide) rfl dX1_isDonor_35 ?_
      refine z_iconst (pc := 36) C dX1_isDonor_36 ?_
      refine z_istore (pc := 37) C (lv' := [(0, .ref v0), (1, .ref v1), (2, vI v2), (3, vI 0), (4, vI 0)]) (by decide) rfl dX1_isDonor_37 ?_
      exact cL_X1_isDonor_39 C FU v0 v1 v2 0 0 M _ hv0 hv1 h
    · have h := itt c28 h
      refine z_aload_n (pc := 16) C 1 rfl dX1_isDonor_16 ?_
      obtain ⟨q29, e30, h⟩ := bRs h
      refine gX1_901 (pc := 17) C rfl (Or.inl hv1) e30 dX1_isDonor_17 (fun k31 => ?_)
      refine z_aload_n (pc := 20) C 1 rfl dX1_isDonor_20 ?_
      refine gX1_902 (pc := 21) C rfl hv1 dX1_isDonor_21 ?_
      refine z_ia (k := 9) (j := 2) 902 rfl (by decide) (by decide) (by decide) rfl rfl rfl hv1 (fun k32 => ?_)
      obtain ⟨r33, e34, h⟩ := bRs h
      refine cX1_405 (pc := 24) (st := []) (st1 := [vI r33]) C rfl (rm := { frames := 2, cells := 0, slots := 0, locals := 52 }) (ct_X1_countBroken C.2.1 q29 (v1 + 1) M _ k31 k32.1 e34) ⟨by decide, by decide, Nat.zero_le _, Nat.zero_le _⟩ rfl (Nat.le_of_ble_eq_true rfl) dX1_isDonor_24 (c2 := 0) (s2 := 0) rfl rfl (fun _ => ?_)
      refine z_if_ne (pc := 27) C dX1_isDonor_27 (tgt := 34) (by decide) (fun c35 => ?_) (fun c35 => ?_)
      · have h := itf c35 h
        refine z_iconst (pc := 34) C dX1_isDonor_34 ?_
        refine z_istore_n (pc := 35) C (lv' := [(0, .ref v0), (1, .ref v1), (2, vI v2), (3, vI 0)]) (by decide) rfl dX1_isDonor_35 ?_
        refine z_iconst (pc := 36) C dX1_isDonor_36 ?_
        refine z_istore (pc := 37) C (lv' := [(0, .ref v0), (1, .ref v1), (2, vI v2), (3, vI 0), (4, vI 0)]) (by decide) rfl dX1_isDonor_37 ?_
        exact cL_X1_isDonor_39 C FU v0 v1 v2 0 0 M _ hv0 hv1 h
      · have h := itt c35 h
        refine z_iconst (pc := 30) C dX1_isDonor_30 ?_
        refine z_goto (pc := 31) C dX1_isDonor_31 (tgt := 35) (by decide) ?_
        refine z_istore_n (pc := 35) C (lv' := [(0, .ref v0), (1, .ref v1), (2, vI v2), (3, vI 1)]) (by decide) rfl dX1_isDonor_35 ?_
        refine z_iconst (pc := 36) C dX1_isDonor_36 ?_
        refine z_istore (pc := 37) C (lv' := [(0, .ref v0), (1, .ref v1), (2, vI v2), (3, vI 1), (4, vI 0)]) (by decide) rfl dX1_isDonor_37 ?_
        exact cL_X1_isDonor_39 C FU v0 v1 v2 1 0 M _ hv0 hv1 h
def B_X1_distanceOf_67 (k5 : Nat → Nat → Int → Int → Int → Mem → Option Int) (v0 : Nat) (v1 : Nat) (v2 : Int) (v3 : Int) (v5 : Int) (s0 : Int) (M : Mem) : Option Int :=
  if w32 s0 = 0 then
    k5 v0 v1 v2 (v3 + 0) (v5 + 1) M
  else
    if inb v5 20 then 
    k5 v0 v1 v2 (v3 + (w32 (ab32 ((m_i M 902 v0 (ixn v5)) - (m_i M 902 v1 (ixn v5)))))) (v5 + 1) M else none
def B_X1_distanceOf_66 (k5 : Nat → Nat → Int → Int → Int → Mem → Option Int) (v0 : Nat) (v1 : Nat) (v2 : Int) (v3 : Int) (v5 : Int) (M : Mem) : Option Int :=
  B_X1_distanceOf_67 k5 v0 v1 v2 v3 v5 0 M
def B_X1_distanceOf_5 (k5 : Nat → Nat → Int → Int → Int → Mem → Option Int) (v0 : Nat) (v1 : Nat) (v2 : Int) (v3 : Int) (v5 : Int) (M : Mem) : Option Int :=
  bR (m_r M 901 v0 0) fun q7 => 
  if w32 (m_i M 200 q7 0) ≤ w32 v5 then
    some v3
  else
    bR (m_r M 901 v0 0) fun q11 => 
    bR (d_X2_isAsk q11 v5 M) fun r14 => 
    if w32 r14 = 0 then
      B_X1_distanceOf_66 k5 v0 v1 v2 v3 v5 M
    else
      if w32 (a32 (s32 v2 v5) 1) = 0 then
        if inb v5 20 then 
        if w32 (m_i M 902 v0 (ixn v5)) = w32 (-2000000) then
          B_X1_distanceOf_66 k5 v0 v1 v2 v3 v5 M
        else
          if w32 (m_i M 902 v1 (ixn v5)) = w32 (-2000000) then
            B_X1_distanceOf_66 k5 v0 v1 v2 v3 v5 M
          else
            B_X1_distanceOf_67 k5 v0 v1 v2 v3 v5 1 M else none
      else
        B_X1_distanceOf_66 k5 v0 v1 v2 v3 v5 M
def L_X1_distanceOf_5  : Nat → Nat → Nat → Int → Int → Int → Mem → Option Int
  | 0, _, _, _, _, _, _ => none
  | n + 1, v0, v1, v2, v3, v5, M => B_X1_distanceOf_5 (L_X1_distanceOf_5  n) v0 v1 v2 v3 v5 M
def d_X1_distanceOf (v0 : Nat) (v1 : Nat) (v2 : Int) (M : Mem) : Option Int :=
  L_X1_distanceOf_5 FU v0 v1 v2 0 0 M
theorem cB_X1_distanceOf_67 {X : x_Ctx} {M0 : Mem} (C : x_CC X 2 49 yX1_distanceOf cX1_distanceOf 7 (some .long) []) {k5 : Nat → Nat → Int → Int → Int → Mem → Option Int} (hk5 : ∀ (v0 : Nat) (v1 : Nat) (v2 : Int) (v3 : Int) (v5 : Int) (M : Mem) (r : Int), m_kd M v0 = 9 → m_kd M v1 = 9 → k5 v0 v1 v2 v3 v5 M = some r → x_Z X 0 0 (x_QF X M0 (.returned (some (vL r))) M 0 0) M0 M 7 [(0, .ref v0), (1, .ref v1), (2, vI v2), (3, vL v3), (5, vI v5)] 5 []) (v0 : Nat) (v1 : Nat) (v2 : Int) (v3 : Int) (v5 : Int) (s0 : Int) (M : Mem) (r : Int) (hv0 : m_kd M v0 = 9) (hv1 : m_kd M v1 = 9) (h : B_X1_distanceOf_67 k5 v0 v1 v2 v3 v5 s0 M = some r)  : x_Z X 0 0 (x_QF X M0 (.returned (some (vL r))) M 0 0) M0 M 7 [(0, .ref v0), (1, .ref v1), (2, vI v2), (3, vL v3), (5, vI v5)] 67 [vI s0] := by
  unfold B_X1_distanceOf_67 at h
  refine z_istore (pc := 67) C (lv' := [(0, .ref v0), (1, .ref v1), (2, vI v2), (3, vL v3), (5, vI v5), (6, vI s0)]) (by decide) rfl dX1_distanceOf_67 ?_
  refine z_lload_n (pc := 69) C 3 rfl dX1_distanceOf_69 ?_
  refine z_iload (pc := 70) C 5 rfl dX1_distanceOf_70 ?_
  refine z_if_eq (pc := 72) C dX1_distanceOf_72 (tgt := 97) (by decide) (fun c17 => ?_) (fun c17 => ?_)
  · have h := itt c17 h
    refine z_lconst (pc := 97) C (x := 0) (by decide +kernel) dX1_distanceOf_97 ?_
    refine z_ladd (pc := 98) C dX1_distanceOf_98 ?_
    refine z_lstore_n (pc := 99) C (lv' := [(0, .ref v0), (1, .ref v1), (2, vI v2), (3, vL (v3 + 0)), (5, vI v5), (6, vI s0)]) (by decide) rfl dX1_distanceOf_99 ?_
    refine z_iinc (pc := 100) C (lv' := [(0, .ref v0), (1, .ref v1), (2, vI v2), (3, vL (v3 + 0)), (5, vI (v5 + 1)), (6, vI s0)]) 4 rfl (by decide) rfl dX1_distanceOf_100 ?_
    refine z_goto (pc := 103) C dX1_distanceOf_103 (tgt := 5) (by decide) ?_
    exact z_lv [0, 1, 2, 3, 4] rfl <| hk5 v0 v1 v2 (v3 + 0) (v5 + 1) M _ hv0 hv1 h
  · have h := itf c17 h
    refine z_aload_n (pc := 75) C 0 rfl dX1_distanceOf_75 ?_
    refine gX1_902 (pc := 76) C rfl hv0 dX1_distanceOf_76 ?_
    refine z_iload (pc := 79) C 4 rfl dX1_distanceOf_79 ?_
    obtain ⟨c18, h⟩ := ifn h
    refine z_iaO (pc := 81) (k := 9) (j := 2) C 902 rfl (by decide) (by decide) (by decide) rfl rfl rfl rfl hv0 c18 rfl dX1_distanceOf_81 ?_
    refine z_aload_n (pc := 82) C 1 rfl dX1_distanceOf_82 ?_
    refine gX1_902 (pc := 83) C rfl hv1 dX1_distanceOf_83 ?_
    refine z_iload (pc := 86) C 4 rfl dX1_distanceOf_86 ?_
    refine z_iaO (pc := 88) (k := 9) (j := 2) C 902 rfl (by decide) (by decide) (by decide) rfl rfl rfl rfl hv1 c18 rfl dX1_distanceOf_88 ?_
    refine z_isub (pc := 89) C dX1_distanceOf_89 ?_
    refine z_abs (pc := 90) C q1190 q1191 q128 q1192 (by decide) (by decide) (Nat.zero_le _) (Nat.zero_le _) (Nat.le_of_ble_eq_true rfl) dX1_distanceOf_90 ?_
    refine z_i2l (pc := 93) C dX1_distanceOf_93 ?_
    refine z_goto (pc := 94) C dX1_distanceOf_94 (tgt := 98) (by decide) ?_
    refine z_ladd (pc := 98) C dX1_distanceOf_98 ?_
    refine z_lstore_n (pc := 99) C (lv' := [(0, .ref v0), (1, .ref v1), (2, vI v2), (3, vL (v3 + (w32 (ab32 ((m_i M 902 v0 (ixn v5)) - (m_i M 902 v1 (ixn v5))))))), (5, vI v5), (6, vI s0)]) (by decide) rfl dX1_distanceOf_99 ?_
    refine z_iinc (pc := 100) C (lv' := [(0, .ref v0), (1, .ref v1), (2, vI v2), (3, vL (v3 + (w32 (ab32 ((m_i M 902 v0 (ixn v5)) - (m_i M 902 v1 (ixn v5))))))), (5, vI (v5 + 1)), (6, vI s0)]) 4 rfl (by decide) rfl dX1_distanceOf_100 ?_
    refine z_goto (pc := 103) C dX1_distanceOf_103 (tgt := 5) (by decide) ?_
    exact z_lv [0, 1, 2, 3, 4] rfl <| hk5 v0 v1 v2 (v3 + (w32 (ab32 ((m_i M 902 v0 (ixn v5)) - (m_i M 902 v1 (ixn v5)))))) (v5 + 1) M _ hv0 hv1 h
theorem cB_X1_distanceOf_66 {X : x_Ctx} {M0 : Mem} (C : x_CC X 2 49 yX1_distanceOf cX1_distanceOf 7 (some .long) []) {k5 : Nat → Nat → Int → Int → Int → Mem → Option Int} (hk5 : ∀ (v0 : Nat) (v1 : Nat) (v2 : Int) (v3 : Int) (v5 : Int) (M : Mem) (r : Int), m_kd M v0 = 9 → m_kd M v1 = 9 → k5 v0 v1 v2 v3 v5 M = some r → x_Z X 0 0 (x_QF X M0 (.returned (some (vL r))) M 0 0) M0 M 7 [(0, .ref v0), (1, .ref v1), (2, vI v2), (3, vL v3), (5, vI v5)] 5 []) (v0 : Nat) (v1 : Nat) (v2 : Int) (v3 : Int) (v5 : Int) (M : Mem) (r : Int) (hv0 : m_kd M v0 = 9) (hv1 : m_kd M v1 = 9) (h : B_X1_distanceOf_66 k5 v0 v1 v2 v3 v5 M = some r)  : x_Z X 0 0 (x_QF X M0 (.returned (some (vL r))) M 0 0) M0 M 7 [(0, .ref v0), (1, .ref v1), (2, vI v2), (3, vL v3), (5, vI v5)] 66 [] := by
  unfold B_X1_distanceOf_66 at h
  refine z_iconst (pc := 66) C dX1_distanceOf_66 ?_
  exact cB_X1_distanceOf_67 C hk5 v0 v1 v2 v3 v5 0 M _ hv0 hv1 h
theorem cB_X1_distanceOf_5 {X : x_Ctx} {M0 : Mem} (C : x_CC X 2 49 yX1_distanceOf cX1_distanceOf 7 (some .long) []) {k5 : Nat → Nat → Int → Int → Int → Mem → Option Int} (hk5 : ∀ (v0 : Nat) (v1 : Nat) (v2 : Int) (v3 : Int) (v5 : Int) (M : Mem) (r : Int), m_kd M v0 = 9 → m_kd M v1 = 9 → k5 v0 v1 v2 v3 v5 M = some r → x_Z X 0 0 (x_QF X M0 (.returned (some (vL r))) M 0 0) M0 M 7 [(0, .ref v0), (1, .ref v1), (2, vI v2), (3, vL v3), (5, vI v5)] 5 []) (v0 : Nat) (v1 : Nat) (v2 : Int) (v3 : Int) (v5 : Int) (M : Mem) (r : Int) (hv0 : m_kd M v0 = 9) (hv1 : m_kd M v1 = 9) (h : B_X1_distanceOf_5 k5 v0 v1 v2 v3 v5 M = some r)  : x_Z X 0 0 (x_QF X M0 (.returned (some (vL r))) M 0 0) M0 M 7 [(0, .ref v0), (1, .ref v1), (2, vI v2), (3, vL v3), (5, vI v5)] 5 [] := by
  unfold B_X1_distanceOf_5 at h
  refine z_iload (pc := 5) C 4 rfl dX1_distanceOf_5 ?_
  refine z_aload_n (pc := 7) C 0 rfl dX1_distanceOf_7 ?_
  obtain ⟨q7, e8, h⟩ := bRs h
  refine gX1_901 (pc := 8) C rfl (Or.inl hv0) e8 dX1_distanceOf_8 (fun k9 => ?_)
  refine gX1_200 (pc := 11) C rfl (Or.inl k9) rfl dX1_distanceOf_11 ?_
  refine z_ic_ge (pc := 14) C dX1_distanceOf_14 (tgt := 106) (by decide) (fun c10 => ?_) (fun c10 => ?_)
  · have h := itt c10 h
    refine z_lload_n (pc := 106) C 3 rfl dX1_distanceOf_106 ?_
    cases h
    exact z_lret (pc := 107) C rfl (show 0 ≤ 0 from by decide) (show 0 ≤ 0 from by decide) dX1_distanceOf_107
  · have h := itf c10 h
    refine z_aload_n (pc := 17) C 0 rfl dX1_distanceOf_17 ?_
    obtain ⟨q11, e12, h⟩ := bRs h
    refine gX1_901 (pc := 18) C rfl (Or.inl hv0) e12 dX1_distanceOf_18 (fun k13 => ?_)
    refine z_iload (pc := 21) C 4 rfl dX1_distanceOf_21 ?_
    obtain ⟨r14, e15, h⟩ := bRs h
    refine cX1_374 (pc := 23) (st := []) (st1 := [vI r14]) C rfl (rm := { frames := 1, cells := 0, slots := 0, locals := 24 }) (ct_X2_isAsk C.2.1 q11 v5 M _ k13 e15) ⟨by decide, by decide, Nat.zero_le _, Nat.zero_le _⟩ (Or.inl k13) rfl (Nat.le_of_ble_eq_true rfl) dX1_distanceOf_23 (c2 := 0) (s2 := 0) rfl rfl (fun _ => ?_)
    refine z_if_eq (pc := 26) C dX1_distanceOf_26 (tgt := 66) (by decide) (fun c16 => ?_) (fun c16 => ?_)
    · have h := itt c16 h
      exact cB_X1_distanceOf_66 C hk5 v0 v1 v2 v3 v5 M _ hv0 hv1 h
    · have h := itf c16 h
      refine z_iload_n (pc := 29) C 2 rfl dX1_distanceOf_29 ?_
      refine z_iload (pc := 30) C 4 rfl dX1_distanceOf_30 ?_
      refine z_ishr (pc := 32) C dX1_distanceOf_32 ?_
      refine z_iconst (pc := 33) C dX1_distanceOf_33 ?_
      refine z_iand (pc := 34) C dX1_distanceOf_34 ?_
      refine z_if_ne (pc := 35) C dX1_distanceOf_35 (tgt := 66) (by decide) (fun c19 => ?_) (fun c19 => ?_)
      · have h := itf c19 h
        exact cB_X1_distanceOf_66 C hk5 v0 v1 v2 v3 v5 M _ hv0 hv1 h
      · have h := itt c19 h
        refine z_aload_n (pc := 38) C 0 rfl dX1_distanceOf_38 ?_
        refine gX1_902 (pc := 39) C rfl hv0 dX1_distanceOf_39 ?_
        refine z_iload (pc := 42) C 4 rfl dX1_distanceOf_42 ?_
        obtain ⟨c20, h⟩ := ifn h
        refine z_iaO (pc := 44) (k := 9) (j := 2) C 902 rfl (by decide) (by decide) (by decide) rfl rfl rfl rfl hv0 c20 rfl dX1_distanceOf_44 ?_
        refine z_ldc (pc := 45) C (x := -2000000) q661 (by decide +kernel) dX1_distanceOf_45 ?_
        refine z_ic_eq (pc := 47) C dX1_distanceOf_47 (tgt := 66) (by decide) (fun c21 => ?_) (fun c21 => ?_)
        · have h := itt c21 h
          exact cB_X1_distanceOf_66 C hk5 v0 v1 v2 v3 v5 M _ hv0 hv1 h
        · have h := itf c21 h
          refine z_aload_n (pc := 50) C 1 rfl dX1_distanceOf_50 ?_
          refine gX1_902 (pc := 51) C rfl hv1 dX1_distanceOf_51 ?_
          refine z_iload (pc := 54) C 4 rfl dX1_distanceOf_54 ?_
          refine z_iaO (pc := 56) (k := 9) (j := 2) C 902 rfl (by decide) (by decide) (by decide) rfl rfl rfl rfl hv1 c20 rfl dX1_distanceOf_56 ?_
          refine z_ldc (pc := 57) C (x := -2000000) q661 (by decide +kernel) dX1_distanceOf_57 ?_
          refine z_ic_eq (pc := 59) C dX1_distanceOf_59 (tgt := 66) (by decide) (fun c22 => ?_) (fun c22 => ?_)
          · have h := itt c22 h
            exact cB_X1_distanceOf_66 C hk5 v0 v1 v2 v3 v5 M _ hv0 hv1 h
          · have h := itf c22 h
            refine z_iconst (pc := 62) C dX1_distanceOf_62 ?_
            refine z_goto (pc := 63) C dX1_distanceOf_63 (tgt := 67) (by decide) ?_
            exact cB_X1_distanceOf_67 C hk5 v0 v1 v2 v3 v5 1 M _ hv0 hv1 h
theorem cL_X1_distanceOf_5 {X : x_Ctx} {M0 : Mem} (C : x_CC X 2 49 yX1_distanceOf cX1_distanceOf 7 (some .long) [])  : ∀ (n : Nat) (v0 : Nat) (v1 : Nat) (v2 : Int) (v3 : Int) (v5 : Int) (M : Mem) (r : Int) (hv0 : m_kd M v0 = 9) (hv1 : m_kd M v1 = 9) (h : L_X1_distanceOf_5  n v0 v1 v2 v3 v5 M = some r) , x_Z X 0 0 (x_QF X M0 (.returned (some (vL r))) M 0 0) M0 M 7 [(0, .ref v0), (1, .ref v1), (2, vI v2), (3, vL v3), (5, vI v5)] 5 [] := by
  intro n
  induction n with
  | zero => intro v0 v1 v2 v3 v5 M r hv0 hv1 h ; cases h
  | succ n ih => intro v0 v1 v2 v3 v5 M r hv0 hv1 h ; exact cB_X1_distanceOf_5 C (fun v0 v1 v2 v3 v5 M r hv0 hv1 h  => ih v0 v1 v2 v3 v5 M r hv0 hv1 h ) v0 v1 v2 v3 v5 M r hv0 hv1 h 
theorem ct_X1_distanceOf {l : Launch} {S0 : State} {D : va_G} {cA : Nat → ClassId} (hG : x_G l S0 D cA) (v0 : Nat) (v1 : Nat) (v2 : Int) (M : Mem) (r : Int) (hv0 : m_kd M v0 = 9) (hv1 : m_kd M v1 = 9) (h : d_X1_distanceOf v0 v1 v2 M = some r) : x_Me l S0 D cA yX1_distanceOf cX1_distanceOf 7 (some .long) [] ({ frames := 2, cells := 0, slots := 0, locals := 49 }) [.ref v0, .ref v1, vI v2] M (.returned (some (vL r))) M := by
  refine x_begin (F := 2) (Lo := 49) (mc := 0) (ms := 0) hG (Nat.le_of_ble_eq_true rfl) (lv := [(0, .ref v0), (1, .ref v1), (2, vI v2)]) rfl rfl rfl rfl rfl (fun X e1 e2 e3 e4 e5 C => ?_)
  unfold d_X1_distanceOf at h
  refine z_lconst (pc := 0) C (x := 0) (by decide +kernel) dX1_distanceOf_0 ?_
  refine z_lstore_n (pc := 1) C (lv' := [(0, .ref v0), (1, .ref v1), (2, vI v2), (3, vL 0)]) (by decide) rfl dX1_distanceOf_1 ?_
  refine z_iconst (pc := 2) C dX1_distanceOf_2 ?_
  refine z_istore (pc := 3) C (lv' := [(0, .ref v0), (1, .ref v1), (2, vI v2), (3, vL 0), (5, vI 0)]) (by decide) rfl dX1_distanceOf_3 ?_
  exact cL_X1_distanceOf_5 C FU v0 v1 v2 0 0 M _ hv0 hv1 h
