set_option maxRecDepth 100000
def d_X5_isNext (v0 : Nat) (v1 : Int) (v3 : Int) (M : Mem) : Option Int :=
  if ¬ w64 (w32 (m_i M 579 v0 0)) = 0 then 
  if w64 v1 = w64 ((d64 v1 (w32 (m_i M 579 v0 0))) * (w32 (m_i M 579 v0 0))) then
    if w64 v3 = w64 v1 then
      some 1
    else
      some 0
  else
    if w64 v3 = w64 ((d64 v1 (w32 (m_i M 579 v0 0))) * (w32 (m_i M 579 v0 0))) then
      some 1
    else
      if w64 v3 = w64 (((d64 v1 (w32 (m_i M 579 v0 0))) * (w32 (m_i M 579 v0 0))) + (w32 (m_i M 579 v0 0))) then
        some 1
      else
        some 0 else none
theorem ct_X5_isNext {l : Launch} {S0 : State} {D : va_G} {cA : Nat → ClassId} (hG : x_G l S0 D cA) (v0 : Nat) (v1 : Int) (v3 : Int) (M : Mem) (r : Int) (hv0 : m_kd M v0 = 5) (h : d_X5_isNext v0 v1 v3 M = some r) : x_Me l S0 D cA yX5_isNext cX5_isNext 7 (some .boolean) [] ({ frames := 1, cells := 0, slots := 0, locals := 24 }) [.ref v0, vL v1, vL v3] M (.returned (some (vI r))) M := by
  refine x_begin (F := 1) (Lo := 24) (mc := 0) (ms := 0) hG (Nat.le_of_ble_eq_true rfl) (lv := [(0, .ref v0), (1, vL v1), (3, vL v3)]) rfl rfl rfl rfl rfl (fun X e1 e2 e3 e4 e5 C => ?_)
  unfold d_X5_isNext at h
  refine z_lload_n (pc := 0) C 1 rfl dX5_isNext_0 ?_
  refine z_aload_n (pc := 1) C 0 rfl dX5_isNext_1 ?_
  refine gX5_579 (pc := 2) C rfl (Or.inl hv0) rfl dX5_isNext_2 ?_
  refine z_i2l (pc := 5) C dX5_isNext_5 ?_
  obtain ⟨c1, h⟩ := ifn h
  refine z_ldiv (pc := 6) C c1 dX5_isNext_6 ?_
  refine z_aload_n (pc := 7) C 0 rfl dX5_isNext_7 ?_
  refine gX5_579 (pc := 8) C rfl (Or.inl hv0) rfl dX5_isNext_8 ?_
  refine z_i2l (pc := 11) C dX5_isNext_11 ?_
  refine z_lmul (pc := 12) C dX5_isNext_12 ?_
  refine z_lstore (pc := 13) C (lv' := [(0, .ref v0), (1, vL v1), (3, vL v3), (5, vL ((d64 v1 (w32 (m_i M 579 v0 0))) * (w32 (m_i M 579 v0 0))))]) (by decide) rfl dX5_isNext_13 ?_
  refine z_lload_n (pc := 15) C 1 rfl dX5_isNext_15 ?_
  refine z_lload (pc := 16) C 3 rfl dX5_isNext_16 ?_
  refine z_lc_ne (pc := 18) C dX5_isNext_18 dX5_isNext_19 (tgt := 36) (by decide) (fun c2 => ?_) (fun c2 => ?_)
  · have h := itf c2 h
    refine z_lload_n (pc := 36) C 2 rfl dX5_isNext_36 ?_
    refine z_lload (pc := 37) C 3 rfl dX5_isNext_37 ?_
    refine z_lc_eq (pc := 39) C dX5_isNext_39 dX5_isNext_40 (tgt := 56) (by decide) (fun c3 => ?_) (fun c3 => ?_)
    · have h := itt c3 h
      refine z_iconst (pc := 56) C dX5_isNext_56 ?_
      refine z_goto (pc := 57) C dX5_isNext_57 (tgt := 61) (by decide) ?_
      cases h
      exact z_zret (pc := 61) C rfl (Or.inr rfl) (show 0 ≤ 0 from by decide) (show 0 ≤ 0 from by decide) dX5_isNext_61
    · have h := itf c3 h
      refine z_lload_n (pc := 43) C 2 rfl dX5_isNext_43 ?_
      refine z_lload (pc := 44) C 3 rfl dX5_isNext_44 ?_
      refine z_aload_n (pc := 46) C 0 rfl dX5_isNext_46 ?_
      refine gX5_579 (pc := 47) C rfl (Or.inl hv0) rfl dX5_isNext_47 ?_
      refine z_i2l (pc := 50) C dX5_isNext_50 ?_
      refine z_ladd (pc := 51) C dX5_isNext_51 ?_
      refine z_lc_ne (pc := 52) C dX5_isNext_52 dX5_isNext_53 (tgt := 60) (by decide) (fun c4 => ?_) (fun c4 => ?_)
      · have h := itf c4 h
        refine z_iconst (pc := 60) C dX5_isNext_60 ?_
        cases h
        exact z_zret (pc := 61) C rfl (Or.inl rfl) (show 0 ≤ 0 from by decide) (show 0 ≤ 0 from by decide) dX5_isNext_61
      · have h := itt c4 h
        refine z_iconst (pc := 56) C dX5_isNext_56 ?_
        refine z_goto (pc := 57) C dX5_isNext_57 (tgt := 61) (by decide) ?_
        cases h
        exact z_zret (pc := 61) C rfl (Or.inr rfl) (show 0 ≤ 0 from by decide) (show 0 ≤ 0 from by decide) dX5_isNext_61
  · have h := itt c2 h
    refine z_lload_n (pc := 22) C 2 rfl dX5_isNext_22 ?_
    refine z_lload_n (pc := 23) C 1 rfl dX5_isNext_23 ?_
    refine z_lc_ne (pc := 24) C dX5_isNext_24 dX5_isNext_25 (tgt := 32) (by decide) (fun c5 => ?_) (fun c5 => ?_)
    · have h := itf c5 h
      refine z_iconst (pc := 32) C dX5_isNext_32 ?_
      refine z_goto (pc := 33) C dX5_isNext_33 (tgt := 61) (by decide) ?_
      cases h
      exact z_zret (pc := 61) C rfl (Or.inl rfl) (show 0 ≤ 0 from by decide) (show 0 ≤ 0 from by decide) dX5_isNext_61
    · have h := itt c5 h
      refine z_iconst (pc := 28) C dX5_isNext_28 ?_
      refine z_goto (pc := 29) C dX5_isNext_29 (tgt := 61) (by decide) ?_
      cases h
      exact z_zret (pc := 61) C rfl (Or.inr rfl) (show 0 ≤ 0 from by decide) (show 0 ≤ 0 from by decide) dX5_isNext_61
def B_X5_isWay_212 (k122 : Nat → Int → Int → Int → Mem → Option (Int × Mem)) (k136 : Nat → Int → Int → Int → Int → Mem → Option (Int × Mem)) (k156 : Nat → Int → Int → Int → Int → Int → Int → Int → Mem → Option (Int × Mem)) (v0 : Nat) (v1 : Int) (v3 : Int) (v4 : Int) (v5 : Int) (v6 : Int) (v8 : Int) (v10 : Int) (M : Mem) : Option (Int × Mem) :=
  if inb ((12 * v1) + v10) 144 then 
  k156 v0 v1 v3 v4 v5 (v6 + (w32 (m_i M 572 v0 (ixn ((12 * v1) + v10))))) (v8 + (w32 (m_i M 575 v0 (ixn ((12 * v1) + v10))))) (v10 + 1) M else none
def B_X5_isWay_187 (k122 : Nat → Int → Int → Int → Mem → Option (Int × Mem)) (k136 : Nat → Int → Int → Int → Int → Mem → Option (Int × Mem)) (k156 : Nat → Int → Int → Int → Int → Int → Int → Int → Mem → Option (Int × Mem)) (v0 : Nat) (v1 : Int) (v3 : Int) (v4 : Int) (v5 : Int) (v6 : Int) (v8 : Int) (v10 : Int) (M : Mem) : Option (Int × Mem) :=
  if inb v1 12 then 
  if w32 v5 = w32 (m_i M 571 v0 (ixn v1)) then
    B_X5_isWay_212 k122 k136 k156 v0 v1 v3 v4 v5 v6 v8 v10 M
  else
    if ¬ w32 (m_i M 571 v0 (ixn v1)) = 0 then 
    if w32 (r32 v10 (m_i M 571 v0 (ixn v1))) = w32 v5 then
      B_X5_isWay_212 k122 k136 k156 v0 v1 v3 v4 v5 v6 v8 v10 M
    else
      k156 v0 v1 v3 v4 v5 v6 v8 (v10 + 1) M else none else none
def B_X5_isWay_156 (k122 : Nat → Int → Int → Int → Mem → Option (Int × Mem)) (k136 : Nat → Int → Int → Int → Int → Mem → Option (Int × Mem)) (k156 : Nat → Int → Int → Int → Int → Int → Int → Int → Mem → Option (Int × Mem)) (v0 : Nat) (v1 : Int) (v3 : Int) (v4 : Int) (v5 : Int) (v6 : Int) (v8 : Int) (v10 : Int) (M : Mem) : Option (Int × Mem) :=
  if w32 v3 ≤ w32 v10 then
    bR (d_X5_isNext v0 v6 v8 M) fun r8 => 
    if w32 r8 = 0 then
      some (0, M)
    else
      k136 v0 v1 v3 v4 (v5 + 1) M
  else
    if inb v1 12 then 
    if w32 v4 = w32 (m_i M 570 v0 (ixn v1)) then
      B_X5_isWay_187 k122 k136 k156 v0 v1 v3 v4 v5 v6 v8 v10 M
    else
      if ¬ w32 (m_i M 571 v0 (ixn v1)) = 0 then 
      if w32 (d32 v10 (m_i M 571 v0 (ixn v1))) = w32 v4 then
        B_X5_isWay_187 k122 k136 k156 v0 v1 v3 v4 v5 v6 v8 v10 M
      else
        k156 v0 v1 v3 v4 v5 v6 v8 (v10 + 1) M else none else none
def L_X5_isWay_156 (k122 : Nat → Int → Int → Int → Mem → Option (Int × Mem)) (k136 : Nat → Int → Int → Int → Int → Mem → Option (Int × Mem)) : Nat → Nat → Int → Int → Int → Int → Int → Int → Int → Mem → Option (Int × Mem)
  | 0, _, _, _, _, _, _, _, _, _ => none
  | n + 1, v0, v1, v3, v4, v5, v6, v8, v10, M => B_X5_isWay_156 k122 k136 (L_X5_isWay_156 k122 k136 n) v0 v1 v3 v4 v5 v6 v8 v10 M
def B_X5_isWay_136 (k122 : Nat → Int → Int → Int → Mem → Option (Int × Mem)) (k136 : Nat → Int → Int → Int → Int → Mem → Option (Int × Mem)) (v0 : Nat) (v1 : Int) (v3 : Int) (v4 : Int) (v5 : Int) (M : Mem) : Option (Int × Mem) :=
  if inb v1 12 then 
  if w32 (m_i M 571 v0 (ixn v1)) < w32 v5 then
    k122 v0 v1 v3 (v4 + 1) M
  else
    L_X5_isWay_156 k122 k136 FU v0 v1 v3 v4 v5 0 0 0 M else none
def L_X5_isWay_136 (k122 : Nat → Int → Int → Int → Mem → Option (Int × Mem)) : Nat → Nat → Int → Int → Int → Int → Mem → Option (Int × Mem)
  | 0, _, _, _, _, _, _ => none
  | n + 1, v0, v1, v3, v4, v5, M => B_X5_isWay_136 k122 (L_X5_isWay_136 k122 n) v0 v1 v3 v4 v5 M
def B_X5_isWay_122 (k122 : Nat → Int → Int → Int → Mem → Option (Int × Mem)) (v0 : Nat) (v1 : Int) (v3 : Int) (v4 : Int) (M : Mem) : Option (Int × Mem) :=
  if inb v1 12 then 
  if w32 (m_i M 570 v0 (ixn v1)) < w32 v4 then
    some (1, M)
  else
    L_X5_isWay_136 k122 FU v0 v1 v3 v4 0 M else none
def L_X5_isWay_122  : Nat → Nat → Int → Int → Int → Mem → Option (Int × Mem)
  | 0, _, _, _, _, _ => none
  | n + 1, v0, v1, v3, v4, M => B_X5_isWay_122 (L_X5_isWay_122  n) v0 v1 v3 v4 M
def B_X5_isWay_75 (k17 : Nat → Int → Int → Int → Int → Mem → Option (Int × Mem)) (v0 : Nat) (v1 : Int) (v2 : Int) (v3 : Int) (v4 : Int) (v5 : Int) (v6 : Int) (M : Mem) : Option (Int × Mem) :=
  if ¬ w32 (m_i M 579 v0 0) = 0 then 
  if w32 v6 = 0 then
    if inb ((12 * v1) + v4) 144 then 
    k17 v0 v1 v2 v3 (v4 + 1) (m_si M 575 v0 (ixn ((12 * v1) + v4)) (((d32 v5 (m_i M 579 v0 0)) * (m_i M 579 v0 0)) + 0)) else none
  else
    if inb ((12 * v1) + v4) 144 then 
    k17 v0 v1 v2 v3 (v4 + 1) (m_si M 575 v0 (ixn ((12 * v1) + v4)) (((d32 v5 (m_i M 579 v0 0)) * (m_i M 579 v0 0)) + (m_i M 579 v0 0))) else none else none
def B_X5_isWay_56 (k17 : Nat → Int → Int → Int → Int → Mem → Option (Int × Mem)) (v0 : Nat) (v1 : Int) (v2 : Int) (v3 : Int) (v4 : Int) (v5 : Int) (s0 : Int) (M : Mem) : Option (Int × Mem) :=
  if w32 s0 = 0 then
    B_X5_isWay_75 k17 v0 v1 v2 v3 v4 v5 s0 M
  else
    if ¬ w32 (m_i M 579 v0 0) = 0 then 
    if w32 (r32 v5 (m_i M 579 v0 0)) = 0 then
      some (0, M)
    else
      B_X5_isWay_75 k17 v0 v1 v2 v3 v4 v5 s0 M else none
def B_X5_isWay_17 (k17 : Nat → Int → Int → Int → Int → Mem → Option (Int × Mem)) (v0 : Nat) (v1 : Int) (v2 : Int) (v3 : Int) (v4 : Int) (M : Mem) : Option (Int × Mem) :=
  if w32 v3 ≤ w32 v4 then
    L_X5_isWay_122 FU v0 v1 v3 0 M
  else
    if inb ((12 * v1) + v4) 144 then 
    if w32 (a32 (s32 v2 ((v3 - 1) - v4)) 1) = w32 1 then
      B_X5_isWay_56 k17 v0 v1 v2 v3 v4 (m_i M 572 v0 (ixn ((12 * v1) + v4))) 1 M
    else
      B_X5_isWay_56 k17 v0 v1 v2 v3 v4 (m_i M 572 v0 (ixn ((12 * v1) + v4))) 0 M else none
def L_X5_isWay_17  : Nat → Nat → Int → Int → Int → Int → Mem → Option (Int × Mem)
  | 0, _, _, _, _, _, _ => none
  | n + 1, v0, v1, v2, v3, v4, M => B_X5_isWay_17 (L_X5_isWay_17  n) v0 v1 v2 v3 v4 M
def d_X5_isWay (v0 : Nat) (v1 : Int) (v2 : Int) (M : Mem) : Option (Int × Mem) :=
  if inb v1 12 then 
  L_X5_isWay_17 FU v0 v1 v2 ((m_i M 570 v0 (ixn v1)) * (m_i M 571 v0 (ixn v1))) 0 M else none
theorem cB_X5_isWay_212 {X : x_Ctx} {M0 : Mem} (C : x_CC X 2 54 yX5_isWay cX5_isWay 11 (some .boolean) []) {k122 : Nat → Int → Int → Int → Mem → Option (Int × Mem)} (hk122 : ∀ (v0 : Nat) (v1 : Int) (v3 : Int) (v4 : Int) (M : Mem) (r : Int) (M' : Mem), m_kd M v0 = 5 → k122 v0 v1 v3 v4 M = some (r, M') → x_Z X 0 0 (x_QF X M0 (.returned (some (vI r))) M' 0 0) M0 M 11 [(0, .ref v0), (1, vI v1), (3, vI v3), (4, vI v4)] 122 []) {k136 : Nat → Int → Int → Int → Int → Mem → Option (Int × Mem)} (hk136 : ∀ (v0 : Nat) (v1 : Int) (v3 : Int) (v4 : Int) (v5 : Int) (M : Mem) (r : Int) (M' : Mem), m_kd M v0 = 5 → k136 v0 v1 v3 v4 v5 M = some (r, M') → x_Z X 0 0 (x_QF X M0 (.returned (some (vI r))) M' 0 0) M0 M 11 [(0, .ref v0), (1, vI v1), (3, vI v3), (4, vI v4), (5, vI v5)] 136 []) {k156 : Nat → Int → Int → Int → Int → Int → Int → Int → Mem → Option (Int × Mem)} (hk156 : ∀ (v0 : Nat) (v1 : Int) (v3 : Int) (v4 : Int) (v5 : Int) (v6 : Int) (v8 : Int) (v10 : Int) (M : Mem) (r : Int) (M' : Mem), m_kd M v0 = 5 → k156 v0 v1 v3 v4 v5 v6 v8 v10 M = some (r, M') → x_Z X 0 0 (x_QF X M0 (.returned (some (vI r))) M' 0 0) M0 M 11 [(0, .ref v0), (1, vI v1), (3, vI v3), (4, vI v4), (5, vI v5), (6, vL v6), (8, vL v8), (10, vI v10)] 156 []) (v0 : Nat) (v1 : Int) (v3 : Int) (v4 : Int) (v5 : Int) (v6 : Int) (v8 : Int) (v10 : Int) (M : Mem) (r : Int) (M' : Mem) (hv0 : m_kd M v0 = 5) (h : B_X5_isWay_212 k122 k136 k156 v0 v1 v3 v4 v5 v6 v8 v10 M = some (r, M'))  : x_Z X 0 0 (x_QF X M0 (.returned (some (vI r))) M' 0 0) M0 M 11 [(0, .ref v0), (1, vI v1), (3, vI v3), (4, vI v4), (5, vI v5), (6, vL v6), (8, vL v8), (10, vI v10)] 212 [] := by
  unfold B_X5_isWay_212 at h
  refine z_lload (pc := 212) C 5 rfl dX5_isWay_212 ?_
  refine z_aload_n (pc := 214) C 0 rfl dX5_isWay_214 ?_
  refine gX5_572 (pc := 215) C rfl hv0 dX5_isWay_215 ?_
  refine z_bipush (pc := 218) C (by decide +kernel) dX5_isWay_218 ?_
  refine z_iload_n (pc := 220) C 1 rfl dX5_isWay_220 ?_
  refine z_imul (pc := 221) C dX5_isWay_221 ?_
  refine z_iload (pc := 222) C 7 rfl dX5_isWay_222 ?_
  refine z_iadd (pc := 224) C dX5_isWay_224 ?_
  obtain ⟨c15, h⟩ := ifn h
  refine z_iaO (pc := 225) (k := 5) (j := 72) C 572 rfl (by decide) (by decide) (by decide) rfl rfl rfl rfl hv0 c15 rfl dX5_isWay_225 ?_
  refine z_i2l (pc := 226) C dX5_isWay_226 ?_
  refine z_ladd (pc := 227) C dX5_isWay_227 ?_
  refine z_lstore (pc := 228) C (lv' := [(0, .ref v0), (1, vI v1), (3, vI v3), (4, vI v4), (5, vI v5), (6, vL (v6 + (w32 (m_i M 572 v0 (ixn ((12 * v1) + v10)))))), (8, vL v8), (10, vI v10)]) (by decide) rfl dX5_isWay_228 ?_
  refine z_lload (pc := 230) C 6 rfl dX5_isWay_230 ?_
  refine z_aload_n (pc := 232) C 0 rfl dX5_isWay_232 ?_
  refine gX5_575 (pc := 233) C rfl hv0 dX5_isWay_233 ?_
  refine z_bipush (pc := 236) C (by decide +kernel) dX5_isWay_236 ?_
  refine z_iload_n (pc := 238) C 1 rfl dX5_isWay_238 ?_
  refine z_imul (pc := 239) C dX5_isWay_239 ?_
  refine z_iload (pc := 240) C 7 rfl dX5_isWay_240 ?_
  refine z_iadd (pc := 242) C dX5_isWay_242 ?_
  refine z_iaO (pc := 243) (k := 5) (j := 75) C 575 rfl (by decide) (by decide) (by decide) rfl rfl rfl rfl hv0 c15 rfl dX5_isWay_243 ?_
  refine z_i2l (pc := 244) C dX5_isWay_244 ?_
  refine z_ladd (pc := 245) C dX5_isWay_245 ?_
  refine z_lstore (pc := 246) C (lv' := [(0, .ref v0), (1, vI v1), (3, vI v3), (4, vI v4), (5, vI v5), (6, vL (v6 + (w32 (m_i M 572 v0 (ixn ((12 * v1) + v10)))))), (8, vL (v8 + (w32 (m_i M 575 v0 (ixn ((12 * v1) + v10)))))), (10, vI v10)]) (by decide) rfl dX5_isWay_246 ?_
  refine z_iinc (pc := 248) C (lv' := [(0, .ref v0), (1, vI v1), (3, vI v3), (4, vI v4), (5, vI v5), (6, vL (v6 + (w32 (m_i M 572 v0 (ixn ((12 * v1) + v10)))))), (8, vL (v8 + (w32 (m_i M 575 v0 (ixn ((12 * v1) + v10)))))), (10, vI (v10 + 1))]) 7 rfl (by decide) rfl dX5_isWay_248 ?_
  refine z_goto (pc := 251) C dX5_isWay_251 (tgt := 156) (by decide) ?_
  exact hk156 v0 v1 v3 v4 v5 (v6 + (w32 (m_i M 572 v0 (ixn ((12 * v1) + v10))))) (v8 + (w32 (m_i M 575 v0 (ixn ((12 * v1) + v10))))) (v10 + 1) M _ _ hv0 h
theorem cB_X5_isWay_187 {X : x_Ctx} {M0 : Mem} (C : x_CC X 2 54 yX5_isWay cX5_isWay 11 (some .boolean) []) {k122 : Nat → Int → Int → Int → Mem → Option (Int × Mem)} (hk122 : ∀ (v0 : Nat) (v1 : Int) (v3 : Int) (v4 : Int) (M : Mem) (r : Int) (M' : Mem), m_kd M v0 = 5 → k122 v0 v1 v3 v4 M = some (r, M') → x_Z X 0 0 (x_QF X M0 (.returned (some (vI r))) M' 0 0) M0 M 11 [(0, .ref v0), (1, vI v1), (3, vI v3), (4, vI v4)] 122 []) {k136 : Nat → Int → Int → Int → Int → Mem → Option (Int × Mem)} (hk136 : ∀ (v0 : Nat) (v1 : Int) (v3 : Int) (v4 : Int) (v5 : Int) (M : Mem) (r : Int) (M' : Mem), m_kd M v0 = 5 → k136 v0 v1 v3 v4 v5 M = some (r, M') → x_Z X 0 0 (x_QF X M0 (.returned (some (vI r))) M' 0 0) M0 M 11 [(0, .ref v0), (1, vI v1), (3, vI v3), (4, vI v4), (5, vI v5)] 136 []) {k156 : Nat → Int → Int → Int → Int → Int → Int → Int → Mem → Option (Int × Mem)} (hk156 : ∀ (v0 : Nat) (v1 : Int) (v3 : Int) (v4 : Int) (v5 : Int) (v6 : Int) (v8 : Int) (v10 : Int) (M : Mem) (r : Int) (M' : Mem), m_kd M v0 = 5 → k156 v0 v1 v3 v4 v5 v6 v8 v10 M = some (r, M') → x_Z X 0 0 (x_QF X M0 (.returned (some (vI r))) M' 0 0) M0 M 11 [(0, .ref v0), (1, vI v1), (3, vI v3), (4, vI v4), (5, vI v5), (6, vL v6), (8, vL v8), (10, vI v10)] 156 []) (v0 : Nat) (v1 : Int) (v3 : Int) (v4 : Int) (v5 : Int) (v6 : Int) (v8 : Int) (v10 : Int) (M : Mem) (r : Int) (M' : Mem) (hv0 : m_kd M v0 = 5) (h : B_X5_isWay_187 k122 k136 k156 v0 v1 v3 v4 v5 v6 v8 v10 M = some (r, M'))  : x_Z X 0 0 (x_QF X M0 (.returned (some (vI r))) M' 0 0) M0 M 11 [(0, .ref v0), (1, vI v1), (3, vI v3), (4, vI v4), (5, vI v5), (6, vL v6), (8, vL v8), (10, vI v10)] 187 [] := by
  unfold B_X5_isWay_187 at h
  refine z_iload (pc := 187) C 4 rfl dX5_isWay_187 ?_
  refine z_aload_n (pc := 189) C 0 rfl dX5_isWay_189 ?_
  refine gX5_571 (pc := 190) C rfl hv0 dX5_isWay_190 ?_
  refine z_iload_n (pc := 193) C 1 rfl dX5_isWay_193 ?_
  obtain ⟨c13, h⟩ := ifn h
  refine z_iaO (pc := 194) (k := 5) (j := 71) C 571 rfl (by decide) (by decide) (by decide) rfl rfl rfl rfl hv0 c13 rfl dX5_isWay_194 ?_
  refine z_ic_eq (pc := 195) C dX5_isWay_195 (tgt := 212) (by decide) (fun c14 => ?_) (fun c14 => ?_)
  · have h := itt c14 h
    exact cB_X5_isWay_212 C hk122 hk136 hk156 v0 v1 v3 v4 v5 v6 v8 v10 M _ _ hv0 h
  · have h := itf c14 h
    refine z_iload (pc := 198) C 7 rfl dX5_isWay_198 ?_
    refine z_aload_n (pc := 200) C 0 rfl dX5_isWay_200 ?_
    refine gX5_571 (pc := 201) C rfl hv0 dX5_isWay_201 ?_
    refine z_iload_n (pc := 204) C 1 rfl dX5_isWay_204 ?_
    refine z_iaO (pc := 205) (k := 5) (j := 71) C 571 rfl (by decide) (by decide) (by decide) rfl rfl rfl rfl hv0 c13 rfl dX5_isWay_205 ?_
    obtain ⟨c16, h⟩ := ifn h
    refine z_irem (pc := 206) C c16 dX5_isWay_206 ?_
    refine z_iload (pc := 207) C 4 rfl dX5_isWay_207 ?_
    refine z_ic_ne (pc := 209) C dX5_isWay_209 (tgt := 248) (by decide) (fun c17 => ?_) (fun c17 => ?_)
    · have h := itf c17 h
      refine z_iinc (pc := 248) C (lv' := [(0, .ref v0), (1, vI v1), (3, vI v3), (4, vI v4), (5, vI v5), (6, vL v6), (8, vL v8), (10, vI (v10 + 1))]) 7 rfl (by decide) rfl dX5_isWay_248 ?_
      refine z_goto (pc := 251) C dX5_isWay_251 (tgt := 156) (by decide) ?_
      exact hk156 v0 v1 v3 v4 v5 v6 v8 (v10 + 1) M _ _ hv0 h
    · have h := itt c17 h
      exact cB_X5_isWay_212 C hk122 hk136 hk156 v0 v1 v3 v4 v5 v6 v8 v10 M _ _ hv0 h
theorem cB_X5_isWay_156 {X : x_Ctx} {M0 : Mem} (C : x_CC X 2 54 yX5_isWay cX5_isWay 11 (some .boolean) []) {k122 : Nat → Int → Int → Int → Mem → Option (Int × Mem)} (hk122 : ∀ (v0 : Nat) (v1 : Int) (v3 : Int) (v4 : Int) (M : Mem) (r : Int) (M' : Mem), m_kd M v0 = 5 → k122 v0 v1 v3 v4 M = some (r, M') → x_Z X 0 0 (x_QF X M0 (.returned (some (vI r))) M' 0 0) M0 M 11 [(0, .ref v0), (1, vI v1), (3, vI v3), (4, vI v4)] 122 []) {k136 : Nat → Int → Int → Int → Int → Mem → Option (Int × Mem)} (hk136 : ∀ (v0 : Nat) (v1 : Int) (v3 : Int) (v4 : Int) (v5 : Int) (M : Mem) (r : Int) (M' : Mem), m_kd M v0 = 5 → k136 v0 v1 v3 v4 v5 M = some (r, M') → x_Z X 0 0 (x_QF X M0 (.returned (some (vI r))) M' 0 0) M0 M 11 [(0, .ref v0), (1, vI v1), (3, vI v3), (4, vI v4), (5, vI v5)] 136 []) {k156 : Nat → Int → Int → Int → Int → Int → Int → Int → Mem → Option (Int × Mem)} (hk156 : ∀ (v0 : Nat) (v1 : Int) (v3 : Int) (v4 : Int) (v5 : Int) (v6 : Int) (v8 : Int) (v10 : Int) (M : Mem) (r : Int) (M' : Mem), m_kd M v0 = 5 → k156 v0 v1 v3 v4 v5 v6 v8 v10 M = some (r, M') → x_Z X 0 0 (x_QF X M0 (.returned (some (vI r))) M' 0 0) M0 M 11 [(0, .ref v0), (1, vI v1), (3, vI v3), (4, vI v4), (5, vI v5), (6, vL v6), (8, vL v8), (10, vI v10)] 156 []) (v0 : Nat) (v1 : Int) (v3 : Int) (v4 : Int) (v5 : Int) (v6 : Int) (v8 : Int) (v10 : Int) (M : Mem) (r : Int) (M' : Mem) (hv0 : m_kd M v0 = 5) (h : B_X5_isWay_156 k122 k136 k156 v0 v1 v3 v4 v5 v6 v8 v10 M = some (r, M'))  : x_Z X 0 0 (x_QF X M0 (.returned (some (vI r))) M' 0 0) M0 M 11 [(0, .ref v0), (1, vI v1), (3, vI v3), (4, vI v4), (5, vI v5), (6, vL v6), (8, vL v8), (10, vI v10)] 156 [] := by
  unfold B_X5_isWay_156 at h
  refine z_iload (pc := 156) C 7 rfl dX5_isWay_156 ?_
  refine z_iload_n (pc := 158) C 2 rfl dX5_isWay_158 ?_
  refine z_ic_ge (pc := 159) C dX5_isWay_159 (tgt := 254) (by decide) (fun c7 => ?_) (fun c7 => ?_)
  · have h := itt c7 h
    refine z_aload_n (pc := 254) C 0 rfl dX5_isWay_254 ?_
    refine z_lload (pc := 255) C 5 rfl dX5_isWay_255 ?_
    refine z_lload (pc := 257) C 6 rfl dX5_isWay_257 ?_
    obtain ⟨r8, e9, h⟩ := bRs h
    refine cX5_493 (pc := 259) (st := []) (st1 := [vI r8]) C rfl (rm := { frames := 1, cells := 0, slots := 0, locals := 24 }) (ct_X5_isNext C.2.1 v0 v6 v8 M _ hv0 e9) ⟨by decide, by decide, Nat.zero_le _, Nat.zero_le _⟩ (Or.inl hv0) rfl (Nat.le_of_ble_eq_true rfl) dX5_isWay_259 (c2 := 0) (s2 := 0) rfl rfl (fun _ => ?_)
    refine z_if_ne (pc := 262) C dX5_isWay_262 (tgt := 267) (by decide) (fun c10 => ?_) (fun c10 => ?_)
    · have h := itf c10 h
      refine z_iinc (pc := 267) C (lv' := [(0, .ref v0), (1, vI v1), (3, vI v3), (4, vI v4), (5, vI (v5 + 1)), (6, vL v6), (8, vL v8), (10, vI v10)]) 4 rfl (by decide) rfl dX5_isWay_267 ?_
      refine z_goto (pc := 270) C dX5_isWay_270 (tgt := 136) (by decide) ?_
      exact z_lv [0, 1, 2, 3, 4] rfl <| hk136 v0 v1 v3 v4 (v5 + 1) M _ _ hv0 h
    · have h := itt c10 h
      refine z_iconst (pc := 265) C dX5_isWay_265 ?_
      cases h
      exact z_zret (pc := 266) C rfl (Or.inl rfl) (show 0 ≤ 0 from by decide) (show 0 ≤ 0 from by decide) dX5_isWay_266
  · have h := itf c7 h
    refine z_iload (pc := 162) C 3 rfl dX5_isWay_162 ?_
    refine z_aload_n (pc := 164) C 0 rfl dX5_isWay_164 ?_
    refine gX5_570 (pc := 165) C rfl hv0 dX5_isWay_165 ?_
    refine z_iload_n (pc := 168) C 1 rfl dX5_isWay_168 ?_
    obtain ⟨c11, h⟩ := ifn h
    refine z_iaO (pc := 169) (k := 5) (j := 70) C 570 rfl (by decide) (by decide) (by decide) rfl rfl rfl rfl hv0 c11 rfl dX5_isWay_169 ?_
    refine z_ic_eq (pc := 170) C dX5_isWay_170 (tgt := 187) (by decide) (fun c12 => ?_) (fun c12 => ?_)
    · have h := itt c12 h
      exact cB_X5_isWay_187 C hk122 hk136 hk156 v0 v1 v3 v4 v5 v6 v8 v10 M _ _ hv0 h
    · have h := itf c12 h
      refine z_iload (pc := 173) C 7 rfl dX5_isWay_173 ?_
      refine z_aload_n (pc := 175) C 0 rfl dX5_isWay_175 ?_
      refine gX5_571 (pc := 176) C rfl hv0 dX5_isWay_176 ?_
      refine z_iload_n (pc := 179) C 1 rfl dX5_isWay_179 ?_
      refine z_iaO (pc := 180) (k := 5) (j := 71) C 571 rfl (by decide) (by decide) (by decide) rfl rfl rfl rfl hv0 c11 rfl dX5_isWay_180 ?_
      obtain ⟨c18, h⟩ := ifn h
      refine z_idiv (pc := 181) C c18 dX5_isWay_181 ?_
      refine z_iload (pc := 182) C 3 rfl dX5_isWay_182 ?_
      refine z_ic_ne (pc := 184) C dX5_isWay_184 (tgt := 248) (by decide) (fun c19 => ?_) (fun c19 => ?_)
      · have h := itf c19 h
        refine z_iinc (pc := 248) C (lv' := [(0, .ref v0), (1, vI v1), (3, vI v3), (4, vI v4), (5, vI v5), (6, vL v6), (8, vL v8), (10, vI (v10 + 1))]) 7 rfl (by decide) rfl dX5_isWay_248 ?_
        refine z_goto (pc := 251) C dX5_isWay_251 (tgt := 156) (by decide) ?_
        exact hk156 v0 v1 v3 v4 v5 v6 v8 (v10 + 1) M _ _ hv0 h
      · have h := itt c19 h
        exact cB_X5_isWay_187 C hk122 hk136 hk156 v0 v1 v3 v4 v5 v6 v8 v10 M _ _ hv0 h
theorem cL_X5_isWay_156 {X : x_Ctx} {M0 : Mem} (C : x_CC X 2 54 yX5_isWay cX5_isWay 11 (some .boolean) []) {k122 : Nat → Int → Int → Int → Mem → Option (Int × Mem)} (hk122 : ∀ (v0 : Nat) (v1 : Int) (v3 : Int) (v4 : Int) (M : Mem) (r : Int) (M' : Mem), m_kd M v0 = 5 → k122 v0 v1 v3 v4 M = some (r, M') → x_Z X 0 0 (x_QF X M0 (.returned (some (vI r))) M' 0 0) M0 M 11 [(0, .ref v0), (1, vI v1), (3, vI v3), (4, vI v4)] 122 []) {k136 : Nat → Int → Int → Int → Int → Mem → Option (Int × Mem)} (hk136 : ∀ (v0 : Nat) (v1 : Int) (v3 : Int) (v4 : Int) (v5 : Int) (M : Mem) (r : Int) (M' : Mem), m_kd M v0 = 5 → k136 v0 v1 v3 v4 v5 M = some (r, M') → x_Z X 0 0 (x_QF X M0 (.returned (some (vI r))) M' 0 0) M0 M 11 [(0, .ref v0), (1, vI v1), (3, vI v3), (4, vI v4), (5, vI v5)] 136 []) : ∀ (n : Nat) (v0 : Nat) (v1 : Int) (v3 : Int) (v4 : Int) (v5 : Int) (v6 : Int) (v8 : Int) (v10 : Int) (M : Mem) (r : Int) (M' : Mem) (hv0 : m_kd M v0 = 5) (h : L_X5_isWay_156 k122 k136 n v0 v1 v3 v4 v5 v6 v8 v10 M = some (r, M')) , x_Z X 0 0 (x_QF X M0 (.returned (some (vI r))) M' 0 0) M0 M 11 [(0, .ref v0), (1, vI v1), (3, vI v3), (4, vI v4), (5, vI v5), (6, vL v6), (8, vL v8), (10, vI v10)] 156 [] := by
  intro n
  induction n with
  | zero => intro v0 v1 v3 v4 v5 v6 v8 v10 M r M' hv0 h ; cases h
  | succ n ih => intro v0 v1 v3 v4 v5 v6 v8 v10 M r M' hv0 h ; exact cB_X5_isWay_156 C hk122 hk136 (fun v0 v1 v3 v4 v5 v6 v8 v10 M r M' hv0 h  => ih v0 v1 v3 v4 v5 v6 v8 v10 M r M' hv0 h ) v0 v1 v3 v4 v5 v6 v8 v10 M r M' hv0 h 
theorem cB_X5_isWay_136 {X : x_Ctx} {M0 : Mem} (C : x_CC X 2 54 yX5_isWay cX5_isWay 11 (some .boolean) []) {k122 : Nat → Int → Int → Int → Mem → Option (Int × Mem)} (hk122 : ∀ (v0 : Nat) (v1 : Int) (v3 : Int) (v4 : Int) (M : Mem) (r : Int) (M' : Mem), m_kd M v0 = 5 → k122 v0 v1 v3 v4 M = some (r, M') → x_Z X 0 0 (x_QF X M0 (.returned (some (vI r))) M' 0 0) M0 M 11 [(0, .ref v0), (1, vI v1), (3, vI v3), (4, vI v4)] 122 []) {k136 : Nat → Int → Int → Int → Int → Mem → Option (Int × Mem)} (hk136 : ∀ (v0 : Nat) (v1 : Int) (v3 : Int) (v4 : Int) (v5 : Int) (M : Mem) (r : Int) (M' : Mem), m_kd M v0 = 5 → k136 v0 v1 v3 v4 v5 M = some (r, M') → x_Z X 0 0 (x_QF X M0 (.returned (some (vI r))) M' 0 0) M0 M 11 [(0, .ref v0), (1, vI v1), (3, vI v3), (4, vI v4), (5, vI v5)] 136 []) (v0 : Nat) (v1 : Int) (v3 : Int) (v4 : Int) (v5 : Int) (M : Mem) (r : Int) (M' : Mem) (hv0 : m_kd M v0 = 5) (h : B_X5_isWay_136 k122 k136 v0 v1 v3 v4 v5 M = some (r, M'))  : x_Z X 0 0 (x_QF X M0 (.returned (some (vI r))) M' 0 0) M0 M 11 [(0, .ref v0), (1, vI v1), (3, vI v3), (4, vI v4), (5, vI v5)] 136 [] := by
  unfold B_X5_isWay_136 at h
  refine z_iload (pc := 136) C 4 rfl dX5_isWay_136 ?_
  refine z_aload_n (pc := 138) C 0 rfl dX5_isWay_138 ?_
  refine gX5_571 (pc := 139) C rfl hv0 dX5_isWay_139 ?_
  refine z_iload_n (pc := 142) C 1 rfl dX5_isWay_142 ?_
  obtain ⟨c5, h⟩ := ifn h
  refine z_iaO (pc := 143) (k := 5) (j := 71) C 571 rfl (by decide) (by decide) (by decide) rfl rfl rfl rfl hv0 c5 rfl dX5_isWay_143 ?_
  refine z_ic_gt (pc := 144) C dX5_isWay_144 (tgt := 273) (by decide) (fun c6 => ?_) (fun c6 => ?_)
  · have h := itt c6 h
    refine z_iinc (pc := 273) C (lv' := [(0, .ref v0), (1, vI v1), (3, vI v3), (4, vI (v4 + 1)), (5, vI v5)]) 3 rfl (by decide) rfl dX5_isWay_273 ?_
    refine z_goto (pc := 276) C dX5_isWay_276 (tgt := 122) (by decide) ?_
    exact z_lv [0, 1, 2, 3] rfl <| hk122 v0 v1 v3 (v4 + 1) M _ _ hv0 h
  · have h := itf c6 h
    refine z_lconst (pc := 147) C (x := 0) (by decide +kernel) dX5_isWay_147 ?_
    refine z_lstore (pc := 148) C (lv' := [(0, .ref v0), (1, vI v1), (3, vI v3), (4, vI v4), (5, vI v5), (6, vL 0)]) (by decide) rfl dX5_isWay_148 ?_
    refine z_lconst (pc := 150) C (x := 0) (by decide +kernel) dX5_isWay_150 ?_
    refine z_lstore (pc := 151) C (lv' := [(0, .ref v0), (1, vI v1), (3, vI v3), (4, vI v4), (5, vI v5), (6, vL 0), (8, vL 0)]) (by decide) rfl dX5_isWay_151 ?_
    refine z_iconst (pc := 153) C dX5_isWay_153 ?_
    refine z_istore (pc := 154) C (lv' := [(0, .ref v0), (1, vI v1), (3, vI v3), (4, vI v4), (5, vI v5), (6, vL 0), (8, vL 0), (10, vI 0)]) (by decide) rfl dX5_isWay_154 ?_
    exact cL_X5_isWay_156 C hk122 hk136 FU v0 v1 v3 v4 v5 0 0 0 M _ _ hv0 h
theorem cL_X5_isWay_136 {X : x_Ctx} {M0 : Mem} (C : x_CC X 2 54 yX5_isWay cX5_isWay 11 (some .boolean) []) {k122 : Nat → Int → Int → Int → Mem → Option (Int × Mem)} (hk122 : ∀ (v0 : Nat) (v1 : Int) (v3 : Int) (v4 : Int) (M : Mem) (r : Int) (M' : Mem), m_kd M v0 = 5 → k122 v0 v1 v3 v4 M = some (r, M') → x_Z X 0 0 (x_QF X M0 (.returned (some (vI r))) M' 0 0) M0 M 11 [(0, .ref v0), (1, vI v1), (3, vI v3), (4, vI v4)] 122 []) : ∀ (n : Nat) (v0 : Nat) (v1 : Int) (v3 : Int) (v4 : Int) (v5 : Int) (M : Mem) (r : Int) (M' : Mem) (hv0 : m_kd M v0 = 5) (h : L_X5_isWay_136 k122 n v0 v1 v3 v4 v5 M = some (r, M')) , x_Z X 0 0 (x_QF X M0 (.returned (some (vI r))) M' 0 0) M0 M 11 [(0, .ref v0), (1, vI v1), (3, vI v3), (4, vI v4), (5, vI v5)] 136 [] := by
  intro n
  induction n with
  | zero => intro v0 v1 v3 v4 v5 M r M' hv0 h ; cases h
  | succ n ih => intro v0 v1 v3 v4 v5 M r M' hv0 h ; exact cB_X5_isWay_136 C hk122 (fun v0 v1 v3 v4 v5 M r M' hv0 h  => ih v0 v1 v3 v4 v5 M r M' hv0 h ) v0 v1 v3 v4 v5 M r M' hv0 h 
theorem cB_X5_isWay_122 {X : x_Ctx} {M0 : Mem} (C : x_CC X 2 54 yX5_isWay cX5_isWay 11 (some .boolean) []) {k122 : Nat → Int → Int → Int → Mem → Option (Int × Mem)} (hk122 : ∀ (v0 : Nat) (v1 : Int) (v3 : Int) (v4 : Int) (M : Mem) (r : Int) (M' : Mem), m_kd M v0 = 5 → k122 v0 v1 v3 v4 M = some (r, M') → x_Z X 0 0 (x_QF X M0 (.returned (some (vI r))) M' 0 0) M0 M 11 [(0, .ref v0), (1, vI v1), (3, vI v3), (4, vI v4)] 122 []) (v0 : Nat) (v1 : Int) (v3 : Int) (v4 : Int) (M : Mem) (r : Int) (M' : Mem) (hv0 : m_kd M v0 = 5) (h : B_X5_isWay_122 k122 v0 v1 v3 v4 M = some (r, M'))  : x_Z X 0 0 (x_QF X M0 (.returned (some (vI r))) M' 0 0) M0 M 11 [(0, .ref v0), (1, vI v1), (3, vI v3), (4, vI v4)] 122 [] := by
  unfold B_X5_isWay_122 at h
  refine z_iload (pc := 122) C 3 rfl dX5_isWay_122 ?_
  refine z_aload_n (pc := 124) C 0 rfl dX5_isWay_124 ?_
  refine gX5_570 (pc := 125) C rfl hv0 dX5_isWay_125 ?_
  refine z_iload_n (pc := 128) C 1 rfl dX5_isWay_128 ?_
  obtain ⟨c3, h⟩ := ifn h
  refine z_iaO (pc := 129) (k := 5) (j := 70) C 570 rfl (by decide) (by decide) (by decide) rfl rfl rfl rfl hv0 c3 rfl dX5_isWay_129 ?_
  refine z_ic_gt (pc := 130) C dX5_isWay_130 (tgt := 279) (by decide) (fun c4 => ?_) (fun c4 => ?_)
  · have h := itt c4 h
    refine z_iconst (pc := 279) C dX5_isWay_279 ?_
    cases h
    exact z_zret (pc := 280) C rfl (Or.inr rfl) (show 0 ≤ 0 from by decide) (show 0 ≤ 0 from by decide) dX5_isWay_280
  · have h := itf c4 h
    refine z_iconst (pc := 133) C dX5_isWay_133 ?_
    refine z_istore (pc := 134) C (lv' := [(0, .ref v0), (1, vI v1), (3, vI v3), (4, vI v4), (5, vI 0)]) (by decide) rfl dX5_isWay_134 ?_
    exact cL_X5_isWay_136 C hk122 FU v0 v1 v3 v4 0 M _ _ hv0 h
theorem cL_X5_isWay_122 {X : x_Ctx} {M0 : Mem} (C : x_CC X 2 54 yX5_isWay cX5_isWay 11 (some .boolean) [])  : ∀ (n : Nat) (v0 : Nat) (v1 : Int) (v3 : Int) (v4 : Int) (M : Mem) (r : Int) (M' : Mem) (hv0 : m_kd M v0 = 5) (h : L_X5_isWay_122  n v0 v1 v3 v4 M = some (r, M')) , x_Z X 0 0 (x_QF X M0 (.returned (some (vI r))) M' 0 0) M0 M 11 [(0, .ref v0), (1, vI v1), (3, vI v3), (4, vI v4)] 122 [] := by
  intro n
  induction n with
  | zero => intro v0 v1 v3 v4 M r M' hv0 h ; cases h
  | succ n ih => intro v0 v1 v3 v4 M r M' hv0 h ; exact cB_X5_isWay_122 C (fun v0 v1 v3 v4 M r M' hv0 h  => ih v0 v1 v3 v4 M r M' hv0 h ) v0 v1 v3 v4 M r M' hv0 h 
theorem cB_X5_isWay_75 {X : x_Ctx} {M0 : Mem} (C : x_CC X 2 54 yX5_isWay cX5_isWay 11 (some .boolean) []) {k17 : Nat → Int → Int → Int → Int → Mem → Option (Int × Mem)} (hk17 : ∀ (v0 : Nat) (v1 : Int) (v2 : Int) (v3 : Int) (v4 : Int) (M : Mem) (r : Int) (M' : Mem), m_kd M v0 = 5 → k17 v0 v1 v2 v3 v4 M = some (r, M') → x_Z X 0 0 (x_QF X M0 (.returned (some (vI r))) M' 0 0) M0 M 11 [(0, .ref v0), (1, vI v1), (2, vI v2), (3, vI v3), (4, vI v4)] 17 []) (v0 : Nat) (v1 : Int) (v2 : Int) (v3 : Int) (v4 : Int) (v5 : Int) (v6 : Int) (M : Mem) (r : Int) (M' : Mem) (hv0 : m_kd M v0 = 5) (h : B_X5_isWay_75 k17 v0 v1 v2 v3 v4 v5 v6 M = some (r, M'))  : x_Z X 0 0 (x_QF X M0 (.returned (some (vI r))) M' 0 0) M0 M 11 [(0, .ref v0), (1, vI v1), (2, vI v2), (3, vI v3), (4, vI v4), (5, vI v5), (6, vI v6)] 75 [] := by
  unfold B_X5_isWay_75 at h
  refine z_aload_n (pc := 75) C 0 rfl dX5_isWay_75 ?_
  refine gX5_575 (pc := 76) C rfl hv0 dX5_isWay_76 ?_
  refine z_bipush (pc := 79) C (by decide +kernel) dX5_isWay_79 ?_
  refine z_iload_n (pc := 81) C 1 rfl dX5_isWay_81 ?_
  refine z_imul (pc := 82) C dX5_isWay_82 ?_
  refine z_iload (pc := 83) C 4 rfl dX5_isWay_83 ?_
  refine z_iadd (pc := 85) C dX5_isWay_85 ?_
  refine z_iload (pc := 86) C 5 rfl dX5_isWay_86 ?_
  refine z_aload_n (pc := 88) C 0 rfl dX5_isWay_88 ?_
  refine gX5_579 (pc := 89) C rfl (Or.inl hv0) rfl dX5_isWay_89 ?_
  obtain ⟨c23, h⟩ := ifn h
  refine z_idiv (pc := 92) C c23 dX5_isWay_92 ?_
  refine z_aload_n (pc := 93) C 0 rfl dX5_isWay_93 ?_
  refine gX5_579 (pc := 94) C rfl (Or.inl hv0) rfl dX5_isWay_94 ?_
  refine z_imul (pc := 97) C dX5_isWay_97 ?_
  refine z_iload (pc := 98) C 6 rfl dX5_isWay_98 ?_
  refine z_if_eq (pc := 100) C dX5_isWay_100 (tgt := 110) (by decide) (fun c24 => ?_) (fun c24 => ?_)
  · have h := itt c24 h
    refine z_iconst (pc := 110) C dX5_isWay_110 ?_
    refine z_iadd (pc := 111) C dX5_isWay_111 ?_
    obtain ⟨c25, h⟩ := ifn h
    refine z_isO (pc := 112) (k := 5) (j := 75) C 575 rfl (by decide) (by decide) (by decide) rfl rfl rfl rfl hv0 c25 dX5_isWay_112 ?_
    refine z_iinc (pc := 113) C (lv' := [(0, .ref v0), (1, vI v1), (2, vI v2), (3, vI v3), (4, vI (v4 + 1)), (5, vI v5), (6, vI v6)]) 4 rfl (by decide) rfl dX5_isWay_113 ?_
    refine z_goto (pc := 116) C dX5_isWay_116 (tgt := 17) (by decide) ?_
    exact z_lv [0, 1, 2, 3, 4] rfl <| hk17 v0 v1 v2 v3 (v4 + 1) (m_si M 575 v0 (ixn ((12 * v1) + v4)) (((d32 v5 (m_i M 579 v0 0)) * (m_i M 579 v0 0)) + 0)) _ _ hv0 h
  · have h := itf c24 h
    refine z_aload_n (pc := 103) C 0 rfl dX5_isWay_103 ?_
    refine gX5_579 (pc := 104) C rfl (Or.inl hv0) rfl dX5_isWay_104 ?_
    refine z_goto (pc := 107) C dX5_isWay_107 (tgt := 111) (by decide) ?_
    refine z_iadd (pc := 111) C dX5_isWay_111 ?_
    obtain ⟨c26, h⟩ := ifn h
    refine z_isO (pc := 112) (k := 5) (j := 75) C 575 rfl (by decide) (by decide) (by decide) rfl rfl rfl rfl hv0 c26 dX5_isWay_112 ?_
    refine z_iinc (pc := 113) C (lv' := [(0, .ref v0), (1, vI v1), (2, vI v2), (3, vI v3), (4, vI (v4 + 1)), (5, vI v5), (6, vI v6)]) 4 rfl (by decide) rfl dX5_isWay_113 ?_
    refine z_goto (pc := 116) C dX5_isWay_116 (tgt := 17) (by decide) ?_
    exact z_lv [0, 1, 2, 3, 4] rfl <| hk17 v0 v1 v2 v3 (v4 + 1) (m_si M 575 v0 (ixn ((12 * v1) + v4)) (((d32 v5 (m_i M 579 v0 0)) * (m_i M 579 v0 0)) + (m_i M 579 v0 0))) _ _ hv0 h
theorem cB_X5_isWay_56 {X : x_Ctx} {M0 : Mem} (C : x_CC X 2 54 yX5_isWay cX5_isWay 11 (some .boolean) []) {k17 : Nat → Int → Int → Int → Int → Mem → Option (Int × Mem)} (hk17 : ∀ (v0 : Nat) (v1 : Int) (v2 : Int) (v3 : Int) (v4 : Int) (M : Mem) (r : Int) (M' : Mem), m_kd M v0 = 5 → k17 v0 v1 v2 v3 v4 M = some (r, M') → x_Z X 0 0 (x_QF X M0 (.returned (some (vI r))) M' 0 0) M0 M 11 [(0, .ref v0), (1, vI v1), (2, vI v2), (3, vI v3), (4, vI v4)] 17 []) (v0 : Nat) (v1 : Int) (v2 : Int) (v3 : Int) (v4 : Int) (v5 : Int) (s0 : Int) (M : Mem) (r : Int) (M' : Mem) (hv0 : m_kd M v0 = 5) (h : B_X5_isWay_56 k17 v0 v1 v2 v3 v4 v5 s0 M = some (r, M'))  : x_Z X 0 0 (x_QF X M0 (.returned (some (vI r))) M' 0 0) M0 M 11 [(0, .ref v0), (1, vI v1), (2, vI v2), (3, vI v3), (4, vI v4), (5, vI v5)] 56 [vI s0] := by
  unfold B_X5_isWay_56 at h
  refine z_istore (pc := 56) C (lv' := [(0, .ref v0), (1, vI v1), (2, vI v2), (3, vI v3), (4, vI v4), (5, vI v5), (6, vI s0)]) (by decide) rfl dX5_isWay_56 ?_
  refine z_iload (pc := 58) C 6 rfl dX5_isWay_58 ?_
  refine z_if_eq (pc := 60) C dX5_isWay_60 (tgt := 75) (by decide) (fun c22 => ?_) (fun c22 => ?_)
  · have h := itt c22 h
    exact cB_X5_isWay_75 C hk17 v0 v1 v2 v3 v4 v5 s0 M _ _ hv0 h
  · have h := itf c22 h
    refine z_iload (pc := 63) C 5 rfl dX5_isWay_63 ?_
    refine z_aload_n (pc := 65) C 0 rfl dX5_isWay_65 ?_
    refine gX5_579 (pc := 66) C rfl (Or.inl hv0) rfl dX5_isWay_66 ?_
    obtain ⟨c27, h⟩ := ifn h
    refine z_irem (pc := 69) C c27 dX5_isWay_69 ?_
    refine z_if_ne (pc := 70) C dX5_isWay_70 (tgt := 75) (by decide) (fun c28 => ?_) (fun c28 => ?_)
    · have h := itf c28 h
      exact cB_X5_isWay_75 C hk17 v0 v1 v2 v3 v4 v5 s0 M _ _ hv0 h
    · have h := itt c28 h
      refine z_iconst (pc := 73) C dX5_isWay_73 ?_
      cases h
      exact z_zret (pc := 74) C rfl (Or.inl rfl) (show 0 ≤ 0 from by decide) (show 0 ≤ 0 from by decide) dX5_isWay_74
theorem cB_X5_isWay_17 {X : x_Ctx} {M0 : Mem} (C : x_CC X 2 54 yX5_isWay cX5_isWay 11 (some .boolean) []) {k17 : Nat → Int → Int → Int → Int → Mem → Option (Int × Mem)} (hk17 : ∀ (v0 : Nat) (v1 : Int) (v2 : Int) (v3 : Int) (v4 : Int) (M : Mem) (r : Int) (M' : Mem), m_kd M v0 = 5 → k17 v0 v1 v2 v3 v4 M = some (r, M') → x_Z X 0 0 (x_QF X M0 (.returned (some (vI r))) M' 0 0) M0 M 11 [(0, .ref v0), (1, vI v1), (2, vI v2), (3, vI v3), (4, vI v4)] 17 []) (v0 : Nat) (v1 : Int) (v2 : Int) (v3 : Int) (v4 : Int) (M : Mem) (r : Int) (M' : Mem) (hv0 : m_kd M v0 = 5) (h : B_X5_isWay_17 k17 v0 v1 v2 v3 v4 M = some (r, M'))  : x_Z X 0 0 (x_QF X M0 (.returned (some (vI r))) M' 0 0) M0 M 11 [(0, .ref v0), (1, vI v1), (2, vI v2), (3, vI v3), (4, vI v4)] 17 [] := by
  unfold B_X5_isWay_17 at h
  refine z_iload (pc := 17) C 4 rfl dX5_isWay_17 ?_
  refine z_iload_n (pc := 19) C 3 rfl dX5_isWay_19 ?_
  refine z_ic_ge (pc := 20) C dX5_isWay_20 (tgt := 119) (by decide) (fun c2 => ?_) (fun c2 => ?_)
  · have h := itt c2 h
    refine z_iconst (pc := 119) C dX5_isWay_119 ?_
    refine z_istore (pc := 120) C (lv' := [(0, .ref v0), (1, vI v1), (2, vI v2), (3, vI v3), (4, vI 0)]) (by decide) rfl dX5_isWay_120 ?_
    exact z_lv [0, 1, 3, 4] rfl <| cL_X5_isWay_122 C FU v0 v1 v3 0 M _ _ hv0 h
  · have h := itf c2 h
    refine z_aload_n (pc := 23) C 0 rfl dX5_isWay_23 ?_
    refine gX5_572 (pc := 24) C rfl hv0 dX5_isWay_24 ?_
    refine z_bipush (pc := 27) C (by decide +kernel) dX5_isWay_27 ?_
    refine z_iload_n (pc := 29) C 1 rfl dX5_isWay_29 ?_
    refine z_imul (pc := 30) C dX5_isWay_30 ?_
    refine z_iload (pc := 31) C 4 rfl dX5_isWay_31 ?_
    refine z_iadd (pc := 33) C dX5_isWay_33 ?_
    obtain ⟨c20, h⟩ := ifn h
    refine z_iaO (pc := 34) (k := 5) (j := 72) C 572 rfl (by decide) (by decide) (by decide) rfl rfl rfl rfl hv0 c20 rfl dX5_isWay_34 ?_
    refine z_istore (pc := 35) C (lv' := [(0, .ref v0), (1, vI v1), (2, vI v2), (3, vI v3), (4, vI v4), (5, vI (m_i M 572 v0 (ixn ((12 * v1) + v4))))]) (by decide) rfl dX5_isWay_35 ?_
    refine z_iload_n (pc := 37) C 2 rfl dX5_isWay_37 ?_
    refine z_iload_n (pc := 38) C 3 rfl dX5_isWay_38 ?_
    refine z_iconst (pc := 39) C dX5_isWay_39 ?_
    refine z_isub (pc := 40) C dX5_isWay_40 ?_
    refine z_iload (pc := 41) C 4 rfl dX5_isWay_41 ?_
    refine z_isub (pc := 43) C dX5_isWay_43 ?_
    refine z_ishr (pc := 44) C dX5_isWay_44 ?_
    refine z_iconst (pc := 45) C dX5_isWay_45 ?_
    refine z_iand (pc := 46) C dX5_isWay_46 ?_
    refine z_iconst (pc := 47) C dX5_isWay_47 ?_
    refine z_ic_ne (pc := 48) C dX5_isWay_48 (tgt := 55) (by decide) (fun c21 => ?_) (fun c21 => ?_)
    · have h := itf c21 h
      refine z_iconst (pc := 55) C dX5_isWay_55 ?_
      exact cB_X5_isWay_56 C hk17 v0 v1 v2 v3 v4 (m_i M 572 v0 (ixn ((12 * v1) + v4))) 0 M _ _ hv0 h
    · have h := itt c21 h
      refine z_iconst (pc := 51) C dX5_isWay_51 ?_
      refine z_goto (pc := 52) C dX5_isWay_52 (tgt := 56) (by decide) ?_
      exact cB_X5_isWay_56 C hk17 v0 v1 v2 v3 v4 (m_i M 572 v0 (ixn ((12 * v1) + v4))) 1 M _ _ hv0 h
theorem cL_X5_isWay_17 {X : x_Ctx} {M0 : Mem} (C : x_CC X 2 54 yX5_isWay cX5_isWay 11 (some .boolean) [])  : ∀ (n : Nat) (v0 : Nat) (v1 : Int) (v2 : Int) (v3 : Int) (v4 : Int) (M : Mem) (r : Int) (M' : Mem) (hv0 : m_kd M v0 = 5) (h : L_X5_isWay_17  n v0 v1 v2 v3 v4 M = some (r, M')) , x_Z X 0 0 (x_QF X M0 (.returned (some (vI r))) M' 0 0) M0 M 11 [(0, .ref v0), (1, vI v1), (2, vI v2), (3, vI v3), (4, vI v4)] 17 [] := by
  intro n
  induction n with
  | zero => intro v0 v1 v2 v3 v4 M r M' hv0 h ; cases h
  | succ n ih => intro v0 v1 v2 v3 v4 M r M' hv0 h ; exact cB_X5_isWay_17 C (fun v0 v1 v2 v3 v4 M r M' hv0 h  => ih v0 v1 v2 v3 v4 M r M' hv0 h ) v0 v1 v2 v3 v4 M r M' hv0 h 
theorem ct_X5_isWay {l : Launch} {S0 : State} {D : va_G} {cA : Nat → ClassId} (hG : x_G l S0 D cA) (v0 : Nat) (v1 : Int) (v2 : Int) (M : Mem) (r : Int) (M' : Mem) (hv0 : m_kd M v0 = 5) (h : d_X5_isWay v0 v1 v2 M = some (r, M')) : x_Me l S0 D cA yX5_isWay cX5_isWay 11 (some .boolean) [] ({ frames := 2, cells := 0, slots := 0, locals := 54 }) [.ref v0, vI v1, vI v2] M (.returned (some (vI r))) M' := by
  refine x_begin (F := 2) (Lo := 54) (mc := 0) (ms := 0) hG (Nat.le_of_ble_eq_true rfl) (lv := [(0, .ref v0), (1, vI v1), (2, vI v2)]) rfl rfl rfl rfl rfl (fun X e1 e2 e3 e4 e5 C => ?_)
  unfold d_X5_isWay at h
  refine z_aload_n (pc := 0) C 0 rfl dX5_isWay_0 ?_
  refine gX5_570 (pc := 1) C rfl hv0 dX5_isWay_1 ?_
  refine z_iload_n (pc := 4) C 1 rfl dX5_isWay_4 ?_
  obtain ⟨c1, h⟩ := ifn h
  refine z_iaO (pc := 5) (k := 5) (j := 70) C 570 rfl (by decide) (by decide) (by decide) rfl rfl rfl rfl hv0 c1 rfl dX5_isWay_5 ?_
  refine z_aload_n (pc := 6) C 0 rfl dX5_isWay_6 ?_
  refine gX5_571 (pc := 7) C rfl hv0 dX5_isWay_7 ?_
  refine z_iload_n (pc := 10) C 1 rfl dX5_isWay_10 ?_
  refine z_iaO (pc := 11) (k := 5) (j := 71) C 571 rfl (by decide) (by decide) (by decide) rfl rfl rfl rfl hv0 c1 rfl dX5_isWay_11 ?_
  refine z_imul (pc := 12) C dX5_isWay_12 ?_
  refine z_istore_n (pc := 13) C (lv' := [(0, .ref v0), (1, vI v1), (2, vI v2), (3, vI ((m_i M 570 v0 (ixn v1)) * (m_i M 571 v0 (ixn v1))))]) (by decide) rfl dX5_isWay_13 ?_
  refine z_iconst (pc := 14) C dX5_isWay_14 ?_
  refine z_istore (pc := 15) C (lv' := [(0, .ref v0), (1, vI v1), (2, vI v2), (3, vI ((m_i M 570 v0 (ixn v1)) * (m_i M 571 v0 (ixn v1)))), (4, vI 0)]) (by decide) rfl dX5_isWay_15 ?_
  exact cL_X5_isWay_17 C FU v0 v1 v2 ((m_i M 570 v0 (ixn v1)) * (m_i M 571 v0 (ixn v1))) 0 M _ _ hv0 h
def B_X5_round_72 (k72 : Nat → Int → Int → Int → Mem → Option (Int × Mem)) (v0 : Nat) (v1 : Int) (v4 : Int) (v5 : Int) (M : Mem) : Option (Int × Mem) :=
  if inb v1 12 then 
  if w32 ((m_i M 570 v0 (ixn v1)) * (m_i M 571 v0 (ixn v1))) ≤ w32 v5 then
    some (v4, M)
  else
    if inb ((12 * v1) + v5) 144 then 
    if w32 (m_i M 575 v0 (ixn ((12 * v1) + v5))) ≤ w32 (m_i M 572 v0 (ixn ((12 * v1) + v5))) then
      k72 v0 v1 (v4 + 0) (v5 + 1) M
    else
      k72 v0 v1 (v4 + 1) (v5 + 1) M else none else none
def L_X5_round_72  : Nat → Nat → Int → Int → Int → Mem → Option (Int × Mem)
  | 0, _, _, _, _, _ => none
  | n + 1, v0, v1, v4, v5, M => B_X5_round_72 (L_X5_round_72  n) v0 v1 v4 v5 M
def B_X5_round_44 (k44 : Nat → Int → Int → Mem → Option (Int × Mem)) (v0 : Nat) (v1 : Int) (v3 : Int) (M : Mem) : Option (Int × Mem) :=
  bN (d_X5_isWay v0 v1 v3 M) fun r6 M7 => 
  if w32 r6 = 0 then
    k44 v0 v1 (v3 + 1) M7
  else
    if inb v1 12 then 
    L_X5_round_72 FU v0 v1 0 0 (m_si M7 576 v0 (ixn v1) (bz 1)) else none
def L_X5_round_44  : Nat → Nat → Int → Int → Mem → Option (Int × Mem)
  | 0, _, _, _, _ => none
  | n + 1, v0, v1, v3, M => B_X5_round_44 (L_X5_round_44  n) v0 v1 v3 M
def d_X5_round (v0 : Nat) (v1 : Int) (v2 : Int) (M : Mem) : Option (Int × Mem) :=
  bR (d_X5_isTable v0 v1 (m_si M 500 v0 0 0)) fun r1 => 
  if w32 r1 = 0 then
    bN (d_X5_fail v0 1 (m_si M 500 v0 0 0)) fun r21 M22 => 
    some (r21, M22)
  else
    if w32 (d_X5_isIn (w32 v2) 1 1000) = 0 then
      bN (d_X5_fail v0 2 (m_si M 500 v0 0 0)) fun r17 M18 => 
      some (r17, M18)
    else
      L_X5_round_44 FU v0 v1 0 (m_si (m_si M 500 v0 0 0) 579 v0 0 v2)
theorem cB_X5_round_72 {X : x_Ctx} {M0 : Mem} (C : x_CC X 3 88 yX5_round cX5_round 6 (some .int) []) {k72 : Nat → Int → Int → Int → Mem → Option (Int × Mem)} (hk72 : ∀ (v0 : Nat) (v1 : Int) (v4 : Int) (v5 : Int) (M : Mem) (r : Int) (M' : Mem), m_kd M v0 = 5 → k72 v0 v1 v4 v5 M = some (r, M') → x_Z X 0 0 (x_QF X M0 (.returned (some (vI r))) M' 0 0) M0 M 6 [(0, .ref v0), (1, vI v1), (4, vI v4), (5, vI v5)] 72 []) (v0 : Nat) (v1 : Int) (v4 : Int) (v5 : Int) (M : Mem) (r : Int) (M' : Mem) (hv0 : m_kd M v0 = 5) (h : B_X5_round_72 k72 v0 v1 v4 v5 M = some (r, M'))  : x_Z X 0 0 (x_QF X M0 (.returned (some (vI r))) M' 0 0) M0 M 6 [(0, .ref v0), (1, vI v1), (4, vI v4), (5, vI v5)] 72 [] := by
  unfold B_X5_round_72 at h
  refine z_iload (pc := 72) C 3 rfl dX5_round_72 ?_
  refine z_aload_n (pc := 74) C 0 rfl dX5_round_74 ?_
  refine gX5_570 (pc := 75) C rfl hv0 dX5_round_75 ?_
  refine z_iload_n (pc := 78) C 1 rfl dX5_round_78 ?_
  obtain ⟨c13, h⟩ := ifn h
  refine z_iaO (pc := 79) (k := 5) (j := 70) C 570 rfl (by decide) (by decide) (by decide) rfl rfl rfl rfl hv0 c13 rfl dX5_round_79 ?_
  refine z_aload_n (pc := 80) C 0 rfl dX5_round_80 ?_
  refine gX5_571 (pc := 81) C rfl hv0 dX5_round_81 ?_
  refine z_iload_n (pc := 84) C 1 rfl dX5_round_84 ?_
  refine z_iaO (pc := 85) (k := 5) (j := 71) C 571 rfl (by decide) (by decide) (by decide) rfl rfl rfl rfl hv0 c13 rfl dX5_round_85 ?_
  refine z_imul (pc := 86) C dX5_round_86 ?_
  refine z_ic_ge (pc := 87) C dX5_round_87 (tgt := 133) (by decide) (fun c14 => ?_) (fun c14 => ?_)
  · have h := itt c14 h
    refine z_iload (pc := 133) C 2 rfl dX5_round_133 ?_
    cases h
    exact z_iret (pc := 135) C rfl (show 0 ≤ 0 from by decide) (show 0 ≤ 0 from by decide) dX5_round_135
  · have h := itf c14 h
    refine z_iload (pc := 90) C 2 rfl dX5_round_90 ?_
    refine z_aload_n (pc := 92) C 0 rfl dX5_round_92 ?_
    refine gX5_575 (pc := 93) C rfl hv0 dX5_round_93 ?_
    refine z_bipush (pc := 96) C (by decide +kernel) dX5_round_96 ?_
    refine z_iload_n (pc := 98) C 1 rfl dX5_round_98 ?_
    refine z_imul (pc := 99) C dX5_round_99 ?_
    refine z_iload (pc := 100) C 3 rfl dX5_round_100 ?_
    refine z_iadd (pc := 102) C dX5_round_102 ?_
    obtain ⟨c15, h⟩ := ifn h
    refine z_iaO (pc := 103) (k := 5) (j := 75) C 575 rfl (by decide) (by decide) (by decide) rfl rfl rfl rfl hv0 c15 rfl dX5_round_103 ?_
    refine z_aload_n (pc := 104) C 0 rfl dX5_round_104 ?_
    refine gX5_572 (pc := 105) C rfl hv0 dX5_round_105 ?_
    refine z_bipush (pc := 108) C (by decide +kernel) dX5_round_108 ?_
    refine z_iload_n (pc := 110) C 1 rfl dX5_round_110 ?_
    refine z_imul (pc := 111) C dX5_round_111 ?_
    refine z_iload (pc := 112) C 3 rfl dX5_round_112 ?_
    refine z_iadd (pc := 114) C dX5_round_114 ?_
    refine z_iaO (pc := 115) (k := 5) (j := 72) C 572 rfl (by decide) (by decide) (by decide) rfl rfl rfl rfl hv0 c15 rfl dX5_round_115 ?_
    refine z_ic_le (pc := 116) C dX5_round_116 (tgt := 123) (by decide) (fun c16 => ?_) (fun c16 => ?_)
    · have h := itt c16 h
      refine z_iconst (pc := 123) C dX5_round_123 ?_
      refine z_iadd (pc := 124) C dX5_round_124 ?_
      refine z_istore (pc := 125) C (lv' := [(0, .ref v0), (1, vI v1), (4, vI (v4 + 0)), (5, vI v5)]) (by decide) rfl dX5_round_125 ?_
      refine z_iinc (pc := 127) C (lv' := [(0, .ref v0), (1, vI v1), (4, vI (v4 + 0)), (5, vI (v5 + 1))]) 3 rfl (by decide) rfl dX5_round_127 ?_
      refine z_goto (pc := 130) C dX5_round_130 (tgt := 72) (by decide) ?_
      exact hk72 v0 v1 (v4 + 0) (v5 + 1) M _ _ hv0 h
    · have h := itf c16 h
      refine z_iconst (pc := 119) C dX5_round_119 ?_
      refine z_goto (pc := 120) C dX5_round_120 (tgt := 124) (by decide) ?_
      refine z_iadd (pc := 124) C dX5_round_124 ?_
      refine z_istore (pc := 125) C (lv' := [(0, .ref v0), (1, vI v1), (4, vI (v4 + 1)), (5, vI v5)]) (by decide) rfl dX5_round_125 ?_
      refine z_iinc (pc := 127) C (lv' := [(0, .ref v0), (1, vI v1), (4, vI (v4 + 1)), (5, vI (v5 + 1))]) 3 rfl (by decide) rfl dX5_round_127 ?_
      refine z_goto (pc := 130) C dX5_round_130 (tgt := 72) (by decide) ?_
      exact hk72 v0 v1 (v4 + 1) (v5 + 1) M _ _ hv0 h
theorem cL_X5_round_72 {X : x_Ctx} {M0 : Mem} (C : x_CC X 3 88 yX5_round cX5_round 6 (some .int) [])  : ∀ (n : Nat) (v0 : Nat) (v1 : Int) (v4 : Int) (v5 : Int) (M : Mem) (r : Int) (M' : Mem) (hv0 : m_kd M v0 = 5) (h : L_X5_round_72  n v0 v1 v4 v5 M = some (r, M')) , x_Z X 0 0 (x_QF X M0 (.returned (some (vI r))) M' 0 0) M0 M 6 [(0, .ref v0), (1, vI v1), (4, vI v4), (5, vI v5)] 72 [] := by
  intro n
  induction n with
  | zero => intro v0 v1 v4 v5 M r M' hv0 h ; cases h
  | succ n ih => intro v0 v1 v4 v5 M r M' hv0 h ; exact cB_X5_round_72 C (fun v0 v1 v4 v5 M r M' hv0 h  => ih v0 v1 v4 v5 M r M' hv0 h ) v0 v1 v4 v5 M r M' hv0 h 
theorem cB_X5_round_44 {X : x_Ctx} {M0 : Mem} (C : x_CC X 3 88 yX5_round cX5_round 6 (some .int) []) {k44 : Nat → Int → Int → Mem → Option (Int × Mem)} (hk44 : ∀ (v0 : Nat) (v1 : Int) (v3 : Int) (M : Mem) (r : Int) (M' : Mem), m_kd M v0 = 5 → k44 v0 v1 v3 M = some (r, M') → x_Z X 0 0 (x_QF X M0 (.returned (some (vI r))) M' 0 0) M0 M 6 [(0, .ref v0), (1, vI v1), (3, vI v3)] 44 []) (v0 : Nat) (v1 : Int) (v3 : Int) (M : Mem) (r : Int) (M' : Mem) (hv0 : m_kd M v0 = 5) (h : B_X5_round_44 k44 v0 v1 v3 M = some (r, M'))  : x_Z X 0 0 (x_QF X M0 (.returned (some (vI r))) M' 0 0) M0 M 6 [(0, .ref v0), (1, vI v1), (3, vI v3)] 44 [] := by
  unfold B_X5_round_44 at h
  refine z_aload_n (pc := 44) C 0 rfl dX5_round_44 ?_
  refine z_iload_n (pc := 45) C 1 rfl dX5_round_45 ?_
  refine z_iload_n (pc := 46) C 2 rfl dX5_round_46 ?_
  obtain ⟨r6, M7, e8, h⟩ := bNs h
  refine cX5_499 (pc := 47) (st := []) (st1 := [vI r6]) C rfl (rm := { frames := 2, cells := 0, slots := 0, locals := 54 }) (ct_X5_isWay C.2.1 v0 v1 v3 M _ _ hv0 e8) ⟨by decide, by decide, Nat.zero_le _, Nat.zero_le _⟩ (Or.inl hv0) rfl (Nat.le_of_ble_eq_true rfl) dX5_round_47 (c2 := 0) (s2 := 0) rfl rfl (fun x9 => ?_)
  have k10 := x9 _ 5 (by decide) (Or.inl (by decide)) hv0
  refine z_if_ne (pc := 50) C dX5_round_50 (tgt := 59) (by decide) (fun c11 => ?_) (fun c11 => ?_)
  · have h := itf c11 h
    refine z_aload_n (pc := 59) C 0 rfl dX5_round_59 ?_
    refine gX5_576 (pc := 60) C rfl k10 dX5_round_60 ?_
    refine z_iload_n (pc := 63) C 1 rfl dX5_round_63 ?_
    refine z_iconst (pc := 64) C dX5_round_64 ?_
    obtain ⟨c12, h⟩ := ifn h
    refine z_zsO (pc := 65) (k := 5) (j := 76) C 576 rfl (by decide) (by decide) (by decide) rfl rfl rfl rfl k10 c12 dX5_round_65 ?_
    refine z_iconst (pc := 66) C dX5_round_66 ?_
    refine z_istore (pc := 67) C (lv' := [(0, .ref v0), (1, vI v1), (3, vI v3), (4, vI 0)]) (by decide) rfl dX5_round_67 ?_
    refine z_iconst (pc := 69) C dX5_round_69 ?_
    refine z_istore (pc := 70) C (lv' := [(0, .ref v0), (1, vI v1), (3, vI v3), (4, vI 0), (5, vI 0)]) (by decide) rfl dX5_round_70 ?_
    exact z_lv [0, 1, 3, 4] rfl <| cL_X5_round_72 C FU v0 v1 0 0 (m_si M7 576 v0 (ixn v1) (bz 1)) _ _ k10 h
  · have h := itt c11 h
    refine z_iinc (pc := 53) C (lv' := [(0, .ref v0), (1, vI v1), (3, vI (v3 + 1))]) 2 rfl (by decide) rfl dX5_round_53 ?_
    refine z_goto (pc := 56) C dX5_round_56 (tgt := 44) (by decide) ?_
    exact hk44 v0 v1 (v3 + 1) M7 _ _ k10 h
theorem cL_X5_round_44 {X : x_Ctx} {M0 : Mem} (C : x_CC X 3 88 yX5_round cX5_round 6 (some .int) [])  : ∀ (n : Nat) (v0 : Nat) (v1 : Int) (v3 : Int) (M : Mem) (r : Int) (M' : Mem) (hv0 : m_kd M v0 = 5) (h : L_X5_round_44  n v0 v1 v3 M = some (r, M')) , x_Z X 0 0 (x_QF X M0 (.returned (some (vI r))) M' 0 0) M0 M 6 [(0, .ref v0), (1, vI v1), (3, vI v3)] 44 [] := by
  intro n
  induction n with
  | zero => intro v0 v1 v3 M r M' hv0 h ; cases h
  | succ n ih => intro v0 v1 v3 M r M' hv0 h ; exact cB_X5_round_44 C (fun v0 v1 v3 M r M' hv0 h  => ih v0 v1 v3 M r M' hv0 h ) v0 v1 v3 M r M' hv0 h 
theorem ct_X5_round {l : Launch} {S0 : State} {D : va_G} {cA : Nat → ClassId} (hG : x_G l S0 D cA) (v0 : Nat) (v1 : Int) (v2 : Int) (M : Mem) (r : Int) (M' : Mem) (hv0 : m_kd M v0 = 5) (h : d_X5_round v0 v1 v2 M = some (r, M')) : x_Me l S0 D cA yX5_round cX5_round 6 (some .int) [] ({ frames := 3, cells := 0, slots := 0, locals := 88 }) [.ref v0, vI v1, vI v2] M (.returned (some (vI r))) M' := by
  refine x_begin (F := 3) (Lo := 88) (mc := 0) (ms := 0) hG (Nat.le_of_ble_eq_true rfl) (lv := [(0, .ref v0), (1, vI v1), (2, vI v2)]) rfl rfl rfl rfl rfl (fun X e1 e2 e3 e4 e5 C => ?_)
  unfold d_X5_round at h
  refine z_aload_n (pc := 0) C 0 rfl dX5_round_0 ?_
  refine z_iconst (pc := 1) C dX5_round_1 ?_
  refine pX5_500 (pc := 2) C rfl (Or.inl hv0) dX5_round_2 ?_
  refine z_aload_n (pc := 5) C 0 rfl dX5_round_5 ?_
  refine z_iload_n (pc := 6) C 1 rfl dX5_round_6 ?_
  obtain ⟨r1, e2, h⟩ := bRs h
  refine cX5_473 (pc := 7) (st := []) (st1 := [vI r1]) C rfl (rm := { frames := 2, cells := 0, slots := 0, locals := 53 }) (ct_X5_isTable C.2.1 v0 v1 (m_si M 500 v0 0 0) _ hv0 e2) ⟨by decide, by decide, Nat.zero_le _, Nat.zero_le _⟩ (Or.inl hv0) rfl (Nat.le_of_ble_eq_true rfl) dX5_round_7 (c2 := 0) (s2 := 0) rfl rfl (fun _ => ?_)
  refine z_if_ne (pc := 10) C dX5_round_10 (tgt := 19) (by decide) (fun c3 => ?_) (fun c3 => ?_)
  · have h := itf c3 h
    refine z_iload_n (pc := 19) C 2 rfl dX5_round_19 ?_
    refine z_i2l (pc := 20) C dX5_round_20 ?_
    refine z_lconst (pc := 21) C (x := 1) (by decide +kernel) dX5_round_21 ?_
    refine z_ldc2 (pc := 22) C (x := 1000) q2134 (by decide +kernel) dX5_round_22 ?_
    refine cX5_207 (pc := 25) (st := []) (st1 := [vI (d_X5_isIn (w32 v2) 1 1000)]) C rfl (rm := { frames := 1, cells := 0, slots := 0, locals := 24 }) (ct_X5_isIn C.2.1 (w32 v2) 1 1000 (m_si M 500 v0 0 0) _  rfl) ⟨by decide, by decide, Nat.zero_le _, Nat.zero_le _⟩ rfl (Nat.le_of_ble_eq_true rfl) dX5_round_25 (c2 := 0) (s2 := 0) rfl rfl (fun _ => ?_)
    refine z_if_ne (pc := 28) C dX5_round_28 (tgt := 37) (by decide) (fun c5 => ?_) (fun c5 => ?_)
    · have h := itf c5 h
      refine z_aload_n (pc := 37) C 0 rfl dX5_round_37 ?_
      refine z_iload_n (pc := 38) C 2 rfl dX5_round_38 ?_
      refine pX5_579 (pc := 39) C rfl (Or.inl hv0) dX5_round_39 ?_
      refine z_iconst (pc := 42) C dX5_round_42 ?_
      refine z_istore_n (pc := 43) C (lv' := [(0, .ref v0), (1, vI v1), (2, vI v2), (3, vI 0)]) (by decide) rfl dX5_round_43 ?_
      exact z_lv [0, 1, 3] rfl <| cL_X5_round_44 C FU v0 v1 0 (m_si (m_si M 500 v0 0 0) 579 v0 0 v2) _ _ hv0 h
    · have h := itt c5 h
      refine z_aload_n (pc := 31) C 0 rfl dX5_round_31 ?_
      refine z_iconst (pc := 32) C dX5_round_32 ?_
      obtain ⟨r17, M18, e19, h⟩ := bNs h
      refine cX5_213 (pc := 33) (st := []) (st1 := [vI r17]) C rfl (rm := { frames := 1, cells := 0, slots := 0, locals := 24 }) (ct_X5_fail C.2.1 v0 2 (m_si M 500 v0 0 0) _ _ hv0 e19) ⟨by decide, by decide, Nat.zero_le _, Nat.zero_le _⟩ (Or.inl hv0) rfl (Nat.le_of_ble_eq_true rfl) dX5_round_33 (c2 := 0) (s2 := 0) rfl rfl (fun x20 => ?_)
      cases h
      exact z_iret (pc := 36) C rfl (show 0 ≤ 0 from by decide) (show 0 ≤ 0 from by decide) dX5_round_36
  · have h := itt c3 h
    refine z_aload_n (pc := 13) C 0 rfl dX5_round_13 ?_
    refine z_iconst (pc := 14) C dX5_round_14 ?_
    obtain ⟨r21, M22, e23, h⟩ := bNs h
    refine cX5_213 (pc := 15) (st := []) (st1 := [vI r21]) C rfl (rm := { frames := 1, cells := 0, slots := 0, locals := 24 }) (ct_X5_fail C.2.1 v0 1 (m_si M 500 v0 0 0) _ _ hv0 e23) ⟨by decide, by decide, Nat.zero_le _, Nat.zero_le _⟩ (Or.inl hv0) rfl (Nat.le_of_ble_eq_true rfl) dX5_round_15 (c2 := 0) (s2 := 0) rfl rfl (fun x24 => ?_)
    cases h
    exact z_iret (pc := 18) C rfl (show 0 ≤ 0 from by decide) (show 0 ≤ 0 from by decide) dX5_round_18
def d_X5_person (v0 : Nat) (v1 : Int) (M : Mem) : Option (Int × Mem) :=
  if w32 (d_X5_isIn (w32 v1) 0 7) = 0 then
    bN (d_X5_fail v0 1 (m_si M 500 v0 0 0)) fun r9 M10 => 
    some (r9, M10)
  else
    if w32 (m_i M 580 v0 0) = w32 12 then
      bN (d_X5_fail v0 2 (m_si M 500 v0 0 0)) fun r5 M6 => 
      some (r5, M6)
    else
      if inb (m_i M 580 v0 0) 12 then 
      some (((m_i M 580 v0 0) + 1) - 1, (m_si (m_si (m_si M 500 v0 0 0) 581 v0 (ixn (m_i M 580 v0 0)) v1) 580 v0 0 ((m_i M 580 v0 0) + 1))) else none
theorem ct_X5_person {l : Launch} {S0 : State} {D : va_G} {cA : Nat → ClassId} (hG : x_G l S0 D cA) (v0 : Nat) (v1 : Int) (M : Mem) (r : Int) (M' : Mem) (hv0 : m_kd M v0 = 5) (h : d_X5_person v0 v1 M = some (r, M')) : x_Me l S0 D cA yX5_person cX5_person 2 (some .int) [] ({ frames := 2, cells := 0, slots := 0, locals := 53 }) [.ref v0, vI v1] M (.returned (some (vI r))) M' := by
  refine x_begin (F := 2) (Lo := 53) (mc := 0) (ms := 0) hG (Nat.le_of_ble_eq_true rfl) (lv := [(0, .ref v0), (1, vI v1)]) rfl rfl rfl rfl rfl (fun X e1 e2 e3 e4 e5 C => ?_)
  unfold d_X5_person at h
  refine z_aload_n (pc := 0) C 0 rfl dX5_person_0 ?_
  refine z_iconst (pc := 1) C dX5_person_1 ?_
  refine pX5_500 (pc := 2) C rfl (Or.inl hv0) dX5_person_2 ?_
  refine z_iload_n (pc := 5) C 1 rfl dX5_person_5 ?_
  refine z_i2l (pc := 6) C dX5_person_6 ?_
  refine z_lconst (pc := 7) C (x := 0) (by decide +kernel) dX5_person_7 ?_
  refine z_ldc2 (pc := 8) C (x := 7) q2147 (by decide +kernel) dX5_person_8 ?_
  refine cX5_207 (pc := 11) (st := []) (st1 := [vI (d_X5_isIn (w32 v1) 0 7)]) C rfl (rm := { frames := 1, cells := 0, slots := 0, locals := 24 }) (ct_X5_isIn C.2.1 (w32 v1) 0 7 (m_si M 500 v0 0 0) _  rfl) ⟨by decide, by decide, Nat.zero_le _, Nat.zero_le _⟩ rfl (Nat.le_of_ble_eq_true rfl) dX5_person_11 (c2 := 0) (s2 := 0) rfl rfl (fun _ => ?_)
  refine z_if_ne (pc := 14) C dX5_person_14 (tgt := 23) (by decide) (fun c2 => ?_) (fun c2 => ?_)
  · have h := itf c2 h
    refine z_aload_n (pc := 23) C 0 rfl dX5_person_23 ?_
    refine gX5_580 (pc := 24) C rfl (Or.inl hv0) (x := m_i M 580 v0 0) ((m_i_ne (by decide)).trans rfl) dX5_person_24 ?_
    refine z_bipush (pc := 27) C (by decide +kernel) dX5_person_27 ?_
    refine z_ic_ne (pc := 29) C dX5_person_29 (tgt := 38) (by decide) (fun c3 => ?_) (fun c3 => ?_)
    · have h := itf c3 h
      refine z_aload_n (pc := 38) C 0 rfl dX5_person_38 ?_
      refine gX5_581 (pc := 39) C rfl hv0 dX5_person_39 ?_
      refine z_aload_n (pc := 42) C 0 rfl dX5_person_42 ?_
      refine gX5_580 (pc := 43) C rfl (Or.inl hv0) (x := m_i M 580 v0 0) ((m_i_ne (by decide)).trans rfl) dX5_person_43 ?_
      refine z_iload_n (pc := 46) C 1 rfl dX5_person_46 ?_
      obtain ⟨c4, h⟩ := ifn h
      refine z_isO (pc := 47) (k := 5) (j := 81) C 581 rfl (by decide) (by decide) (by decide) rfl rfl rfl rfl hv0 c4 dX5_person_47 ?_
      refine z_aload_n (pc := 48) C 0 rfl dX5_person_48 ?_
      refine z_dup (pc := 49) C rfl dX5_person_49 ?_
      refine gX5_580 (pc := 50) C rfl (Or.inl hv0) (x := m_i M 580 v0 0) ((m_i_ne (by decide)).trans ((m_i_ne (by decide)).trans rfl)) dX5_person_50 ?_
      refine z_iconst (pc := 53) C dX5_person_53 ?_
      refine z_iadd (pc := 54) C dX5_person_54 ?_
      refine pX5_580 (pc := 55) C rfl (Or.inl hv0) dX5_person_55 ?_
      refine z_aload_n (pc := 58) C 0 rfl dX5_person_58 ?_
      refine gX5_580 (pc := 59) C rfl (Or.inl hv0) (x := (m_i M 580 v0 0) + 1) (m_i_self _ _ _ _ _) dX5_person_59 ?_
      refine z_iconst (pc := 62) C dX5_person_62 ?_
      refine z_isub (pc := 63) C dX5_person_63 ?_
      cases h
      exact z_iret (pc := 64) C rfl (show 0 ≤ 0 from by decide) (show 0 ≤ 0 from by decide) dX5_person_64
    · have h := itt c3 h
      refine z_aload_n (pc := 32) C 0 rfl dX5_person_32 ?_
      refine z_iconst (pc := 33) C dX5_person_33 ?_
      obtain ⟨r5, M6, e7, h⟩ := bNs h
      refine cX5_213 (pc := 34) (st := []) (st1 := [vI r5]) C rfl (rm := { frames := 1, cells := 0, slots := 0, locals := 24 }) (ct_X5_fail C.2.1 v0 2 (m_si M 500 v0 0 0) _ _ hv0 e7) ⟨by decide, by decide, Nat.zero_le _, Nat.zero_le _⟩ (Or.inl hv0) rfl (Nat.le_of_ble_eq_true rfl) dX5_person_34 (c2 := 0) (s2 := 0) rfl rfl (fun x8 => ?_)
      cases h
      exact z_iret (pc := 37) C rfl (show 0 ≤ 0 from by decide) (show 0 ≤ 0 from by decide) dX5_person_37
  · have h := itt c2 h
    refine z_aload_n (pc := 17) C 0 rfl dX5_person_17 ?_
    refine z_iconst (pc := 18) C dX5_person_18 ?_
    obtain ⟨r9, M10, e11, h⟩ := bNs h
    refine cX5_213 (pc := 19) (st := []) (st1 := [vI r9]) C rfl (rm := { frames := 1, cells := 0, slots := 0, locals := 24 }) (ct_X5_fail C.2.1 v0 1 (m_si M 500 v0 0 0) _ _ hv0 e11) ⟨by decide, by decide, Nat.zero_le _, Nat.zero_le _⟩ (Or.inl hv0) rfl (Nat.le_of_ble_eq_true rfl) dX5_person_19 (c2 := 0) (s2 := 0) rfl rfl (fun x12 => ?_)
    cases h
    exact z_iret (pc := 22) C rfl (show 0 ≤ 0 from by decide) (show 0 ≤ 0 from by decide) dX5_person_22
def B_X5_release_149 (k149 : Nat → Int → Int → Mem → Option (Int × Mem)) (v0 : Nat) (v2 : Int) (v4 : Int) (M : Mem) : Option (Int × Mem) :=
  if w32 12 ≤ w32 v4 then
    some (((m_i M 582 v0 0) + 1) - 1, (m_si M 582 v0 0 ((m_i M 582 v0 0) + 1)))
  else
    bR (d_X5_now v0 v2 v4 3 M) fun r17 => 
    if inb ((12 * (m_i M 582 v0 0)) + v4) 144 then 
    k149 v0 v2 (v4 + 1) (m_si M 588 v0 (ixn ((12 * (m_i M 582 v0 0)) + v4)) r17) else none
def L_X5_release_149  : Nat → Nat → Int → Int → Mem → Option (Int × Mem)
  | 0, _, _, _, _ => none
  | n + 1, v0, v2, v4, M => B_X5_release_149 (L_X5_release_149  n) v0 v2 v4 M
def d_X5_release (v0 : Nat) (v1 : Int) (v2 : Int) (v3 : Int) (M : Mem) : Option (Int × Mem) :=
  if w32 (d_X5_isIn (w32 v1) 0 (w32 ((m_i M 580 v0 0) - 1))) = 0 then
    bN (d_X5_fail v0 1 (m_si M 500 v0 0 0)) fun r3 M4 => 
    some (r3, M4)
  else
    bR (d_X5_isTable v0 v2 (m_si M 500 v0 0 0)) fun r7 => 
    if w32 r7 = 0 then
      bN (d_X5_fail v0 1 (m_si M 500 v0 0 0)) fun r32 M33 => 
      some (r32, M33)
    else
      if inb v1 12 then 
      if w32 (a32 (m_i M 581 v0 (ixn v1)) 1) = 0 then
        bN (d_X5_fail v0 2 (m_si M 500 v0 0 0)) fun r28 M29 => 
        some (r28, M29)
      else
        if w32 (m_i M 501 v0 0) ≤ w32 v3 then
          if w32 (m_i M 582 v0 0) = w32 12 then
            bN (d_X5_fail v0 4 (m_si M 500 v0 0 0)) fun r20 M21 => 
            some (r20, M21)
          else
            if inb (m_i M 582 v0 0) 12 then 
            if inb v2 12 then 
            L_X5_release_149 FU v0 v2 0 (m_si (m_si (m_si (m_si (m_si (m_si M 500 v0 0 0) 583 v0 (ixn (m_i M 582 v0 0)) v1) 584 v0 (ixn (m_i M 582 v0 0)) v3) 585 v0 (ixn (m_i M 582 v0 0)) (m_i M 570 v0 (ixn v2))) 586 v0 (ixn (m_i M 582 v0 0)) (m_i M 571 v0 (ixn v2))) 587 v0 (ixn (m_i M 582 v0 0)) (m_i M 577 v0 (ixn v2))) else none else none
        else
          bN (d_X5_fail v0 3 (m_si M 500 v0 0 0)) fun r24 M25 => 
          some (r24, M25) else none
theorem cB_X5_release_149 {X : x_Ctx} {M0 : Mem} (C : x_CC X 3 78 yX5_release cX5_release 5 (some .int) []) {k149 : Nat → Int → Int → Mem → Option (Int × Mem)} (hk149 : ∀ (v0 : Nat) (v2 : Int) (v4 : Int) (M : Mem) (r : Int) (M' : Mem), m_kd M v0 = 5 → k149 v0 v2 v4 M = some (r, M') → x_Z X 0 0 (x_QF X M0 (.returned (some (vI r))) M' 0 0) M0 M 5 [(0, .ref v0), (2, vI v2), (4, vI v4)] 149 []) (v0 : Nat) (v2 : Int) (v4 : Int) (M : Mem) (r : Int) (M' : Mem) (hv0 : m_kd M v0 = 5) (h : B_X5_release_149 k149 v0 v2 v4 M = some (r, M'))  : x_Z X 0 0 (x_QF X M0 (.returned (some (vI r))) M' 0 0) M0 M 5 [(0, .ref v0), (2, vI v2), (4, vI v4)] 149 [] := by
  unfold B_X5_release_149 at h
  refine z_iload (pc := 149) C 2 rfl dX5_release_149 ?_
  refine z_bipush (pc := 151) C (by decide +kernel) dX5_release_151 ?_
  refine z_ic_ge (pc := 153) C dX5_release_153 (tgt := 185) (by decide) (fun c16 => ?_) (fun c16 => ?_)
  · have h := itt c16 h
    refine z_aload_n (pc := 185) C 0 rfl dX5_release_185 ?_
    refine z_dup (pc := 186) C rfl dX5_release_186 ?_
    refine gX5_582 (pc := 187) C rfl (Or.inl hv0) rfl dX5_release_187 ?_
    refine z_iconst (pc := 190) C dX5_release_190 ?_
    refine z_iadd (pc := 191) C dX5_release_191 ?_
    refine pX5_582 (pc := 192) C rfl (Or.inl hv0) dX5_release_192 ?_
    refine z_aload_n (pc := 195) C 0 rfl dX5_release_195 ?_
    refine gX5_582 (pc := 196) C rfl (Or.inl hv0) (x := (m_i M 582 v0 0) + 1) (m_i_self _ _ _ _ _) dX5_release_196 ?_
    refine z_iconst (pc := 199) C dX5_release_199 ?_
    refine z_isub (pc := 200) C dX5_release_200 ?_
    cases h
    exact z_iret (pc := 201) C rfl (show 0 ≤ 0 from by decide) (show 0 ≤ 0 from by decide) dX5_release_201
  · have h := itf c16 h
    refine z_aload_n (pc := 156) C 0 rfl dX5_release_156 ?_
    refine gX5_588 (pc := 157) C rfl hv0 dX5_release_157 ?_
    refine z_bipush (pc := 160) C (by decide +kernel) dX5_release_160 ?_
    refine z_aload_n (pc := 162) C 0 rfl dX5_release_162 ?_
    refine gX5_582 (pc := 163) C rfl (Or.inl hv0) rfl dX5_release_163 ?_
    refine z_imul (pc := 166) C dX5_release_166 ?_
    refine z_iload (pc := 167) C 2 rfl dX5_release_167 ?_
    refine z_iadd (pc := 169) C dX5_release_169 ?_
    refine z_aload_n (pc := 170) C 0 rfl dX5_release_170 ?_
    refine z_iload_n (pc := 171) C 1 rfl dX5_release_171 ?_
    refine z_iload (pc := 172) C 2 rfl dX5_release_172 ?_
    refine z_iconst (pc := 174) C dX5_release_174 ?_
    obtain ⟨r17, e18, h⟩ := bRs h
    refine cX5_476 (pc := 175) (st := [vI ((12 * (m_i M 582 v0 0)) + v4), .ref (v0 + 61)]) (st1 := [vI r17, vI ((12 * (m_i M 582 v0 0)) + v4), .ref (v0 + 61)]) C rfl (rm := { frames := 1, cells := 0, slots := 0, locals := 24 }) (ct_X5_now C.2.1 v0 v2 v4 3 M _ hv0 e18) ⟨by decide, by decide, Nat.zero_le _, Nat.zero_le _⟩ (Or.inl hv0) rfl (Nat.le_of_ble_eq_true rfl) dX5_release_175 (c2 := 0) (s2 := 0) rfl rfl (fun _ => ?_)
    obtain ⟨c19, h⟩ := ifn h
    refine z_isO (pc := 178) (k := 5) (j := 88) C 588 rfl (by decide) (by decide) (by decide) rfl rfl rfl rfl hv0 c19 dX5_release_178 ?_
    refine z_iinc (pc := 179) C (lv' := [(0, .ref v0), (2, vI v2), (4, vI (v4 + 1))]) 2 rfl (by decide) rfl dX5_release_179 ?_
    refine z_goto (pc := 182) C dX5_release_182 (tgt := 149) (by decide) ?_
    exact hk149 v0 v2 (v4 + 1) (m_si M 588 v0 (ixn ((12 * (m_i M 582 v0 0)) + v4)) r17) _ _ hv0 h
theorem cL_X5_release_149 {X : x_Ctx} {M0 : Mem} (C : x_CC X 3 78 yX5_release cX5_release 5 (some .int) [])  : ∀ (n : Nat) (v0 : Nat) (v2 : Int) (v4 : Int) (M : Mem) (r : Int) (M' : Mem) (hv0 : m_kd M v0 = 5) (h : L_X5_release_149  n v0 v2 v4 M = some (r, M')) , x_Z X 0 0 (x_QF X M0 (.returned (some (vI r))) M' 0 0) M0 M 5 [(0, .ref v0), (2, vI v2), (4, vI v4)] 149 [] := by
  intro n
  induction n with
  | zero => intro v0 v2 v4 M r M' hv0 h ; cases h
  | succ n ih => intro v0 v2 v4 M r M' hv0 h ; exact cB_X5_release_149 C (fun v0 v2 v4 M r M' hv0 h  => ih v0 v2 v4 M r M' hv0 h ) v0 v2 v4 M r M' hv0 h 
theorem ct_X5_release {l : Launch} {S0 : State} {D : va_G} {cA : Nat → ClassId} (hG : x_G l S0 D cA) (v0 : Nat) (v1 : Int) (v2 : Int) (v3 : Int) (M : Mem) (r : Int) (M' : Mem) (hv0 : m_kd M v0 = 5) (h : d_X5_release v0 v1 v2 v3 M = some (r, M')) : x_Me l S0 D cA yX5_release cX5_release 5 (some .int) [] ({ frames := 3, cells := 0, slots := 0, locals := 78 }) [.ref v0, vI v1, vI v2, vI v3] M (.returned (some (vI r))) M' := by
  refine x_begin (F := 3) (Lo := 78) (mc := 0) (ms := 0) hG (Nat.le_of_ble_eq_true rfl) (lv := [(0, .ref v0), (1, vI v1), (2, vI v2), (3, vI v3)]) rfl rfl rfl rfl rfl (fun X e1 e2 e3 e4 e5 C => ?_)
  unfold d_X5_release at h
  refine z_aload_n (pc := 0) C 0 rfl dX5_release_0 ?_
  refine z_iconst (pc := 1) C dX5_release_1 ?_
  refine pX5_500 (pc := 2) C rfl (Or.inl hv0) dX5_release_2 ?_
  refine z_iload_n (pc := 5) C 1 rfl dX5_release_5 ?_
  refine z_i2l (pc := 6) C dX5_release_6 ?_
  refine z_lconst (pc := 7) C (x := 0) (by decide +kernel) dX5_release_7 ?_
  refine z_aload_n (pc := 8) C 0 rfl dX5_release_8 ?_
  refine gX5_580 (pc := 9) C rfl (Or.inl hv0) (x := m_i M 580 v0 0) ((m_i_ne (by decide)).trans rfl) dX5_release_9 ?_
  refine z_iconst (pc := 12) C dX5_release_12 ?_
  refine z_isub (pc := 13) C dX5_release_13 ?_
  refine z_i2l (pc := 14) C dX5_release_14 ?_
  refine cX5_207 (pc := 15) (st := []) (st1 := [vI (d_X5_isIn (w32 v1) 0 (w32 ((m_i M 580 v0 0) - 1)))]) C rfl (rm := { frames := 1, cells := 0, slots := 0, locals := 24 }) (ct_X5_isIn C.2.1 (w32 v1) 0 (w32 ((m_i M 580 v0 0) - 1)) (m_si M 500 v0 0 0) _  rfl) ⟨by decide, by decide, Nat.zero_le _, Nat.zero_le _⟩ rfl (Nat.le_of_ble_eq_true rfl) dX5_release_15 (c2 := 0) (s2 := 0) rfl rfl (fun _ => ?_)
  refine z_if_eq (pc := 18) C dX5_release_18 (tgt := 29) (by decide) (fun c2 => ?_) (fun c2 => ?_)
  · have h := itt c2 h
    refine z_aload_n (pc := 29) C 0 rfl dX5_release_29 ?_
    refine z_iconst (pc := 30) C dX5_release_30 ?_
    obtain ⟨r3, M4, e5, h⟩ := bNs h
    refine cX5_213 (pc := 31) (st := []) (st1 := [vI r3]) C rfl (rm := { frames := 1, cells := 0, slots := 0, locals := 24 }) (ct_X5_fail C.2.1 v0 1 (m_si M 500 v0 0 0) _ _ hv0 e5) ⟨by decide, by decide, Nat.zero_le _, Nat.zero_le _⟩ (Or.inl hv0) rfl (Nat.le_of_ble_eq_true rfl) dX5_release_31 (c2 := 0) (s2 := 0) rfl rfl (fun x6 => ?_)
    cases h
    exact z_iret (pc := 34) C rfl (show 0 ≤ 0 from by decide) (show 0 ≤ 0 from by decide) dX5_release_34
  · have h := itf c2 h
    refine z_aload_n (pc := 21) C 0 rfl dX5_release_21 ?_
    refine z_iload_n (pc := 22) C 2 rfl dX5_release_22 ?_
    obtain ⟨r7, e8, h⟩ := bRs h
    refine cX5_473 (pc := 23) (st := []) (st1 := [vI r7]) C rfl (rm := { frames := 2, cells := 0, slots := 0, locals := 53 }) (ct_X5_isTable C.2.1 v0 v2 (m_si M 500 v0 0 0) _ hv0 e8) ⟨by decide, by decide, Nat.zero_le _, Nat.zero_le _⟩ (Or.inl hv0) rfl (Nat.le_of_ble_eq_true rfl) dX5_release_23 (c2 := 0) (s2 := 0) rfl rfl (fun _ => ?_)
    refine z_if_ne (pc := 26) C dX5_release_26 (tgt := 35) (by decide) (fun c9 => ?_) (fun c9 => ?_)
    · have h := itf c9 h
      refine z_aload_n (pc := 35) C 0 rfl dX5_release_35 ?_
      refine gX5_581 (pc := 36) C rfl hv0 dX5_release_36 ?_
      refine z_iload_n (pc := 39) C 1 rfl dX5_release_39 ?_
      obtain ⟨c10, h⟩ := ifn h
      refine z_iaO (pc := 40) (k := 5) (j := 81) C 581 rfl (by decide) (by decide) (by decide) rfl rfl rfl rfl hv0 c10 (x := m_i M 581 v0 (ixn v1)) ((m_i_ne (by decide)).trans rfl) dX5_release_40 ?_
      refine z_iconst (pc := 41) C dX5_release_41 ?_
      refine z_iand (pc := 42) C dX5_release_42 ?_
      refine z_if_ne (pc := 43) C dX5_release_43 (tgt := 52) (by decide) (fun c11 => ?_) (fun c11 => ?_)
      · have h := itf c11 h
        refine z_iload_n (pc := 52) C 3 rfl dX5_release_52 ?_
        refine z_aload_n (pc := 53) C 0 rfl dX5_release_53 ?_
        refine gX5_501 (pc := 54) C rfl (Or.inl hv0) (x := m_i M 501 v0 0) ((m_i_ne (by decide)).trans rfl) dX5_release_54 ?_
        refine z_ic_ge (pc := 57) C dX5_release_57 (tgt := 66) (by decide) (fun c12 => ?_) (fun c12 => ?_)
        · have h := itt c12 h
          refine z_aload_n (pc := 66) C 0 rfl dX5_release_66 ?_
          refine gX5_582 (pc := 67) C rfl (Or.inl hv0) (x := m_i M 582 v0 0) ((m_i_ne (by decide)).trans rfl) dX5_release_67 ?_
          refine z_bipush (pc := 70) C (by decide +kernel) dX5_release_70 ?_
          refine z_ic_ne (pc := 72) C dX5_release_72 (tgt := 81) (by decide) (fun c13 => ?_) (fun c13 => ?_)
          · have h := itf c13 h
            refine z_aload_n (pc := 81) C 0 rfl dX5_release_81 ?_
            refine gX5_583 (pc := 82) C rfl hv0 dX5_release_82 ?_
            refine z_aload_n (pc := 85) C 0 rfl dX5_release_85 ?_
            refine gX5_582 (pc := 86) C rfl (Or.inl hv0) (x := m_i M 582 v0 0) ((m_i_ne (by decide)).trans rfl) dX5_release_86 ?_
            refine z_iload_n (pc := 89) C 1 rfl dX5_release_89 ?_
            obtain ⟨c14, h⟩ := ifn h
            refine z_isO (pc := 90) (k := 5) (j := 83) C 583 rfl (by decide) (by decide) (by decide) rfl rfl rfl rfl hv0 c14 dX5_release_90 ?_
            refine z_aload_n (pc := 91) C 0 rfl dX5_release_91 ?_
            refine gX5_584 (pc := 92) C rfl hv0 dX5_release_92 ?_
            refine z_aload_n (pc := 95) C 0 rfl dX5_release_95 ?_
            refine gX5_582 (pc := 96) C rfl (Or.inl hv0) (x := m_i M 582 v0 0) ((m_i_ne (by decide)).trans ((m_i_ne (by decide)).trans rfl)) dX5_release_96 ?_
            refine z_iload_n (pc := 99) C 3 rfl dX5_release_99 ?_
            refine z_isO (pc := 100) (k := 5) (j := 84) C 584 rfl (by decide) (by decide) (by decide) rfl rfl rfl rfl hv0 c14 dX5_release_100 ?_
            refine z_aload_n (pc := 101) C 0 rfl dX5_release_101 ?_
            refine gX5_585 (pc := 102) C rfl hv0 dX5_release_102 ?_
            refine z_aload_n (pc := 105) C 0 rfl dX5_release_105 ?_
            refine gX5_582 (pc := 106) C rfl (Or.inl hv0) (x := m_i M 582 v0 0) ((m_i_ne (by decide)).trans ((m_i_ne (by decide)).trans ((m_i_ne (by decide)).trans rfl))) dX5_release_106 ?_
            refine z_aload_n (pc := 109) C 0 rfl dX5_release_109 ?_
            refine gX5_570 (pc := 110) C rfl hv0 dX5_release_110 ?_
            refine z_iload_n (pc := 113) C 2 rfl dX5_release_113 ?_
            obtain ⟨c15, h⟩ := ifn h
            refine z_iaO (pc := 114) (k := 5) (j := 70) C 570 rfl (by decide) (by decide) (by decide) rfl rfl rfl rfl hv0 c15 (x := m_i M 570 v0 (ixn v2)) ((m_i_ne (by decide)).trans ((m_i_ne (by decide)).trans ((m_i_ne (by decide)).trans rfl))) dX5_release_114 ?_
            refine z_isO (pc := 115) (k := 5) (j := 85) C 585 rfl (by decide) (by decide) (by decide) rfl rfl rfl rfl hv0 c14 dX5_release_115 ?_
            refine z_aload_n (pc := 116) C 0 rfl dX5_release_116 ?_
            refine gX5_586 (pc := 117) C rfl hv0 dX5_release_117 ?_
            refine z_aload_n (pc := 120) C 0 rfl dX5_release_120 ?_
            refine gX5_582 (pc := 121) C rfl (Or.inl hv0) (x := m_i M 582 v0 0) ((m_i_ne (by decide)).trans ((m_i_ne (by decide)).trans ((m_i_ne (by decide)).trans ((m_i_ne (by decide)).trans rfl)))) dX5_release_121 ?_
            refine z_aload_n (pc := 124) C 0 rfl dX5_release_124 ?_
            refine gX5_571 (pc := 125) C rfl hv0 dX5_release_125 ?_
            refine z_iload_n (pc := 128) C 2 rfl dX5_release_128 ?_
            refine z_iaO (pc := 129) (k := 5) (j := 71) C 571 rfl (by decide) (by decide) (by decide) rfl rfl rfl rfl hv0 c15 (x := m_i M 571 v0 (ixn v2)) ((m_i_ne (by decide)).trans ((m_i_ne (by decide)).trans ((m_i_ne (by decide)).trans ((m_i_ne (by decide)).trans rfl)))) dX5_release_129 ?_
            refine z_isO (pc := 130) (k := 5) (j := 86) C 586 rfl (by decide) (by decide) (by decide) rfl rfl rfl rfl hv0 c14 dX5_release_130 ?_
            refine z_aload_n (pc := 131) C 0 rfl dX5_release_131 ?_
            refine gX5_587 (pc := 132) C rfl hv0 dX5_release_132 ?_
            refine z_aload_n (pc := 135) C 0 rfl dX5_release_135 ?_
            refine gX5_582 (pc := 136) C rfl (Or.inl hv0) (x := m_i M 582 v0 0) ((m_i_ne (by decide)).trans ((m_i_ne (by decide)).trans ((m_i_ne (by decide)).trans ((m_i_ne (by decide)).trans ((m_i_ne (by decide)).trans rfl))))) dX5_release_136 ?_
            refine z_aload_n (pc := 139) C 0 rfl dX5_release_139 ?_
            refine gX5_577 (pc := 140) C rfl hv0 dX5_release_140 ?_
            refine z_iload_n (pc := 143) C 2 rfl dX5_release_143 ?_
            refine z_iaO (pc := 144) (k := 5) (j := 77) C 577 rfl (by decide) (by decide) (by decide) rfl rfl rfl rfl hv0 c15 (x := m_i M 577 v0 (ixn v2)) ((m_i_ne (by decide)).trans ((m_i_ne (by decide)).trans ((m_i_ne (by decide)).trans ((m_i_ne (by decide)).trans ((m_i_ne (by decide)).trans rfl))))) dX5_release_144 ?_
            refine z_isO (pc := 145) (k := 5) (j := 87) C 587 rfl (by decide) (by decide) (by decide) rfl rfl rfl rfl hv0 c14 dX5_release_145 ?_
            refine z_iconst (pc := 146) C dX5_release_146 ?_
            refine z_istore (pc := 147) C (lv' := [(0, .ref v0), (1, vI v1), (2, vI v2), (3, vI v3), (4, vI 0)]) (by decide) rfl dX5_release_147 ?_
            exact z_lv [0, 2, 4] rfl <| cL_X5_release_149 C FU v0 v2 0 (m_si (m_si (m_si (m_si (m_si (m_si M 500 v0 0 0) 583 v0 (ixn (m_i M 582 v0 0)) v1) 584 v0 (ixn (m_i M 582 v0 0)) v3) 585 v0 (ixn (m_i M 582 v0 0)) (m_i M 570 v0 (ixn v2))) 586 v0 (ixn (m_i M 582 v0 0)) (m_i M 571 v0 (ixn v2))) 587 v0 (ixn (m_i M 582 v0 0)) (m_i M 577 v0 (ixn v2))) _ _ hv0 h
          · have h := itt c13 h
            refine z_aload_n (pc := 75) C 0 rfl dX5_release_75 ?_
            refine z_iconst (pc := 76) C dX5_release_76 ?_
            obtain ⟨r20, M21, e22, h⟩ := bNs h
            refine cX5_213 (pc := 77) (st := []) (st1 := [vI r20]) C rfl (rm := { frames := 1, cells := 0, slots := 0, locals := 24 }) (ct_X5_fail C.2.1 v0 4 (m_si M 500 v0 0 0) _ _ hv0 e22) ⟨by decide, by decide, Nat.zero_le _, Nat.zero_le _⟩ (Or.inl hv0) rfl (Nat.le_of_ble_eq_true rfl) dX5_release_77 (c2 := 0) (s2 := 0) rfl rfl (fun x23 => ?_)
            cases h
            exact z_iret (pc := 80) C rfl (show 0 ≤ 0 from by decide) (show 0 ≤ 0 from by decide) dX5_release_80
        · have h := itf c12 h
          refine z_aload_n (pc := 60) C 0 rfl dX5_release_60 ?_
          refine z_iconst (pc := 61) C dX5_release_61 ?_
          obtain ⟨r24, M25, e26, h⟩ := bNs h
          refine cX5_213 (pc := 62) (st := []) (st1 := [vI r24]) C rfl (rm := { frames := 1, cells := 0, slots := 0, locals := 24 }) (ct_X5_fail C.2.1 v0 3 (m_si M 500 v0 0 0) _ _ hv0 e26) ⟨by decide, by decide, Nat.zero_le _, Nat.zero_le _⟩ (Or.inl hv0) rfl (Nat.le_of_ble_eq_true rfl) dX5_release_62 (c2 := 0) (s2 := 0) rfl rfl (fun x27 => ?_)
          cases h
          exact z_iret (pc := 65) C rfl (show 0 ≤ 0 from by decide) (show 0 ≤ 0 from by decide) dX5_release_65
      · have h := itt c11 h
        refine z_aload_n (pc := 46) C 0 rfl dX5_release_46 ?_
        refine z_iconst (pc := 47) C dX5_release_47 ?_
        obtain ⟨r28, M29, e30, h⟩ := bNs h
        refine cX5_213 (pc := 48) (st := []) (st1 := [vI r28]) C rfl (rm := { frames := 1, cells := 0, slots := 0, locals := 24 }) (ct_X5_fail C.2.1 v0 2 (m_si M 500 v0 0 0) _ _ hv0 e30) ⟨by decide, by decide, Nat.zero_le _, Nat.zero_le _⟩ (Or.inl hv0) rfl (Nat.le_of_ble_eq_true rfl) dX5_release_48 (c2 := 0) (s2 := 0) rfl rfl (fun x31 => ?_)
        cases h
        exact z_iret (pc := 51) C rfl (show 0 ≤ 0 from by decide) (show 0 ≤ 0 from by decide) dX5_release_51
    · have h := itt c9 h
      refine z_aload_n (pc := 29) C 0 rfl dX5_release_29 ?_
      refine z_iconst (pc := 30) C dX5_release_30 ?_
      obtain ⟨r32, M33, e34, h⟩ := bNs h
      refine cX5_213 (pc := 31) (st := []) (st1 := [vI r32]) C rfl (rm := { frames := 1, cells := 0, slots := 0, locals := 24 }) (ct_X5_fail C.2.1 v0 1 (m_si M 500 v0 0 0) _ _ hv0 e34) ⟨by decide, by decide, Nat.zero_le _, Nat.zero_le _⟩ (Or.inl hv0) rfl (Nat.le_of_ble_eq_true rfl) dX5_release_31 (c2 := 0) (s2 := 0) rfl rfl (fun x35 => ?_)
      cases h
      exact z_iret (pc := 34) C rfl (show 0 ≤ 0 from by decide) (show 0 ≤ 0 from by decide) dX5_release_34
def B_X5_look_292  (v0 : Nat) (v1 : Int) (v2 : Int) (v3 : Int) (v4 : Int) (s0 : Int) (M : Mem) : Option (Int × Mem) :=
  if inb (6 * (m_i M 589 v0 0)) 3000 then 
  if inb ((6 * (m_i M 589 v0 0)) + 1) 3000 then 
  if inb ((6 * (m_i M 589 v0 0)) + 2) 3000 then 
  if inb ((6 * (m_i M 589 v0 0)) + 3) 3000 then 
  if inb ((6 * (m_i M 589 v0 0)) + 4) 3000 then 
  if inb ((6 * (m_i M 589 v0 0)) + 5) 3000 then 
  some (s0, (m_si (m_si (m_si (m_si (m_si (m_si (m_si M 590 v0 (ixn (6 * (m_i M 589 v0 0))) v1) 590 v0 (ixn ((6 * (m_i M 589 v0 0)) + 1)) v2) 590 v0 (ixn ((6 * (m_i M 589 v0 0)) + 2)) v3) 590 v0 (ixn ((6 * (m_i M 589 v0 0)) + 3)) v4) 590 v0 (ixn ((6 * (m_i M 589 v0 0)) + 4)) s0) 590 v0 (ixn ((6 * (m_i M 589 v0 0)) + 5)) (m_i M 501 v0 0)) 589 v0 0 ((m_i M 589 v0 0) + 1))) else none else none else none else none else none else none
def B_X5_look_290  (v0 : Nat) (v1 : Int) (v2 : Int) (v3 : Int) (v4 : Int) (v6 : Int) (M : Mem) : Option (Int × Mem) :=
  B_X5_look_292 v0 v1 v2 v3 v4 v6 M
def B_X5_look_255  (v0 : Nat) (v1 : Int) (v2 : Int) (v3 : Int) (v4 : Int) (v6 : Int) (v7 : Int) (M : Mem) : Option (Int × Mem) :=
  if inb v1 12 then 
  if w32 (m_i M 581 v0 (ixn v1)) = 0 then
    B_X5_look_292 v0 v1 v2 v3 v4 (-13) M
  else
    if w32 v7 = 0 then
      B_X5_look_290 v0 v1 v2 v3 v4 v6 M
    else
      if w32 (a32 (m_i M 581 v0 (ixn v1)) 4) = 0 then
        B_X5_look_292 v0 v1 v2 v3 v4 (-14) M
      else
        B_X5_look_290 v0 v1 v2 v3 v4 v6 M else none
def B_X5_look_225  (v0 : Nat) (v1 : Int) (v2 : Int) (v3 : Int) (v4 : Int) (v6 : Int) (s0 : Int) (M : Mem) : Option (Int × Mem) :=
  if inb v2 12 then 
  if w32 (m_i M 584 v0 (ixn v2)) ≤ w32 (m_i M 501 v0 0) then
    B_X5_look_255 v0 v1 v2 v3 v4 v6 s0 M
  else
    if w32 (m_i M 583 v0 (ixn v2)) = w32 v1 then
      B_X5_look_255 v0 v1 v2 v3 v4 v6 s0 M
    else
      B_X5_look_292 v0 v1 v2 v3 v4 (-12) M else none
def B_X5_look_224  (v0 : Nat) (v1 : Int) (v2 : Int) (v3 : Int) (v4 : Int) (v6 : Int) (M : Mem) : Option (Int × Mem) :=
  B_X5_look_225 v0 v1 v2 v3 v4 v6 0 M
def B_X5_look_158 (k106 : Nat → Int → Int → Int → Int → Int → Int → Int → Mem → Option (Int × Mem)) (v0 : Nat) (v1 : Int) (v2 : Int) (v3 : Int) (v4 : Int) (v5 : Int) (v7 : Int) (s0 : Int) (M : Mem) : Option (Int × Mem) :=
  if inb ((12 * v2) + v7) 144 then 
  k106 v0 v1 v2 v3 v4 v5 (s0 + (m_i M 588 v0 (ixn ((12 * v2) + v7)))) (v7 + 1) M else none
def B_X5_look_141 (k106 : Nat → Int → Int → Int → Int → Int → Int → Int → Mem → Option (Int × Mem)) (v0 : Nat) (v1 : Int) (v2 : Int) (v3 : Int) (v4 : Int) (v5 : Int) (v7 : Int) (s0 : Int) (M : Mem) : Option (Int × Mem) :=
  if w32 v4 = w32 v5 then
    B_X5_look_158 k106 v0 v1 v2 v3 v4 v5 v7 s0 M
  else
    if ¬ w32 v5 = 0 then 
    if w32 (r32 v7 v5) = w32 v4 then
      B_X5_look_158 k106 v0 v1 v2 v3 v4 v5 v7 s0 M
    else
      k106 v0 v1 v2 v3 v4 v5 (s0 + 0) (v7 + 1) M else none
def B_X5_look_106 (k106 : Nat → Int → Int → Int → Int → Int → Int → Int → Mem → Option (Int × Mem)) (v0 : Nat) (v1 : Int) (v2 : Int) (v3 : Int) (v4 : Int) (v5 : Int) (v6 : Int) (v7 : Int) (M : Mem) : Option (Int × Mem) :=
  if inb v2 12 then 
  if w32 ((m_i M 585 v0 (ixn v2)) * v5) ≤ w32 v7 then
    if w32 (m_i M 585 v0 (ixn v2)) ≤ w32 v3 then
      B_X5_look_224 v0 v1 v2 v3 v4 v6 M
    else
      if w32 v5 ≤ w32 v4 then
        B_X5_look_224 v0 v1 v2 v3 v4 v6 M
      else
        if w32 (a32 (s32 (m_i M 587 v0 (ixn v2)) ((v3 * v5) + v4)) 1) = w32 1 then
          B_X5_look_225 v0 v1 v2 v3 v4 v6 1 M
        else
          B_X5_look_224 v0 v1 v2 v3 v4 v6 M
  else
    if w32 v3 = w32 (m_i M 585 v0 (ixn v2)) then
      B_X5_look_141 k106 v0 v1 v2 v3 v4 v5 v7 v6 M
    else
      if ¬ w32 v5 = 0 then 
      if w32 (d32 v7 v5) = w32 v3 then
        B_X5_look_141 k106 v0 v1 v2 v3 v4 v5 v7 v6 M
      else
        k106 v0 v1 v2 v3 v4 v5 (v6 + 0) (v7 + 1) M else none else none
def L_X5_look_106  : Nat → Nat → Int → Int → Int → Int → Int → Int → Int → Mem → Option (Int × Mem)
  | 0, _, _, _, _, _, _, _, _, _ => none
  | n + 1, v0, v1, v2, v3, v4, v5, v6, v7, M => B_X5_look_106 (L_X5_look_106  n) v0 v1 v2 v3 v4 v5 v6 v7 M
def d_X5_look (v0 : Nat) (v1 : Int) (v2 : Int) (v3 : Int) (v4 : Int) (M : Mem) : Option (Int × Mem) :=
  if w32 (d_X5_isIn (w32 v1) 0 (w32 ((m_i M 580 v0 0) - 1))) = 0 then
    bN (d_X5_fail v0 1 (m_si M 500 v0 0 0)) fun r3 M4 => 
    some (r3, M4)
  else
    if w32 (d_X5_isIn (w32 v2) 0 (w32 ((m_i M 582 v0 0) - 1))) = 0 then
      bN (d_X5_fail v0 1 (m_si M 500 v0 0 0)) fun r9 M10 => 
      some (r9, M10)
    else
      if inb v2 12 then 
      if w32 (d_X5_isIn (w32 v3) 0 (w32 (m_i M 585 v0 (ixn v2)))) = 0 then
        bN (d_X5_fail v0 1 (m_si M 500 v0 0 0)) fun r16 M17 => 
        some (r16, M17)
      else
        if w32 (d_X5_isIn (w32 v4) 0 (w32 (m_i M 586 v0 (ixn v2)))) = 0 then
          bN (d_X5_fail v0 1 (m_si M 500 v0 0 0)) fun r52 M53 => 
          some (r52, M53)
        else
          if w32 (m_i M 589 v0 0) = w32 500 then
            bN (d_X5_fail v0 2 (m_si M 500 v0 0 0)) fun r48 M49 => 
            some (r48, M49)
          else
            L_X5_look_106 FU v0 v1 v2 v3 v4 (m_i M 586 v0 (ixn v2)) 0 0 (m_si M 500 v0 0 0) else none
theorem cB_X5_look_292 {X : x_Ctx} {M0 : Mem} (C : x_CC X 2 53 yX5_look cX5_look 10 (some .int) [])  (v0 : Nat) (v1 : Int) (v2 : Int) (v3 : Int) (v4 : Int) (s0 : Int) (M : Mem) (r : Int) (M' : Mem) (hv0 : m_kd M v0 = 5) (h : B_X5_look_292  v0 v1 v2 v3 v4 s0 M = some (r, M'))  : x_Z X 0 0 (x_QF X M0 (.returned (some (vI r))) M' 0 0) M0 M 10 [(0, .ref v0), (1, vI v1), (2, vI v2), (3, vI v3), (4, vI v4)] 292 [vI s0] := by
  unfold B_X5_look_292 at h
  refine z_istore (pc := 292) C (lv' := [(0, .ref v0), (1, vI v1), (2, vI v2), (3, vI v3), (4, vI v4), (8, vI s0)]) (by decide) rfl dX5_look_292 ?_
  refine z_bipush (pc := 294) C (by decide +kernel) dX5_look_294 ?_
  refine z_aload_n (pc := 296) C 0 rfl dX5_look_296 ?_
  refine gX5_589 (pc := 297) C rfl (Or.inl hv0) rfl dX5_look_297 ?_
  refine z_imul (pc := 300) C dX5_look_300 ?_
  refine z_istore (pc := 301) C (lv' := [(0, .ref v0), (1, vI v1), (2, vI v2), (3, vI v3), (4, vI v4), (8, vI s0), (9, vI (6 * (m_i M 589 v0 0)))]) (by decide) rfl dX5_look_301 ?_
  refine z_aload_n (pc := 303) C 0 rfl dX5_look_303 ?_
  refine gX5_590 (pc := 304) C rfl hv0 dX5_look_304 ?_
  refine z_iload (pc := 307) C 6 rfl dX5_look_307 ?_
  refine z_iload_n (pc := 309) C 1 rfl dX5_look_309 ?_
  obtain ⟨c31, h⟩ := ifn h
  refine z_isO (pc := 310) (k := 5) (j := 90) C 590 rfl (by decide) (by decide) (by decide) rfl rfl rfl rfl hv0 c31 dX5_look_310 ?_
  refine z_aload_n (pc := 311) C 0 rfl dX5_look_311 ?_
  refine gX5_590 (pc := 312) C rfl hv0 dX5_look_312 ?_
  refine z_iload (pc := 315) C 6 rfl dX5_look_315 ?_
  refine z_iconst (pc := 317) C dX5_look_317 ?_
  refine z_iadd (pc := 318) C dX5_look_318 ?_
  refine z_iload_n (pc := 319) C 2 rfl dX5_look_319 ?_
  obtain ⟨c32, h⟩ := ifn h
  refine z_isO (pc := 320) (k := 5) (j := 90) C 590 rfl (by decide) (by decide) (by decide) rfl rfl rfl rfl hv0 c32 dX5_look_320 ?_
  refine z_aload_n (pc := 321) C 0 rfl dX5_look_321 ?_
  refine gX5_590 (pc := 322) C rfl hv0 dX5_look_322 ?_
  refine z_iload (pc := 325) C 6 rfl dX5_look_325 ?_
  refine z_iconst (pc := 327) C dX5_look_327 ?_
  refine z_iadd (pc := 328) C dX5_look_328 ?_
  refine z_iload_n (pc := 329) C 3 rfl dX5_look_329 ?_
  obtain ⟨c33, h⟩ := ifn h
  refine z_isO (pc := 330) (k := 5) (j := 90) C 590 rfl (by decide) (by decide) (by decide) rfl rfl rfl rfl hv0 c33 dX5_look_330 ?_
  refine z_aload_n (pc := 331) C 0 rfl dX5_look_331 ?_
  refine gX5_590 (pc := 332) C rfl hv0 dX5_look_332 ?_
  refine z_iload (pc := 335) C 6 rfl dX5_look_335 ?_
  refine z_iconst (pc := 337) C dX5_look_337 ?_
  refine z_iadd (pc := 338) C dX5_look_338 ?_
  refine z_iload (pc := 339) C 4 rfl dX5_look_339 ?_
  obtain ⟨c34, h⟩ := ifn h
  refine z_isO (pc := 341) (k := 5) (j := 90) C 590 rfl (by decide) (by decide) (by decide) rfl rfl rfl rfl hv0 c34 dX5_look_341 ?_
  refine z_aload_n (pc := 342) C 0 rfl dX5_look_342 ?_
  refine gX5_590 (pc := 343) C rfl hv0 dX5_look_343 ?_
  refine z_iload (pc := 346) C 6 rfl dX5_look_346 ?_
  refine z_iconst (pc := 348) C dX5_look_348 ?_
  refine z_iadd (pc := 349) C dX5_look_349 ?_
  refine z_iload (pc := 350) C 5 rfl dX5_look_350 ?_
  obtain ⟨c35, h⟩ := ifn h
  refine z_isO (pc := 352) (k := 5) (j := 90) C 590 rfl (by decide) (by decide) (by decide) rfl rfl rfl rfl hv0 c35 dX5_look_352 ?_
  refine z_aload_n (pc := 353) C 0 rfl dX5_look_353 ?_
  refine gX5_590 (pc := 354) C rfl hv0 dX5_look_354 ?_
  refine z_iload (pc := 357) C 6 rfl dX5_look_357 ?_
  refine z_iconst (pc := 359) C dX5_look_359 ?_
  refine z_iadd (pc := 360) C dX5_look_360 ?_
  refine z_aload_n (pc := 361) C 0 rfl dX5_look_361 ?_
  refine gX5_501 (pc := 362) C rfl (Or.inl hv0) (x := m_i M 501 v0 0) ((m_i_ne (by decide)).trans ((m_i_ne (by decide)).trans ((m_i_ne (by decide)).trans ((m_i_ne (by decide)).trans ((m_i_ne (by decide)).trans rfl))))) dX5_look_362 ?_
  obtain ⟨c36, h⟩ := ifn h
  refine z_isO (pc := 365) (k := 5) (j := 90) C 590 rfl (by decide) (by decide) (by decide) rfl rfl rfl rfl hv0 c36 dX5_look_365 ?_
  refine z_aload_n (pc := 366) C 0 rfl dX5_look_366 ?_
  refine z_dup (pc := 367) C rfl dX5_look_367 ?_
  refine gX5_589 (pc := 368) C rfl (Or.inl hv0) (x := m_i M 589 v0 0) ((m_i_ne (by decide)).trans ((m_i_ne (by decide)).trans ((m_i_ne (by decide)).trans ((m_i_ne (by decide)).trans ((m_i_ne (by decide)).trans ((m_i_ne (by decide)).trans rfl)))))) dX5_look_368 ?_
  refine z_iconst (pc := 371) C dX5_look_371 ?_
  refine z_iadd (pc := 372) C dX5_look_372 ?_
  refine pX5_589 (pc := 373) C rfl (Or.inl hv0) dX5_look_373 ?_
  refine z_iload (pc := 376) C 5 rfl dX5_look_376 ?_
  cases h
  exact z_iret (pc := 378) C rfl (show 0 ≤ 0 from by decide) (show 0 ≤ 0 from by decide) dX5_look_378
theorem cB_X5_look_290 {X : x_Ctx} {M0 : Mem} (C : x_CC X 2 53 yX5_look cX5_look 10 (some .int) [])  (v0 : Nat) (v1 : Int) (v2 : Int) (v3 : Int) (v4 : Int) (v6 : Int) (M : Mem) (r : Int) (M' : Mem) (hv0 : m_kd M v0 = 5) (h : B_X5_look_290  v0 v1 v2 v3 v4 v6 M = some (r, M'))  : x_Z X 0 0 (x_QF X M0 (.returned (some (vI r))) M' 0 0) M0 M 10 [(0, .ref v0), (1, vI v1), (2, vI v2), (3, vI v3), (4, vI v4), (6, vI v6)] 290 [] := by
  unfold B_X5_look_290 at h
  refine z_iload (pc := 290) C 5 rfl dX5_look_290 ?_
  exact z_lv [0, 1, 2, 3, 4] rfl <| cB_X5_look_292 C v0 v1 v2 v3 v4 v6 M _ _ hv0 h
theorem cB_X5_look_255 {X : x_Ctx} {M0 : Mem} (C : x_CC X 2 53 yX5_look cX5_look 10 (some .int) [])  (v0 : Nat) (v1 : Int) (v2 : Int) (v3 : Int) (v4 : Int) (v6 : Int) (v7 : Int) (M : Mem) (r : Int) (M' : Mem) (hv0 : m_kd M v0 = 5) (h : B_X5_look_255  v0 v1 v2 v3 v4 v6 v7 M = some (r, M'))  : x_Z X 0 0 (x_QF X M0 (.returned (some (vI r))) M' 0 0) M0 M 10 [(0, .ref v0), (1, vI v1), (2, vI v2), (3, vI v3), (4, vI v4), (6, vI v6), (7, vI v7)] 255 [] := by
  unfold B_X5_look_255 at h
  refine z_aload_n (pc := 255) C 0 rfl dX5_look_255 ?_
  refine gX5_581 (pc := 256) C rfl hv0 dX5_look_256 ?_
  refine z_iload_n (pc := 259) C 1 rfl dX5_look_259 ?_
  obtain ⟨c28, h⟩ := ifn h
  refine z_iaO (pc := 260) (k := 5) (j := 81) C 581 rfl (by decide) (by decide) (by decide) rfl rfl rfl rfl hv0 c28 rfl dX5_look_260 ?_
  refine z_if_ne (pc := 261) C dX5_look_261 (tgt := 269) (by decide) (fun c29 => ?_) (fun c29 => ?_)
  · have h := itf c29 h
    refine z_iload (pc := 269) C 6 rfl dX5_look_269 ?_
    refine z_if_eq (pc := 271) C dX5_look_271 (tgt := 290) (by decide) (fun c30 => ?_) (fun c30 => ?_)
    · have h := itt c30 h
      exact z_lv [0, 1, 2, 3, 4, 5] rfl <| cB_X5_look_290 C v0 v1 v2 v3 v4 v6 M _ _ hv0 h
    · have h := itf c30 h
      refine z_aload_n (pc := 274) C 0 rfl dX5_look_274 ?_
      refine gX5_581 (pc := 275) C rfl hv0 dX5_look_275 ?_
      refine z_iload_n (pc := 278) C 1 rfl dX5_look_278 ?_
      refine z_iaO (pc := 279) (k := 5) (j := 81) C 581 rfl (by decide) (by decide) (by decide) rfl rfl rfl rfl hv0 c28 rfl dX5_look_279 ?_
      refine z_iconst (pc := 280) C dX5_look_280 ?_
      refine z_iand (pc := 281) C dX5_look_281 ?_
      refine z_if_ne (pc := 282) C dX5_look_282 (tgt := 290) (by decide) (fun c37 => ?_) (fun c37 => ?_)
      · have h := itf c37 h
        exact z_lv [0, 1, 2, 3, 4, 5] rfl <| cB_X5_look_290 C v0 v1 v2 v3 v4 v6 M _ _ hv0 h
      · have h := itt c37 h
        refine z_bipush (pc := 285) C (by decide +kernel) dX5_look_285 ?_
        refine z_goto (pc := 287) C dX5_look_287 (tgt := 292) (by decide) ?_
        exact z_lv [0, 1, 2, 3, 4] rfl <| cB_X5_look_292 C v0 v1 v2 v3 v4 (-14) M _ _ hv0 h
  · have h := itt c29 h
    refine z_bipush (pc := 264) C (by decide +kernel) dX5_look_264 ?_
    refine z_goto (pc := 266) C dX5_look_266 (tgt := 292) (by decide) ?_
    exact z_lv [0, 1, 2, 3, 4] rfl <| cB_X5_look_292 C v0 v1 v2 v3 v4 (-13) M _ _ hv0 h
theorem cB_X5_look_225 {X : x_Ctx} {M0 : Mem} (C : x_CC X 2 53 yX5_look cX5_look 10 (some .int) [])  (v0 : Nat) (v1 : Int) (v2 : Int) (v3 : Int) (v4 : Int) (v6 : Int) (s0 : Int) (M : Mem) (r : Int) (M' : Mem) (hv0 : m_kd M v0 = 5) (h : B_X5_look_225  v0 v1 v2 v3 v4 v6 s0 M = some (r, M'))  : x_Z X 0 0 (x_QF X M0 (.returned (some (vI r))) M' 0 0) M0 M 10 [(0, .ref v0), (1, vI v1), (2, vI v2), (3, vI v3), (4, vI v4), (6, vI v6)] 225 [vI s0] := by
  unfold B_X5_look_225 at h
  refine z_istore (pc := 225) C (lv' := [(0, .ref v0), (1, vI v1), (2, vI v2), (3, vI v3), (4, vI v4), (6, vI v6), (7, vI s0)]) (by decide) rfl dX5_look_225 ?_
  refine z_aload_n (pc := 227) C 0 rfl dX5_look_227 ?_
  refine gX5_501 (pc := 228) C rfl (Or.inl hv0) rfl dX5_look_228 ?_
  refine z_aload_n (pc := 231) C 0 rfl dX5_look_231 ?_
  refine gX5_584 (pc := 232) C rfl hv0 dX5_look_232 ?_
  refine z_iload_n (pc := 235) C 2 rfl dX5_look_235 ?_
  obtain ⟨c26, h⟩ := ifn h
  refine z_iaO (pc := 236) (k := 5) (j := 84) C 584 rfl (by decide) (by decide) (by decide) rfl rfl rfl rfl hv0 c26 rfl dX5_look_236 ?_
  refine z_ic_ge (pc := 237) C dX5_look_237 (tgt := 255) (by decide) (fun c27 => ?_) (fun c27 => ?_)
  · have h := itt c27 h
    exact cB_X5_look_255 C v0 v1 v2 v3 v4 v6 s0 M _ _ hv0 h
  · have h := itf c27 h
    refine z_aload_n (pc := 240) C 0 rfl dX5_look_240 ?_
    refine gX5_583 (pc := 241) C rfl hv0 dX5_look_241 ?_
    refine z_iload_n (pc := 244) C 2 rfl dX5_look_244 ?_
    refine z_iaO (pc := 245) (k := 5) (j := 83) C 583 rfl (by decide) (by decide) (by decide) rfl rfl rfl rfl hv0 c26 rfl dX5_look_245 ?_
    refine z_iload_n (pc := 246) C 1 rfl dX5_look_246 ?_
    refine z_ic_eq (pc := 247) C dX5_look_247 (tgt := 255) (by decide) (fun c38 => ?_) (fun c38 => ?_)
    · have h := itt c38 h
      exact cB_X5_look_255 C v0 v1 v2 v3 v4 v6 s0 M _ _ hv0 h
    · have h := itf c38 h
      refine z_bipush (pc := 250) C (by decide +kernel) dX5_look_250 ?_
      refine z_goto (pc := 252) C dX5_look_252 (tgt := 292) (by decide) ?_
      exact z_lv [0, 1, 2, 3, 4] rfl <| cB_X5_look_292 C v0 v1 v2 v3 v4 (-12) M _ _ hv0 h
theorem cB_X5_look_224 {X : x_Ctx} {M0 : Mem} (C : x_CC X 2 53 yX5_look cX5_look 10 (some .int) [])  (v0 : Nat) (v1 : Int) (v2 : Int) (v3 : Int) (v4 : Int) (v6 : Int) (M : Mem) (r : Int) (M' : Mem) (hv0 : m_kd M v0 = 5) (h : B_X5_look_224  v0 v1 v2 v3 v4 v6 M = some (r, M'))  : x_Z X 0 0 (x_QF X M0 (.returned (some (vI r))) M' 0 0) M0 M 10 [(0, .ref v0), (1, vI v1), (2, vI v2), (3, vI v3), (4, vI v4), (6, vI v6)] 224 [] := by
  unfold B_X5_look_224 at h
  refine z_iconst (pc := 224) C dX5_look_224 ?_
  exact cB_X5_look_225 C v0 v1 v2 v3 v4 v6 0 M _ _ hv0 h
theorem cB_X5_look_158 {X : x_Ctx} {M0 : Mem} (C : x_CC X 2 53 yX5_look cX5_look 10 (some .int) []) {k106 : Nat → Int → Int → Int → Int → Int → Int → Int → Mem → Option (Int × Mem)} (hk106 : ∀ (v0 : Nat) (v1 : Int) (v2 : Int) (v3 : Int) (v4 : Int) (v5 : Int) (v6 : Int) (v7 : Int) (M : Mem) (r : Int) (M' : Mem), m_kd M v0 = 5 → k106 v0 v1 v2 v3 v4 v5 v6 v7 M = some (r, M') → x_Z X 0 0 (x_QF X M0 (.returned (some (vI r))) M' 0 0) M0 M 10 [(0, .ref v0), (1, vI v1), (2, vI v2), (3, vI v3), (4, vI v4), (5, vI v5), (6, vI v6), (7, vI v7)] 106 []) (v0 : Nat) (v1 : Int) (v2 : Int) (v3 : Int) (v4 : Int) (v5 : Int) (v7 : Int) (s0 : Int) (M : Mem) (r : Int) (M' : Mem) (hv0 : m_kd M v0 = 5) (h : B_X5_look_158 k106 v0 v1 v2 v3 v4 v5 v7 s0 M = some (r, M'))  : x_Z X 0 0 (x_QF X M0 (.returned (some (vI r))) M' 0 0) M0 M 10 [(0, .ref v0), (1, vI v1), (2, vI v2), (3, vI v3), (4, vI v4), (5, vI v5), (7, vI v7)] 158 [vI s0] := by
  unfold B_X5_look_158 at h
  refine z_aload_n (pc := 158) C 0 rfl dX5_look_158 ?_
  refine gX5_588 (pc := 159) C rfl hv0 dX5_look_159 ?_
  refine z_bipush (pc := 162) C (by decide +kernel) dX5_look_162 ?_
  refine z_iload_n (pc := 164) C 2 rfl dX5_look_164 ?_
  refine z_imul (pc := 165) C dX5_look_165 ?_
  refine z_iload (pc := 166) C 6 rfl dX5_look_166 ?_
  refine z_iadd (pc := 168) C dX5_look_168 ?_
  obtain ⟨c43, h⟩ := ifn h
  refine z_iaO (pc := 169) (k := 5) (j := 88) C 588 rfl (by decide) (by decide) (by decide) rfl rfl rfl rfl hv0 c43 rfl dX5_look_169 ?_
  refine z_goto (pc := 170) C dX5_look_170 (tgt := 174) (by decide) ?_
  refine z_iadd (pc := 174) C dX5_look_174 ?_
  refine z_istore (pc := 175) C (lv' := [(0, .ref v0), (1, vI v1), (2, vI v2), (3, vI v3), (4, vI v4), (5, vI v5), (6, vI (s0 + (m_i M 588 v0 (ixn ((12 * v2) + v7))))), (7, vI v7)]) (by decide) rfl dX5_look_175 ?_
  refine z_iinc (pc := 177) C (lv' := [(0, .ref v0), (1, vI v1), (2, vI v2), (3, vI v3), (4, vI v4), (5, vI v5), (6, vI (s0 + (m_i M 588 v0 (ixn ((12 * v2) + v7))))), (7, vI (v7 + 1))]) 7 rfl (by decide) rfl dX5_look_177 ?_
  refine z_goto (pc := 180) C dX5_look_180 (tgt := 106) (by decide) ?_
  exact hk106 v0 v1 v2 v3 v4 v5 (s0 + (m_i M 588 v0 (ixn ((12 * v2) + v7)))) (v7 + 1) M _ _ hv0 h
theorem cB_X5_look_141 {X : x_Ctx} {M0 : Mem} (C : x_CC X 2 53 yX5_look cX5_look 10 (some .int) []) {k106 : Nat → Int → Int → Int → Int → Int → Int → Int → Mem → Option (Int × Mem)} (hk106 : ∀ (v0 : Nat) (v1 : Int) (v2 : Int) (v3 : Int) (v4 : Int) (v5 : Int) (v6 : Int) (v7 : Int) (M : Mem) (r : Int) (M' : Mem), m_kd M v0 = 5 → k106 v0 v1 v2 v3 v4 v5 v6 v7 M = some (r, M') → x_Z X 0 0 (x_QF X M0 (.returned (some (vI r))) M' 0 0) M0 M 10 [(0, .ref v0), (1, vI v1), (2, vI v2), (3, vI v3), (4, vI v4), (5, vI v5), (6, vI v6), (7, vI v7)] 106 []) (v0 : Nat) (v1 : Int) (v2 : Int) (v3 : Int) (v4 : Int) (v5 : Int) (v7 : Int) (s0 : Int) (M : Mem) (r : Int) (M' : Mem) (hv0 : m_kd M v0 = 5) (h : B_X5_look_141 k106 v0 v1 v2 v3 v4 v5 v7 s0 M = some (r, M'))  : x_Z X 0 0 (x_QF X M0 (.returned (some (vI r))) M' 0 0) M0 M 10 [(0, .ref v0), (1, vI v1), (2, vI v2), (3, vI v3), (4, vI v4), (5, vI v5), (7, vI v7)] 141 [vI s0] := by
  unfold B_X5_look_141 at h
  refine z_iload (pc := 141) C 4 rfl dX5_look_141 ?_
  refine z_iload (pc := 143) C 5 rfl dX5_look_143 ?_
  refine z_ic_eq (pc := 145) C dX5_look_145 (tgt := 158) (by decide) (fun c42 => ?_) (fun c42 => ?_)
  · have h := itt c42 h
    exact cB_X5_look_158 C hk106 v0 v1 v2 v3 v4 v5 v7 s0 M _ _ hv0 h
  · have h := itf c42 h
    refine z_iload (pc := 148) C 6 rfl dX5_look_148 ?_
    refine z_iload (pc := 150) C 5 rfl dX5_look_150 ?_
    obtain ⟨c44, h⟩ := ifn h
    refine z_irem (pc := 152) C c44 dX5_look_152 ?_
    refine z_iload (pc := 153) C 4 rfl dX5_look_153 ?_
    refine z_ic_ne (pc := 155) C dX5_look_155 (tgt := 173) (by decide) (fun c45 => ?_) (fun c45 => ?_)
    · have h := itf c45 h
      refine z_iconst (pc := 173) C dX5_look_173 ?_
      refine z_iadd (pc := 174) C dX5_look_174 ?_
      refine z_istore (pc := 175) C (lv' := [(0, .ref v0), (1, vI v1), (2, vI v2), (3, vI v3), (4, vI v4), (5, vI v5), (6, vI (s0 + 0)), (7, vI v7)]) (by decide) rfl dX5_look_175 ?_
      refine z_iinc (pc := 177) C (lv' := [(0, .ref v0), (1, vI v1), (2, vI v2), (3, vI v3), (4, vI v4), (5, vI v5), (6, vI (s0 + 0)), (7, vI (v7 + 1))]) 7 rfl (by decide) rfl dX5_look_177 ?_
      refine z_goto (pc := 180) C dX5_look_180 (tgt := 106) (by decide) ?_
      exact hk106 v0 v1 v2 v3 v4 v5 (s0 + 0) (v7 + 1) M _ _ hv0 h
    · have h := itt c45 h
      exact cB_X5_look_158 C hk106 v0 v1 v2 v3 v4 v5 v7 s0 M _ _ hv0 h
theorem cB_X5_look_106 {X : x_Ctx} {M0 : Mem} (C : x_CC X 2 53 yX5_look cX5_look 10 (some .int) []) {k106 : Nat → Int → Int → Int → Int → Int → Int → Int → Mem → Option (Int × Mem)} (hk106 : ∀ (v0 : Nat) (v1 : Int) (v2 : Int) (v3 : Int) (v4 : Int) (v5 : Int) (v6 : Int) (v7 : Int) (M : Mem) (r : Int) (M' : Mem), m_kd M v0 = 5 → k106 v0 v1 v2 v3 v4 v5 v6 v7 M = some (r, M') → x_Z X 0 0 (x_QF X M0 (.returned (some (vI r))) M' 0 0) M0 M 10 [(0, .ref v0), (1, vI v1), (2, vI v2), (3, vI v3), (4, vI v4), (5, vI v5), (6, vI v6), (7, vI v7)] 106 []) (v0 : Nat) (v1 : Int) (v2 : Int) (v3 : Int) (v4 : Int) (v5 : Int) (v6 : Int) (v7 : Int) (M : Mem) (r : Int) (M' : Mem) (hv0 : m_kd M v0 = 5) (h : B_X5_look_106 k106 v0 v1 v2 v3 v4 v5 v6 v7 M = some (r, M'))  : x_Z X 0 0 (x_QF X M0 (.returned (some (vI r))) M' 0 0) M0 M 10 [(0, .ref v0), (1, vI v1), (2, vI v2), (3, vI v3), (4, vI v4), (5, vI v5), (6, vI v6), (7, vI v7)] 106 [] := by
  unfold B_X5_look_106 at h
  refine z_iload (pc := 106) C 7 rfl dX5_look_106 ?_
  refine z_aload_n (pc := 108) C 0 rfl dX5_look_108 ?_
  refine gX5_585 (pc := 109) C rfl hv0 dX5_look_109 ?_
  refine z_iload_n (pc := 112) C 2 rfl dX5_look_112 ?_
  obtain ⟨c23, h⟩ := ifn h
  refine z_iaO (pc := 113) (k := 5) (j := 85) C 585 rfl (by decide) (by decide) (by decide) rfl rfl rfl rfl hv0 c23 rfl dX5_look_113 ?_
  refine z_iload (pc := 114) C 5 rfl dX5_look_114 ?_
  refine z_imul (pc := 116) C dX5_look_116 ?_
  refine z_ic_ge (pc := 117) C dX5_look_117 (tgt := 183) (by decide) (fun c24 => ?_) (fun c24 => ?_)
  · have h := itt c24 h
    refine z_iload_n (pc := 183) C 3 rfl dX5_look_183 ?_
    refine z_aload_n (pc := 184) C 0 rfl dX5_look_184 ?_
    refine gX5_585 (pc := 185) C rfl hv0 dX5_look_185 ?_
    refine z_iload_n (pc := 188) C 2 rfl dX5_look_188 ?_
    refine z_iaO (pc := 189) (k := 5) (j := 85) C 585 rfl (by decide) (by decide) (by decide) rfl rfl rfl rfl hv0 c23 rfl dX5_look_189 ?_
    refine z_ic_ge (pc := 190) C dX5_look_190 (tgt := 224) (by decide) (fun c25 => ?_) (fun c25 => ?_)
    · have h := itt c25 h
      exact z_lv [0, 1, 2, 3, 4, 6] rfl <| cB_X5_look_224 C v0 v1 v2 v3 v4 v6 M _ _ hv0 h
    · have h := itf c25 h
      refine z_iload (pc := 193) C 4 rfl dX5_look_193 ?_
      refine z_iload (pc := 195) C 5 rfl dX5_look_195 ?_
      refine z_ic_ge (pc := 197) C dX5_look_197 (tgt := 224) (by decide) (fun c39 => ?_) (fun c39 => ?_)
      · have h := itt c39 h
        exact z_lv [0, 1, 2, 3, 4, 6] rfl <| cB_X5_look_224 C v0 v1 v2 v3 v4 v6 M _ _ hv0 h
      · have h := itf c39 h
        refine z_aload_n (pc := 200) C 0 rfl dX5_look_200 ?_
        refine gX5_587 (pc := 201) C rfl hv0 dX5_look_201 ?_
        refine z_iload_n (pc := 204) C 2 rfl dX5_look_204 ?_
        refine z_iaO (pc := 205) (k := 5) (j := 87) C 587 rfl (by decide) (by decide) (by decide) rfl rfl rfl rfl hv0 c23 rfl dX5_look_205 ?_
        refine z_iload_n (pc := 206) C 3 rfl dX5_look_206 ?_
        refine z_iload (pc := 207) C 5 rfl dX5_look_207 ?_
        refine z_imul (pc := 209) C dX5_look_209 ?_
        refine z_iload (pc := 210) C 4 rfl dX5_look_210 ?_
        refine z_iadd (pc := 212) C dX5_look_212 ?_
        refine z_ishr (pc := 213) C dX5_look_213 ?_
        refine z_iconst (pc := 214) C dX5_look_214 ?_
        refine z_iand (pc := 215) C dX5_look_215 ?_
        refine z_iconst (pc := 216) C dX5_look_216 ?_
        refine z_ic_ne (pc := 217) C dX5_look_217 (tgt := 224) (by decide) (fun c40 => ?_) (fun c40 => ?_)
        · have h := itf c40 h
          exact z_lv [0, 1, 2, 3, 4, 6] rfl <| cB_X5_look_224 C v0 v1 v2 v3 v4 v6 M _ _ hv0 h
        · have h := itt c40 h
          refine z_iconst (pc := 220) C dX5_look_220 ?_
          refine z_goto (pc := 221) C dX5_look_221 (tgt := 225) (by decide) ?_
          exact z_lv [0, 1, 2, 3, 4, 6] rfl <| cB_X5_look_225 C v0 v1 v2 v3 v4 v6 1 M _ _ hv0 h
  · have h := itf c24 h
    refine z_iload (pc := 120) C 6 rfl dX5_look_120 ?_
    refine z_iload_n (pc := 122) C 3 rfl dX5_look_122 ?_
    refine z_aload_n (pc := 123) C 0 rfl dX5_look_123 ?_
    refine gX5_585 (pc := 124) C rfl hv0 dX5_look_124 ?_
    refine z_iload_n (pc := 127) C 2 rfl dX5_look_127 ?_
    refine z_iaO (pc := 128) (k := 5) (j := 85) C 585 rfl (by decide) (by decide) (by decide) rfl rfl rfl rfl hv0 c23 rfl dX5_look_128 ?_
    refine z_ic_eq (pc := 129) C dX5_look_129 (tgt := 141) (by decide) (fun c41 => ?_) (fun c41 => ?_)
    · have h := itt c41 h
      exact z_lv [0, 1, 2, 3, 4, 5, 7] rfl <| cB_X5_look_141 C hk106 v0 v1 v2 v3 v4 v5 v7 v6 M _ _ hv0 h
    · have h := itf c41 h
      refine z_iload (pc := 132) C 7 rfl dX5_look_132 ?_
      refine z_iload (pc := 134) C 5 rfl dX5_look_134 ?_
      obtain ⟨c46, h⟩ := ifn h
      refine z_idiv (pc := 136) C c46 dX5_look_136 ?_
      refine z_iload_n (pc := 137) C 3 rfl dX5_look_137 ?_
      refine z_ic_ne (pc := 138) C dX5_look_138 (tgt := 173) (by decide) (fun c47 => ?_) (fun c47 => ?_)
      · have h := itf c47 h
        refine z_iconst (pc := 173) C dX5_look_173 ?_
        refine z_iadd (pc := 174) C dX5_look_174 ?_
        refine z_istore (pc := 175) C (lv' := [(0, .ref v0), (1, vI v1), (2, vI v2), (3, vI v3), (4, vI v4), (5, vI v5), (6, vI (v6 + 0)), (7, vI v7)]) (by decide) rfl dX5_look_175 ?_
        refine z_iinc (pc := 177) C (lv' := [(0, .ref v0), (1, vI v1), (2, vI v2), (3, vI v3), (4, vI v4), (5, vI v5), (6, vI (v6 + 0)), (7, vI (v7 + 1))]) 7 rfl (by decide) rfl dX5_look_177 ?_
        refine z_goto (pc := 180) C dX5_look_180 (tgt := 106) (by decide) ?_
        exact hk106 v0 v1 v2 v3 v4 v5 (v6 + 0) (v7 + 1) M _ _ hv0 h
      · have h := itt c47 h
        exact z_lv [0, 1, 2, 3, 4, 5, 7] rfl <| cB_X5_look_141 C hk106 v0 v1 v2 v3 v4 v5 v7 v6 M _ _ hv0 h
theorem cL_X5_look_106 {X : x_Ctx} {M0 : Mem} (C : x_CC X 2 53 yX5_look cX5_look 10 (some .int) [])  : ∀ (n : Nat) (v0 : Nat) (v1 : Int) (v2 : Int) (v3 : Int) (v4 : Int) (v5 : Int) (v6 : Int) (v7 : Int) (M : Mem) (r : Int) (M' : Mem) (hv0 : m_kd M v0 = 5) (h : L_X5_look_106  n v0 v1 v2 v3 v4 v5 v6 v7 M = some (r, M')) , x_Z X 0 0 (x_QF X M0 (.returned (some (vI r))) M' 0 0) M0 M 10 [(0, .ref v0), (1, vI v1), (2, vI v2), (3, vI v3), (4, vI v4), (5, vI v5), (6, vI v6), (7, vI v7)] 106 [] := by
  intro n
  induction n with
  | zero => intro v0 v1 v2 v3 v4 v5 v6 v7 M r M' hv0 h ; cases h
  | succ n ih => intro v0 v1 v2 v3 v4 v5 v6 v7 M r M' hv0 h ; exact cB_X5_look_106 C (fun v0 v1 v2 v3 v4 v5 v6 v7 M r M' hv0 h  => ih v0 v1 v2 v3 v4 v5 v6 v7 M r M' hv0 h ) v0 v1 v2 v3 v4 v5 v6 v7 M r M' hv0 h 
theorem ct_X5_look {l : Launch} {S0 : State} {D : va_G} {cA : Nat → ClassId} (hG : x_G l S0 D cA) (v0 : Nat) (v1 : Int) (v2 : Int) (v3 : Int) (v4 : Int) (M : Mem) (r : Int) (M' : Mem) (hv0 : m_kd M v0 = 5) (h : d_X5_look v0 v1 v2 v3 v4 M = some (r, M')) : x_Me l S0 D cA yX5_look cX5_look 10 (some .int) [] ({ frames := 2, cells := 0, slots := 0, locals := 53 }) [.ref v0, vI v1, vI v2, vI v3, vI v4] M (.returned (some (vI r))) M' := by
  refine x_begin (F := 2) (Lo := 53) (mc := 0) (ms := 0) hG (Nat.le_of_ble_eq_true rfl) (lv := [(0, .ref v0), (1, vI v1), (2, vI v2), (3, vI v3), (4, vI v4)]) rfl rfl rfl rfl rfl (fun X e1 e2 e3 e4 e5 C => ?_)
  unfold d_X5_look at h
  refine z_aload_n (pc := 0) C 0 rfl dX5_look_0 ?_
  refine z_iconst (pc := 1) C dX5_look_1 ?_
  refine pX5_500 (pc := 2) C rfl (Or.inl hv0) dX5_look_2 ?_
  refine z_iload_n (pc := 5) C 1 rfl dX5_look_5 ?_
  refine z_i2l (pc := 6) C dX5_look_6 ?_
  refine z_lconst (pc := 7) C (x := 0) (by decide +kernel) dX5_look_7 ?_
  refine z_aload_n (pc := 8) C 0 rfl dX5_look_8 ?_
  refine gX5_580 (pc := 9) C rfl (Or.inl hv0) (x := m_i M 580 v0 0) ((m_i_ne (by decide)).trans rfl) dX5_look_9 ?_
  refine z_iconst (pc := 12) C dX5_look_12 ?_
  refine z_isub (pc := 13) C dX5_look_13 ?_
  refine z_i2l (pc := 14) C dX5_look_14 ?_
  refine cX5_207 (pc := 15) (st := []) (st1 := [vI (d_X5_isIn (w32 v1) 0 (w32 ((m_i M 580 v0 0) - 1)))]) C rfl (rm := { frames := 1, cells := 0, slots := 0, locals := 24 }) (ct_X5_isIn C.2.1 (w32 v1) 0 (w32 ((m_i M 580 v0 0) - 1)) (m_si M 500 v0 0 0) _  rfl) ⟨by decide, by decide, Nat.zero_le _, Nat.zero_le _⟩ rfl (Nat.le_of_ble_eq_true rfl) dX5_look_15 (c2 := 0) (s2 := 0) rfl rfl (fun _ => ?_)
  refine z_if_eq (pc := 18) C dX5_look_18 (tgt := 70) (by decide) (fun c2 => ?_) (fun c2 => ?_)
  · have h := itt c2 h
    refine z_aload_n (pc := 70) C 0 rfl dX5_look_70 ?_
    refine z_iconst (pc := 71) C dX5_look_71 ?_
    obtain ⟨r3, M4, e5, h⟩ := bNs h
    refine cX5_213 (pc := 72) (st := []) (st1 := [vI r3]) C rfl (rm := { frames := 1, cells := 0, slots := 0, locals := 24 }) (ct_X5_fail C.2.1 v0 1 (m_si M 500 v0 0 0) _ _ hv0 e5) ⟨by decide, by decide, Nat.zero_le _, Nat.zero_le _⟩ (Or.inl hv0) rfl (Nat.le_of_ble_eq_true rfl) dX5_look_72 (c2 := 0) (s2 := 0) rfl rfl (fun x6 => ?_)
    cases h
    exact z_iret (pc := 75) C rfl (show 0 ≤ 0 from by decide) (show 0 ≤ 0 from by decide) dX5_look_75
  · have h := itf c2 h
    refine z_iload_n (pc := 21) C 2 rfl dX5_look_21 ?_
    refine z_i2l (pc := 22) C dX5_look_22 ?_
    refine z_lconst (pc := 23) C (x := 0) (by decide +kernel) dX5_look_23 ?_
    refine z_aload_n (pc := 24) C 0 rfl dX5_look_24 ?_
    refine gX5_582 (pc := 25) C rfl (Or.inl hv0) (x := m_i M 582 v0 0) ((m_i_ne (by decide)).trans rfl) dX5_look_25 ?_
    refine z_iconst (pc := 28) C dX5_look_28 ?_
    refine z_isub (pc := 29) C dX5_look_29 ?_
    refine z_i2l (pc := 30) C dX5_look_30 ?_
    refine cX5_207 (pc := 31) (st := []) (st1 := [vI (d_X5_isIn (w32 v2) 0 (w32 ((m_i M 582 v0 0) - 1)))]) C rfl (rm := { frames := 1, cells := 0, slots := 0, locals := 24 }) (ct_X5_isIn C.2.1 (w32 v2) 0 (w32 ((m_i M 582 v0 0) - 1)) (m_si M 500 v0 0 0) _  rfl) ⟨by decide, by decide, Nat.zero_le _, Nat.zero_le _⟩ rfl (Nat.le_of_ble_eq_true rfl) dX5_look_31 (c2 := 0) (s2 := 0) rfl rfl (fun _ => ?_)
    refine z_if_eq (pc := 34) C dX5_look_34 (tgt := 70) (by decide) (fun c8 => ?_) (fun c8 => ?_)
    · have h := itt c8 h
      refine z_aload_n (pc := 70) C 0 rfl dX5_look_70 ?_
      refine z_iconst (pc := 71) C dX5_look_71 ?_
      obtain ⟨r9, M10, e11, h⟩ := bNs h
      refine cX5_213 (pc := 72) (st := []) (st1 := [vI r9]) C rfl (rm := { frames := 1, cells := 0, slots := 0, locals := 24 }) (ct_X5_fail C.2.1 v0 1 (m_si M 500 v0 0 0) _ _ hv0 e11) ⟨by decide, by decide, Nat.zero_le _, Nat.zero_le _⟩ (Or.inl hv0) rfl (Nat.le_of_ble_eq_true rfl) dX5_look_72 (c2 := 0) (s2 := 0) rfl rfl (fun x12 => ?_)
      cases h
      exact z_iret (pc := 75) C rfl (show 0 ≤ 0 from by decide) (show 0 ≤ 0 from by decide) dX5_look_75
    · have h := itf c8 h
      refine z_iload_n (pc := 37) C 3 rfl dX5_look_37 ?_
      refine z_i2l (pc := 38) C dX5_look_38 ?_
      refine z_lconst (pc := 39) C (x := 0) (by decide +kernel) dX5_look_39 ?_
      refine z_aload_n (pc := 40) C 0 rfl dX5_look_40 ?_
      refine gX5_585 (pc := 41) C rfl hv0 dX5_look_41 ?_
      refine z_iload_n (pc := 44) C 2 rfl dX5_look_44 ?_
      obtain ⟨c13, h⟩ := ifn h
      refine z_iaO (pc := 45) (k := 5) (j := 85) C 585 rfl (by decide) (by decide) (by decide) rfl rfl rfl rfl hv0 c13 (x := m_i M 585 v0 (ixn v2)) ((m_i_ne (by decide)).trans rfl) dX5_look_45 ?_
      refine z_i2l (pc := 46) C dX5_look_46 ?_
      refine cX5_207 (pc := 47) (st := []) (st1 := [vI (d_X5_isIn (w32 v3) 0 (w32 (m_i M 585 v0 (ixn v2))))]) C rfl (rm := { frames := 1, cells := 0, slots := 0, locals := 24 }) (ct_X5_isIn C.2.1 (w32 v3) 0 (w32 (m_i M 585 v0 (ixn v2))) (m_si M 500 v0 0 0) _  rfl) ⟨by decide, by decide, Nat.zero_le _, Nat.zero_le _⟩ rfl (Nat.le_of_ble_eq_true rfl) dX5_look_47 (c2 := 0) (s2 := 0) rfl rfl (fun _ => ?_)
      refine z_if_eq (pc := 50) C dX5_look_50 (tgt := 70) (by decide) (fun c15 => ?_) (fun c15 => ?_)
      · have h := itt c15 h
        refine z_aload_n (pc := 70) C 0 rfl dX5_look_70 ?_
        refine z_iconst (pc := 71) C dX5_look_71 ?_
        obtain ⟨r16, M17, e18, h⟩ := bNs h
        refine cX5_213 (pc := 72) (st := []) (st1 := [vI r16]) C rfl (rm := { frames := 1, cells := 0, slots := 0, locals := 24 }) (ct_X5_fail C.2.1 v0 1 (m_si M 500 v0 0 0) _ _ hv0 e18) ⟨by decide, by decide, Nat.zero_le _, Nat.zero_le _⟩ (Or.inl hv0) rfl (Nat.le_of_ble_eq_true rfl) dX5_look_72 (c2 := 0) (s2 := 0) rfl rfl (fun x19 => ?_)
        cases h
        exact z_iret (pc := 75) C rfl (show 0 ≤ 0 from by decide) (show 0 ≤ 0 from by decide) dX5_look_75
      · have h := itf c15 h
        refine z_iload (pc := 53) C 4 rfl dX5_look_53 ?_
        refine z_i2l (pc := 55) C dX5_look_55 ?_
        refine z_lconst (pc := 56) C (x := 0) (by decide +kernel) dX5_look_56 ?_
        refine z_aload_n (pc := 57) C 0 rfl dX5_look_57 ?_
        refine gX5_586 (pc := 58) C rfl hv0 dX5_look_58 ?_
        refine z_iload_n (pc := 61) C 2 rfl dX5_look_61 ?_
        refine z_iaO (pc := 62) (k := 5) (j := 86) C 586 rfl (by decide) (by decide) (by decide) rfl rfl rfl rfl hv0 c13 (x := m_i M 586 v0 (ixn v2)) ((m_i_ne (by decide)).trans rfl) dX5_look_62 ?_
        refine z_i2l (pc := 63) C dX5_look_63 ?_
        refine cX5_207 (pc := 64) (st := []) (st1 := [vI (d_X5_isIn (w32 v4) 0 (w32 (m_i M 586 v0 (ixn v2))))]) C rfl (rm := { frames := 1, cells := 0, slots := 0, locals := 24 }) (ct_X5_isIn C.2.1 (w32 v4) 0 (w32 (m_i M 586 v0 (ixn v2))) (m_si M 500 v0 0 0) _  rfl) ⟨by decide, by decide, Nat.zero_le _, Nat.zero_le _⟩ rfl (Nat.le_of_ble_eq_true rfl) dX5_look_64 (c2 := 0) (s2 := 0) rfl rfl (fun _ => ?_)
        refine z_if_ne (pc := 67) C dX5_look_67 (tgt := 76) (by decide) (fun c21 => ?_) (fun c21 => ?_)
        · have h := itf c21 h
          refine z_aload_n (pc := 76) C 0 rfl dX5_look_76 ?_
          refine gX5_589 (pc := 77) C rfl (Or.inl hv0) (x := m_i M 589 v0 0) ((m_i_ne (by decide)).trans rfl) dX5_look_77 ?_
          refine z_sipush (pc := 80) C (by decide +kernel) dX5_look_80 ?_
          refine z_ic_ne (pc := 83) C dX5_look_83 (tgt := 92) (by decide) (fun c22 => ?_) (fun c22 => ?_)
          · have h := itf c22 h
            refine z_aload_n (pc := 92) C 0 rfl dX5_look_92 ?_
            refine gX5_586 (pc := 93) C rfl hv0 dX5_look_93 ?_
            refine z_iload_n (pc := 96) C 2 rfl dX5_look_96 ?_
            refine z_iaO (pc := 97) (k := 5) (j := 86) C 586 rfl (by decide) (by decide) (by decide) rfl rfl rfl rfl hv0 c13 (x := m_i M 586 v0 (ixn v2)) ((m_i_ne (by decide)).trans rfl) dX5_look_97 ?_
            refine z_istore (pc := 98) C (lv' := [(0, .ref v0), (1, vI v1), (2, vI v2), (3, vI v3), (4, vI v4), (5, vI (m_i M 586 v0 (ixn v2)))]) (by decide) rfl dX5_look_98 ?_
            refine z_iconst (pc := 100) C dX5_look_100 ?_
            refine z_istore (pc := 101) C (lv' := [(0, .ref v0), (1, vI v1), (2, vI v2), (3, vI v3), (4, vI v4), (5, vI (m_i M 586 v0 (ixn v2))), (6, vI 0)]) (by decide) rfl dX5_look_101 ?_
            refine z_iconst (pc := 103) C dX5_look_103 ?_
            refine z_istore (pc := 104) C (lv' := [(0, .ref v0), (1, vI v1), (2, vI v2), (3, vI v3), (4, vI v4), (5, vI (m_i M 586 v0 (ixn v2))), (6, vI 0), (7, vI 0)]) (by decide) rfl dX5_look_104 ?_
            exact cL_X5_look_106 C FU v0 v1 v2 v3 v4 (m_i M 586 v0 (ixn v2)) 0 0 (m_si M 500 v0 0 0) _ _ hv0 h
          · have h := itt c22 h
            refine z_aload_n (pc := 86) C 0 rfl dX5_look_86 ?_
            refine z_iconst (pc := 87) C dX5_look_87 ?_
            obtain ⟨r48, M49, e50, h⟩ := bNs h
            refine cX5_213 (pc := 88) (st := []) (st1 := [vI r48]) C rfl (rm := { frames := 1, cells := 0, slots := 0, locals := 24 }) (ct_X5_fail C.2.1 v0 2 (m_si M 500 v0 0 0) _ _ hv0 e50) ⟨by decide, by decide, Nat.zero_le _, Nat.zero_le _⟩ (Or.inl hv0) rfl (Nat.le_of_ble_eq_true rfl) dX5_look_88 (c2 := 0) (s2 := 0) rfl rfl (fun x51 => ?_)
            cases h
            exact z_iret (pc := 91) C rfl (show 0 ≤ 0 from by decide) (show 0 ≤ 0 from by decide) dX5_look_91
        · have h := itt c21 h
          refine z_aload_n (pc := 70) C 0 rfl dX5_look_70 ?_
          refine z_iconst (pc := 71) C dX5_look_71 ?_
          obtain ⟨r52, M53, e54, h⟩ := bNs h
          refine cX5_213 (pc := 72) (st := []) (st1 := [vI r52]) C rfl (rm := { frames := 1, cells := 0, slots := 0, locals := 24 }) (ct_X5_fail C.2.1 v0 1 (m_si M 500 v0 0 0) _ _ hv0 e54) ⟨by decide, by decide, Nat.zero_le _, Nat.zero_le _⟩ (Or.inl hv0) rfl (Nat.le_of_ble_eq_true rfl) dX5_look_72 (c2 := 0) (s2 := 0) rfl rfl (fun x55 => ?_)
          cases h
          exact z_iret (pc := 75) C rfl (show 0 ≤ 0 from by decide) (show 0 ≤ 0 from by decide) dX5_look_75
def d_X5_looked (v0 : Nat) (v1 : Int) (v2 : Int) (M : Mem) : Option (Int × Mem) :=
  if w32 (d_X5_isIn (w32 v1) 0 (w32 ((m_i M 589 v0 0) - 1))) = 0 then
    bN (d_X5_fail v0 1 (m_si M 500 v0 0 0)) fun r10 M11 => 
    some (r10, M11)
  else
    if w32 (d_X5_isIn (w32 v2) 0 5) = 0 then
      bN (d_X5_fail v0 2 (m_si M 500 v0 0 0)) fun r5 M6 => 
      some (r5, M6)
    else
      if inb ((6 * v1) + v2) 3000 then 
      some (m_i M 590 v0 (ixn ((6 * v1) + v2)), (m_si M 500 v0 0 0)) else none
theorem ct_X5_looked {l : Launch} {S0 : State} {D : va_G} {cA : Nat → ClassId} (hG : x_G l S0 D cA) (v0 : Nat) (v1 : Int) (v2 : Int) (M : Mem) (r : Int) (M' : Mem) (hv0 : m_kd M v0 = 5) (h : d_X5_looked v0 v1 v2 M = some (r, M')) : x_Me l S0 D cA yX5_looked cX5_looked 3 (some .int) [] ({ frames := 2, cells := 0, slots := 0, locals := 53 }) [.ref v0, vI v1, vI v2] M (.returned (some (vI r))) M' := by
  refine x_begin (F := 2) (Lo := 53) (mc := 0) (ms := 0) hG (Nat.le_of_ble_eq_true rfl) (lv := [(0, .ref v0), (1, vI v1), (2, vI v2)]) rfl rfl rfl rfl rfl (fun X e1 e2 e3 e4 e5 C => ?_)
  unfold d_X5_looked at h
  refine z_aload_n (pc := 0) C 0 rfl dX5_looked_0 ?_
  refine z_iconst (pc := 1) C dX5_looked_1 ?_
  refine pX5_500 (pc := 2) C rfl (Or.inl hv0) dX5_looked_2 ?_
  refine z_iload_n (pc := 5) C 1 rfl dX5_looked_5 ?_
  refine z_i2l (pc := 6) C dX5_looked_6 ?_
  refine z_lconst (pc := 7) C (x := 0) (by decide +kernel) dX5_looked_7 ?_
  refine z_aload_n (pc := 8) C 0 rfl dX5_looked_8 ?_
  refine gX5_589 (pc := 9) C rfl (Or.inl hv0) (x := m_i M 589 v0 0) ((m_i_ne (by decide)).trans rfl) dX5_looked_9 ?_
  refine z_iconst (pc := 12) C dX5_looked_12 ?_
  refine z_isub (pc := 13) C dX5_looked_13 ?_
  refine z_i2l (pc := 14) C dX5_looked_14 ?_
  refine cX5_207 (pc := 15) (st := []) (st1 := [vI (d_X5_isIn (w32 v1) 0 (w32 ((m_i M 589 v0 0) - 1)))]) C rfl (rm := { frames := 1, cells := 0, slots := 0, locals := 24 }) (ct_X5_isIn C.2.1 (w32 v1) 0 (w32 ((m_i M 589 v0 0) - 1)) (m_si M 500 v0 0 0) _  rfl) ⟨by decide, by decide, Nat.zero_le _, Nat.zero_le _⟩ rfl (Nat.le_of_ble_eq_true rfl) dX5_looked_15 (c2 := 0) (s2 := 0) rfl rfl (fun _ => ?_)
  refine z_if_ne (pc := 18) C dX5_looked_18 (tgt := 27) (by decide) (fun c2 => ?_) (fun c2 => ?_)
  · have h := itf c2 h
    refine z_iload_n (pc := 27) C 2 rfl dX5_looked_27 ?_
    refine z_i2l (pc := 28) C dX5_looked_28 ?_
    refine z_lconst (pc := 29) C (x := 0) (by decide +kernel) dX5_looked_29 ?_
    refine z_ldc2 (pc := 30) C (x := 5) q1806 (by decide +kernel) dX5_looked_30 ?_
    refine cX5_207 (pc := 33) (st := []) (st1 := [vI (d_X5_isIn (w32 v2) 0 5)]) C rfl (rm := { frames := 1, cells := 0, slots := 0, locals := 24 }) (ct_X5_isIn C.2.1 (w32 v2) 0 5 (m_si M 500 v0 0 0) _  rfl) ⟨by decide, by decide, Nat.zero_le _, Nat.zero_le _⟩ rfl (Nat.le_of_ble_eq_true rfl) dX5_looked_33 (c2 := 0) (s2 := 0) rfl rfl (fun _ => ?_)
    refine z_if_eq (pc := 36) C dX5_looked_36 (tgt := 53) (by decide) (fun c4 => ?_) (fun c4 => ?_)
    · have h := itt c4 h
      refine z_aload_n (pc := 53) C 0 rfl dX5_looked_53 ?_
      refine z_iconst (pc := 54) C dX5_looked_54 ?_
      obtain ⟨r5, M6, e7, h⟩ := bNs h
      refine cX5_213 (pc := 55) (st := []) (st1 := [vI r5]) C rfl (rm := { frames := 1, cells := 0, slots := 0, locals := 24 }) (ct_X5_fail C.2.1 v0 2 (m_si M 500 v0 0 0) _ _ hv0 e7) ⟨by decide, by decide, Nat.zero_le _, Nat.zero_le _⟩ (Or.inl hv0) rfl (Nat.le_of_ble_eq_true rfl) dX5_looked_55 (c2 := 0) (s2 := 0) rfl rfl (fun x8 => ?_)
      cases h
      exact z_iret (pc := 58) C rfl (show 0 ≤ 0 from by decide) (show 0 ≤ 0 from by decide) dX5_looked_58
    · have h := itf c4 h
      refine z_aload_n (pc := 39) C 0 rfl dX5_looked_39 ?_
      refine gX5_590 (pc := 40) C rfl hv0 dX5_looked_40 ?_
      refine z_bipush (pc := 43) C (by decide +kernel) dX5_looked_43 ?_
      refine z_iload_n (pc := 45) C 1 rfl dX5_looked_45 ?_
      refine z_imul (pc := 46) C dX5_looked_46 ?_
      refine z_iload_n (pc := 47) C 2 rfl dX5_looked_47 ?_
      refine z_iadd (pc := 48) C dX5_looked_48 ?_
      obtain ⟨c9, h⟩ := ifn h
      refine z_iaO (pc := 49) (k := 5) (j := 90) C 590 rfl (by decide) (by decide) (by decide) rfl rfl rfl rfl hv0 c9 (x := m_i M 590 v0 (ixn ((6 * v1) + v2))) ((m_i_ne (by decide)).trans rfl) dX5_looked_49 ?_
      refine z_goto (pc := 50) C dX5_looked_50 (tgt := 58) (by decide) ?_
      cases h
      exact z_iret (pc := 58) C rfl (show 0 ≤ 0 from by decide) (show 0 ≤ 0 from by decide) dX5_looked_58
  · have h := itt c2 h
    refine z_aload_n (pc := 21) C 0 rfl dX5_looked_21 ?_
    refine z_iconst (pc := 22) C dX5_looked_22 ?_
    obtain ⟨r10, M11, e12, h⟩ := bNs h
    refine cX5_213 (pc := 23) (st := []) (st1 := [vI r10]) C rfl (rm := { frames := 1, cells := 0, slots := 0, locals := 24 }) (ct_X5_fail C.2.1 v0 1 (m_si M 500 v0 0 0) _ _ hv0 e12) ⟨by decide, by decide, Nat.zero_le _, Nat.zero_le _⟩ (Or.inl hv0) rfl (Nat.le_of_ble_eq_true rfl) dX5_looked_23 (c2 := 0) (s2 := 0) rfl rfl (fun x13 => ?_)
    cases h
    exact z_iret (pc := 26) C rfl (show 0 ≤ 0 from by decide) (show 0 ≤ 0 from by decide) dX5_looked_26
def B_X5_told_9 (k9 : Nat → Int → Int → Int → Mem → Option (Int × Mem)) (v0 : Nat) (v1 : Int) (v2 : Int) (v3 : Int) (M : Mem) : Option (Int × Mem) :=
  if w32 (m_i M 538 v0 0) ≤ w32 v3 then
    if w32 v1 = 0 then
      some (m_i M 502 v0 0, M)
    else
      if w32 v1 = 1 then
        some (m_i M 506 v0 0, M)
      else
        if w32 v1 = 2 then
          some (m_i M 505 v0 0, M)
        else
          if w32 v1 = 3 then
            some (m_i M 514 v0 0, M)
          else
            if w32 v1 = 4 then
              some (m_i M 538 v0 0, M)
            else
              if w32 v1 = 5 then
                some (v2, M)
              else
                if w32 v1 = 6 then
                  some (m_i M 553 v0 0, M)
                else
                  if w32 v1 = 7 then
                    some (m_i M 564 v0 0, M)
                  else
                    if w32 v1 = 8 then
                      some (m_i M 569 v0 0, M)
                    else
                      if w32 v1 = 9 then
                        some (m_i M 580 v0 0, M)
                      else
                        if w32 v1 = 10 then
                          some (m_i M 582 v0 0, M)
                        else
                          if w32 v1 = 11 then
                            some (m_i M 589 v0 0, M)
                          else
                            if w32 v1 = 12 then
                              some (m_i M 513 v0 0, M)
                            else
                              if w32 v1 = 13 then
                                some (m_i M 501 v0 0, M)
                              else
                                if w32 v1 = 14 then
                                  some (d_X5_today v0 M, M)
                                else
                                  bN (d_X5_fail v0 1 M) fun r18 M19 => 
                                  some (r18, M19)
  else
    if inb v3 60 then 
    if w32 (m_i M 542 v0 (ixn v3)) = 0 then
      k9 v0 v1 (v2 + 1) (v3 + 1) M
    else
      k9 v0 v1 (v2 + 0) (v3 + 1) M else none
def L_X5_told_9  : Nat → Nat → Int → Int → Int → Mem → Option (Int × Mem)
  | 0, _, _, _, _, _ => none
  | n + 1, v0, v1, v2, v3, M => B_X5_told_9 (L_X5_told_9  n) v0 v1 v2 v3 M
def d_X5_told (v0 : Nat) (v1 : Int) (M : Mem) : Option (Int × Mem) :=
  L_X5_told_9 FU v0 v1 0 0 (m_si M 500 v0 0 0)
theorem cB_X5_told_9 {X : x_Ctx} {M0 : Mem} (C : x_CC X 2 49 yX5_told cX5_told 4 (some .int) []) {k9 : Nat → Int → Int → Int → Mem → Option (Int × Mem)} (hk9 : ∀ (v0 : Nat) (v1 : Int) (v2 : Int) (v3 : Int) (M : Mem) (r : Int) (M' : Mem), m_kd M v0 = 5 → k9 v0 v1 v2 v3 M = some (r, M') → x_Z X 0 0 (x_QF X M0 (.returned (some (vI r))) M' 0 0) M0 M 4 [(0, .ref v0), (1, vI v1), (2, vI v2), (3, vI v3)] 9 []) (v0 : Nat) (v1 : Int) (v2 : Int) (v3 : Int) (M : Mem) (r : Int) (M' : Mem) (hv0 : m_kd M v0 = 5) (h : B_X5_told_9 k9 v0 v1 v2 v3 M = some (r, M'))  : x_Z X 0 0 (x_QF X M0 (.returned (some (vI r))) M' 0 0) M0 M 4 [(0, .ref v0), (1, vI v1), (2, vI v2), (3, vI v3)] 9 [] := by
  unfold B_X5_told_9 at h
  refine z_iload_n (pc := 9) C 3 rfl dX5_told_9 ?_
  refine z_aload_n (pc := 10) C 0 rfl dX5_told_10 ?_
  refine gX5_538 (pc := 11) C rfl (Or.inl hv0) rfl dX5_told_11 ?_
  refine z_ic_ge (pc := 14) C dX5_told_14 (tgt := 40) (by decide) (fun c1 => ?_) (fun c1 => ?_)
  · have h := itt c1 h
    refine z_iload_n (pc := 40) C 1 rfl dX5_told_40 ?_
    by_cases c2 : w32 v1 = 0
    · have h := itt c2 h
      refine z_tabI (pc := 41) C (tgt := 116) dX5_told_41 c2 (by decide) (by decide) rfl (by decide) ?_
      refine z_aload_n (pc := 116) C 0 rfl dX5_told_116 ?_
      refine gX5_502 (pc := 117) C rfl (Or.inl hv0) rfl dX5_told_117 ?_
      cases h
      exact z_iret (pc := 120) C rfl (show 0 ≤ 0 from by decide) (show 0 ≤ 0 from by decide) dX5_told_120
    · have h := itf c2 h
      by_cases c3 : w32 v1 = 1
      · have h := itt c3 h
        refine z_tabI (pc := 41) C (tgt := 121) dX5_told_41 c3 (by decide) (by decide) rfl (by decide) ?_
        refine z_aload_n (pc := 121) C 0 rfl dX5_told_121 ?_
        refine gX5_506 (pc := 122) C rfl (Or.inl hv0) rfl dX5_told_122 ?_
        cases h
        exact z_iret (pc := 125) C rfl (show 0 ≤ 0 from by decide) (show 0 ≤ 0 from by decide) dX5_told_125
      · have h := itf c3 h
        by_cases c4 : w32 v1 = 2
        · have h := itt c4 h
          refine z_tabI (pc := 41) C (tgt := 126) dX5_told_41 c4 (by decide) (by decide) rfl (by decide) ?_
          refine z_aload_n (pc := 126) C 0 rfl dX5_told_126 ?_
          refine gX5_505 (pc := 127) C rfl (Or.inl hv0) rfl dX5_told_127 ?_
          cases h
          exact z_iret (pc := 130) C rfl (show 0 ≤ 0 from by decide) (show 0 ≤ 0 from by decide) dX5_told_130
        · have h := itf c4 h
          by_cases c5 : w32 v1 = 3
          · have h := itt c5 h
            refine z_tabI (pc := 41) C (tgt := 131) dX5_told_41 c5 (by decide) (by decide) rfl (by decide) ?_
            refine z_aload_n (pc := 131) C 0 rfl dX5_told_131 ?_
            refine gX5_514 (pc := 132) C rfl (Or.inl hv0) rfl dX5_told_132 ?_
            cases h
            exact z_iret (pc := 135) C rfl (show 0 ≤ 0 from by decide) (show 0 ≤ 0 from by decide) dX5_told_135
          · have h := itf c5 h
            by_cases c6 : w32 v1 = 4
            · have h := itt c6 h
              refine z_tabI (pc := 41) C (tgt := 136) dX5_told_41 c6 (by decide) (by decide) rfl (by decide) ?_
              refine z_aload_n (pc := 136) C 0 rfl dX5_told_136 ?_
              refine gX5_538 (pc := 137) C rfl (Or.inl hv0) rfl dX5_told_137 ?_
              cases h
              exact z_iret (pc := 140) C rfl (show 0 ≤ 0 from by decide) (show 0 ≤ 0 from by decide) dX5_told_140
            · have h := itf c6 h
              by_cases c7 : w32 v1 = 5
              · have h := itt c7 h
                refine z_tabI (pc := 41) C (tgt := 141) dX5_told_41 c7 (by decide) (by decide) rfl (by decide) ?_
                refine z_iload_n (pc := 141) C 2 rfl dX5_told_141 ?_
                cases h
                exact z_iret (pc := 142) C rfl (show 0 ≤ 0 from by decide) (show 0 ≤ 0 from by decide) dX5_told_142
              · have h := itf c7 h
                by_cases c8 : w32 v1 = 6
                · have h := itt c8 h
                  refine z_tabI (pc := 41) C (tgt := 143) dX5_told_41 c8 (by decide) (by decide) rfl (by decide) ?_
                  refine z_aload_n (pc := 143) C 0 rfl dX5_told_143 ?_
                  refine gX5_553 (pc := 144) C rfl (Or.inl hv0) rfl dX5_told_144 ?_
                  cases h
                  exact z_iret (pc := 147) C rfl (show 0 ≤ 0 from by decide) (show 0 ≤ 0 from by decide) dX5_told_147
                · have h := itf c8 h
                  by_cases c9 : w32 v1 = 7
                  · have h := itt c9 h
                    refine z_tabI (pc := 41) C (tgt := 148) dX5_told_41 c9 (by decide) (by decide) rfl (by decide) ?_
                    refine z_aload_n (pc := 148) C 0 rfl dX5_told_148 ?_
                    refine gX5_564 (pc := 149) C rfl (Or.inl hv0) rfl dX5_told_149 ?_
                    cases h
                    exact z_iret (pc := 152) C rfl (show 0 ≤ 0 from by decide) (show 0 ≤ 0 from by decide) dX5_told_152
                  · have h := itf c9 h
                    by_cases c10 : w32 v1 = 8
                    · have h := itt c10 h
                      refine z_tabI (pc := 41) C (tgt := 153) dX5_told_41 c10 (by decide) (by decide) rfl (by decide) ?_
                      refine z_aload_n (pc := 153) C 0 rfl dX5_told_153 ?_
                      refine gX5_569 (pc := 154) C rfl (Or.inl hv0) rfl dX5_told_154 ?_
                      cases h
                      exact z_iret (pc := 157) C rfl (show 0 ≤ 0 from by decide) (show 0 ≤ 0 from by decide) dX5_told_157
                    · have h := itf c10 h
                      by_cases c11 : w32 v1 = 9
                      · have h := itt c11 h
                        refine z_tabI (pc := 41) C (tgt := 158) dX5_told_41 c11 (by decide) (by decide) rfl (by decide) ?_
                        refine z_aload_n (pc := 158) C 0 rfl dX5_told_158 ?_
                        refine gX5_580 (pc := 159) C rfl (Or.inl hv0) rfl dX5_told_159 ?_
                        cases h
                        exact z_iret (pc := 162) C rfl (show 0 ≤ 0 from by decide) (show 0 ≤ 0 from by decide) dX5_told_162
                      · have h := itf c11 h
                        by_cases c12 : w32 v1 = 10
                        · have h := itt c12 h
                          refine z_tabI (pc := 41) C (tgt := 163) dX5_told_41 c12 (by decide) (by decide) rfl (by decide) ?_
                          refine z_aload_n (pc := 163) C 0 rfl dX5_told_163 ?_
                          refine gX5_582 (pc := 164) C rfl (Or.inl hv0) rfl dX5_told_164 ?_
                          cases h
                          exact z_iret (pc := 167) C rfl (show 0 ≤ 0 from by decide) (show 0 ≤ 0 from by decide) dX5_told_167
                        · have h := itf c12 h
                          by_cases c13 : w32 v1 = 11
                          · have h := itt c13 h
                            refine z_tabI (pc := 41) C (tgt := 168) dX5_told_41 c13 (by decide) (by decide) rfl (by decide) ?_
                            refine z_aload_n (pc := 168) C 0 rfl dX5_told_168 ?_
                            refine gX5_589 (pc := 169) C rfl (Or.inl hv0) rfl dX5_told_169 ?_
                            cases h
                            exact z_iret (pc := 172) C rfl (show 0 ≤ 0 from by decide) (show 0 ≤ 0 from by decide) dX5_told_172
                          · have h := itf c13 h
                            by_cases c14 : w32 v1 = 12
                            · have h := itt c14 h
                              refine z_tabI (pc := 41) C (tgt := 173) dX5_told_41 c14 (by decide) (by decide) rfl (by decide) ?_
                              refine z_aload_n (pc := 173) C 0 rfl dX5_told_173 ?_
                              refine gX5_513 (pc := 174) C rfl (Or.inl hv0) rfl dX5_told_174 ?_
                              cases h
                              exact z_iret (pc := 177) C rfl (show 0 ≤ 0 from by decide) (show 0 ≤ 0 from by decide) dX5_told_177
                            · have h := itf c14 h
                              by_cases c15 : w32 v1 = 13
                              · have h := itt c15 h
                                refine z_tabI (pc := 41) C (tgt := 178) dX5_told_41 c15 (by decide) (by decide) rfl (by decide) ?_
                                refine z_aload_n (pc := 178) C 0 rfl dX5_told_178 ?_
                                refine gX5_501 (pc := 179) C rfl (Or.inl hv0) rfl dX5_told_179 ?_
                                cases h
                                exact z_iret (pc := 182) C rfl (show 0 ≤ 0 from by decide) (show 0 ≤ 0 from by decide) dX5_told_182
                              · have h := itf c15 h
                                by_cases c16 : w32 v1 = 14
                                · have h := itt c16 h
                                  refine z_tabI (pc := 41) C (tgt := 183) dX5_told_41 c16 (by decide) (by decide) rfl (by decide) ?_
                                  refine z_aload_n (pc := 183) C 0 rfl dX5_told_183 ?_
                                  refine cX5_233 (pc := 184) (st := []) (st1 := [vI (d_X5_today v0 M)]) C rfl (rm := { frames := 1, cells := 0, slots := 0, locals := 24 }) (ct_X5_today C.2.1 v0 M _ hv0 rfl) ⟨by decide, by decide, Nat.zero_le _, Nat.zero_le _⟩ (Or.inl hv0) rfl (Nat.le_of_ble_eq_true rfl) dX5_told_184 (c2 := 0) (s2 := 0) rfl rfl (fun _ => ?_)
                                  cases h
                                  exact z_iret (pc := 187) C rfl (show 0 ≤ 0 from by decide) (show 0 ≤ 0 from by decide) dX5_told_187
                                · have h := itf c16 h
                                  refine z_tabO (pc := 41) C (tgt := 188) dX5_told_41 (by omega) (by decide) ?_
                                  refine z_aload_n (pc := 188) C 0 rfl dX5_told_188 ?_
                                  refine z_iconst (pc := 189) C dX5_told_189 ?_
                                  obtain ⟨r18, M19, e20, h⟩ := bNs h
                                  refine cX5_213 (pc := 190) (st := []) (st1 := [vI r18]) C rfl (rm := { frames := 1, cells := 0, slots := 0, locals := 24 }) (ct_X5_fail C.2.1 v0 1 M _ _ hv0 e20) ⟨by decide, by decide, Nat.zero_le _, Nat.zero_le _⟩ (Or.inl hv0) rfl (Nat.le_of_ble_eq_true rfl) dX5_told_190 (c2 := 0) (s2 := 0) rfl rfl (fun x21 => ?_)
                                  cases h
                                  exact z_iret (pc := 193) C rfl (show 0 ≤ 0 from by decide) (show 0 ≤ 0 from by decide) dX5_told_193
  · have h := itf c1 h
    refine z_iload_n (pc := 17) C 2 rfl dX5_told_17 ?_
    refine z_aload_n (pc := 18) C 0 rfl dX5_told_18 ?_
    refine gX5_542 (pc := 19) C rfl hv0 dX5_told_19 ?_
    refine z_iload_n (pc := 22) C 3 rfl dX5_told_22 ?_
    obtain ⟨c22, h⟩ := ifn h
    refine z_zaO (pc := 23) (k := 5) (j := 42) C 542 rfl (by decide) (by decide) (by decide) rfl rfl rfl rfl hv0 c22 rfl dX5_told_23 ?_
    refine z_if_eq (pc := 24) C dX5_told_24 (tgt := 31) (by decide) (fun c23 => ?_) (fun c23 => ?_)
    · have h := itt c23 h
      refine z_iconst (pc := 31) C dX5_told_31 ?_
      refine z_iadd (pc := 32) C dX5_told_32 ?_
      refine z_istore_n (pc := 33) C (lv' := [(0, .ref v0), (1, vI v1), (2, vI (v2 + 1)), (3, vI v3)]) (by decide) rfl dX5_told_33 ?_
      refine z_iinc (pc := 34) C (lv' := [(0, .ref v0), (1, vI v1), (2, vI (v2 + 1)), (3, vI (v3 + 1))]) 3 rfl (by decide) rfl dX5_told_34 ?_
      refine z_goto (pc := 37) C dX5_told_37 (tgt := 9) (by decide) ?_
      exact hk9 v0 v1 (v2 + 1) (v3 + 1) M _ _ hv0 h
    · have h := itf c23 h
      refine z_iconst (pc := 27) C dX5_told_27 ?_
      refine z_goto (pc := 28) C dX5_told_28 (tgt := 32) (by decide) ?_
      refine z_iadd (pc := 32) C dX5_told_32 ?_
      refine z_istore_n (pc := 33) C (lv' := [(0, .ref v0), (1, vI v1), (2, vI (v2 + 0)), (3, vI v3)]) (by decide) rfl dX5_told_33 ?_
      refine z_iinc (pc := 34) C (lv' := [(0, .ref v0), (1, vI v1), (2, vI (v2 + 0)), (3, vI (v3 + 1))]) 3 rfl (by decide) rfl dX5_told_34 ?_
      refine z_goto (pc := 37) C dX5_told_37 (tgt := 9) (by decide) ?_
      exact hk9 v0 v1 (v2 + 0) (v3 + 1) M _ _ hv0 h
theorem cL_X5_told_9 {X : x_Ctx} {M0 : Mem} (C : x_CC X 2 49 yX5_told cX5_told 4 (some .int) [])  : ∀ (n : Nat) (v0 : Nat) (v1 : Int) (v2 : Int) (v3 : Int) (M : Mem) (r : Int) (M' : Mem) (hv0 : m_kd M v0 = 5) (h : L_X5_told_9  n v0 v1 v2 v3 M = some (r, M')) , x_Z X 0 0 (x_QF X M0 (.returned (some (vI r))) M' 0 0) M0 M 4 [(0, .ref v0), (1, vI v1), (2, vI v2), (3, vI v3)] 9 [] := by
  intro n
  induction n with
  | zero => intro v0 v1 v2 v3 M r M' hv0 h ; cases h
  | succ n ih => intro v0 v1 v2 v3 M r M' hv0 h ; exact cB_X5_told_9 C (fun v0 v1 v2 v3 M r M' hv0 h  => ih v0 v1 v2 v3 M r M' hv0 h ) v0 v1 v2 v3 M r M' hv0 h 
theorem ct_X5_told {l : Launch} {S0 : State} {D : va_G} {cA : Nat → ClassId} (hG : x_G l S0 D cA) (v0 : Nat) (v1 : Int) (M : Mem) (r : Int) (M' : Mem) (hv0 : m_kd M v0 = 5) (h : d_X5_told v0 v1 M = some (r, M')) : x_Me l S0 D cA yX5_told cX5_told 4 (some .int) [] ({ frames := 2, cells := 0, slots := 0, locals := 49 }) [.ref v0, vI v1] M (.returned (some (vI r))) M' := by
  refine x_begin (F := 2) (Lo := 49) (mc := 0) (ms := 0) hG (Nat.le_of_ble_eq_true rfl) (lv := [(0, .ref v0), (1, vI v1)]) rfl rfl rfl rfl rfl (fun X e1 e2 e3 e4 e5 C => ?_)
  unfold d_X5_told at h
  refine z_aload_n (pc := 0) C 0 rfl dX5_told_0 ?_
  refine z_iconst (pc := 1) C dX5_told_1 ?_
  refine pX5_500 (pc := 2) C rfl (Or.inl hv0) dX5_told_2 ?_
  refine z_iconst (pc := 5) C dX5_told_5 ?_
  refine z_istore_n (pc := 6) C (lv' := [(0, .ref v0), (1, vI v1), (2, vI 0)]) (by decide) rfl dX5_told_6 ?_
  refine z_iconst (pc := 7) C dX5_told_7 ?_
  refine z_istore_n (pc := 8) C (lv' := [(0, .ref v0), (1, vI v1), (2, vI 0), (3, vI 0)]) (by decide) rfl dX5_told_8 ?_
  exact cL_X5_told_9 C FU v0 v1 0 0 (m_si M 500 v0 0 0) _ _ hv0 h
