set_option maxRecDepth 100000
def B_X4_go_73 (k3 : Nat → Int → Int → Int → Int → Mem → Option (Int × Mem)) (k73 : Nat → Int → Int → Int → Int → Int → Int → Mem → Option (Int × Mem)) (v0 : Nat) (v1 : Int) (v2 : Int) (v3 : Int) (v4 : Int) (v5 : Int) (v6 : Int) (M : Mem) : Option (Int × Mem) :=
  if w32 v6 = w32 v1 then
    k3 v0 v1 v2 v3 (v4 + v5) M
  else
    if inb v6 12 then 
    if inb ((12 * (m_i M 401 v0 (ixn v6))) + v6) 144 then 
    if inb ((12 * v6) + (m_i M 401 v0 (ixn v6))) 144 then 
    k73 v0 v1 v2 v3 v4 v5 (m_i M 401 v0 (ixn v6)) (m_si (m_si M 400 v0 (ixn ((12 * (m_i M 401 v0 (ixn v6))) + v6)) ((m_i M 400 v0 (ixn ((12 * (m_i M 401 v0 (ixn v6))) + v6))) - v5)) 400 v0 (ixn ((12 * v6) + (m_i M 401 v0 (ixn v6)))) ((m_i (m_si M 400 v0 (ixn ((12 * (m_i M 401 v0 (ixn v6))) + v6)) ((m_i M 400 v0 (ixn ((12 * (m_i M 401 v0 (ixn v6))) + v6))) - v5)) 400 v0 (ixn ((12 * v6) + (m_i M 401 v0 (ixn v6))))) + v5)) else none else none else none
def L_X4_go_73 (k3 : Nat → Int → Int → Int → Int → Mem → Option (Int × Mem)) : Nat → Nat → Int → Int → Int → Int → Int → Int → Mem → Option (Int × Mem)
  | 0, _, _, _, _, _, _, _, _ => none
  | n + 1, v0, v1, v2, v3, v4, v5, v6, M => B_X4_go_73 k3 (L_X4_go_73 k3 n) v0 v1 v2 v3 v4 v5 v6 M
def B_X4_go_27 (k3 : Nat → Int → Int → Int → Int → Mem → Option (Int × Mem)) (k27 : Nat → Int → Int → Int → Int → Int → Int → Mem → Option (Int × Mem)) (v0 : Nat) (v1 : Int) (v2 : Int) (v3 : Int) (v4 : Int) (v5 : Int) (v6 : Int) (M : Mem) : Option (Int × Mem) :=
  if w32 v6 = w32 v1 then
    L_X4_go_73 k3 FU v0 v1 v2 v3 v4 v5 v2 M
  else
    if inb v6 12 then 
    if inb ((12 * (m_i M 401 v0 (ixn v6))) + v6) 144 then 
    k27 v0 v1 v2 v3 v4 (nm32 v5 (m_i M 400 v0 (ixn ((12 * (m_i M 401 v0 (ixn v6))) + v6)))) (m_i M 401 v0 (ixn v6)) M else none else none
def L_X4_go_27 (k3 : Nat → Int → Int → Int → Int → Mem → Option (Int × Mem)) : Nat → Nat → Int → Int → Int → Int → Int → Int → Mem → Option (Int × Mem)
  | 0, _, _, _, _, _, _, _, _ => none
  | n + 1, v0, v1, v2, v3, v4, v5, v6, M => B_X4_go_27 k3 (L_X4_go_27 k3 n) v0 v1 v2 v3 v4 v5 v6 M
def B_X4_go_3 (k3 : Nat → Int → Int → Int → Int → Mem → Option (Int × Mem)) (v0 : Nat) (v1 : Int) (v2 : Int) (v3 : Int) (v4 : Int) (M : Mem) : Option (Int × Mem) :=
  if w32 v3 ≤ w32 v4 then
    some (v4, M)
  else
    bN (d_X4_reach v0 v1 v2 M) fun r2 M3 => 
    if w32 r2 = 0 then
      some (v4, M3)
    else
      L_X4_go_27 k3 FU v0 v1 v2 v3 v4 (v3 - v4) v2 M3
def L_X4_go_3  : Nat → Nat → Int → Int → Int → Int → Mem → Option (Int × Mem)
  | 0, _, _, _, _, _, _ => none
  | n + 1, v0, v1, v2, v3, v4, M => B_X4_go_3 (L_X4_go_3  n) v0 v1 v2 v3 v4 M
def d_X4_go (v0 : Nat) (v1 : Int) (v2 : Int) (v3 : Int) (M : Mem) : Option (Int × Mem) :=
  L_X4_go_3 FU v0 v1 v2 v3 0 M
theorem cB_X4_go_73 {X : x_Ctx} {M0 : Mem} (C : x_CC X 2 54 yX4_go cX4_go 7 (some .int) []) {k3 : Nat → Int → Int → Int → Int → Mem → Option (Int × Mem)} (hk3 : ∀ (v0 : Nat) (v1 : Int) (v2 : Int) (v3 : Int) (v4 : Int) (M : Mem) (r : Int) (M' : Mem), m_kd M v0 = 4 → k3 v0 v1 v2 v3 v4 M = some (r, M') → x_Z X 0 0 (x_QF X M0 (.returned (some (vI r))) M' 0 0) M0 M 7 [(0, .ref v0), (1, vI v1), (2, vI v2), (3, vI v3), (4, vI v4)] 3 []) {k73 : Nat → Int → Int → Int → Int → Int → Int → Mem → Option (Int × Mem)} (hk73 : ∀ (v0 : Nat) (v1 : Int) (v2 : Int) (v3 : Int) (v4 : Int) (v5 : Int) (v6 : Int) (M : Mem) (r : Int) (M' : Mem), m_kd M v0 = 4 → k73 v0 v1 v2 v3 v4 v5 v6 M = some (r, M') → x_Z X 0 0 (x_QF X M0 (.returned (some (vI r))) M' 0 0) M0 M 7 [(0, .ref v0), (1, vI v1), (2, vI v2), (3, vI v3), (4, vI v4), (5, vI v5), (6, vI v6)] 73 []) (v0 : Nat) (v1 : Int) (v2 : Int) (v3 : Int) (v4 : Int) (v5 : Int) (v6 : Int) (M : Mem) (r : Int) (M' : Mem) (hv0 : m_kd M v0 = 4) (h : B_X4_go_73 k3 k73 v0 v1 v2 v3 v4 v5 v6 M = some (r, M'))  : x_Z X 0 0 (x_QF X M0 (.returned (some (vI r))) M' 0 0) M0 M 7 [(0, .ref v0), (1, vI v1), (2, vI v2), (3, vI v3), (4, vI v4), (5, vI v5), (6, vI v6)] 73 [] := by
  unfold B_X4_go_73 at h
  refine z_iload (pc := 73) C 6 rfl dX4_go_73 ?_
  refine z_iload_n (pc := 75) C 1 rfl dX4_go_75 ?_
  refine z_ic_eq (pc := 76) C dX4_go_76 (tgt := 137) (by decide) (fun c9 => ?_) (fun c9 => ?_)
  · have h := itt c9 h
    refine z_iload (pc := 137) C 4 rfl dX4_go_137 ?_
    refine z_iload (pc := 139) C 5 rfl dX4_go_139 ?_
    refine z_iadd (pc := 141) C dX4_go_141 ?_
    refine z_istore (pc := 142) C (lv' := [(0, .ref v0), (1, vI v1), (2, vI v2), (3, vI v3), (4, vI (v4 + v5)), (5, vI v5), (6, vI v6)]) (by decide) rfl dX4_go_142 ?_
    refine z_goto (pc := 144) C dX4_go_144 (tgt := 3) (by decide) ?_
    exact z_lv [0, 1, 2, 3, 4] rfl <| hk3 v0 v1 v2 v3 (v4 + v5) M _ _ hv0 h
  · have h := itf c9 h
    refine z_aload_n (pc := 79) C 0 rfl dX4_go_79 ?_
    refine gX4_400 (pc := 80) C rfl hv0 dX4_go_80 ?_
    refine z_bipush (pc := 83) C (by decide +kernel) dX4_go_83 ?_
    refine z_aload_n (pc := 85) C 0 rfl dX4_go_85 ?_
    refine gX4_401 (pc := 86) C rfl hv0 dX4_go_86 ?_
    refine z_iload (pc := 89) C 6 rfl dX4_go_89 ?_
    obtain ⟨c10, h⟩ := ifn h
    refine z_iaO (pc := 91) (k := 4) (j := 1) C 401 rfl (by decide) (by decide) (by decide) rfl rfl rfl rfl hv0 c10 rfl dX4_go_91 ?_
    refine z_imul (pc := 92) C dX4_go_92 ?_
    refine z_iload (pc := 93) C 6 rfl dX4_go_93 ?_
    refine z_iadd (pc := 95) C dX4_go_95 ?_
    refine z_dup2 (pc := 96) C rfl rfl dX4_go_96 ?_
    obtain ⟨c11, h⟩ := ifn h
    refine z_iaO (pc := 97) (k := 4) (j := 0) C 400 rfl (by decide) (by decide) (by decide) rfl rfl rfl rfl hv0 c11 rfl dX4_go_97 ?_
    refine z_iload (pc := 98) C 5 rfl dX4_go_98 ?_
    refine z_isub (pc := 100) C dX4_go_100 ?_
    refine z_isO (pc := 101) (k := 4) (j := 0) C 400 rfl (by decide) (by decide) (by decide) rfl rfl rfl rfl hv0 c11 dX4_go_101 ?_
    refine z_aload_n (pc := 102) C 0 rfl dX4_go_102 ?_
    refine gX4_400 (pc := 103) C rfl hv0 dX4_go_103 ?_
    refine z_bipush (pc := 106) C (by decide +kernel) dX4_go_106 ?_
    refine z_iload (pc := 108) C 6 rfl dX4_go_108 ?_
    refine z_imul (pc := 110) C dX4_go_110 ?_
    refine z_aload_n (pc := 111) C 0 rfl dX4_go_111 ?_
    refine gX4_401 (pc := 112) C rfl hv0 dX4_go_112 ?_
    refine z_iload (pc := 115) C 6 rfl dX4_go_115 ?_
    refine z_iaO (pc := 117) (k := 4) (j := 1) C 401 rfl (by decide) (by decide) (by decide) rfl rfl rfl rfl hv0 c10 (x := m_i M 401 v0 (ixn v6)) ((m_i_ne (by decide)).trans rfl) dX4_go_117 ?_
    refine z_iadd (pc := 118) C dX4_go_118 ?_
    refine z_dup2 (pc := 119) C rfl rfl dX4_go_119 ?_
    obtain ⟨c12, h⟩ := ifn h
    refine z_iaO (pc := 120) (k := 4) (j := 0) C 400 rfl (by decide) (by decide) (by decide) rfl rfl rfl rfl hv0 c12 rfl dX4_go_120 ?_
    refine z_iload (pc := 121) C 5 rfl dX4_go_121 ?_
    refine z_iadd (pc := 123) C dX4_go_123 ?_
    refine z_isO (pc := 124) (k := 4) (j := 0) C 400 rfl (by decide) (by decide) (by decide) rfl rfl rfl rfl hv0 c12 dX4_go_124 ?_
    refine z_aload_n (pc := 125) C 0 rfl dX4_go_125 ?_
    refine gX4_401 (pc := 126) C rfl hv0 dX4_go_126 ?_
    refine z_iload (pc := 129) C 6 rfl dX4_go_129 ?_
    refine z_iaO (pc := 131) (k := 4) (j := 1) C 401 rfl (by decide) (by decide) (by decide) rfl rfl rfl rfl hv0 c10 (x := m_i M 401 v0 (ixn v6)) ((m_i_ne (by decide)).trans ((m_i_ne (by decide)).trans rfl)) dX4_go_131 ?_
    refine z_istore (pc := 132) C (lv' := [(0, .ref v0), (1, vI v1), (2, vI v2), (3, vI v3), (4, vI v4), (5, vI v5), (6, vI (m_i M 401 v0 (ixn v6)))]) (by decide) rfl dX4_go_132 ?_
    refine z_goto (pc := 134) C dX4_go_134 (tgt := 73) (by decide) ?_
    exact hk73 v0 v1 v2 v3 v4 v5 (m_i M 401 v0 (ixn v6)) (m_si (m_si M 400 v0 (ixn ((12 * (m_i M 401 v0 (ixn v6))) + v6)) ((m_i M 400 v0 (ixn ((12 * (m_i M 401 v0 (ixn v6))) + v6))) - v5)) 400 v0 (ixn ((12 * v6) + (m_i M 401 v0 (ixn v6)))) ((m_i (m_si M 400 v0 (ixn ((12 * (m_i M 401 v0 (ixn v6))) + v6)) ((m_i M 400 v0 (ixn ((12 * (m_i M 401 v0 (ixn v6))) + v6))) - v5)) 400 v0 (ixn ((12 * v6) + (m_i M 401 v0 (ixn v6))))) + v5)) _ _ hv0 h
theorem cL_X4_go_73 {X : x_Ctx} {M0 : Mem} (C : x_CC X 2 54 yX4_go cX4_go 7 (some .int) []) {k3 : Nat → Int → Int → Int → Int → Mem → Option (Int × Mem)} (hk3 : ∀ (v0 : Nat) (v1 : Int) (v2 : Int) (v3 : Int) (v4 : Int) (M : Mem) (r : Int) (M' : Mem), m_kd M v0 = 4 → k3 v0 v1 v2 v3 v4 M = some (r, M') → x_Z X 0 0 (x_QF X M0 (.returned (some (vI r))) M' 0 0) M0 M 7 [(0, .ref v0), (1, vI v1), (2, vI v2), (3, vI v3), (4, vI v4)] 3 []) : ∀ (n : Nat) (v0 : Nat) (v1 : Int) (v2 : Int) (v3 : Int) (v4 : Int) (v5 : Int) (v6 : Int) (M : Mem) (r : Int) (M' : Mem) (hv0 : m_kd M v0 = 4) (h : L_X4_go_73 k3 n v0 v1 v2 v3 v4 v5 v6 M = some (r, M')) , x_Z X 0 0 (x_QF X M0 (.returned (some (vI r))) M' 0 0) M0 M 7 [(0, .ref v0), (1, vI v1), (2, vI v2), (3, vI v3), (4, vI v4), (5, vI v5), (6, vI v6)] 73 [] := by
  intro n
  induction n with
  | zero => intro v0 v1 v2 v3 v4 v5 v6 M r M' hv0 h ; cases h
  | succ n ih => intro v0 v1 v2 v3 v4 v5 v6 M r M' hv0 h ; exact cB_X4_go_73 C hk3 (fun v0 v1 v2 v3 v4 v5 v6 M r M' hv0 h  => ih v0 v1 v2 v3 v4 v5 v6 M r M' hv0 h ) v0 v1 v2 v3 v4 v5 v6 M r M' hv0 h 
theorem cB_X4_go_27 {X : x_Ctx} {M0 : Mem} (C : x_CC X 2 54 yX4_go cX4_go 7 (some .int) []) {k3 : Nat → Int → Int → Int → Int → Mem → Option (Int × Mem)} (hk3 : ∀ (v0 : Nat) (v1 : Int) (v2 : Int) (v3 : Int) (v4 : Int) (M : Mem) (r : Int) (M' : Mem), m_kd M v0 = 4 → k3 v0 v1 v2 v3 v4 M = some (r, M') → x_Z X 0 0 (x_QF X M0 (.returned (some (vI r))) M' 0 0) M0 M 7 [(0, .ref v0), (1, vI v1), (2, vI v2), (3, vI v3), (4, vI v4)] 3 []) {k27 : Nat → Int → Int → Int → Int → Int → Int → Mem → Option (Int × Mem)} (hk27 : ∀ (v0 : Nat) (v1 : Int) (v2 : Int) (v3 : Int) (v4 : Int) (v5 : Int) (v6 : Int) (M : Mem) (r : Int) (M' : Mem), m_kd M v0 = 4 → k27 v0 v1 v2 v3 v4 v5 v6 M = some (r, M') → x_Z X 0 0 (x_QF X M0 (.returned (some (vI r))) M' 0 0) M0 M 7 [(0, .ref v0), (1, vI v1), (2, vI v2), (3, vI v3), (4, vI v4), (5, vI v5), (6, vI v6)] 27 []) (v0 : Nat) (v1 : Int) (v2 : Int) (v3 : Int) (v4 : Int) (v5 : Int) (v6 : Int) (M : Mem) (r : Int) (M' : Mem) (hv0 : m_kd M v0 = 4) (h : B_X4_go_27 k3 k27 v0 v1 v2 v3 v4 v5 v6 M = some (r, M'))  : x_Z X 0 0 (x_QF X M0 (.returned (some (vI r))) M' 0 0) M0 M 7 [(0, .ref v0), (1, vI v1), (2, vI v2), (3, vI v3), (4, vI v4), (5, vI v5), (6, vI v6)] 27 [] := by
  unfold B_X4_go_27 at h
  refine z_iload (pc := 27) C 6 rfl dX4_go_27 ?_
  refine z_iload_n (pc := 29) C 1 rfl dX4_go_29 ?_
  refine z_ic_eq (pc := 30) C dX4_go_30 (tgt := 70) (by decide) (fun c8 => ?_) (fun c8 => ?_)
  · have h := itt c8 h
    refine z_iload_n (pc := 70) C 2 rfl dX4_go_70 ?_
    refine z_istore (pc := 71) C (lv' := [(0, .ref v0), (1, vI v1), (2, vI v2), (3, vI v3), (4, vI v4), (5, vI v5), (6, vI v2)]) (by decide) rfl dX4_go_71 ?_
    exact cL_X4_go_73 C hk3 FU v0 v1 v2 v3 v4 v5 v2 M _ _ hv0 h
  · have h := itf c8 h
    refine z_iload (pc := 33) C 5 rfl dX4_go_33 ?_
    refine z_aload_n (pc := 35) C 0 rfl dX4_go_35 ?_
    refine gX4_400 (pc := 36) C rfl hv0 dX4_go_36 ?_
    refine z_bipush (pc := 39) C (by decide +kernel) dX4_go_39 ?_
    refine z_aload_n (pc := 41) C 0 rfl dX4_go_41 ?_
    refine gX4_401 (pc := 42) C rfl hv0 dX4_go_42 ?_
    refine z_iload (pc := 45) C 6 rfl dX4_go_45 ?_
    obtain ⟨c13, h⟩ := ifn h
    refine z_iaO (pc := 47) (k := 4) (j := 1) C 401 rfl (by decide) (by decide) (by decide) rfl rfl rfl rfl hv0 c13 rfl dX4_go_47 ?_
    refine z_imul (pc := 48) C dX4_go_48 ?_
    refine z_iload (pc := 49) C 6 rfl dX4_go_49 ?_
    refine z_iadd (pc := 51) C dX4_go_51 ?_
    obtain ⟨c14, h⟩ := ifn h
    refine z_iaO (pc := 52) (k := 4) (j := 0) C 400 rfl (by decide) (by decide) (by decide) rfl rfl rfl rfl hv0 c14 rfl dX4_go_52 ?_
    refine z_min (pc := 53) C q1384 q1385 q128 q1386 (by decide) (by decide) (Nat.zero_le _) (Nat.zero_le _) (Nat.le_of_ble_eq_true rfl) dX4_go_53 ?_
    refine z_istore (pc := 56) C (lv' := [(0, .ref v0), (1, vI v1), (2, vI v2), (3, vI v3), (4, vI v4), (5, vI (nm32 v5 (m_i M 400 v0 (ixn ((12 * (m_i M 401 v0 (ixn v6))) + v6))))), (6, vI v6)]) (by decide) rfl dX4_go_56 ?_
    refine z_aload_n (pc := 58) C 0 rfl dX4_go_58 ?_
    refine gX4_401 (pc := 59) C rfl hv0 dX4_go_59 ?_
    refine z_iload (pc := 62) C 6 rfl dX4_go_62 ?_
    refine z_iaO (pc := 64) (k := 4) (j := 1) C 401 rfl (by decide) (by decide) (by decide) rfl rfl rfl rfl hv0 c13 rfl dX4_go_64 ?_
    refine z_istore (pc := 65) C (lv' := [(0, .ref v0), (1, vI v1), (2, vI v2), (3, vI v3), (4, vI v4), (5, vI (nm32 v5 (m_i M 400 v0 (ixn ((12 * (m_i M 401 v0 (ixn v6))) + v6))))), (6, vI (m_i M 401 v0 (ixn v6)))]) (by decide) rfl dX4_go_65 ?_
    refine z_goto (pc := 67) C dX4_go_67 (tgt := 27) (by decide) ?_
    exact hk27 v0 v1 v2 v3 v4 (nm32 v5 (m_i M 400 v0 (ixn ((12 * (m_i M 401 v0 (ixn v6))) + v6)))) (m_i M 401 v0 (ixn v6)) M _ _ hv0 h
theorem cL_X4_go_27 {X : x_Ctx} {M0 : Mem} (C : x_CC X 2 54 yX4_go cX4_go 7 (some .int) []) {k3 : Nat → Int → Int → Int → Int → Mem → Option (Int × Mem)} (hk3 : ∀ (v0 : Nat) (v1 : Int) (v2 : Int) (v3 : Int) (v4 : Int) (M : Mem) (r : Int) (M' : Mem), m_kd M v0 = 4 → k3 v0 v1 v2 v3 v4 M = some (r, M') → x_Z X 0 0 (x_QF X M0 (.returned (some (vI r))) M' 0 0) M0 M 7 [(0, .ref v0), (1, vI v1), (2, vI v2), (3, vI v3), (4, vI v4)] 3 []) : ∀ (n : Nat) (v0 : Nat) (v1 : Int) (v2 : Int) (v3 : Int) (v4 : Int) (v5 : Int) (v6 : Int) (M : Mem) (r : Int) (M' : Mem) (hv0 : m_kd M v0 = 4) (h : L_X4_go_27 k3 n v0 v1 v2 v3 v4 v5 v6 M = some (r, M')) , x_Z X 0 0 (x_QF X M0 (.returned (some (vI r))) M' 0 0) M0 M 7 [(0, .ref v0), (1, vI v1), (2, vI v2), (3, vI v3), (4, vI v4), (5, vI v5), (6, vI v6)] 27 [] := by
  intro n
  induction n with
  | zero => intro v0 v1 v2 v3 v4 v5 v6 M r M' hv0 h ; cases h
  | succ n ih => intro v0 v1 v2 v3 v4 v5 v6 M r M' hv0 h ; exact cB_X4_go_27 C hk3 (fun v0 v1 v2 v3 v4 v5 v6 M r M' hv0 h  => ih v0 v1 v2 v3 v4 v5 v6 M r M' hv0 h ) v0 v1 v2 v3 v4 v5 v6 M r M' hv0 h 
theorem cB_X4_go_3 {X : x_Ctx} {M0 : Mem} (C : x_CC X 2 54 yX4_go cX4_go 7 (some .int) []) {k3 : Nat → Int → Int → Int → Int → Mem → Option (Int × Mem)} (hk3 : ∀ (v0 : Nat) (v1 : Int) (v2 : Int) (v3 : Int) (v4 : Int) (M : Mem) (r : Int) (M' : Mem), m_kd M v0 = 4 → k3 v0 v1 v2 v3 v4 M = some (r, M') → x_Z X 0 0 (x_QF X M0 (.returned (some (vI r))) M' 0 0) M0 M 7 [(0, .ref v0), (1, vI v1), (2, vI v2), (3, vI v3), (4, vI v4)] 3 []) (v0 : Nat) (v1 : Int) (v2 : Int) (v3 : Int) (v4 : Int) (M : Mem) (r : Int) (M' : Mem) (hv0 : m_kd M v0 = 4) (h : B_X4_go_3 k3 v0 v1 v2 v3 v4 M = some (r, M'))  : x_Z X 0 0 (x_QF X M0 (.returned (some (vI r))) M' 0 0) M0 M 7 [(0, .ref v0), (1, vI v1), (2, vI v2), (3, vI v3), (4, vI v4)] 3 [] := by
  unfold B_X4_go_3 at h
  refine z_iload (pc := 3) C 4 rfl dX4_go_3 ?_
  refine z_iload_n (pc := 5) C 3 rfl dX4_go_5 ?_
  refine z_ic_ge (pc := 6) C dX4_go_6 (tgt := 147) (by decide) (fun c1 => ?_) (fun c1 => ?_)
  · have h := itt c1 h
    refine z_iload (pc := 147) C 4 rfl dX4_go_147 ?_
    cases h
    exact z_iret (pc := 149) C rfl (show 0 ≤ 0 from by decide) (show 0 ≤ 0 from by decide) dX4_go_149
  · have h := itf c1 h
    refine z_aload_n (pc := 9) C 0 rfl dX4_go_9 ?_
    refine z_iload_n (pc := 10) C 1 rfl dX4_go_10 ?_
    refine z_iload_n (pc := 11) C 2 rfl dX4_go_11 ?_
    obtain ⟨r2, M3, e4, h⟩ := bNs h
    refine cX4_27 (pc := 12) (st := []) (st1 := [vI r2]) C rfl (rm := { frames := 1, cells := 0, slots := 0, locals := 24 }) (ct_X4_reach C.2.1 v0 v1 v2 M _ _ hv0 e4) ⟨by decide, by decide, Nat.zero_le _, Nat.zero_le _⟩ (Or.inl hv0) rfl (Nat.le_of_ble_eq_true rfl) dX4_go_12 (c2 := 0) (s2 := 0) rfl rfl (fun x5 => ?_)
    have k6 := x5 _ 4 (by decide) (Or.inl (by decide)) hv0
    refine z_if_eq (pc := 15) C dX4_go_15 (tgt := 147) (by decide) (fun c7 => ?_) (fun c7 => ?_)
    · have h := itt c7 h
      refine z_iload (pc := 147) C 4 rfl dX4_go_147 ?_
      cases h
      exact z_iret (pc := 149) C rfl (show 0 ≤ 0 from by decide) (show 0 ≤ 0 from by decide) dX4_go_149
    · have h := itf c7 h
      refine z_iload_n (pc := 18) C 3 rfl dX4_go_18 ?_
      refine z_iload (pc := 19) C 4 rfl dX4_go_19 ?_
      refine z_isub (pc := 21) C dX4_go_21 ?_
      refine z_istore (pc := 22) C (lv' := [(0, .ref v0), (1, vI v1), (2, vI v2), (3, vI v3), (4, vI v4), (5, vI (v3 - v4))]) (by decide) rfl dX4_go_22 ?_
      refine z_iload_n (pc := 24) C 2 rfl dX4_go_24 ?_
      refine z_istore (pc := 25) C (lv' := [(0, .ref v0), (1, vI v1), (2, vI v2), (3, vI v3), (4, vI v4), (5, vI (v3 - v4)), (6, vI v2)]) (by decide) rfl dX4_go_25 ?_
      exact cL_X4_go_27 C hk3 FU v0 v1 v2 v3 v4 (v3 - v4) v2 M3 _ _ k6 h
theorem cL_X4_go_3 {X : x_Ctx} {M0 : Mem} (C : x_CC X 2 54 yX4_go cX4_go 7 (some .int) [])  : ∀ (n : Nat) (v0 : Nat) (v1 : Int) (v2 : Int) (v3 : Int) (v4 : Int) (M : Mem) (r : Int) (M' : Mem) (hv0 : m_kd M v0 = 4) (h : L_X4_go_3  n v0 v1 v2 v3 v4 M = some (r, M')) , x_Z X 0 0 (x_QF X M0 (.returned (some (vI r))) M' 0 0) M0 M 7 [(0, .ref v0), (1, vI v1), (2, vI v2), (3, vI v3), (4, vI v4)] 3 [] := by
  intro n
  induction n with
  | zero => intro v0 v1 v2 v3 v4 M r M' hv0 h ; cases h
  | succ n ih => intro v0 v1 v2 v3 v4 M r M' hv0 h ; exact cB_X4_go_3 C (fun v0 v1 v2 v3 v4 M r M' hv0 h  => ih v0 v1 v2 v3 v4 M r M' hv0 h ) v0 v1 v2 v3 v4 M r M' hv0 h 
theorem ct_X4_go {l : Launch} {S0 : State} {D : va_G} {cA : Nat → ClassId} (hG : x_G l S0 D cA) (v0 : Nat) (v1 : Int) (v2 : Int) (v3 : Int) (M : Mem) (r : Int) (M' : Mem) (hv0 : m_kd M v0 = 4) (h : d_X4_go v0 v1 v2 v3 M = some (r, M')) : x_Me l S0 D cA yX4_go cX4_go 7 (some .int) [] ({ frames := 2, cells := 0, slots := 0, locals := 54 }) [.ref v0, vI v1, vI v2, vI v3] M (.returned (some (vI r))) M' := by
  refine x_begin (F := 2) (Lo := 54) (mc := 0) (ms := 0) hG (Nat.le_of_ble_eq_true rfl) (lv := [(0, .ref v0), (1, vI v1), (2, vI v2), (3, vI v3)]) rfl rfl rfl rfl rfl (fun X e1 e2 e3 e4 e5 C => ?_)
  unfold d_X4_go at h
  refine z_iconst (pc := 0) C dX4_go_0 ?_
  refine z_istore (pc := 1) C (lv' := [(0, .ref v0), (1, vI v1), (2, vI v2), (3, vI v3), (4, vI 0)]) (by decide) rfl dX4_go_1 ?_
  exact cL_X4_go_3 C FU v0 v1 v2 v3 0 M _ _ hv0 h
def B_X1_reach_111 (k10 : Nat → Nat → Int → Int → Int → Int → Int → Mem → Option (Int × Mem)) (v0 : Nat) (v1 : Nat) (v2 : Int) (v3 : Int) (v4 : Int) (v5 : Int) (v6 : Int) (v7 : Int) (v8 : Int) (s0 : Nat) (s1 : Int) (M : Mem) : Option (Int × Mem) :=
  if w32 v4 = 0 then
    bN (d_X4_let s0 s1 v8 536870911 M) fun r52 M53 => 
    k10 v0 v1 v2 v3 v4 v5 (v6 + 1) M53
  else
    bN (d_X4_let s0 s1 v7 536870911 M) fun r58 M59 => 
    k10 v0 v1 v2 v3 v4 v5 (v6 + 1) M59
def B_X1_reach_85 (k10 : Nat → Nat → Int → Int → Int → Int → Int → Mem → Option (Int × Mem)) (v0 : Nat) (v1 : Nat) (v2 : Int) (v3 : Int) (v4 : Int) (v5 : Int) (v6 : Int) (v7 : Int) (v8 : Int) (s0 : Nat) (s1 : Int) (s2 : Int) (M : Mem) : Option (Int × Mem) :=
  if inb v6 12 then 
  bN (d_X4_let s0 s1 s2 (m_i M 1102 v1 (ixn v6)) M) fun r41 M42 => 
  bR (m_r M42 133 v0 0) fun q47 => 
  if w32 v4 = 0 then
    B_X1_reach_111 k10 v0 v1 v2 v3 v4 v5 v6 v7 v8 q47 v7 M42
  else
    B_X1_reach_111 k10 v0 v1 v2 v3 v4 v5 v6 v7 v8 q47 v8 M42 else none
def B_X1_reach_73 (k10 : Nat → Nat → Int → Int → Int → Int → Int → Mem → Option (Int × Mem)) (v0 : Nat) (v1 : Nat) (v2 : Int) (v3 : Int) (v4 : Int) (v5 : Int) (v6 : Int) (v7 : Int) (v8 : Int) (s0 : Nat) (s1 : Int) (M : Mem) : Option (Int × Mem) :=
  if w32 v4 = 0 then
    B_X1_reach_85 k10 v0 v1 v2 v3 v4 v5 v6 v7 v8 s0 s1 v7 M
  else
    B_X1_reach_85 k10 v0 v1 v2 v3 v4 v5 v6 v7 v8 s0 s1 v8 M
def B_X1_reach_10 (k10 : Nat → Nat → Int → Int → Int → Int → Int → Mem → Option (Int × Mem)) (v0 : Nat) (v1 : Nat) (v2 : Int) (v3 : Int) (v4 : Int) (v5 : Int) (v6 : Int) (M : Mem) : Option (Int × Mem) :=
  if w32 (d_X11_cells v1 M) ≤ w32 v6 then
    bR (m_r M 133 v0 0) fun q24 => 
    if ¬ w32 (m_i M 1101 v1 0) = 0 then 
    bN (d_X4_go q24 (d32 v3 (m_i M 1101 v1 0)) (4 + (r32 v3 (m_i M 1101 v1 0))) v5 M) fun r28 M29 => 
    some (r28, M29) else none
  else
    if w32 (a32 (s32 v2 v6) 1) = 0 then
      k10 v0 v1 v2 v3 v4 v5 (v6 + 1) M
    else
      if w32 v6 = w32 v3 then
        k10 v0 v1 v2 v3 v4 v5 (v6 + 1) M
      else
        if ¬ w32 (m_i M 1101 v1 0) = 0 then 
        bR (m_r M 133 v0 0) fun q35 => 
        if w32 v4 = 0 then
          B_X1_reach_73 k10 v0 v1 v2 v3 v4 v5 v6 (d32 v6 (m_i M 1101 v1 0)) (4 + (r32 v6 (m_i M 1101 v1 0))) q35 (4 + (r32 v6 (m_i M 1101 v1 0))) M
        else
          B_X1_reach_73 k10 v0 v1 v2 v3 v4 v5 v6 (d32 v6 (m_i M 1101 v1 0)) (4 + (r32 v6 (m_i M 1101 v1 0))) q35 (d32 v6 (m_i M 1101 v1 0)) M else none
def L_X1_reach_10  : Nat → Nat → Nat → Int → Int → Int → Int → Int → Mem → Option (Int × Mem)
  | 0, _, _, _, _, _, _, _, _ => none
  | n + 1, v0, v1, v2, v3, v4, v5, v6, M => B_X1_reach_10 (L_X1_reach_10  n) v0 v1 v2 v3 v4 v5 v6 M
def d_X1_reach (v0 : Nat) (v1 : Nat) (v2 : Int) (v3 : Int) (v4 : Int) (v5 : Int) (M : Mem) : Option (Int × Mem) :=
  bR (m_r M 133 v0 0) fun q13 => 
  bN (d_X4_clear q13 M) fun r16 M17 => 
  L_X1_reach_10 FU v0 v1 v2 v3 v4 v5 0 M17
theorem cB_X1_reach_111 {X : x_Ctx} {M0 : Mem} (C : x_CC X 3 84 yX1_reach cX1_reach 9 (some .int) []) {k10 : Nat → Nat → Int → Int → Int → Int → Int → Mem → Option (Int × Mem)} (hk10 : ∀ (v0 : Nat) (v1 : Nat) (v2 : Int) (v3 : Int) (v4 : Int) (v5 : Int) (v6 : Int) (M : Mem) (r : Int) (M' : Mem), m_kd M v0 = 1 → m_kd M v1 = 11 → k10 v0 v1 v2 v3 v4 v5 v6 M = some (r, M') → x_Z X 0 0 (x_QF X M0 (.returned (some (vI r))) M' 0 0) M0 M 9 [(0, .ref v0), (1, .ref v1), (2, vI v2), (3, vI v3), (4, vI v4), (5, vI v5), (6, vI v6)] 10 []) (v0 : Nat) (v1 : Nat) (v2 : Int) (v3 : Int) (v4 : Int) (v5 : Int) (v6 : Int) (v7 : Int) (v8 : Int) (s0 : Nat) (s1 : Int) (M : Mem) (r : Int) (M' : Mem) (hv0 : m_kd M v0 = 1) (hv1 : m_kd M v1 = 11) (hs0 : m_kd M s0 = 4) (h : B_X1_reach_111 k10 v0 v1 v2 v3 v4 v5 v6 v7 v8 s0 s1 M = some (r, M'))  : x_Z X 0 0 (x_QF X M0 (.returned (some (vI r))) M' 0 0) M0 M 9 [(0, .ref v0), (1, .ref v1), (2, vI v2), (3, vI v3), (4, vI v4), (5, vI v5), (6, vI v6), (7, vI v7), (8, vI v8)] 111 [vI s1, .ref s0] := by
  unfold B_X1_reach_111 at h
  refine z_iload (pc := 111) C 4 rfl dX1_reach_111 ?_
  refine z_if_eq (pc := 113) C dX1_reach_113 (tgt := 121) (by decide) (fun c51 => ?_) (fun c51 => ?_)
  · have h := itt c51 h
    refine z_iload (pc := 121) C 8 rfl dX1_reach_121 ?_
    refine z_ldcw (pc := 123) C (x := 536870911) q1375 (by decide +kernel) dX1_reach_123 ?_
    obtain ⟨r52, M53, e54, h⟩ := bNs h
    refine cX1_523 (pc := 126) (st := []) (st1 := []) C rfl (rm := { frames := 1, cells := 0, slots := 0, locals := 24 }) (ct_X4_let C.2.1 s0 s1 v8 536870911 M _ _ hs0 e54) ⟨by decide, by decide, Nat.zero_le _, Nat.zero_le _⟩ (Or.inl hs0) rfl (Nat.le_of_ble_eq_true rfl) dX1_reach_126 (c2 := 0) (s2 := 0) rfl rfl (fun x55 => ?_)
    have k56 := x55 _ 1 (by decide) (Or.inl (by decide)) hv0
    have k57 := x55 _ 11 (by decide) (Or.inl (by decide)) hv1
    refine z_iinc (pc := 129) C (lv' := [(0, .ref v0), (1, .ref v1), (2, vI v2), (3, vI v3), (4, vI v4), (5, vI v5), (6, vI (v6 + 1)), (7, vI v7), (8, vI v8)]) 6 rfl (by decide) rfl dX1_reach_129 ?_
    refine z_goto (pc := 132) C dX1_reach_132 (tgt := 10) (by decide) ?_
    exact z_lv [0, 1, 2, 3, 4, 5, 6] rfl <| hk10 v0 v1 v2 v3 v4 v5 (v6 + 1) M53 _ _ k56 k57 h
  · have h := itf c51 h
    refine z_iload (pc := 116) C 7 rfl dX1_reach_116 ?_
    refine z_goto (pc := 118) C dX1_reach_118 (tgt := 123) (by decide) ?_
    refine z_ldcw (pc := 123) C (x := 536870911) q1375 (by decide +kernel) dX1_reach_123 ?_
    obtain ⟨r58, M59, e60, h⟩ := bNs h
    refine cX1_523 (pc := 126) (st := []) (st1 := []) C rfl (rm := { frames := 1, cells := 0, slots := 0, locals := 24 }) (ct_X4_let C.2.1 s0 s1 v7 536870911 M _ _ hs0 e60) ⟨by decide, by decide, Nat.zero_le _, Nat.zero_le _⟩ (Or.inl hs0) rfl (Nat.le_of_ble_eq_true rfl) dX1_reach_126 (c2 := 0) (s2 := 0) rfl rfl (fun x61 => ?_)
    have k62 := x61 _ 1 (by decide) (Or.inl (by decide)) hv0
    have k63 := x61 _ 11 (by decide) (Or.inl (by decide)) hv1
    refine z_iinc (pc := 129) C (lv' := [(0, .ref v0), (1, .ref v1), (2, vI v2), (3, vI v3), (4, vI v4), (5, vI v5), (6, vI (v6 + 1)), (7, vI v7), (8, vI v8)]) 6 rfl (by decide) rfl dX1_reach_129 ?_
    refine z_goto (pc := 132) C dX1_reach_132 (tgt := 10) (by decide) ?_
    exact z_lv [0, 1, 2, 3, 4, 5, 6] rfl <| hk10 v0 v1 v2 v3 v4 v5 (v6 + 1) M59 _ _ k62 k63 h
theorem cB_X1_reach_85 {X : x_Ctx} {M0 : Mem} (C : x_CC X 3 84 yX1_reach cX1_reach 9 (some .int) []) {k10 : Nat → Nat → Int → Int → Int → Int → Int → Mem → Option (Int × Mem)} (hk10 : ∀ (v0 : Nat) (v1 : Nat) (v2 : Int) (v3 : Int) (v4 : Int) (v5 : Int) (v6 : Int) (M : Mem) (r : Int) (M' : Mem), m_kd M v0 = 1 → m_kd M v1 = 11 → k10 v0 v1 v2 v3 v4 v5 v6 M = some (r, M') → x_Z X 0 0 (x_QF X M0 (.returned (some (vI r))) M' 0 0) M0 M 9 [(0, .ref v0), (1, .ref v1), (2, vI v2), (3, vI v3), (4, vI v4), (5, vI v5), (6, vI v6)] 10 []) (v0 : Nat) (v1 : Nat) (v2 : Int) (v3 : Int) (v4 : Int) (v5 : Int) (v6 : Int) (v7 : Int) (v8 : Int) (s0 : Nat) (s1 : Int) (s2 : Int) (M : Mem) (r : Int) (M' : Mem) (hv0 : m_kd M v0 = 1) (hv1 : m_kd M v1 = 11) (hs0 : m_kd M s0 = 4) (h : B_X1_reach_85 k10 v0 v1 v2 v3 v4 v5 v6 v7 v8 s0 s1 s2 M = some (r, M'))  : x_Z X 0 0 (x_QF X M0 (.returned (some (vI r))) M' 0 0) M0 M 9 [(0, .ref v0), (1, .ref v1), (2, vI v2), (3, vI v3), (4, vI v4), (5, vI v5), (6, vI v6), (7, vI v7), (8, vI v8)] 85 [vI s2, vI s1, .ref s0] := by
  unfold B_X1_reach_85 at h
  refine z_aload_n (pc := 85) C 1 rfl dX1_reach_85 ?_
  refine gX1_1102 (pc := 86) C rfl hv1 dX1_reach_86 ?_
  refine z_iload (pc := 89) C 6 rfl dX1_reach_89 ?_
  obtain ⟨c40, h⟩ := ifn h
  refine z_iaO (pc := 91) (k := 11) (j := 2) C 1102 rfl (by decide) (by decide) (by decide) rfl rfl rfl rfl hv1 c40 rfl dX1_reach_91 ?_
  obtain ⟨r41, M42, e43, h⟩ := bNs h
  refine cX1_523 (pc := 92) (st := []) (st1 := []) C rfl (rm := { frames := 1, cells := 0, slots := 0, locals := 24 }) (ct_X4_let C.2.1 s0 s1 s2 (m_i M 1102 v1 (ixn v6)) M _ _ hs0 e43) ⟨by decide, by decide, Nat.zero_le _, Nat.zero_le _⟩ (Or.inl hs0) rfl (Nat.le_of_ble_eq_true rfl) dX1_reach_92 (c2 := 0) (s2 := 0) rfl rfl (fun x44 => ?_)
  have k45 := x44 _ 1 (by decide) (Or.inl (by decide)) hv0
  have k46 := x44 _ 11 (by decide) (Or.inl (by decide)) hv1
  refine z_aload_n (pc := 95) C 0 rfl dX1_reach_95 ?_
  obtain ⟨q47, e48, h⟩ := bRs h
  refine gX1_133 (pc := 96) C rfl (Or.inl k45) e48 dX1_reach_96 (fun k49 => ?_)
  refine z_iload (pc := 99) C 4 rfl dX1_reach_99 ?_
  refine z_if_eq (pc := 101) C dX1_reach_101 (tgt := 109) (by decide) (fun c50 => ?_) (fun c50 => ?_)
  · have h := itt c50 h
    refine z_iload (pc := 109) C 7 rfl dX1_reach_109 ?_
    exact cB_X1_reach_111 C hk10 v0 v1 v2 v3 v4 v5 v6 v7 v8 q47 v7 M42 _ _ k45 k46 k49 h
  · have h := itf c50 h
    refine z_iload (pc := 104) C 8 rfl dX1_reach_104 ?_
    refine z_goto (pc := 106) C dX1_reach_106 (tgt := 111) (by decide) ?_
    exact cB_X1_reach_111 C hk10 v0 v1 v2 v3 v4 v5 v6 v7 v8 q47 v8 M42 _ _ k45 k46 k49 h
theorem cB_X1_reach_73 {X : x_Ctx} {M0 : Mem} (C : x_CC X 3 84 yX1_reach cX1_reach 9 (some .int) []) {k10 : Nat → Nat → Int → Int → Int → Int → Int → Mem → Option (Int × Mem)} (hk10 : ∀ (v0 : Nat) (v1 : Nat) (v2 : Int) (v3 : Int) (v4 : Int) (v5 : Int) (v6 : Int) (M : Mem) (r : Int) (M' : Mem), m_kd M v0 = 1 → m_kd M v1 = 11 → k10 v0 v1 v2 v3 v4 v5 v6 M = some (r, M') → x_Z X 0 0 (x_QF X M0 (.returned (some (vI r))) M' 0 0) M0 M 9 [(0, .ref v0), (1, .ref v1), (2, vI v2), (3, vI v3), (4, vI v4), (5, vI v5), (6, vI v6)] 10 []) (v0 : Nat) (v1 : Nat) (v2 : Int) (v3 : Int) (v4 : Int) (v5 : Int) (v6 : Int) (v7 : Int) (v8 : Int) (s0 : Nat) (s1 : Int) (M : Mem) (r : Int) (M' : Mem) (hv0 : m_kd M v0 = 1) (hv1 : m_kd M v1 = 11) (hs0 : m_kd M s0 = 4) (h : B_X1_reach_73 k10 v0 v1 v2 v3 v4 v5 v6 v7 v8 s0 s1 M = some (r, M'))  : x_Z X 0 0 (x_QF X M0 (.returned (some (vI r))) M' 0 0) M0 M 9 [(0, .ref v0), (1, .ref v1), (2, vI v2), (3, vI v3), (4, vI v4), (5, vI v5), (6, vI v6), (7, vI v7), (8, vI v8)] 73 [vI s1, .ref s0] := by
  unfold B_X1_reach_73 at h
  refine z_iload (pc := 73) C 4 rfl dX1_reach_73 ?_
  refine z_if_eq (pc := 75) C dX1_reach_75 (tgt := 83) (by decide) (fun c39 => ?_) (fun c39 => ?_)
  · have h := itt c39 h
    refine z_iload (pc := 83) C 7 rfl dX1_reach_83 ?_
    exact cB_X1_reach_85 C hk10 v0 v1 v2 v3 v4 v5 v6 v7 v8 s0 s1 v7 M _ _ hv0 hv1 hs0 h
  · have h := itf c39 h
    refine z_iload (pc := 78) C 8 rfl dX1_reach_78 ?_
    refine z_goto (pc := 80) C dX1_reach_80 (tgt := 85) (by decide) ?_
    exact cB_X1_reach_85 C hk10 v0 v1 v2 v3 v4 v5 v6 v7 v8 s0 s1 v8 M _ _ hv0 hv1 hs0 h
theorem cB_X1_reach_10 {X : x_Ctx} {M0 : Mem} (C : x_CC X 3 84 yX1_reach cX1_reach 9 (some .int) []) {k10 : Nat → Nat → Int → Int → Int → Int → Int → Mem → Option (Int × Mem)} (hk10 : ∀ (v0 : Nat) (v1 : Nat) (v2 : Int) (v3 : Int) (v4 : Int) (v5 : Int) (v6 : Int) (M : Mem) (r : Int) (M' : Mem), m_kd M v0 = 1 → m_kd M v1 = 11 → k10 v0 v1 v2 v3 v4 v5 v6 M = some (r, M') → x_Z X 0 0 (x_QF X M0 (.returned (some (vI r))) M' 0 0) M0 M 9 [(0, .ref v0), (1, .ref v1), (2, vI v2), (3, vI v3), (4, vI v4), (5, vI v5), (6, vI v6)] 10 []) (v0 : Nat) (v1 : Nat) (v2 : Int) (v3 : Int) (v4 : Int) (v5 : Int) (v6 : Int) (M : Mem) (r : Int) (M' : Mem) (hv0 : m_kd M v0 = 1) (hv1 : m_kd M v1 = 11) (h : B_X1_reach_10 k10 v0 v1 v2 v3 v4 v5 v6 M = some (r, M'))  : x_Z X 0 0 (x_QF X M0 (.returned (some (vI r))) M' 0 0) M0 M 9 [(0, .ref v0), (1, .ref v1), (2, vI v2), (3, vI v3), (4, vI v4), (5, vI v5), (6, vI v6)] 10 [] := by
  unfold B_X1_reach_10 at h
  refine z_iload (pc := 10) C 6 rfl dX1_reach_10 ?_
  refine z_aload_n (pc := 12) C 1 rfl dX1_reach_12 ?_
  refine cX1_503 (pc := 13) (st := [vI v6]) (st1 := [vI (d_X11_cells v1 M), vI v6]) C rfl (rm := { frames := 1, cells := 0, slots := 0, locals := 24 }) (ct_X11_cells C.2.1 v1 M _ hv1 rfl) ⟨by decide, by decide, Nat.zero_le _, Nat.zero_le _⟩ (Or.inl hv1) rfl (Nat.le_of_ble_eq_true rfl) dX1_reach_13 (c2 := 0) (s2 := 0) rfl rfl (fun _ => ?_)
  refine z_ic_ge (pc := 16) C dX1_reach_16 (tgt := 135) (by decide) (fun c23 => ?_) (fun c23 => ?_)
  · have h := itt c23 h
    refine z_aload_n (pc := 135) C 0 rfl dX1_reach_135 ?_
    obtain ⟨q24, e25, h⟩ := bRs h
    refine gX1_133 (pc := 136) C rfl (Or.inl hv0) e25 dX1_reach_136 (fun k26 => ?_)
    refine z_iload_n (pc := 139) C 3 rfl dX1_reach_139 ?_
    refine z_aload_n (pc := 140) C 1 rfl dX1_reach_140 ?_
    refine gX1_1101 (pc := 141) C rfl (Or.inl hv1) rfl dX1_reach_141 ?_
    obtain ⟨c27, h⟩ := ifn h
    refine z_idiv (pc := 144) C c27 dX1_reach_144 ?_
    refine z_iconst (pc := 145) C dX1_reach_145 ?_
    refine z_iload_n (pc := 146) C 3 rfl dX1_reach_146 ?_
    refine z_aload_n (pc := 147) C 1 rfl dX1_reach_147 ?_
    refine gX1_1101 (pc := 148) C rfl (Or.inl hv1) rfl dX1_reach_148 ?_
    refine z_irem (pc := 151) C c27 dX1_reach_151 ?_
    refine z_iadd (pc := 152) C dX1_reach_152 ?_
    refine z_iload (pc := 153) C 5 rfl dX1_reach_153 ?_
    obtain ⟨r28, M29, e30, h⟩ := bNs h
    refine cX1_527 (pc := 155) (st := []) (st1 := [vI r28]) C rfl (rm := { frames := 2, cells := 0, slots := 0, locals := 54 }) (ct_X4_go C.2.1 q24 (d32 v3 (m_i M 1101 v1 0)) (4 + (r32 v3 (m_i M 1101 v1 0))) v5 M _ _ k26 e30) ⟨by decide, by decide, Nat.zero_le _, Nat.zero_le _⟩ (Or.inl k26) rfl (Nat.le_of_ble_eq_true rfl) dX1_reach_155 (c2 := 0) (s2 := 0) rfl rfl (fun x31 => ?_)
    cases h
    exact z_iret (pc := 158) C rfl (show 0 ≤ 0 from by decide) (show 0 ≤ 0 from by decide) dX1_reach_158
  · have h := itf c23 h
    refine z_iload_n (pc := 19) C 2 rfl dX1_reach_19 ?_
    refine z_iload (pc := 20) C 6 rfl dX1_reach_20 ?_
    refine z_ishr (pc := 22) C dX1_reach_22 ?_
    refine z_iconst (pc := 23) C dX1_reach_23 ?_
    refine z_iand (pc := 24) C dX1_reach_24 ?_
    refine z_if_eq (pc := 25) C dX1_reach_25 (tgt := 129) (by decide) (fun c32 => ?_) (fun c32 => ?_)
    · have h := itt c32 h
      refine z_iinc (pc := 129) C (lv' := [(0, .ref v0), (1, .ref v1), (2, vI v2), (3, vI v3), (4, vI v4), (5, vI v5), (6, vI (v6 + 1))]) 6 rfl (by decide) rfl dX1_reach_129 ?_
      refine z_goto (pc := 132) C dX1_reach_132 (tgt := 10) (by decide) ?_
      exact hk10 v0 v1 v2 v3 v4 v5 (v6 + 1) M _ _ hv0 hv1 h
    · have h := itf c32 h
      refine z_iload (pc := 28) C 6 rfl dX1_reach_28 ?_
      refine z_iload_n (pc := 30) C 3 rfl dX1_reach_30 ?_
      refine z_ic_ne (pc := 31) C dX1_reach_31 (tgt := 37) (by decide) (fun c33 => ?_) (fun c33 => ?_)
      · have h := itf c33 h
        refine z_iload (pc := 37) C 6 rfl dX1_reach_37 ?_
        refine z_aload_n (pc := 39) C 1 rfl dX1_reach_39 ?_
        refine gX1_1101 (pc := 40) C rfl (Or.inl hv1) rfl dX1_reach_40 ?_
        obtain ⟨c34, h⟩ := ifn h
        refine z_idiv (pc := 43) C c34 dX1_reach_43 ?_
        refine z_istore (pc := 44) C (lv' := [(0, .ref v0), (1, .ref v1), (2, vI v2), (3, vI v3), (4, vI v4), (5, vI v5), (6, vI v6), (7, vI (d32 v6 (m_i M 1101 v1 0)))]) (by decide) rfl dX1_reach_44 ?_
        refine z_iconst (pc := 46) C dX1_reach_46 ?_
        refine z_iload (pc := 47) C 6 rfl dX1_reach_47 ?_
        refine z_aload_n (pc := 49) C 1 rfl dX1_reach_49 ?_
        refine gX1_1101 (pc := 50) C rfl (Or.inl hv1) rfl dX1_reach_50 ?_
        refine z_irem (pc := 53) C c34 dX1_reach_53 ?_
        refine z_iadd (pc := 54) C dX1_reach_54 ?_
        refine z_istore (pc := 55) C (lv' := [(0, .ref v0), (1, .ref v1), (2, vI v2), (3, vI v3), (4, vI v4), (5, vI v5), (6, vI v6), (7, vI (d32 v6 (m_i M 1101 v1 0))), (8, vI (4 + (r32 v6 (m_i M 1101 v1 0))))]) (by decide) rfl dX1_reach_55 ?_
        refine z_aload_n (pc := 57) C 0 rfl dX1_reach_57 ?_
        obtain ⟨q35, e36, h⟩ := bRs h
        refine gX1_133 (pc := 58) C rfl (Or.inl hv0) e36 dX1_reach_58 (fun k37 => ?_)
        refine z_iload (pc := 61) C 4 rfl dX1_reach_61 ?_
        refine z_if_eq (pc := 63) C dX1_reach_63 (tgt := 71) (by decide) (fun c38 => ?_) (fun c38 => ?_)
        · have h := itt c38 h
          refine z_iload (pc := 71) C 8 rfl dX1_reach_71 ?_
          exact cB_X1_reach_73 C hk10 v0 v1 v2 v3 v4 v5 v6 (d32 v6 (m_i M 1101 v1 0)) (4 + (r32 v6 (m_i M 1101 v1 0))) q35 (4 + (r32 v6 (m_i M 1101 v1 0))) M _ _ hv0 hv1 k37 h
        · have h := itf c38 h
          refine z_iload (pc := 66) C 7 rfl dX1_reach_66 ?_
          refine z_goto (pc := 68) C dX1_reach_68 (tgt := 73) (by decide) ?_
          exact cB_X1_reach_73 C hk10 v0 v1 v2 v3 v4 v5 v6 (d32 v6 (m_i M 1101 v1 0)) (4 + (r32 v6 (m_i M 1101 v1 0))) q35 (d32 v6 (m_i M 1101 v1 0)) M _ _ hv0 hv1 k37 h
      · have h := itt c33 h
        refine z_goto (pc := 34) C dX1_reach_34 (tgt := 129) (by decide) ?_
        refine z_iinc (pc := 129) C (lv' := [(0, .ref v0), (1, .ref v1), (2, vI v2), (3, vI v3), (4, vI v4), (5, vI v5), (6, vI (v6 + 1))]) 6 rfl (by decide) rfl dX1_reach_129 ?_
        refine z_goto (pc := 132) C dX1_reach_132 (tgt := 10) (by decide) ?_
        exact hk10 v0 v1 v2 v3 v4 v5 (v6 + 1) M _ _ hv0 hv1 h
theorem cL_X1_reach_10 {X : x_Ctx} {M0 : Mem} (C : x_CC X 3 84 yX1_reach cX1_reach 9 (some .int) [])  : ∀ (n : Nat) (v0 : Nat) (v1 : Nat) (v2 : Int) (v3 : Int) (v4 : Int) (v5 : Int) (v6 : Int) (M : Mem) (r : Int) (M' : Mem) (hv0 : m_kd M v0 = 1) (hv1 : m_kd M v1 = 11) (h : L_X1_reach_10  n v0 v1 v2 v3 v4 v5 v6 M = some (r, M')) , x_Z X 0 0 (x_QF X M0 (.returned (some (vI r))) M' 0 0) M0 M 9 [(0, .ref v0), (1, .ref v1), (2, vI v2), (3, vI v3), (4, vI v4), (5, vI v5), (6, vI v6)] 10 [] := by
  intro n
  induction n with
  | zero => intro v0 v1 v2 v3 v4 v5 v6 M r M' hv0 hv1 h ; cases h
  | succ n ih => intro v0 v1 v2 v3 v4 v5 v6 M r M' hv0 hv1 h ; exact cB_X1_reach_10 C (fun v0 v1 v2 v3 v4 v5 v6 M r M' hv0 hv1 h  => ih v0 v1 v2 v3 v4 v5 v6 M r M' hv0 hv1 h ) v0 v1 v2 v3 v4 v5 v6 M r M' hv0 hv1 h 
theorem ct_X1_reach {l : Launch} {S0 : State} {D : va_G} {cA : Nat → ClassId} (hG : x_G l S0 D cA) (v0 : Nat) (v1 : Nat) (v2 : Int) (v3 : Int) (v4 : Int) (v5 : Int) (M : Mem) (r : Int) (M' : Mem) (hv0 : m_kd M v0 = 1) (hv1 : m_kd M v1 = 11) (h : d_X1_reach v0 v1 v2 v3 v4 v5 M = some (r, M')) : x_Me l S0 D cA yX1_reach cX1_reach 9 (some .int) [] ({ frames := 3, cells := 0, slots := 0, locals := 84 }) [.ref v0, .ref v1, vI v2, vI v3, vI v4, vI v5] M (.returned (some (vI r))) M' := by
  refine x_begin (F := 3) (Lo := 84) (mc := 0) (ms := 0) hG (Nat.le_of_ble_eq_true rfl) (lv := [(0, .ref v0), (1, .ref v1), (2, vI v2), (3, vI v3), (4, vI v4), (5, vI v5)]) rfl rfl rfl rfl rfl (fun X e1 e2 e3 e4 e5 C => ?_)
  unfold d_X1_reach at h
  refine z_aload_n (pc := 0) C 0 rfl dX1_reach_0 ?_
  obtain ⟨q13, e14, h⟩ := bRs h
  refine gX1_133 (pc := 1) C rfl (Or.inl hv0) e14 dX1_reach_1 (fun k15 => ?_)
  obtain ⟨r16, M17, e18, h⟩ := bNs h
  refine cX1_520 (pc := 4) (st := []) (st1 := []) C rfl (rm := { frames := 1, cells := 0, slots := 0, locals := 24 }) (ct_X4_clear C.2.1 q13 M _ _ k15 e18) ⟨by decide, by decide, Nat.zero_le _, Nat.zero_le _⟩ (Or.inl k15) rfl (Nat.le_of_ble_eq_true rfl) dX1_reach_4 (c2 := 0) (s2 := 0) rfl rfl (fun x19 => ?_)
  have k20 := x19 _ 1 (by decide) (Or.inl (by decide)) hv0
  have k21 := x19 _ 11 (by decide) (Or.inl (by decide)) hv1
  refine z_iconst (pc := 7) C dX1_reach_7 ?_
  refine z_istore (pc := 8) C (lv' := [(0, .ref v0), (1, .ref v1), (2, vI v2), (3, vI v3), (4, vI v4), (5, vI v5), (6, vI 0)]) (by decide) rfl dX1_reach_8 ?_
  exact cL_X1_reach_10 C FU v0 v1 v2 v3 v4 v5 0 M17 _ _ k20 k21 h
def B_X1_isGood_3 (k3 : Nat → Nat → Int → Int → Int → Mem → Option (Int × Mem)) (v0 : Nat) (v1 : Nat) (v2 : Int) (v3 : Int) (v4 : Int) (M : Mem) : Option (Int × Mem) :=
  if w32 (d_X11_cells v1 M) ≤ w32 v4 then
    some (1, M)
  else
    if w32 (a32 (s32 (m_i M 1106 v1 0) v4) 1) = 0 then
      k3 v0 v1 v2 v3 (v4 + 1) M
    else
      bN (d_X1_reach v0 v1 v2 v4 1 v3 M) fun r4 M5 => 
      if w32 v3 ≤ w32 r4 then
        if inb v4 12 then 
        bN (d_X1_reach v0 v1 v2 v4 0 (nm32 v3 (m_i M5 1102 v1 (ixn v4))) M5) fun r12 M13 => 
        if w32 (nm32 v3 (m_i M5 1102 v1 (ixn v4))) ≤ w32 r12 then
          k3 v0 v1 v2 v3 (v4 + 1) M13
        else
          some (0, M13) else none
      else
        some (0, M5)
def L_X1_isGood_3  : Nat → Nat → Nat → Int → Int → Int → Mem → Option (Int × Mem)
  | 0, _, _, _, _, _, _ => none
  | n + 1, v0, v1, v2, v3, v4, M => B_X1_isGood_3 (L_X1_isGood_3  n) v0 v1 v2 v3 v4 M
def d_X1_isGood (v0 : Nat) (v1 : Nat) (v2 : Int) (v3 : Int) (M : Mem) : Option (Int × Mem) :=
  L_X1_isGood_3 FU v0 v1 v2 v3 0 M
theorem cB_X1_isGood_3 {X : x_Ctx} {M0 : Mem} (C : x_CC X 4 116 yX1_isGood cX1_isGood 6 (some .boolean) []) {k3 : Nat → Nat → Int → Int → Int → Mem → Option (Int × Mem)} (hk3 : ∀ (v0 : Nat) (v1 : Nat) (v2 : Int) (v3 : Int) (v4 : Int) (M : Mem) (r : Int) (M' : Mem), m_kd M v0 = 1 → m_kd M v1 = 11 → k3 v0 v1 v2 v3 v4 M = some (r, M') → x_Z X 0 0 (x_QF X M0 (.returned (some (vI r))) M' 0 0) M0 M 6 [(0, .ref v0), (1, .ref v1), (2, vI v2), (3, vI v3), (4, vI v4)] 3 []) (v0 : Nat) (v1 : Nat) (v2 : Int) (v3 : Int) (v4 : Int) (M : Mem) (r : Int) (M' : Mem) (hv0 : m_kd M v0 = 1) (hv1 : m_kd M v1 = 11) (h : B_X1_isGood_3 k3 v0 v1 v2 v3 v4 M = some (r, M'))  : x_Z X 0 0 (x_QF X M0 (.returned (some (vI r))) M' 0 0) M0 M 6 [(0, .ref v0), (1, .ref v1), (2, vI v2), (3, vI v3), (4, vI v4)] 3 [] := by
  unfold B_X1_isGood_3 at h
  refine z_iload (pc := 3) C 4 rfl dX1_isGood_3 ?_
  refine z_aload_n (pc := 5) C 1 rfl dX1_isGood_5 ?_
  refine cX1_503 (pc := 6) (st := [vI v4]) (st1 := [vI (d_X11_cells v1 M), vI v4]) C rfl (rm := { frames := 1, cells := 0, slots := 0, locals := 24 }) (ct_X11_cells C.2.1 v1 M _ hv1 rfl) ⟨by decide, by decide, Nat.zero_le _, Nat.zero_le _⟩ (Or.inl hv1) rfl (Nat.le_of_ble_eq_true rfl) dX1_isGood_6 (c2 := 0) (s2 := 0) rfl rfl (fun _ => ?_)
  refine z_ic_ge (pc := 9) C dX1_isGood_9 (tgt := 80) (by decide) (fun c2 => ?_) (fun c2 => ?_)
  · have h := itt c2 h
    refine z_iconst (pc := 80) C dX1_isGood_80 ?_
    cases h
    exact z_zret (pc := 81) C rfl (Or.inr rfl) (show 0 ≤ 0 from by decide) (show 0 ≤ 0 from by decide) dX1_isGood_81
  · have h := itf c2 h
    refine z_aload_n (pc := 12) C 1 rfl dX1_isGood_12 ?_
    refine gX1_1106 (pc := 13) C rfl (Or.inl hv1) rfl dX1_isGood_13 ?_
    refine z_iload (pc := 16) C 4 rfl dX1_isGood_16 ?_
    refine z_ishr (pc := 18) C dX1_isGood_18 ?_
    refine z_iconst (pc := 19) C dX1_isGood_19 ?_
    refine z_iand (pc := 20) C dX1_isGood_20 ?_
    refine z_if_ne (pc := 21) C dX1_isGood_21 (tgt := 27) (by decide) (fun c3 => ?_) (fun c3 => ?_)
    · have h := itf c3 h
      refine z_aload_n (pc := 27) C 0 rfl dX1_isGood_27 ?_
      refine z_aload_n (pc := 28) C 1 rfl dX1_isGood_28 ?_
      refine z_iload_n (pc := 29) C 2 rfl dX1_isGood_29 ?_
      refine z_iload (pc := 30) C 4 rfl dX1_isGood_30 ?_
      refine z_iconst (pc := 32) C dX1_isGood_32 ?_
      refine z_iload_n (pc := 33) C 3 rfl dX1_isGood_33 ?_
      obtain ⟨r4, M5, e6, h⟩ := bNs h
      refine cX1_531 (pc := 34) (st := []) (st1 := [vI r4]) C rfl (rm := { frames := 3, cells := 0, slots := 0, locals := 84 }) (ct_X1_reach C.2.1 v0 v1 v2 v4 1 v3 M _ _ hv0 hv1 e6) ⟨by decide, by decide, Nat.zero_le _, Nat.zero_le _⟩ (Or.inl hv0) rfl (Nat.le_of_ble_eq_true rfl) dX1_isGood_34 (c2 := 0) (s2 := 0) rfl rfl (fun x7 => ?_)
      have k8 := x7 _ 1 (by decide) (Or.inl (by decide)) hv0
      have k9 := x7 _ 11 (by decide) (Or.inl (by decide)) hv1
      refine z_iload_n (pc := 37) C 3 rfl dX1_isGood_37 ?_
      refine z_ic_ge (pc := 38) C dX1_isGood_38 (tgt := 43) (by decide) (fun c10 => ?_) (fun c10 => ?_)
      · have h := itt c10 h
        refine z_iload_n (pc := 43) C 3 rfl dX1_isGood_43 ?_
        refine z_aload_n (pc := 44) C 1 rfl dX1_isGood_44 ?_
        refine gX1_1102 (pc := 45) C rfl k9 dX1_isGood_45 ?_
        refine z_iload (pc := 48) C 4 rfl dX1_isGood_48 ?_
        obtain ⟨c11, h⟩ := ifn h
        refine z_iaO (pc := 50) (k := 11) (j := 2) C 1102 rfl (by decide) (by decide) (by decide) rfl rfl rfl rfl k9 c11 rfl dX1_isGood_50 ?_
        refine z_min (pc := 51) C q1387 q1385 q128 q1386 (by decide) (by decide) (Nat.zero_le _) (Nat.zero_le _) (Nat.le_of_ble_eq_true rfl) dX1_isGood_51 ?_
        refine z_istore (pc := 54) C (lv' := [(0, .ref v0), (1, .ref v1), (2, vI v2), (3, vI v3), (4, vI v4), (5, vI (nm32 v3 (m_i M5 1102 v1 (ixn v4))))]) (by decide) rfl dX1_isGood_54 ?_
        refine z_aload_n (pc := 56) C 0 rfl dX1_isGood_56 ?_
        refine z_aload_n (pc := 57) C 1 rfl dX1_isGood_57 ?_
        refine z_iload_n (pc := 58) C 2 rfl dX1_isGood_58 ?_
        refine z_iload (pc := 59) C 4 rfl dX1_isGood_59 ?_
        refine z_iconst (pc := 61) C dX1_isGood_61 ?_
        refine z_iload (pc := 62) C 5 rfl dX1_isGood_62 ?_
        obtain ⟨r12, M13, e14, h⟩ := bNs h
        refine cX1_531 (pc := 64) (st := []) (st1 := [vI r12]) C rfl (rm := { frames := 3, cells := 0, slots := 0, locals := 84 }) (ct_X1_reach C.2.1 v0 v1 v2 v4 0 (nm32 v3 (m_i M5 1102 v1 (ixn v4))) M5 _ _ k8 k9 e14) ⟨by decide, by decide, Nat.zero_le _, Nat.zero_le _⟩ (Or.inl k8) rfl (Nat.le_of_ble_eq_true rfl) dX1_isGood_64 (c2 := 0) (s2 := 0) rfl rfl (fun x15 => ?_)
        have k16 := x15 _ 1 (by decide) (Or.inl (by decide)) k8
        have k17 := x15 _ 11 (by decide) (Or.inl (by decide)) k9
        refine z_iload (pc := 67) C 5 rfl dX1_isGood_67 ?_
        refine z_ic_ge (pc := 69) C dX1_isGood_69 (tgt := 74) (by decide) (fun c18 => ?_) (fun c18 => ?_)
        · have h := itt c18 h
          refine z_iinc (pc := 74) C (lv' := [(0, .ref v0), (1, .ref v1), (2, vI v2), (3, vI v3), (4, vI (v4 + 1)), (5, vI (nm32 v3 (m_i M5 1102 v1 (ixn v4))))]) 4 rfl (by decide) rfl dX1_isGood_74 ?_
          refine z_goto (pc := 77) C dX1_isGood_77 (tgt := 3) (by decide) ?_
          exact z_lv [0, 1, 2, 3, 4] rfl <| hk3 v0 v1 v2 v3 (v4 + 1) M13 _ _ k16 k17 h
        · have h := itf c18 h
          refine z_iconst (pc := 72) C dX1_isGood_72 ?_
          cases h
          exact z_zret (pc := 73) C rfl (Or.inl rfl) (show 0 ≤ 0 from by decide) (show 0 ≤ 0 from by decide) dX1_isGood_73
      · have h := itf c10 h
        refine z_iconst (pc := 41) C dX1_isGood_41 ?_
        cases h
        exact z_zret (pc := 42) C rfl (Or.inl rfl) (show 0 ≤ 0 from by decide) (show 0 ≤ 0 from by decide) dX1_isGood_42
    · have h := itt c3 h
      refine z_goto (pc := 24) C dX1_isGood_24 (tgt := 74) (by decide) ?_
      refine z_iinc (pc := 74) C (lv' := [(0, .ref v0), (1, .ref v1), (2, vI v2), (3, vI v3), (4, vI (v4 + 1))]) 4 rfl (by decide) rfl dX1_isGood_74 ?_
      refine z_goto (pc := 77) C dX1_isGood_77 (tgt := 3) (by decide) ?_
      exact hk3 v0 v1 v2 v3 (v4 + 1) M _ _ hv0 hv1 h
theorem cL_X1_isGood_3 {X : x_Ctx} {M0 : Mem} (C : x_CC X 4 116 yX1_isGood cX1_isGood 6 (some .boolean) [])  : ∀ (n : Nat) (v0 : Nat) (v1 : Nat) (v2 : Int) (v3 : Int) (v4 : Int) (M : Mem) (r : Int) (M' : Mem) (hv0 : m_kd M v0 = 1) (hv1 : m_kd M v1 = 11) (h : L_X1_isGood_3  n v0 v1 v2 v3 v4 M = some (r, M')) , x_Z X 0 0 (x_QF X M0 (.returned (some (vI r))) M' 0 0) M0 M 6 [(0, .ref v0), (1, .ref v1), (2, vI v2), (3, vI v3), (4, vI v4)] 3 [] := by
  intro n
  induction n with
  | zero => intro v0 v1 v2 v3 v4 M r M' hv0 hv1 h ; cases h
  | succ n ih => intro v0 v1 v2 v3 v4 M r M' hv0 hv1 h ; exact cB_X1_isGood_3 C (fun v0 v1 v2 v3 v4 M r M' hv0 hv1 h  => ih v0 v1 v2 v3 v4 M r M' hv0 hv1 h ) v0 v1 v2 v3 v4 M r M' hv0 hv1 h 
theorem ct_X1_isGood {l : Launch} {S0 : State} {D : va_G} {cA : Nat → ClassId} (hG : x_G l S0 D cA) (v0 : Nat) (v1 : Nat) (v2 : Int) (v3 : Int) (M : Mem) (r : Int) (M' : Mem) (hv0 : m_kd M v0 = 1) (hv1 : m_kd M v1 = 11) (h : d_X1_isGood v0 v1 v2 v3 M = some (r, M')) : x_Me l S0 D cA yX1_isGood cX1_isGood 6 (some .boolean) [] ({ frames := 4, cells := 0, slots := 0, locals := 116 }) [.ref v0, .ref v1, vI v2, vI v3] M (.returned (some (vI r))) M' := by
  refine x_begin (F := 4) (Lo := 116) (mc := 0) (ms := 0) hG (Nat.le_of_ble_eq_true rfl) (lv := [(0, .ref v0), (1, .ref v1), (2, vI v2), (3, vI v3)]) rfl rfl rfl rfl rfl (fun X e1 e2 e3 e4 e5 C => ?_)
  unfold d_X1_isGood at h
  refine z_iconst (pc := 0) C dX1_isGood_0 ?_
  refine z_istore (pc := 1) C (lv' := [(0, .ref v0), (1, .ref v1), (2, vI v2), (3, vI v3), (4, vI 0)]) (by decide) rfl dX1_isGood_1 ?_
  exact cL_X1_isGood_3 C FU v0 v1 v2 v3 0 M _ _ hv0 hv1 h
def B_X1_choose_126 (rec : Nat → Nat → Int → Int → Int → Int → Mem → Option (Int × Mem))  (v0 : Nat) (v1 : Nat) (v2 : Int) (v3 : Int) (v4 : Int) (v5 : Int) (M : Mem) : Option (Int × Mem) :=
  bN (rec v0 v1 v2 (v3 + 1) v4 v5 M) fun r21 M22 => 
  some (0, M22)
def b_X1_choose (rec : Nat → Nat → Int → Int → Int → Int → Mem → Option (Int × Mem))  (v0 : Nat) (v1 : Nat) (v2 : Int) (v3 : Int) (v4 : Int) (v5 : Int) (M : Mem) : Option (Int × Mem) :=
  if w32 v4 ≤ w32 (m_i M 136 v0 0) then
    bN (d_X1_isGood v0 v1 v2 v5 M) fun r2 M3 => 
    if w32 r2 = 0 then
      if w32 v3 = w32 (d_X11_cells v1 M3) then
        some (0, M3)
      else
        bN (d_X1_isGood v0 v1 (o32 v2 ((l32 1 (d_X11_cells v1 M3)) - (l32 1 (nm32 v3 (d_X11_cells v1 M3))))) v5 M3) fun r13 M14 => 
        if w32 r13 = 0 then
          some (0, M14)
        else
          if w32 (a32 (s32 v2 v3) 1) = 0 then
            if inb v3 12 then 
            bN (rec v0 v1 (o32 v2 (l32 1 v3)) (v3 + 1) ((v4 + (m_i M14 1102 v1 (ixn v3))) + 1) v5 M14) fun r26 M27 => 
            B_X1_choose_126 rec v0 v1 v2 v3 v4 v5 M27 else none
          else
            B_X1_choose_126 rec v0 v1 v2 v3 v4 v5 M14
    else
      if w32 v4 < w32 (m_i M3 136 v0 0) then
        some (0, (m_si (m_si M3 136 v0 0 v4) 137 v0 0 v2))
      else
        if w32 (m_i M3 137 v0 0) ≤ w32 v2 then
          some (0, M3)
        else
          some (0, (m_si (m_si M3 136 v0 0 v4) 137 v0 0 v2))
  else
    some (0, M)
def d_X1_choose : Nat → Nat → Nat → Int → Int → Int → Int → Mem → Option (Int × Mem)
  | 0, _, _, _, _, _, _, _ => none
  | n + 1, v0, v1, v2, v3, v4, v5, M => b_X1_choose (d_X1_choose n) v0 v1 v2 v3 v4 v5 M
theorem cB_X1_choose_126 {X : x_Ctx} {M0 : Mem} {dn : Nat} (C : x_CC X (5 + (dn + 1)) (145 + 30 * (dn + 1)) yX1_choose cX1_choose 7 none []) {rec : Nat → Nat → Int → Int → Int → Int → Mem → Option (Int × Mem)} (hrec : ∀ (a0 : Nat) (a1 : Nat) (a2 : Int) (a3 : Int) (a4 : Int) (a5 : Int) (M : Mem) (r : Int) (M' : Mem), m_kd M a0 = 1 → m_kd M a1 = 11 → rec a0 a1 a2 a3 a4 a5 M = some (r, M') → x_Me (Xl X) (XS X) (XD X) (XA X) yX1_choose cX1_choose 7 none [] { frames := 5 + dn, cells := 0, slots := 0, locals := 145 + 30 * dn } [.ref a0, .ref a1, vI a2, vI a3, vI a4, vI a5] M (.returned none) M')  (v0 : Nat) (v1 : Nat) (v2 : Int) (v3 : Int) (v4 : Int) (v5 : Int) (M : Mem) (r : Int) (M' : Mem) (hv0 : m_kd M v0 = 1) (hv1 : m_kd M v1 = 11) (h : B_X1_choose_126 rec  v0 v1 v2 v3 v4 v5 M = some (r, M'))  : x_Z X 0 0 (x_QF X M0 (.returned none) M' 0 0) M0 M 7 [(0, .ref v0), (1, .ref v1), (2, vI v2), (3, vI v3), (4, vI v4), (5, vI v5)] 126 [] := by
  unfold B_X1_choose_126 at h
  refine z_aload_n (pc := 126) C 0 rfl dX1_choose_126 ?_
  refine z_aload_n (pc := 127) C 1 rfl dX1_choose_127 ?_
  refine z_iload_n (pc := 128) C 2 rfl dX1_choose_128 ?_
  refine z_iload_n (pc := 129) C 3 rfl dX1_choose_129 ?_
  refine z_iconst (pc := 130) C dX1_choose_130 ?_
  refine z_iadd (pc := 131) C dX1_choose_131 ?_
  refine z_iload (pc := 132) C 4 rfl dX1_choose_132 ?_
  refine z_iload (pc := 134) C 5 rfl dX1_choose_134 ?_
  obtain ⟨r21, M22, e23, h⟩ := bNs h
  refine cX1_547 (pc := 136) (st := []) (st1 := []) C rfl (rm := { frames := 5 + dn, cells := 0, slots := 0, locals := 145 + 30 * dn }) (hrec v0 v1 v2 (v3 + 1) v4 v5 M _ _ hv0 hv1 e23) ⟨show 5 + dn + 1 ≤ (5 + (dn + 1)) from by omega, show 12 + (7 + 11) + (145 + 30 * dn) ≤ (145 + 30 * (dn + 1)) from by omega, Nat.zero_le _, Nat.zero_le _⟩ (Or.inl hv0) rfl (Nat.le_of_ble_eq_true rfl) dX1_choose_136 (c2 := 0) (s2 := 0) rfl rfl (fun x24 => ?_)
  cases h
  exact z_vret (pc := 139) C rfl (show 0 ≤ 0 from by decide) (show 0 ≤ 0 from by decide) dX1_choose_139
theorem ct_X1_choose (n : Nat) : ∀ {l : Launch} {S0 : State} {D : va_G} {cA : Nat → ClassId} (hG : x_G l S0 D cA) (v0 : Nat) (v1 : Nat) (v2 : Int) (v3 : Int) (v4 : Int) (v5 : Int) (M : Mem) (r : Int) (M' : Mem) (hv0 : m_kd M v0 = 1) (hv1 : m_kd M v1 = 11) (h : d_X1_choose n v0 v1 v2 v3 v4 v5 M = some (r, M')), x_Me l S0 D cA yX1_choose cX1_choose 7 none [] ({ frames := 5 + n, cells := 0, slots := 0, locals := 145 + 30 * n }) [.ref v0, .ref v1, vI v2, vI v3, vI v4, vI v5] M (.returned none) M' := by
  induction n with
  | zero => intro l S0 D cA hG v0 v1 v2 v3 v4 v5 M r M' hv0 hv1 h; cases h
  | succ dn ih =>
  intro l S0 D cA hG v0 v1 v2 v3 v4 v5 M r M' hv0 hv1 h
  refine x_begin (F := (5 + (dn + 1))) (Lo := (145 + 30 * (dn + 1))) (mc := 0) (ms := 0) hG (Nat.le_of_ble_eq_true rfl) (lv := [(0, .ref v0), (1, .ref v1), (2, vI v2), (3, vI v3), (4, vI v4), (5, vI v5)]) rfl rfl rfl rfl rfl (fun X e1 e2 e3 e4 e5 C => ?_)
  have hrec := fun v0 v1 v2 v3 v4 v5 M r M' hv0 hv1 h => ih C.2.1 v0 v1 v2 v3 v4 v5 M r M' hv0 hv1 h
  unfold d_X1_choose b_X1_choose at h
  refine z_iload (pc := 0) C 4 rfl dX1_choose_0 ?_
  refine z_aload_n (pc := 2) C 0 rfl dX1_choose_2 ?_
  refine gX1_136 (pc := 3) C rfl (Or.inl hv0) rfl dX1_choose_3 ?_
  refine z_ic_le (pc := 6) C dX1_choose_6 (tgt := 10) (by decide) (fun c1 => ?_) (fun c1 => ?_)
  · have h := itt c1 h
    refine z_aload_n (pc := 10) C 0 rfl dX1_choose_10 ?_
    refine z_aload_n (pc := 11) C 1 rfl dX1_choose_11 ?_
    refine z_iload_n (pc := 12) C 2 rfl dX1_choose_12 ?_
    refine z_iload (pc := 13) C 5 rfl dX1_choose_13 ?_
    obtain ⟨r2, M3, e4, h⟩ := bNs h
    refine cX1_542 (pc := 15) (st := []) (st1 := [vI r2]) C rfl (rm := { frames := 4, cells := 0, slots := 0, locals := 116 }) (ct_X1_isGood C.2.1 v0 v1 v2 v5 M _ _ hv0 hv1 e4) ⟨show 4 + 1 ≤ (5 + (dn + 1)) from by omega, show 12 + (6 + 11) + 116 ≤ (145 + 30 * (dn + 1)) from by omega, Nat.zero_le _, Nat.zero_le _⟩ (Or.inl hv0) rfl (Nat.le_of_ble_eq_true rfl) dX1_choose_15 (c2 := 0) (s2 := 0) rfl rfl (fun x5 => ?_)
    have k6 := x5 _ 1 (by decide) (Or.inl (by decide)) hv0
    have k7 := x5 _ 11 (by decide) (Or.inl (by decide)) hv1
    refine z_if_eq (pc := 18) C dX1_choose_18 (tgt := 50) (by decide) (fun c8 => ?_) (fun c8 => ?_)
    · have h := itt c8 h
      refine z_iconst (pc := 50) C dX1_choose_50 ?_
      refine z_aload_n (pc := 51) C 1 rfl dX1_choose_51 ?_
      refine cX1_503 (pc := 52) (st := [vI 1]) (st1 := [vI (d_X11_cells v1 M3), vI 1]) C rfl (rm := { frames := 1, cells := 0, slots := 0, locals := 24 }) (ct_X11_cells C.2.1 v1 M3 _ k7 rfl) ⟨show 1 + 1 ≤ (5 + (dn + 1)) from by omega, show 12 + (1 + 11) + 24 ≤ (145 + 30 * (dn + 1)) from by omega, Nat.zero_le _, Nat.zero_le _⟩ (Or.inl k7) rfl (Nat.le_of_ble_eq_true rfl) dX1_choose_52 (c2 := 0) (s2 := 0) rfl rfl (fun _ => ?_)
      refine z_ishl (pc := 55) C dX1_choose_55 ?_
      refine z_iconst (pc := 56) C dX1_choose_56 ?_
      refine z_iload_n (pc := 57) C 3 rfl dX1_choose_57 ?_
      refine z_aload_n (pc := 58) C 1 rfl dX1_choose_58 ?_
      refine cX1_503 (pc := 59) (st := [vI v3, vI 1, vI (l32 1 (d_X11_cells v1 M3))]) (st1 := [vI (d_X11_cells v1 M3), vI v3, vI 1, vI (l32 1 (d_X11_cells v1 M3))]) C rfl (rm := { frames := 1, cells := 0, slots := 0, locals := 24 }) (ct_X11_cells C.2.1 v1 M3 _ k7 rfl) ⟨show 1 + 1 ≤ (5 + (dn + 1)) from by omega, show 12 + (1 + 11) + 24 ≤ (145 + 30 * (dn + 1)) from by omega, Nat.zero_le _, Nat.zero_le _⟩ (Or.inl k7) rfl (Nat.le_of_ble_eq_true rfl) dX1_choose_59 (c2 := 0) (s2 := 0) rfl rfl (fun _ => ?_)
      refine z_min (pc := 62) C q1387 q1385 q128 q1386 (by omega) (by omega) (Nat.zero_le _) (Nat.zero_le _) (Nat.le_of_ble_eq_true rfl) dX1_choose_62 ?_
      refine z_ishl (pc := 65) C dX1_choose_65 ?_
      refine z_isub (pc := 66) C dX1_choose_66 ?_
      refine z_istore (pc := 67) C (lv' := [(0, .ref v0), (1, .ref v1), (2, vI v2), (3, vI v3), (4, vI v4), (5, vI v5), (6, vI ((l32 1 (d_X11_cells v1 M3)) - (l32 1 (nm32 v3 (d_X11_cells v1 M3)))))]) (by decide) rfl dX1_choose_67 ?_
      refine z_iload_n (pc := 69) C 3 rfl dX1_choose_69 ?_
      refine z_aload_n (pc := 70) C 1 rfl dX1_choose_70 ?_
      refine cX1_503 (pc := 71) (st := [vI v3]) (st1 := [vI (d_X11_cells v1 M3), vI v3]) C rfl (rm := { frames := 1, cells := 0, slots := 0, locals := 24 }) (ct_X11_cells C.2.1 v1 M3 _ k7 rfl) ⟨show 1 + 1 ≤ (5 + (dn + 1)) from by omega, show 12 + (1 + 11) + 24 ≤ (145 + 30 * (dn + 1)) from by omega, Nat.zero_le _, Nat.zero_le _⟩ (Or.inl k7) rfl (Nat.le_of_ble_eq_true rfl) dX1_choose_71 (c2 := 0) (s2 := 0) rfl rfl (fun _ => ?_)
      refine z_ic_eq (pc := 74) C dX1_choose_74 (tgt := 91) (by decide) (fun c12 => ?_) (fun c12 => ?_)
      · have h := itt c12 h
        cases h
        exact z_vret (pc := 91) C rfl (show 0 ≤ 0 from by decide) (show 0 ≤ 0 from by decide) dX1_choose_91
      · have h := itf c12 h
        refine z_aload_n (pc := 77) C 0 rfl dX1_choose_77 ?_
        refine z_aload_n (pc := 78) C 1 rfl dX1_choose_78 ?_
        refine z_iload_n (pc := 79) C 2 rfl dX1_choose_79 ?_
        refine z_iload (pc := 80) C 6 rfl dX1_choose_80 ?_
        refine z_ior (pc := 82) C dX1_choose_82 ?_
        refine z_iload (pc := 83) C 5 rfl dX1_choose_83 ?_
        obtain ⟨r13, M14, e15, h⟩ := bNs h
        refine cX1_542 (pc := 85) (st := []) (st1 := [vI r13]) C rfl (rm := { frames := 4, cells := 0, slots := 0, locals := 116 }) (ct_X1_isGood C.2.1 v0 v1 (o32 v2 ((l32 1 (d_X11_cells v1 M3)) - (l32 1 (nm32 v3 (d_X11_cells v1 M3))))) v5 M3 _ _ k6 k7 e15) ⟨show 4 + 1 ≤ (5 + (dn + 1)) from by omega, show 12 + (6 + 11) + 116 ≤ (145 + 30 * (dn + 1)) from by omega, Nat.zero_le _, Nat.zero_le _⟩ (Or.inl k6) rfl (Nat.le_of_ble_eq_true rfl) dX1_choose_85 (c2 := 0) (s2 := 0) rfl rfl (fun x16 => ?_)
        have k17 := x16 _ 1 (by decide) (Or.inl (by decide)) k6
        have k18 := x16 _ 11 (by decide) (Or.inl (by decide)) k7
        refine z_if_ne (pc := 88) C dX1_choose_88 (tgt := 92) (by decide) (fun c19 => ?_) (fun c19 => ?_)
        · have h := itf c19 h
          refine z_iload_n (pc := 92) C 2 rfl dX1_choose_92 ?_
          refine z_iload_n (pc := 93) C 3 rfl dX1_choose_93 ?_
          refine z_ishr (pc := 94) C dX1_choose_94 ?_
          refine z_iconst (pc := 95) C dX1_choose_95 ?_
          refine z_iand (pc := 96) C dX1_choose_96 ?_
          refine z_if_ne (pc := 97) C dX1_choose_97 (tgt := 126) (by decide) (fun c20 => ?_) (fun c20 => ?_)
          · have h := itf c20 h
            exact z_lv [0, 1, 2, 3, 4, 5] rfl <| cB_X1_choose_126 C hrec v0 v1 v2 v3 v4 v5 M14 _ _ k17 k18 h
          · have h := itt c20 h
            refine z_aload_n (pc := 100) C 0 rfl dX1_choose_100 ?_
            refine z_aload_n (pc := 101) C 1 rfl dX1_choose_101 ?_
            refine z_iload_n (pc := 102) C 2 rfl dX1_choose_102 ?_
            refine z_iconst (pc := 103) C dX1_choose_103 ?_
            refine z_iload_n (pc := 104) C 3 rfl dX1_choose_104 ?_
            refine z_ishl (pc := 105) C dX1_choose_105 ?_
            refine z_ior (pc := 106) C dX1_choose_106 ?_
            refine z_iload_n (pc := 107) C 3 rfl dX1_choose_107 ?_
            refine z_iconst (pc := 108) C dX1_choose_108 ?_
            refine z_iadd (pc := 109) C dX1_choose_109 ?_
            refine z_iload (pc := 110) C 4 rfl dX1_choose_110 ?_
            refine z_aload_n (pc := 112) C 1 rfl dX1_choose_112 ?_
            refine gX1_1102 (pc := 113) C rfl k18 dX1_choose_113 ?_
            refine z_iload_n (pc := 116) C 3 rfl dX1_choose_116 ?_
            obtain ⟨c25, h⟩ := ifn h
            refine z_iaO (pc := 117) (k := 11) (j := 2) C 1102 rfl (by decide) (by decide) (by decide) rfl rfl rfl rfl k18 c25 rfl dX1_choose_117 ?_
            refine z_iadd (pc := 118) C dX1_choose_118 ?_
            refine z_iconst (pc := 119) C dX1_choose_119 ?_
            refine z_iadd (pc := 120) C dX1_choose_120 ?_
            refine z_iload (pc := 121) C 5 rfl dX1_choose_121 ?_
            obtain ⟨r26, M27, e28, h⟩ := bNs h
            refine cX1_547 (pc := 123) (st := []) (st1 := []) C rfl (rm := { frames := 5 + dn, cells := 0, slots := 0, locals := 145 + 30 * dn }) (hrec v0 v1 (o32 v2 (l32 1 v3)) (v3 + 1) ((v4 + (m_i M14 1102 v1 (ixn v3))) + 1) v5 M14 _ _ k17 k18 e28) ⟨show 5 + dn + 1 ≤ (5 + (dn + 1)) from by omega, show 12 + (7 + 11) + (145 + 30 * dn) ≤ (145 + 30 * (dn + 1)) from by omega, Nat.zero_le _, Nat.zero_le _⟩ (Or.inl k17) rfl (Nat.le_of_ble_eq_true rfl) dX1_choose_123 (c2 := 0) (s2 := 0) rfl rfl (fun x29 => ?_)
            have k30 := x29 _ 1 (by decide) (Or.inl (by decide)) k17
            have k31 := x29 _ 11 (by decide) (Or.inl (by decide)) k18
            exact z_lv [0, 1, 2, 3, 4, 5] rfl <| cB_X1_choose_126 C hrec v0 v1 v2 v3 v4 v5 M27 _ _ k30 k31 h
        · have h := itt c19 h
          cases h
          exact z_vret (pc := 91) C rfl (show 0 ≤ 0 from by decide) (show 0 ≤ 0 from by decide) dX1_choose_91
    · have h := itf c8 h
      refine z_iload (pc := 21) C 4 rfl dX1_choose_21 ?_
      refine z_aload_n (pc := 23) C 0 rfl dX1_choose_23 ?_
      refine gX1_136 (pc := 24) C rfl (Or.inl k6) rfl dX1_choose_24 ?_
      refine z_ic_lt (pc := 27) C dX1_choose_27 (tgt := 38) (by decide) (fun c32 => ?_) (fun c32 => ?_)
      · have h := itt c32 h
        refine z_aload_n (pc := 38) C 0 rfl dX1_choose_38 ?_
        refine z_iload (pc := 39) C 4 rfl dX1_choose_39 ?_
        refine pX1_136 (pc := 41) C rfl (Or.inl k6) dX1_choose_41 ?_
        refine z_aload_n (pc := 44) C 0 rfl dX1_choose_44 ?_
        refine z_iload_n (pc := 45) C 2 rfl dX1_choose_45 ?_
        refine pX1_137 (pc := 46) C rfl (Or.inl k6) dX1_choose_46 ?_
        cases h
        exact z_vret (pc := 49) C rfl (show 0 ≤ 0 from by decide) (show 0 ≤ 0 from by decide) dX1_choose_49
      · have h := itf c32 h
        refine z_iload_n (pc := 30) C 2 rfl dX1_choose_30 ?_
        refine z_aload_n (pc := 31) C 0 rfl dX1_choose_31 ?_
        refine gX1_137 (pc := 32) C rfl (Or.inl k6) rfl dX1_choose_32 ?_
        refine z_ic_ge (pc := 35) C dX1_choose_35 (tgt := 49) (by decide) (fun c33 => ?_) (fun c33 => ?_)
        · have h := itt c33 h
          cases h
          exact z_vret (pc := 49) C rfl (show 0 ≤ 0 from by decide) (show 0 ≤ 0 from by decide) dX1_choose_49
        · have h := itf c33 h
          refine z_aload_n (pc := 38) C 0 rfl dX1_choose_38 ?_
          refine z_iload (pc := 39) C 4 rfl dX1_choose_39 ?_
          refine pX1_136 (pc := 41) C rfl (Or.inl k6) dX1_choose_41 ?_
          refine z_aload_n (pc := 44) C 0 rfl dX1_choose_44 ?_
          refine z_iload_n (pc := 45) C 2 rfl dX1_choose_45 ?_
          refine pX1_137 (pc := 46) C rfl (Or.inl k6) dX1_choose_46 ?_
          cases h
          exact z_vret (pc := 49) C rfl (show 0 ≤ 0 from by decide) (show 0 ≤ 0 from by decide) dX1_choose_49
  · have h := itf c1 h
    cases h
    exact z_vret (pc := 9) C rfl (show 0 ≤ 0 from by decide) (show 0 ≤ 0 from by decide) dX1_choose_9
def B_X1_secrecy_128 (k61 : Nat → Int → Int → Int → Nat → Int → Mem → Option ((Int ⊕ Nat) × Mem)) (v0 : Nat) (v2 : Int) (v3 : Int) (v4 : Int) (v5 : Nat) (v6 : Int) (s0 : Int) (M : Mem) : Option ((Int ⊕ Nat) × Mem) :=
  if w32 s0 = 0 then
    k61 v0 v2 v3 v4 v5 (v6 + 1) M
  else
    k61 v0 v2 v3 v4 v5 (v6 + 1) (m_si M 1106 v5 0 (o32 (m_i M 1106 v5 0) (l32 1 v6)))
def B_X1_secrecy_123 (k61 : Nat → Int → Int → Int → Nat → Int → Mem → Option ((Int ⊕ Nat) × Mem)) (v0 : Nat) (v2 : Int) (v3 : Int) (v4 : Int) (v5 : Nat) (v6 : Int) (M : Mem) : Option ((Int ⊕ Nat) × Mem) :=
  B_X1_secrecy_128 k61 v0 v2 v3 v4 v5 v6 1 M
def B_X1_secrecy_94 (k61 : Nat → Int → Int → Int → Nat → Int → Mem → Option ((Int ⊕ Nat) × Mem)) (v0 : Nat) (v2 : Int) (v3 : Int) (v4 : Int) (v5 : Nat) (v6 : Int) (M : Mem) : Option ((Int ⊕ Nat) × Mem) :=
  if inb v6 12 then 
  if w64 (100 * (w32 (m_i M 1104 v5 (ixn v6)))) ≤ w64 ((w32 v3) * (w32 (m_i M 1102 v5 (ixn v6)))) then
    B_X1_secrecy_128 k61 v0 v2 v3 v4 v5 v6 0 M
  else
    B_X1_secrecy_123 k61 v0 v2 v3 v4 v5 v6 M else none
def B_X1_secrecy_61 (k61 : Nat → Int → Int → Int → Nat → Int → Mem → Option ((Int ⊕ Nat) × Mem)) (v0 : Nat) (v2 : Int) (v3 : Int) (v4 : Int) (v5 : Nat) (v6 : Int) (M : Mem) : Option ((Int ⊕ Nat) × Mem) :=
  if w32 (d_X11_cells v5 M) ≤ w32 v6 then
    bN (d_X1_choose 100 v0 v5 (m_i M 1106 v5 0) 0 0 v4 (m_si (m_si M 136 v0 0 2147483647) 137 v0 0 ((l32 1 (d_X11_cells v5 (m_si M 136 v0 0 2147483647))) - 1))) fun r20 M21 => 
    if w32 (m_i M21 136 v0 0) = w32 2147483647 then
      some (.inl (-1), (m_si M21 1107 v5 0 (m_i M21 137 v0 0)))
    else
      some (.inl (m_i M21 136 v0 0), (m_si M21 1107 v5 0 (m_i M21 137 v0 0)))
  else
    if inb v6 12 then 
    if w32 (m_i M 1103 v5 (ixn v6)) ≤ 0 then
      B_X1_secrecy_94 k61 v0 v2 v3 v4 v5 v6 M
    else
      if w32 (m_i M 1103 v5 (ixn v6)) < w32 v2 then
        B_X1_secrecy_123 k61 v0 v2 v3 v4 v5 v6 M
      else
        B_X1_secrecy_94 k61 v0 v2 v3 v4 v5 v6 M else none
def L_X1_secrecy_61  : Nat → Nat → Int → Int → Int → Nat → Int → Mem → Option ((Int ⊕ Nat) × Mem)
  | 0, _, _, _, _, _, _, _ => none
  | n + 1, v0, v2, v3, v4, v5, v6, M => B_X1_secrecy_61 (L_X1_secrecy_61  n) v0 v2 v3 v4 v5 v6 M
def d_X1_secrecy (v0 : Nat) (v1 : Int) (v2 : Int) (v3 : Int) (v4 : Int) (M : Mem) : Option ((Int ⊕ Nat) × Mem) :=
  bT (d_X1_tableOf v0 v1 M) fun r1 M2 => 
  if m_kd M2 r1 = 11 then 
  if w32 (d_X1_isIn (w32 v2) 0 100) = 0 then
    bT (d_X1_need 0 M2) fun r10 M11 => 
    L_X1_secrecy_61 FU v0 v2 v3 v4 r1 0 (m_si M11 1106 r1 0 0)
  else
    if w32 (d_X1_isIn (w32 v3) 0 100) = 0 then
      bT (d_X1_need 0 M2) fun r35 M36 => 
      L_X1_secrecy_61 FU v0 v2 v3 v4 r1 0 (m_si M36 1106 r1 0 0)
    else
      if w32 (d_X1_isIn (w32 v4) 0 1000000) = 0 then
        bT (d_X1_need 0 M2) fun r44 M45 => 
        L_X1_secrecy_61 FU v0 v2 v3 v4 r1 0 (m_si M45 1106 r1 0 0)
      else
        bT (d_X1_need 1 M2) fun r51 M52 => 
        L_X1_secrecy_61 FU v0 v2 v3 v4 r1 0 (m_si M52 1106 r1 0 0) else none
theorem cB_X1_secrecy_128 {X : x_Ctx} {M0 : Mem} (C : x_CC X 106 3175 yX1_secrecy cX1_secrecy 8 (some .int) []) {k61 : Nat → Int → Int → Int → Nat → Int → Mem → Option ((Int ⊕ Nat) × Mem)} (hk61 : ∀ (v0 : Nat) (v2 : Int) (v3 : Int) (v4 : Int) (v5 : Nat) (v6 : Int) (M : Mem) (r : Int ⊕ Nat) (M' : Mem), m_kd M v0 = 1 → m_kd M v5 = 11 → k61 v0 v2 v3 v4 v5 v6 M = some (r, M') → ocN r 0 1 ≤ (XR X).cells ∧ ocN r 0 6 ≤ (XR X).slots → x_Z X 0 0 (x_QF X M0 (ocI r) M' (ocN r 0 1) (ocN r 0 6)) M0 M 8 [(0, .ref v0), (2, vI v2), (3, vI v3), (4, vI v4), (5, .ref v5), (6, vI v6)] 61 []) (v0 : Nat) (v2 : Int) (v3 : Int) (v4 : Int) (v5 : Nat) (v6 : Int) (s0 : Int) (M : Mem) (r : Int ⊕ Nat) (M' : Mem) (hv0 : m_kd M v0 = 1) (hv5 : m_kd M v5 = 11) (h : B_X1_secrecy_128 k61 v0 v2 v3 v4 v5 v6 s0 M = some (r, M')) (hR : ocN r 0 1 ≤ (XR X).cells ∧ ocN r 0 6 ≤ (XR X).slots) : x_Z X 0 0 (x_QF X M0 (ocI r) M' (ocN r 0 1) (ocN r 0 6)) M0 M 8 [(0, .ref v0), (2, vI v2), (3, vI v3), (4, vI v4), (5, .ref v5), (6, vI v6)] 128 [vI s0] := by
  unfold B_X1_secrecy_128 at h
  refine z_istore (pc := 128) C (lv' := [(0, .ref v0), (2, vI v2), (3, vI v3), (4, vI v4), (5, .ref v5), (6, vI v6), (7, vI s0)]) (by decide) rfl dX1_secrecy_128 ?_
  refine z_iload (pc := 130) C 6 rfl dX1_secrecy_130 ?_
  refine z_if_eq (pc := 132) C dX1_secrecy_132 (tgt := 149) (by decide) (fun c31 => ?_) (fun c31 => ?_)
  · have h := itt c31 h
    refine z_iinc (pc := 149) C (lv' := [(0, .ref v0), (2, vI v2), (3, vI v3), (4, vI v4), (5, .ref v5), (6, vI (v6 + 1)), (7, vI s0)]) 5 rfl (by decide) rfl dX1_secrecy_149 ?_
    refine z_goto (pc := 152) C dX1_secrecy_152 (tgt := 61) (by decide) ?_
    exact z_lv [0, 1, 2, 3, 4, 5] rfl <| hk61 v0 v2 v3 v4 v5 (v6 + 1) M _ _ hv0 hv5 h hR
  · have h := itf c31 h
    refine z_aload (pc := 135) C 4 rfl dX1_secrecy_135 ?_
    refine z_dup (pc := 137) C rfl dX1_secrecy_137 ?_
    refine gX1_1106 (pc := 138) C rfl (Or.inl hv5) rfl dX1_secrecy_138 ?_
    refine z_iconst (pc := 141) C dX1_secrecy_141 ?_
    refine z_iload (pc := 142) C 5 rfl dX1_secrecy_142 ?_
    refine z_ishl (pc := 144) C dX1_secrecy_144 ?_
    refine z_ior (pc := 145) C dX1_secrecy_145 ?_
    refine pX1_1106 (pc := 146) C rfl (Or.inl hv5) dX1_secrecy_146 ?_
    refine z_iinc (pc := 149) C (lv' := [(0, .ref v0), (2, vI v2), (3, vI v3), (4, vI v4), (5, .ref v5), (6, vI (v6 + 1)), (7, vI s0)]) 5 rfl (by decide) rfl dX1_secrecy_149 ?_
    refine z_goto (pc := 152) C dX1_secrecy_152 (tgt := 61) (by decide) ?_
    exact z_lv [0, 1, 2, 3, 4, 5] rfl <| hk61 v0 v2 v3 v4 v5 (v6 + 1) (m_si M 1106 v5 0 (o32 (m_i M 1106 v5 0) (l32 1 v6))) _ _ hv0 hv5 h hR
theorem cB_X1_secrecy_123 {X : x_Ctx} {M0 : Mem} (C : x_CC X 106 3175 yX1_secrecy cX1_secrecy 8 (some .int) []) {k61 : Nat → Int → Int → Int → Nat → Int → Mem → Option ((Int ⊕ Nat) × Mem)} (hk61 : ∀ (v0 : Nat) (v2 : Int) (v3 : Int) (v4 : Int) (v5 : Nat) (v6 : Int) (M : Mem) (r : Int ⊕ Nat) (M' : Mem), m_kd M v0 = 1 → m_kd M v5 = 11 → k61 v0 v2 v3 v4 v5 v6 M = some (r, M') → ocN r 0 1 ≤ (XR X).cells ∧ ocN r 0 6 ≤ (XR X).slots → x_Z X 0 0 (x_QF X M0 (ocI r) M' (ocN r 0 1) (ocN r 0 6)) M0 M 8 [(0, .ref v0), (2, vI v2), (3, vI v3), (4, vI v4), (5, .ref v5), (6, vI v6)] 61 []) (v0 : Nat) (v2 : Int) (v3 : Int) (v4 : Int) (v5 : Nat) (v6 : Int) (M : Mem) (r : Int ⊕ Nat) (M' : Mem) (hv0 : m_kd M v0 = 1) (hv5 : m_kd M v5 = 11) (h : B_X1_secrecy_123 k61 v0 v2 v3 v4 v5 v6 M = some (r, M')) (hR : ocN r 0 1 ≤ (XR X).cells ∧ ocN r 0 6 ≤ (XR X).slots) : x_Z X 0 0 (x_QF X M0 (ocI r) M' (ocN r 0 1) (ocN r 0 6)) M0 M 8 [(0, .ref v0), (2, vI v2), (3, vI v3), (4, vI v4), (5, .ref v5), (6, vI v6)] 123 [] := by
  unfold B_X1_secrecy_123 at h
  refine z_iconst (pc := 123) C dX1_secrecy_123 ?_
  refine z_goto (pc := 124) C dX1_secrecy_124 (tgt := 128) (by decide) ?_
  exact cB_X1_secrecy_128 C hk61 v0 v2 v3 v4 v5 v6 1 M _ _ hv0 hv5 h hR
theorem cB_X1_secrecy_94 {X : x_Ctx} {M0 : Mem} (C : x_CC X 106 3175 yX1_secrecy cX1_secrecy 8 (some .int) []) {k61 : Nat → Int → Int → Int → Nat → Int → Mem → Option ((Int ⊕ Nat) × Mem)} (hk61 : ∀ (v0 : Nat) (v2 : Int) (v3 : Int) (v4 : Int) (v5 : Nat) (v6 : Int) (M : Mem) (r : Int ⊕ Nat) (M' : Mem), m_kd M v0 = 1 → m_kd M v5 = 11 → k61 v0 v2 v3 v4 v5 v6 M = some (r, M') → ocN r 0 1 ≤ (XR X).cells ∧ ocN r 0 6 ≤ (XR X).slots → x_Z X 0 0 (x_QF X M0 (ocI r) M' (ocN r 0 1) (ocN r 0 6)) M0 M 8 [(0, .ref v0), (2, vI v2), (3, vI v3), (4, vI v4), (5, .ref v5), (6, vI v6)] 61 []) (v0 : Nat) (v2 : Int) (v3 : Int) (v4 : Int) (v5 : Nat) (v6 : Int) (M : Mem) (r : Int ⊕ Nat) (M' : Mem) (hv0 : m_kd M v0 = 1) (hv5 : m_kd M v5 = 11) (h : B_X1_secrecy_94 k61 v0 v2 v3 v4 v5 v6 M = some (r, M')) (hR : ocN r 0 1 ≤ (XR X).cells ∧ ocN r 0 6 ≤ (XR X).slots) : x_Z X 0 0 (x_QF X M0 (ocI r) M' (ocN r 0 1) (ocN r 0 6)) M0 M 8 [(0, .ref v0), (2, vI v2), (3, vI v3), (4, vI v4), (5, .ref v5), (6, vI v6)] 94 [] := by
  unfold B_X1_secrecy_94 at h
  refine z_ldc2 (pc := 94) C (x := 100) q1125 (by decide +kernel) dX1_secrecy_94 ?_
  refine z_aload (pc := 97) C 4 rfl dX1_secrecy_97 ?_
  refine gX1_1104 (pc := 99) C rfl hv5 dX1_secrecy_99 ?_
  refine z_iload (pc := 102) C 5 rfl dX1_secrecy_102 ?_
  obtain ⟨c29, h⟩ := ifn h
  refine z_iaO (pc := 104) (k := 11) (j := 4) C 1104 rfl (by decide) (by decide) (by decide) rfl rfl rfl rfl hv5 c29 rfl dX1_secrecy_104 ?_
  refine z_i2l (pc := 105) C dX1_secrecy_105 ?_
  refine z_lmul (pc := 106) C dX1_secrecy_106 ?_
  refine z_iload_n (pc := 107) C 2 rfl dX1_secrecy_107 ?_
  refine z_i2l (pc := 108) C dX1_secrecy_108 ?_
  refine z_aload (pc := 109) C 4 rfl dX1_secrecy_109 ?_
  refine gX1_1102 (pc := 111) C rfl hv5 dX1_secrecy_111 ?_
  refine z_iload (pc := 114) C 5 rfl dX1_secrecy_114 ?_
  refine z_iaO (pc := 116) (k := 11) (j := 2) C 1102 rfl (by decide) (by decide) (by decide) rfl rfl rfl rfl hv5 c29 rfl dX1_secrecy_116 ?_
  refine z_i2l (pc := 117) C dX1_secrecy_117 ?_
  refine z_lmul (pc := 118) C dX1_secrecy_118 ?_
  refine z_lc_le (pc := 119) C dX1_secrecy_119 dX1_secrecy_120 (tgt := 127) (by decide) (fun c30 => ?_) (fun c30 => ?_)
  · have h := itt c30 h
    refine z_iconst (pc := 127) C dX1_secrecy_127 ?_
    exact cB_X1_secrecy_128 C hk61 v0 v2 v3 v4 v5 v6 0 M _ _ hv0 hv5 h hR
  · have h := itf c30 h
    exact cB_X1_secrecy_123 C hk61 v0 v2 v3 v4 v5 v6 M _ _ hv0 hv5 h hR
theorem cB_X1_secrecy_61 {X : x_Ctx} {M0 : Mem} (C : x_CC X 106 3175 yX1_secrecy cX1_secrecy 8 (some .int) []) {k61 : Nat → Int → Int → Int → Nat → Int → Mem → Option ((Int ⊕ Nat) × Mem)} (hk61 : ∀ (v0 : Nat) (v2 : Int) (v3 : Int) (v4 : Int) (v5 : Nat) (v6 : Int) (M : Mem) (r : Int ⊕ Nat) (M' : Mem), m_kd M v0 = 1 → m_kd M v5 = 11 → k61 v0 v2 v3 v4 v5 v6 M = some (r, M') → ocN r 0 1 ≤ (XR X).cells ∧ ocN r 0 6 ≤ (XR X).slots → x_Z X 0 0 (x_QF X M0 (ocI r) M' (ocN r 0 1) (ocN r 0 6)) M0 M 8 [(0, .ref v0), (2, vI v2), (3, vI v3), (4, vI v4), (5, .ref v5), (6, vI v6)] 61 []) (v0 : Nat) (v2 : Int) (v3 : Int) (v4 : Int) (v5 : Nat) (v6 : Int) (M : Mem) (r : Int ⊕ Nat) (M' : Mem) (hv0 : m_kd M v0 = 1) (hv5 : m_kd M v5 = 11) (h : B_X1_secrecy_61 k61 v0 v2 v3 v4 v5 v6 M = some (r, M')) (hR : ocN r 0 1 ≤ (XR X).cells ∧ ocN r 0 6 ≤ (XR X).slots) : x_Z X 0 0 (x_QF X M0 (ocI r) M' (ocN r 0 1) (ocN r 0 6)) M0 M 8 [(0, .ref v0), (2, vI v2), (3, vI v3), (4, vI v4), (5, .ref v5), (6, vI v6)] 61 [] := by
  unfold B_X1_secrecy_61 at h
  refine z_iload (pc := 61) C 5 rfl dX1_secrecy_61 ?_
  refine z_aload (pc := 63) C 4 rfl dX1_secrecy_63 ?_
  refine cX1_503 (pc := 65) (st := [vI v6]) (st1 := [vI (d_X11_cells v5 M), vI v6]) C rfl (rm := { frames := 1, cells := 0, slots := 0, locals := 24 }) (ct_X11_cells C.2.1 v5 M _ hv5 rfl) ⟨by decide, by decide, Nat.zero_le _, Nat.zero_le _⟩ (Or.inl hv5) rfl (Nat.le_of_ble_eq_true rfl) dX1_secrecy_65 (c2 := 0) (s2 := 0) rfl rfl (fun _ => ?_)
  refine z_ic_ge (pc := 68) C dX1_secrecy_68 (tgt := 155) (by decide) (fun c18 => ?_) (fun c18 => ?_)
  · have h := itt c18 h
    refine z_aload_n (pc := 155) C 0 rfl dX1_secrecy_155 ?_
    refine z_ldc (pc := 156) C (x := 2147483647) q645 (by decide +kernel) dX1_secrecy_156 ?_
    refine pX1_136 (pc := 158) C rfl (Or.inl hv0) dX1_secrecy_158 ?_
    refine z_aload_n (pc := 161) C 0 rfl dX1_secrecy_161 ?_
    refine z_iconst (pc := 162) C dX1_secrecy_162 ?_
    refine z_aload (pc := 163) C 4 rfl dX1_secrecy_163 ?_
    refine cX1_503 (pc := 165) (st := [vI 1, .ref v0]) (st1 := [vI (d_X11_cells v5 (m_si M 136 v0 0 2147483647)), vI 1, .ref v0]) C rfl (rm := { frames := 1, cells := 0, slots := 0, locals := 24 }) (ct_X11_cells C.2.1 v5 (m_si M 136 v0 0 2147483647) _ hv5 rfl) ⟨by decide, by decide, Nat.zero_le _, Nat.zero_le _⟩ (Or.inl hv5) rfl (Nat.le_of_ble_eq_true rfl) dX1_secrecy_165 (c2 := 0) (s2 := 0) rfl rfl (fun _ => ?_)
    refine z_ishl (pc := 168) C dX1_secrecy_168 ?_
    refine z_iconst (pc := 169) C dX1_secrecy_169 ?_
    refine z_isub (pc := 170) C dX1_secrecy_170 ?_
    refine pX1_137 (pc := 171) C rfl (Or.inl hv0) dX1_secrecy_171 ?_
    refine z_aload_n (pc := 174) C 0 rfl dX1_secrecy_174 ?_
    refine z_aload (pc := 175) C 4 rfl dX1_secrecy_175 ?_
    refine z_aload (pc := 177) C 4 rfl dX1_secrecy_177 ?_
    refine gX1_1106 (pc := 179) C rfl (Or.inl hv5) (x := m_i M 1106 v5 0) ((m_i_ne (by decide)).trans ((m_i_ne (by decide)).trans rfl)) dX1_secrecy_179 ?_
    refine z_iconst (pc := 182) C dX1_secrecy_182 ?_
    refine z_iconst (pc := 183) C dX1_secrecy_183 ?_
    refine z_iload (pc := 184) C 3 rfl dX1_secrecy_184 ?_
    obtain ⟨r20, M21, e22, h⟩ := bNs h
    refine cX1_547 (pc := 186) (st := []) (st1 := []) C rfl (rm := { frames := 105, cells := 0, slots := 0, locals := 3145 }) (ct_X1_choose 100 C.2.1 v0 v5 (m_i M 1106 v5 0) 0 0 v4 (m_si (m_si M 136 v0 0 2147483647) 137 v0 0 ((l32 1 (d_X11_cells v5 (m_si M 136 v0 0 2147483647))) - 1)) _ _ hv0 hv5 e22) ⟨by decide, by decide, Nat.zero_le _, Nat.zero_le _⟩ (Or.inl hv0) rfl (Nat.le_of_ble_eq_true rfl) dX1_secrecy_186 (c2 := 0) (s2 := 0) rfl rfl (fun x23 => ?_)
    have k24 := x23 _ 1 (by decide) (Or.inl (by decide)) hv0
    have k25 := x23 _ 11 (by decide) (Or.inl (by decide)) hv5
    refine z_aload (pc := 189) C 4 rfl dX1_secrecy_189 ?_
    refine z_aload_n (pc := 191) C 0 rfl dX1_secrecy_191 ?_
    refine gX1_137 (pc := 192) C rfl (Or.inl k24) rfl dX1_secrecy_192 ?_
    refine pX1_1107 (pc := 195) C rfl (Or.inl k25) dX1_secrecy_195 ?_
    refine z_aload_n (pc := 198) C 0 rfl dX1_secrecy_198 ?_
    refine gX1_136 (pc := 199) C rfl (Or.inl k24) (x := m_i M21 136 v0 0) ((m_i_ne (by decide)).trans rfl) dX1_secrecy_199 ?_
    refine z_ldc (pc := 202) C (x := 2147483647) q645 (by decide +kernel) dX1_secrecy_202 ?_
    refine z_ic_ne (pc := 204) C dX1_secrecy_204 (tgt := 211) (by decide) (fun c26 => ?_) (fun c26 => ?_)
    · have h := itf c26 h
      refine z_aload_n (pc := 211) C 0 rfl dX1_secrecy_211 ?_
      refine gX1_136 (pc := 212) C rfl (Or.inl k24) (x := m_i M21 136 v0 0) ((m_i_ne (by decide)).trans rfl) dX1_secrecy_212 ?_
      cases h
      exact z_iret (pc := 215) C rfl (show 0 ≤ 0 from by decide) (show 0 ≤ 0 from by decide) dX1_secrecy_215
    · have h := itt c26 h
      refine z_iconst (pc := 207) C dX1_secrecy_207 ?_
      refine z_goto (pc := 208) C dX1_secrecy_208 (tgt := 215) (by decide) ?_
      cases h
      exact z_iret (pc := 215) C rfl (show 0 ≤ 0 from by decide) (show 0 ≤ 0 from by decide) dX1_secrecy_215
  · have h := itf c18 h
    refine z_aload (pc := 71) C 4 rfl dX1_secrecy_71 ?_
    refine gX1_1103 (pc := 73) C rfl hv5 dX1_secrecy_73 ?_
    refine z_iload (pc := 76) C 5 rfl dX1_secrecy_76 ?_
    obtain ⟨c27, h⟩ := ifn h
    refine z_iaO (pc := 78) (k := 11) (j := 3) C 1103 rfl (by decide) (by decide) (by decide) rfl rfl rfl rfl hv5 c27 rfl dX1_secrecy_78 ?_
    refine z_if_le (pc := 79) C dX1_secrecy_79 (tgt := 94) (by decide) (fun c28 => ?_) (fun c28 => ?_)
    · have h := itt c28 h
      exact cB_X1_secrecy_94 C hk61 v0 v2 v3 v4 v5 v6 M _ _ hv0 hv5 h hR
    · have h := itf c28 h
      refine z_aload (pc := 82) C 4 rfl dX1_secrecy_82 ?_
      refine gX1_1103 (pc := 84) C rfl hv5 dX1_secrecy_84 ?_
      refine z_iload (pc := 87) C 5 rfl dX1_secrecy_87 ?_
      refine z_iaO (pc := 89) (k := 11) (j := 3) C 1103 rfl (by decide) (by decide) (by decide) rfl rfl rfl rfl hv5 c27 rfl dX1_secrecy_89 ?_
      refine z_iload_n (pc := 90) C 1 rfl dX1_secrecy_90 ?_
      refine z_ic_lt (pc := 91) C dX1_secrecy_91 (tgt := 123) (by decide) (fun c32 => ?_) (fun c32 => ?_)
      · have h := itt c32 h
        exact cB_X1_secrecy_123 C hk61 v0 v2 v3 v4 v5 v6 M _ _ hv0 hv5 h hR
      · have h := itf c32 h
        exact cB_X1_secrecy_94 C hk61 v0 v2 v3 v4 v5 v6 M _ _ hv0 hv5 h hR
theorem cL_X1_secrecy_61 {X : x_Ctx} {M0 : Mem} (C : x_CC X 106 3175 yX1_secrecy cX1_secrecy 8 (some .int) [])  : ∀ (n : Nat) (v0 : Nat) (v2 : Int) (v3 : Int) (v4 : Int) (v5 : Nat) (v6 : Int) (M : Mem) (r : Int ⊕ Nat) (M' : Mem) (hv0 : m_kd M v0 = 1) (hv5 : m_kd M v5 = 11) (h : L_X1_secrecy_61  n v0 v2 v3 v4 v5 v6 M = some (r, M')) (hR : ocN r 0 1 ≤ (XR X).cells ∧ ocN r 0 6 ≤ (XR X).slots), x_Z X 0 0 (x_QF X M0 (ocI r) M' (ocN r 0 1) (ocN r 0 6)) M0 M 8 [(0, .ref v0), (2, vI v2), (3, vI v3), (4, vI v4), (5, .ref v5), (6, vI v6)] 61 [] := by
  intro n
  induction n with
  | zero => intro v0 v2 v3 v4 v5 v6 M r M' hv0 hv5 h hR; cases h
  | succ n ih => intro v0 v2 v3 v4 v5 v6 M r M' hv0 hv5 h hR; exact cB_X1_secrecy_61 C (fun v0 v2 v3 v4 v5 v6 M r M' hv0 hv5 h hR => ih v0 v2 v3 v4 v5 v6 M r M' hv0 hv5 h hR) v0 v2 v3 v4 v5 v6 M r M' hv0 hv5 h hR
theorem ct_X1_secrecy {l : Launch} {S0 : State} {D : va_G} {cA : Nat → ClassId} (hG : x_G l S0 D cA) (v0 : Nat) (v1 : Int) (v2 : Int) (v3 : Int) (v4 : Int) (M : Mem) (r : Int ⊕ Nat) (M' : Mem) (hv0 : m_kd M v0 = 1) (h : d_X1_secrecy v0 v1 v2 v3 v4 M = some (r, M')) : x_Me l S0 D cA yX1_secrecy cX1_secrecy 8 (some .int) [] ({ frames := 106, cells := (ocN r 0 1), slots := (ocN r 0 6), locals := 3175 }) [.ref v0, vI v1, vI v2, vI v3, vI v4] M (ocI r) M' := by
  refine x_begin (F := 106) (Lo := 3175) (mc := (ocN r 0 1)) (ms := (ocN r 0 6)) hG (Nat.le_of_ble_eq_true rfl) (lv := [(0, .ref v0), (1, vI v1), (2, vI v2), (3, vI v3), (4, vI v4)]) rfl rfl rfl rfl rfl (fun X e1 e2 e3 e4 e5 C => ?_)
  have hR : _ ∧ _ := ⟨Nat.le_of_eq (congrArg Room.cells e5).symm, Nat.le_of_eq (congrArg Room.slots e5).symm⟩
  unfold d_X1_secrecy at h
  refine z_aload_n (pc := 0) C 0 rfl dX1_secrecy_0 ?_
  refine z_iload_n (pc := 1) C 1 rfl dX1_secrecy_1 ?_
  rcases bTs h with ⟨x5, e3, er⟩ | ⟨r1, M2, e3, h⟩
  · subst er; exact tX1_509 (pc := 2) C rfl (rm := { frames := 7, cells := 1, slots := 6, locals := 114 }) (ct_X1_tableOf C.2.1 v0 v1 M _ _ hv0 e3) ⟨by decide, by decide, Nat.le_trans (show 1 ≤ 1 from by decide) hR.1, Nat.le_trans (show 6 ≤ 6 from by decide) hR.2⟩ (Or.inl hv0) (Nat.le_of_ble_eq_true rfl) dX1_secrecy_2 (by decide) (show 1 ≤ 1 from by decide) (show 6 ≤ 6 from by decide)
  refine cX1_509 (pc := 2) (st := []) (st1 := [.ref r1]) C rfl (rm := { frames := 7, cells := 0, slots := 0, locals := 114 }) (ct_X1_tableOf C.2.1 v0 v1 M _ _ hv0 e3) ⟨by decide, by decide, Nat.zero_le _, Nat.zero_le _⟩ (Or.inl hv0) rfl (Nat.le_of_ble_eq_true rfl) dX1_secrecy_2 (c2 := 0) (s2 := 0) rfl rfl (fun x4 => ?_)
  have k6 := x4 _ 1 (by decide) (Or.inl (by decide)) hv0
  obtain ⟨c7, h⟩ := ifn h
  refine z_astore (pc := 5) C (lv' := [(0, .ref v0), (1, vI v1), (2, vI v2), (3, vI v3), (4, vI v4), (5, .ref r1)]) (by decide) rfl dX1_secrecy_5 ?_
  refine z_iload_n (pc := 7) C 2 rfl dX1_secrecy_7 ?_
  refine z_i2l (pc := 8) C dX1_secrecy_8 ?_
  refine z_lconst (pc := 9) C (x := 0) (by decide +kernel) dX1_secrecy_9 ?_
  refine z_ldc2 (pc := 10) C (x := 100) q1125 (by decide +kernel) dX1_secrecy_10 ?_
  refine cX1_159 (pc := 13) (st := []) (st1 := [vI (d_X1_isIn (w32 v2) 0 100)]) C rfl (rm := { frames := 1, cells := 0, slots := 0, locals := 24 }) (ct_X1_isIn C.2.1 (w32 v2) 0 100 M2 _  rfl) ⟨by decide, by decide, Nat.zero_le _, Nat.zero_le _⟩ rfl (Nat.le_of_ble_eq_true rfl) dX1_secrecy_13 (c2 := 0) (s2 := 0) rfl rfl (fun _ => ?_)
  refine z_if_eq (pc := 16) C dX1_secrecy_16 (tgt := 48) (by decide) (fun c9 => ?_) (fun c9 => ?_)
  · have h := itt c9 h
    refine z_iconst (pc := 48) C dX1_secrecy_48 ?_
    rcases bTs h with ⟨x14, e12, er⟩ | ⟨r10, M11, e12, h⟩
    · subst er; exact tX1_164 (pc := 49) C rfl (rm := { frames := 6, cells := 1, slots := 6, locals := 90 }) (ct_X1_need C.2.1 0 M2 _ _  e12) ⟨by decide, by decide, Nat.le_trans (show 1 ≤ 1 from by decide) hR.1, Nat.le_trans (show 6 ≤ 6 from by decide) hR.2⟩ (Nat.le_of_ble_eq_true rfl) dX1_secrecy_49 (by decide) (show 1 ≤ 1 from by decide) (show 6 ≤ 6 from by decide)
    refine cX1_164 (pc := 49) (st := []) (st1 := []) C rfl (rm := { frames := 6, cells := 0, slots := 0, locals := 90 }) (ct_X1_need C.2.1 0 M2 _ _  e12) ⟨by decide, by decide, Nat.zero_le _, Nat.zero_le _⟩ rfl (Nat.le_of_ble_eq_true rfl) dX1_secrecy_49 (c2 := 0) (s2 := 0) rfl rfl (fun x13 => ?_)
    have k15 := x13 _ 1 (by decide) (Or.inl (by decide)) k6
    have k16 := x13 _ 11 (by decide) (Or.inl (by decide)) c7
    refine z_aload (pc := 52) C 5 rfl dX1_secrecy_52 ?_
    refine z_iconst (pc := 54) C dX1_secrecy_54 ?_
    refine pX1_1106 (pc := 55) C rfl (Or.inl k16) dX1_secrecy_55 ?_
    refine z_iconst (pc := 58) C dX1_secrecy_58 ?_
    refine z_istore (pc := 59) C (lv' := [(0, .ref v0), (1, vI v1), (2, vI v2), (3, vI v3), (4, vI v4), (5, .ref r1), (6, vI 0)]) (by decide) rfl dX1_secrecy_59 ?_
    exact z_lv [0, 2, 3, 4, 5, 6] rfl <| cL_X1_secrecy_61 C FU v0 v2 v3 v4 r1 0 (m_si M11 1106 r1 0 0) _ _ k15 k16 h hR
  · have h := itf c9 h
    refine z_iload_n (pc := 19) C 3 rfl dX1_secrecy_19 ?_
    refine z_i2l (pc := 20) C dX1_secrecy_20 ?_
    refine z_lconst (pc := 21) C (x := 0) (by decide +kernel) dX1_secrecy_21 ?_
    refine z_ldc2 (pc := 22) C (x := 100) q1125 (by decide +kernel) dX1_secrecy_22 ?_
    refine cX1_159 (pc := 25) (st := []) (st1 := [vI (d_X1_isIn (w32 v3) 0 100)]) C rfl (rm := { frames := 1, cells := 0, slots := 0, locals := 24 }) (ct_X1_isIn C.2.1 (w32 v3) 0 100 M2 _  rfl) ⟨by decide, by decide, Nat.zero_le _, Nat.zero_le _⟩ rfl (Nat.le_of_ble_eq_true rfl) dX1_secrecy_25 (c2 := 0) (s2 := 0) rfl rfl (fun _ => ?_)
    refine z_if_eq (pc := 28) C dX1_secrecy_28 (tgt := 48) (by decide) (fun c34 => ?_) (fun c34 => ?_)
    · have h := itt c34 h
      refine z_iconst (pc := 48) C dX1_secrecy_48 ?_
      rcases bTs h with ⟨x39, e37, er⟩ | ⟨r35, M36, e37, h⟩
      · subst er; exact tX1_164 (pc := 49) C rfl (rm := { frames := 6, cells := 1, slots := 6, locals := 90 }) (ct_X1_need C.2.1 0 M2 _ _  e37) ⟨by decide, by decide, Nat.le_trans (show 1 ≤ 1 from by decide) hR.1, Nat.le_trans (show 6 ≤ 6 from by decide) hR.2⟩ (Nat.le_of_ble_eq_true rfl) dX1_secrecy_49 (by decide) (show 1 ≤ 1 from by decide) (show 6 ≤ 6 from by decide)
      refine cX1_164 (pc := 49) (st := []) (st1 := []) C rfl (rm := { frames := 6, cells := 0, slots := 0, locals := 90 }) (ct_X1_need C.2.1 0 M2 _ _  e37) ⟨by decide, by decide, Nat.zero_le _, Nat.zero_le _⟩ rfl (Nat.le_of_ble_eq_true rfl) dX1_secrecy_49 (c2 := 0) (s2 := 0) rfl rfl (fun x38 => ?_)
      have k40 := x38 _ 1 (by decide) (Or.inl (by decide)) k6
      have k41 := x38 _ 11 (by decide) (Or.inl (by decide)) c7
      refine z_aload (pc := 52) C 5 rfl dX1_secrecy_52 ?_
      refine z_iconst (pc := 54) C dX1_secrecy_54 ?_
      refine pX1_1106 (pc := 55) C rfl (Or.inl k41) dX1_secrecy_55 ?_
      refine z_iconst (pc := 58) C dX1_secrecy_58 ?_
      refine z_istore (pc := 59) C (lv' := [(0, .ref v0), (1, vI v1), (2, vI v2), (3, vI v3), (4, vI v4), (5, .ref r1), (6, vI 0)]) (by decide) rfl dX1_secrecy_59 ?_
      exact z_lv [0, 2, 3, 4, 5, 6] rfl <| cL_X1_secrecy_61 C FU v0 v2 v3 v4 r1 0 (m_si M36 1106 r1 0 0) _ _ k40 k41 h hR
    · have h := itf c34 h
      refine z_iload (pc := 31) C 4 rfl dX1_secrecy_31 ?_
      refine z_i2l (pc := 33) C dX1_secrecy_33 ?_
      refine z_lconst (pc := 34) C (x := 0) (by decide +kernel) dX1_secrecy_34 ?_
      refine z_ldc2 (pc := 35) C (x := 1000000) q452 (by decide +kernel) dX1_secrecy_35 ?_
      refine cX1_159 (pc := 38) (st := []) (st1 := [vI (d_X1_isIn (w32 v4) 0 1000000)]) C rfl (rm := { frames := 1, cells := 0, slots := 0, locals := 24 }) (ct_X1_isIn C.2.1 (w32 v4) 0 1000000 M2 _  rfl) ⟨by decide, by decide, Nat.zero_le _, Nat.zero_le _⟩ rfl (Nat.le_of_ble_eq_true rfl) dX1_secrecy_38 (c2 := 0) (s2 := 0) rfl rfl (fun _ => ?_)
      refine z_if_eq (pc := 41) C dX1_secrecy_41 (tgt := 48) (by decide) (fun c43 => ?_) (fun c43 => ?_)
      · have h := itt c43 h
        refine z_iconst (pc := 48) C dX1_secrecy_48 ?_
        rcases bTs h with ⟨x48, e46, er⟩ | ⟨r44, M45, e46, h⟩
        · subst er; exact tX1_164 (pc := 49) C rfl (rm := { frames := 6, cells := 1, slots := 6, locals := 90 }) (ct_X1_need C.2.1 0 M2 _ _  e46) ⟨by decide, by decide, Nat.le_trans (show 1 ≤ 1 from by decide) hR.1, Nat.le_trans (show 6 ≤ 6 from by decide) hR.2⟩ (Nat.le_of_ble_eq_true rfl) dX1_secrecy_49 (by decide) (show 1 ≤ 1 from by decide) (show 6 ≤ 6 from by decide)
        refine cX1_164 (pc := 49) (st := []) (st1 := []) C rfl (rm := { frames := 6, cells := 0, slots := 0, locals := 90 }) (ct_X1_need C.2.1 0 M2 _ _  e46) ⟨by decide, by decide, Nat.zero_le _, Nat.zero_le _⟩ rfl (Nat.le_of_ble_eq_true rfl) dX1_secrecy_49 (c2 := 0) (s2 := 0) rfl rfl (fun x47 => ?_)
        have k49 := x47 _ 1 (by decide) (Or.inl (by decide)) k6
        have k50 := x47 _ 11 (by decide) (Or.inl (by decide)) c7
        refine z_aload (pc := 52) C 5 rfl dX1_secrecy_52 ?_
        refine z_iconst (pc := 54) C dX1_secrecy_54 ?_
        refine pX1_1106 (pc := 55) C rfl (Or.inl k50) dX1_secrecy_55 ?_
        refine z_iconst (pc := 58) C dX1_secrecy_58 ?_
        refine z_istore (pc := 59) C (lv' := [(0, .ref v0), (1, vI v1), (2, vI v2), (3, vI v3), (4, vI v4), (5, .ref r1), (6, vI 0)]) (by decide) rfl dX1_secrecy_59 ?_
        exact z_lv [0, 2, 3, 4, 5, 6] rfl <| cL_X1_secrecy_61 C FU v0 v2 v3 v4 r1 0 (m_si M45 1106 r1 0 0) _ _ k49 k50 h hR
      · have h := itf c43 h
        refine z_iconst (pc := 44) C dX1_secrecy_44 ?_
        refine z_goto (pc := 45) C dX1_secrecy_45 (tgt := 49) (by decide) ?_
        rcases bTs h with ⟨x55, e53, er⟩ | ⟨r51, M52, e53, h⟩
        · subst er; exact tX1_164 (pc := 49) C rfl (rm := { frames := 6, cells := 1, slots := 6, locals := 90 }) (ct_X1_need C.2.1 1 M2 _ _  e53) ⟨by decide, by decide, Nat.le_trans (show 1 ≤ 1 from by decide) hR.1, Nat.le_trans (show 6 ≤ 6 from by decide) hR.2⟩ (Nat.le_of_ble_eq_true rfl) dX1_secrecy_49 (by decide) (show 1 ≤ 1 from by decide) (show 6 ≤ 6 from by decide)
        refine cX1_164 (pc := 49) (st := []) (st1 := []) C rfl (rm := { frames := 6, cells := 0, slots := 0, locals := 90 }) (ct_X1_need C.2.1 1 M2 _ _  e53) ⟨by decide, by decide, Nat.zero_le _, Nat.zero_le _⟩ rfl (Nat.le_of_ble_eq_true rfl) dX1_secrecy_49 (c2 := 0) (s2 := 0) rfl rfl (fun x54 => ?_)
        have k56 := x54 _ 1 (by decide) (Or.inl (by decide)) k6
        have k57 := x54 _ 11 (by decide) (Or.inl (by decide)) c7
        refine z_aload (pc := 52) C 5 rfl dX1_secrecy_52 ?_
        refine z_iconst (pc := 54) C dX1_secrecy_54 ?_
        refine pX1_1106 (pc := 55) C rfl (Or.inl k57) dX1_secrecy_55 ?_
        refine z_iconst (pc := 58) C dX1_secrecy_58 ?_
        refine z_istore (pc := 59) C (lv' := [(0, .ref v0), (1, vI v1), (2, vI v2), (3, vI v3), (4, vI v4), (5, .ref r1), (6, vI 0)]) (by decide) rfl dX1_secrecy_59 ?_
        exact z_lv [0, 2, 3, 4, 5, 6] rfl <| cL_X1_secrecy_61 C FU v0 v2 v3 v4 r1 0 (m_si M52 1106 r1 0 0) _ _ k56 k57 h hR
def d_X0_secrecy (v0 : Nat) (v1 : Int) (v2 : Int) (v3 : Int) (v4 : Int) (v5 : Nat) (M : Mem) : Option (Int × Mem) :=
  bC (d_X1_secrecy v0 v1 v2 v3 v4 M) (fun r1 M3 =>
    some (0, (m_si M3 9000 v5 (ixn 0) (w32 r1)))) (fun q2 M3 =>
    if m_kd M3 q2 = 115 then
      some (1, M3)
    else
      if m_kd M3 q2 = 113 then
        some (2, M3)
      else
        none)
theorem ct_X0_secrecy {l : Launch} {S0 : State} {D : va_G} {cA : Nat → ClassId} (hG : x_G l S0 D cA) (v0 : Nat) (v1 : Int) (v2 : Int) (v3 : Int) (v4 : Int) (v5 : Nat) (M : Mem) (r : Int) (M' : Mem) (hv0 : m_kd M v0 = 1) (hv5 : m_kd M v5 = 19000) (h : d_X0_secrecy v0 v1 v2 v3 v4 v5 M = some (r, M')) : x_Me l S0 D cA yX0_secrecy cX0_secrecy 7 (some .int) [(0, 14, 17, 25), (0, 14, 21, 13)] ({ frames := 107, cells := 1, slots := 6, locals := 3206 }) [.ref v0, vI v1, vI v2, vI v3, vI v4, .ref v5] M (.returned (some (vI r))) M' := by
  refine x_begin (F := 107) (Lo := 3206) (mc := 1) (ms := 6) hG (Nat.le_of_ble_eq_true rfl) (lv := [(0, .ref v0), (1, vI v1), (2, vI v2), (3, vI v3), (4, vI v4), (5, .ref v5)]) rfl rfl rfl rfl rfl (fun X e1 e2 e3 e4 e5 C => ?_)
  have hR : _ ∧ _ := ⟨Nat.le_of_eq (congrArg Room.cells e5).symm, Nat.le_of_eq (congrArg Room.slots e5).symm⟩
  unfold d_X0_secrecy at h
  refine z_aload (pc := 0) C 5 rfl dX0_secrecy_0 ?_
  refine z_iconst (pc := 2) C dX0_secrecy_2 ?_
  refine z_aload_n (pc := 3) C 0 rfl dX0_secrecy_3 ?_
  refine z_iload_n (pc := 4) C 1 rfl dX0_secrecy_4 ?_
  refine z_iload_n (pc := 5) C 2 rfl dX0_secrecy_5 ?_
  refine z_iload_n (pc := 6) C 3 rfl dX0_secrecy_6 ?_
  refine z_iload (pc := 7) C 4 rfl dX0_secrecy_7 ?_
  rcases bCs h with ⟨r1, M3, e4, h⟩ | ⟨q2, M3, e4, h⟩
  · refine cX0_113 (pc := 9) (st := [vI 0, .ref v5]) (st1 := [vI r1, vI 0, .ref v5]) C rfl (rm := { frames := 106, cells := 0, slots := 0, locals := 3175 }) (ct_X1_secrecy C.2.1 v0 v1 v2 v3 v4 M _ _ hv0 e4) ⟨by decide, by decide, Nat.zero_le _, Nat.zero_le _⟩ (Or.inl hv0) rfl (Nat.le_of_ble_eq_true rfl) dX0_secrecy_9 (c2 := 0) (s2 := 0) rfl rfl (fun x5 => ?_)
    have k6 := x5 _ 19000 (by decide) (Or.inr (by decide)) hv5
    refine z_i2l (pc := 12) C dX0_secrecy_12 ?_
    refine z_lsw (pc := 13) C k6 (by decide +kernel) dX0_secrecy_13 ?_
    refine z_goto (pc := 14) C dX0_secrecy_14 (tgt := 25) (by decide) ?_
    refine z_iconst (pc := 25) C dX0_secrecy_25 ?_
    cases h
    exact z_iret (pc := 26) C rfl (show 0 ≤ 1 from by decide) (show 0 ≤ 6 from by decide) dX0_secrecy_26
  · by_cases c7 : m_kd M3 q2 = 115
    · have h := itt c7 h
      refine kX0_113 (pc := 9) (st := [vI 0, .ref v5]) C rfl (rm := { frames := 106, cells := 1, slots := 6, locals := 3175 }) (r := q2) (ct_X1_secrecy C.2.1 v0 v1 v2 v3 v4 M _ _ hv0 e4) ⟨by decide, by decide, Nat.le_trans (show 1 ≤ 1 from by decide) hR.1, Nat.le_trans (show 6 ≤ 6 from by decide) hR.2⟩ (Or.inl hv0) (Nat.le_of_ble_eq_true rfl) dX0_secrecy_9 (e := 15) (hpc := 17) (by decide) (Or.inr c7) (Or.inr ⟨by decide, by decide, 15, by decide, q560, Or.inl ⟨rfl, rfl⟩⟩) (c2 := 1) (s2 := 6) rfl rfl (fun x8 => ?_)
      refine z_astore (pc := 17) C (lv' := [(0, .ref v0), (1, vI v1), (2, vI v2), (3, vI v3), (4, vI v4), (5, .ref v5), (6, .ref q2)]) (by decide) rfl dX0_secrecy_17 ?_
      refine z_iconst (pc := 19) C dX0_secrecy_19 ?_
      cases h
      exact z_iret (pc := 20) C rfl (show 1 ≤ 1 from by decide) (show 6 ≤ 6 from by decide) dX0_secrecy_20
    · have h := itf c7 h
      by_cases c9 : m_kd M3 q2 = 113
      · have h := itt c9 h
        refine kX0_113 (pc := 9) (st := [vI 0, .ref v5]) C rfl (rm := { frames := 106, cells := 1, slots := 6, locals := 3175 }) (r := q2) (ct_X1_secrecy C.2.1 v0 v1 v2 v3 v4 M _ _ hv0 e4) ⟨by decide, by decide, Nat.le_trans (show 1 ≤ 1 from by decide) hR.1, Nat.le_trans (show 6 ≤ 6 from by decide) hR.2⟩ (Or.inl hv0) (Nat.le_of_ble_eq_true rfl) dX0_secrecy_9 (e := 13) (hpc := 21) (by decide) (Or.inr c9) (Or.inr ⟨by decide, by decide, 15, by decide, q560, Or.inr ⟨by decide, Or.inr ⟨by decide, by decide, 13, by decide, q447, Or.inl ⟨rfl, rfl⟩⟩⟩⟩) (c2 := 1) (s2 := 6) rfl rfl (fun x10 => ?_)
        refine z_astore (pc := 21) C (lv' := [(0, .ref v0), (1, vI v1), (2, vI v2), (3, vI v3), (4, vI v4), (5, .ref v5), (6, .ref q2)]) (by decide) rfl dX0_secrecy_21 ?_
        refine z_iconst (pc := 23) C dX0_secrecy_23 ?_
        cases h
        exact z_iret (pc := 24) C rfl (show 1 ≤ 1 from by decide) (show 6 ≤ 6 from by decide) dX0_secrecy_24
      · have h := itf c9 h
        cases h
def d_X1_cellIn (v0 : Nat) (v1 : Int) (v2 : Int) (v3 : Int) (M : Mem) : Option ((Nat ⊕ Nat) × Mem) :=
  bT (d_X1_tableOf v0 v1 M) fun r1 M2 => 
  if m_kd M2 r1 = 11 then 
  if w32 (d_X1_isIn (w32 v2) 0 (w32 ((m_i M2 1100 r1 0) - 1))) = 0 then
    bT (d_X1_inside 0 M2) fun r9 M10 => 
    some (.inl r1, M10)
  else
    if w32 (d_X1_isIn (w32 v3) 0 (w32 ((m_i M2 1101 r1 0) - 1))) = 0 then
      bT (d_X1_inside 0 M2) fun r17 M18 => 
      some (.inl r1, M18)
    else
      bT (d_X1_inside 1 M2) fun r23 M24 => 
      some (.inl r1, M24) else none
theorem ct_X1_cellIn {l : Launch} {S0 : State} {D : va_G} {cA : Nat → ClassId} (hG : x_G l S0 D cA) (v0 : Nat) (v1 : Int) (v2 : Int) (v3 : Int) (M : Mem) (r : Nat ⊕ Nat) (M' : Mem) (hv0 : m_kd M v0 = 1) (h : d_X1_cellIn v0 v1 v2 v3 M = some (r, M')) : x_Me l S0 D cA yX1_cellIn cX1_cellIn 5 (some (.object "CensusOffice$Table")) [] ({ frames := 8, cells := (ocN r 0 1), slots := (ocN r 0 6), locals := 139 }) [.ref v0, vI v1, vI v2, vI v3] M (ocR r) M' := by
  refine x_begin (F := 8) (Lo := 139) (mc := (ocN r 0 1)) (ms := (ocN r 0 6)) hG (Nat.le_of_ble_eq_true rfl) (lv := [(0, .ref v0), (1, vI v1), (2, vI v2), (3, vI v3)]) rfl rfl rfl rfl rfl (fun X e1 e2 e3 e4 e5 C => ?_)
  have hR : _ ∧ _ := ⟨Nat.le_of_eq (congrArg Room.cells e5).symm, Nat.le_of_eq (congrArg Room.slots e5).symm⟩
  unfold d_X1_cellIn at h
  refine z_aload_n (pc := 0) C 0 rfl dX1_cellIn_0 ?_
  refine z_iload_n (pc := 1) C 1 rfl dX1_cellIn_1 ?_
  rcases bTs h with ⟨x5, e3, er⟩ | ⟨r1, M2, e3, h⟩
  · subst er; exact tX1_509 (pc := 2) C rfl (rm := { frames := 7, cells := 1, slots := 6, locals := 114 }) (ct_X1_tableOf C.2.1 v0 v1 M _ _ hv0 e3) ⟨by decide, by decide, Nat.le_trans (show 1 ≤ 1 from by decide) hR.1, Nat.le_trans (show 6 ≤ 6 from by decide) hR.2⟩ (Or.inl hv0) (Nat.le_of_ble_eq_true rfl) dX1_cellIn_2 (by decide) (show 1 ≤ 1 from by decide) (show 6 ≤ 6 from by decide)
  refine cX1_509 (pc := 2) (st := []) (st1 := [.ref r1]) C rfl (rm := { frames := 7, cells := 0, slots := 0, locals := 114 }) (ct_X1_tableOf C.2.1 v0 v1 M _ _ hv0 e3) ⟨by decide, by decide, Nat.zero_le _, Nat.zero_le _⟩ (Or.inl hv0) rfl (Nat.le_of_ble_eq_true rfl) dX1_cellIn_2 (c2 := 0) (s2 := 0) rfl rfl (fun x4 => ?_)
  obtain ⟨c6, h⟩ := ifn h
  refine z_astore (pc := 5) C (lv' := [(0, .ref v0), (1, vI v1), (2, vI v2), (3, vI v3), (4, .ref r1)]) (by decide) rfl dX1_cellIn_5 ?_
  refine z_iload_n (pc := 7) C 2 rfl dX1_cellIn_7 ?_
  refine z_i2l (pc := 8) C dX1_cellIn_8 ?_
  refine z_lconst (pc := 9) C (x := 0) (by decide +kernel) dX1_cellIn_9 ?_
  refine z_aload (pc := 10) C 4 rfl dX1_cellIn_10 ?_
  refine gX1_1100 (pc := 12) C rfl (Or.inl c6) rfl dX1_cellIn_12 ?_
  refine z_iconst (pc := 15) C dX1_cellIn_15 ?_
  refine z_isub (pc := 16) C dX1_cellIn_16 ?_
  refine z_i2l (pc := 17) C dX1_cellIn_17 ?_
  refine cX1_159 (pc := 18) (st := []) (st1 := [vI (d_X1_isIn (w32 v2) 0 (w32 ((m_i M2 1100 r1 0) - 1)))]) C rfl (rm := { frames := 1, cells := 0, slots := 0, locals := 24 }) (ct_X1_isIn C.2.1 (w32 v2) 0 (w32 ((m_i M2 1100 r1 0) - 1)) M2 _  rfl) ⟨by decide, by decide, Nat.zero_le _, Nat.zero_le _⟩ rfl (Nat.le_of_ble_eq_true rfl) dX1_cellIn_18 (c2 := 0) (s2 := 0) rfl rfl (fun _ => ?_)
  refine z_if_eq (pc := 21) C dX1_cellIn_21 (tgt := 45) (by decide) (fun c8 => ?_) (fun c8 => ?_)
  · have h := itt c8 h
    refine z_iconst (pc := 45) C dX1_cellIn_45 ?_
    rcases bTs h with ⟨x13, e11, er⟩ | ⟨r9, M10, e11, h⟩
    · subst er; exact tX1_171 (pc := 46) C rfl (rm := { frames := 6, cells := 1, slots := 6, locals := 90 }) (ct_X1_inside C.2.1 0 M2 _ _  e11) ⟨by decide, by decide, Nat.le_trans (show 1 ≤ 1 from by decide) hR.1, Nat.le_trans (show 6 ≤ 6 from by decide) hR.2⟩ (Nat.le_of_ble_eq_true rfl) dX1_cellIn_46 (by decide) (show 1 ≤ 1 from by decide) (show 6 ≤ 6 from by decide)
    refine cX1_171 (pc := 46) (st := []) (st1 := []) C rfl (rm := { frames := 6, cells := 0, slots := 0, locals := 90 }) (ct_X1_inside C.2.1 0 M2 _ _  e11) ⟨by decide, by decide, Nat.zero_le _, Nat.zero_le _⟩ rfl (Nat.le_of_ble_eq_true rfl) dX1_cellIn_46 (c2 := 0) (s2 := 0) rfl rfl (fun x12 => ?_)
    have k14 := x12 _ 11 (by decide) (Or.inl (by decide)) c6
    refine z_aload (pc := 49) C 4 rfl dX1_cellIn_49 ?_
    cases h
    exact z_aret (pc := 51) C rfl (show 0 ≤ 0 from by decide) (show 0 ≤ 0 from by decide) dX1_cellIn_51
  · have h := itf c8 h
    refine z_iload_n (pc := 24) C 3 rfl dX1_cellIn_24 ?_
    refine z_i2l (pc := 25) C dX1_cellIn_25 ?_
    refine z_lconst (pc := 26) C (x := 0) (by decide +kernel) dX1_cellIn_26 ?_
    refine z_aload (pc := 27) C 4 rfl dX1_cellIn_27 ?_
    refine gX1_1101 (pc := 29) C rfl (Or.inl c6) rfl dX1_cellIn_29 ?_
    refine z_iconst (pc := 32) C dX1_cellIn_32 ?_
    refine z_isub (pc := 33) C dX1_cellIn_33 ?_
    refine z_i2l (pc := 34) C dX1_cellIn_34 ?_
    refine cX1_159 (pc := 35) (st := []) (st1 := [vI (d_X1_isIn (w32 v3) 0 (w32 ((m_i M2 1101 r1 0) - 1)))]) C rfl (rm := { frames := 1, cells := 0, slots := 0, locals := 24 }) (ct_X1_isIn C.2.1 (w32 v3) 0 (w32 ((m_i M2 1101 r1 0) - 1)) M2 _  rfl) ⟨by decide, by decide, Nat.zero_le _, Nat.zero_le _⟩ rfl (Nat.le_of_ble_eq_true rfl) dX1_cellIn_35 (c2 := 0) (s2 := 0) rfl rfl (fun _ => ?_)
    refine z_if_eq (pc := 38) C dX1_cellIn_38 (tgt := 45) (by decide) (fun c16 => ?_) (fun c16 => ?_)
    · have h := itt c16 h
      refine z_iconst (pc := 45) C dX1_cellIn_45 ?_
      rcases bTs h with ⟨x21, e19, er⟩ | ⟨r17, M18, e19, h⟩
      · subst er; exact tX1_171 (pc := 46) C rfl (rm := { frames := 6, cells := 1, slots := 6, locals := 90 }) (ct_X1_inside C.2.1 0 M2 _ _  e19) ⟨by decide, by decide, Nat.le_trans (show 1 ≤ 1 from by decide) hR.1, Nat.le_trans (show 6 ≤ 6 from by decide) hR.2⟩ (Nat.le_of_ble_eq_true rfl) dX1_cellIn_46 (by decide) (show 1 ≤ 1 from by decide) (show 6 ≤ 6 from by decide)
      refine cX1_171 (pc := 46) (st := []) (st1 := []) C rfl (rm := { frames := 6, cells := 0, slots := 0, locals := 90 }) (ct_X1_inside C.2.1 0 M2 _ _  e19) ⟨by decide, by decide, Nat.zero_le _, Nat.zero_le _⟩ rfl (Nat.le_of_ble_eq_true rfl) dX1_cellIn_46 (c2 := 0) (s2 := 0) rfl rfl (fun x20 => ?_)
      have k22 := x20 _ 11 (by decide) (Or.inl (by decide)) c6
      refine z_aload (pc := 49) C 4 rfl dX1_cellIn_49 ?_
      cases h
      exact z_aret (pc := 51) C rfl (show 0 ≤ 0 from by decide) (show 0 ≤ 0 from by decide) dX1_cellIn_51
    · have h := itf c16 h
      refine z_iconst (pc := 41) C dX1_cellIn_41 ?_
      refine z_goto (pc := 42) C dX1_cellIn_42 (tgt := 46) (by decide) ?_
      rcases bTs h with ⟨x27, e25, er⟩ | ⟨r23, M24, e25, h⟩
      · subst er; exact tX1_171 (pc := 46) C rfl (rm := { frames := 6, cells := 1, slots := 6, locals := 90 }) (ct_X1_inside C.2.1 1 M2 _ _  e25) ⟨by decide, by decide, Nat.le_trans (show 1 ≤ 1 from by decide) hR.1, Nat.le_trans (show 6 ≤ 6 from by decide) hR.2⟩ (Nat.le_of_ble_eq_true rfl) dX1_cellIn_46 (by decide) (show 1 ≤ 1 from by decide) (show 6 ≤ 6 from by decide)
      refine cX1_171 (pc := 46) (st := []) (st1 := []) C rfl (rm := { frames := 6, cells := 0, slots := 0, locals := 90 }) (ct_X1_inside C.2.1 1 M2 _ _  e25) ⟨by decide, by decide, Nat.zero_le _, Nat.zero_le _⟩ rfl (Nat.le_of_ble_eq_true rfl) dX1_cellIn_46 (c2 := 0) (s2 := 0) rfl rfl (fun x26 => ?_)
      have k28 := x26 _ 11 (by decide) (Or.inl (by decide)) c6
      refine z_aload (pc := 49) C 4 rfl dX1_cellIn_49 ?_
      cases h
      exact z_aret (pc := 51) C rfl (show 0 ≤ 0 from by decide) (show 0 ≤ 0 from by decide) dX1_cellIn_51
def d_X1_secret (v0 : Nat) (v1 : Int) (v2 : Int) (v3 : Int) (M : Mem) : Option ((Int ⊕ Nat) × Mem) :=
  bT (d_X1_cellIn v0 v1 v2 v3 M) fun r1 M2 => 
  if m_kd M2 r1 = 11 then 
  if w32 (a32 (s32 (m_i M2 1107 r1 0) ((v2 * (m_i M2 1101 r1 0)) + v3)) 1) = 0 then
    some (.inl 0, M2)
  else
    if w32 (a32 (s32 (m_i M2 1106 r1 0) ((v2 * (m_i M2 1101 r1 0)) + v3)) 1) = 0 then
      some (.inl 2, M2)
    else
      some (.inl 1, M2) else none
theorem ct_X1_secret {l : Launch} {S0 : State} {D : va_G} {cA : Nat → ClassId} (hG : x_G l S0 D cA) (v0 : Nat) (v1 : Int) (v2 : Int) (v3 : Int) (M : Mem) (r : Int ⊕ Nat) (M' : Mem) (hv0 : m_kd M v0 = 1) (h : d_X1_secret v0 v1 v2 v3 M = some (r, M')) : x_Me l S0 D cA yX1_secret cX1_secret 6 (some .int) [] ({ frames := 9, cells := (ocN r 0 1), slots := (ocN r 0 6), locals := 167 }) [.ref v0, vI v1, vI v2, vI v3] M (ocI r) M' := by
  refine x_begin (F := 9) (Lo := 167) (mc := (ocN r 0 1)) (ms := (ocN r 0 6)) hG (Nat.le_of_ble_eq_true rfl) (lv := [(0, .ref v0), (1, vI v1), (2, vI v2), (3, vI v3)]) rfl rfl rfl rfl rfl (fun X e1 e2 e3 e4 e5 C => ?_)
  have hR : _ ∧ _ := ⟨Nat.le_of_eq (congrArg Room.cells e5).symm, Nat.le_of_eq (congrArg Room.slots e5).symm⟩
  unfold d_X1_secret at h
  refine z_aload_n (pc := 0) C 0 rfl dX1_secret_0 ?_
  refine z_iload_n (pc := 1) C 1 rfl dX1_secret_1 ?_
  refine z_iload_n (pc := 2) C 2 rfl dX1_secret_2 ?_
  refine z_iload_n (pc := 3) C 3 rfl dX1_secret_3 ?_
  rcases bTs h with ⟨x5, e3, er⟩ | ⟨r1, M2, e3, h⟩
  · subst er; exact tX1_554 (pc := 4) C rfl (rm := { frames := 8, cells := 1, slots := 6, locals := 139 }) (ct_X1_cellIn C.2.1 v0 v1 v2 v3 M _ _ hv0 e3) ⟨by decide, by decide, Nat.le_trans (show 1 ≤ 1 from by decide) hR.1, Nat.le_trans (show 6 ≤ 6 from by decide) hR.2⟩ (Or.inl hv0) (Nat.le_of_ble_eq_true rfl) dX1_secret_4 (by decide) (show 1 ≤ 1 from by decide) (show 6 ≤ 6 from by decide)
  refine cX1_554 (pc := 4) (st := []) (st1 := [.ref r1]) C rfl (rm := { frames := 8, cells := 0, slots := 0, locals := 139 }) (ct_X1_cellIn C.2.1 v0 v1 v2 v3 M _ _ hv0 e3) ⟨by decide, by decide, Nat.zero_le _, Nat.zero_le _⟩ (Or.inl hv0) rfl (Nat.le_of_ble_eq_true rfl) dX1_secret_4 (c2 := 0) (s2 := 0) rfl rfl (fun x4 => ?_)
  obtain ⟨c6, h⟩ := ifn h
  refine z_astore (pc := 7) C (lv' := [(0, .ref v0), (1, vI v1), (2, vI v2), (3, vI v3), (4, .ref r1)]) (by decide) rfl dX1_secret_7 ?_
  refine z_iload_n (pc := 9) C 2 rfl dX1_secret_9 ?_
  refine z_aload (pc := 10) C 4 rfl dX1_secret_10 ?_
  refine gX1_1101 (pc := 12) C rfl (Or.inl c6) rfl dX1_secret_12 ?_
  refine z_imul (pc := 15) C dX1_secret_15 ?_
  refine z_iload_n (pc := 16) C 3 rfl dX1_secret_16 ?_
  refine z_iadd (pc := 17) C dX1_secret_17 ?_
  refine z_istore (pc := 18) C (lv' := [(0, .ref v0), (1, vI v1), (2, vI v2), (3, vI v3), (4, .ref r1), (5, vI ((v2 * (m_i M2 1101 r1 0)) + v3))]) (by decide) rfl dX1_secret_18 ?_
  refine z_aload (pc := 20) C 4 rfl dX1_secret_20 ?_
  refine gX1_1107 (pc := 22) C rfl (Or.inl c6) rfl dX1_secret_22 ?_
  refine z_iload (pc := 25) C 5 rfl dX1_secret_25 ?_
  refine z_ishr (pc := 27) C dX1_secret_27 ?_
  refine z_iconst (pc := 28) C dX1_secret_28 ?_
  refine z_iand (pc := 29) C dX1_secret_29 ?_
  refine z_if_ne (pc := 30) C dX1_secret_30 (tgt := 37) (by decide) (fun c7 => ?_) (fun c7 => ?_)
  · have h := itf c7 h
    refine z_aload (pc := 37) C 4 rfl dX1_secret_37 ?_
    refine gX1_1106 (pc := 39) C rfl (Or.inl c6) rfl dX1_secret_39 ?_
    refine z_iload (pc := 42) C 5 rfl dX1_secret_42 ?_
    refine z_ishr (pc := 44) C dX1_secret_44 ?_
    refine z_iconst (pc := 45) C dX1_secret_45 ?_
    refine z_iand (pc := 46) C dX1_secret_46 ?_
    refine z_if_eq (pc := 47) C dX1_secret_47 (tgt := 54) (by decide) (fun c8 => ?_) (fun c8 => ?_)
    · have h := itt c8 h
      refine z_iconst (pc := 54) C dX1_secret_54 ?_
      cases h
      exact z_iret (pc := 55) C rfl (show 0 ≤ 0 from by decide) (show 0 ≤ 0 from by decide) dX1_secret_55
    · have h := itf c8 h
      refine z_iconst (pc := 50) C dX1_secret_50 ?_
      refine z_goto (pc := 51) C dX1_secret_51 (tgt := 55) (by decide) ?_
      cases h
      exact z_iret (pc := 55) C rfl (show 0 ≤ 0 from by decide) (show 0 ≤ 0 from by decide) dX1_secret_55
  · have h := itt c7 h
    refine z_iconst (pc := 33) C dX1_secret_33 ?_
    refine z_goto (pc := 34) C dX1_secret_34 (tgt := 55) (by decide) ?_
    cases h
    exact z_iret (pc := 55) C rfl (show 0 ≤ 0 from by decide) (show 0 ≤ 0 from by decide) dX1_secret_55
def d_X0_secret (v0 : Nat) (v1 : Int) (v2 : Int) (v3 : Int) (v4 : Nat) (M : Mem) : Option (Int × Mem) :=
  bC (d_X1_secret v0 v1 v2 v3 M) (fun r1 M3 =>
    some (0, (m_si M3 9000 v4 (ixn 0) (w32 r1)))) (fun q2 M3 =>
    if m_kd M3 q2 = 115 then
      some (1, M3)
    else
      none)
theorem ct_X0_secret {l : Launch} {S0 : State} {D : va_G} {cA : Nat → ClassId} (hG : x_G l S0 D cA) (v0 : Nat) (v1 : Int) (v2 : Int) (v3 : Int) (v4 : Nat) (M : Mem) (r : Int) (M' : Mem) (hv0 : m_kd M v0 = 1) (hv4 : m_kd M v4 = 19000) (h : d_X0_secret v0 v1 v2 v3 v4 M = some (r, M')) : x_Me l S0 D cA yX0_secret cX0_secret 6 (some .int) [(0, 12, 15, 25)] ({ frames := 10, cells := 1, slots := 6, locals := 196 }) [.ref v0, vI v1, vI v2, vI v3, .ref v4] M (.returned (some (vI r))) M' := by
  refine x_begin (F := 10) (Lo := 196) (mc := 1) (ms := 6) hG (Nat.le_of_ble_eq_true rfl) (lv := [(0, .ref v0), (1, vI v1), (2, vI v2), (3, vI v3), (4, .ref v4)]) rfl rfl rfl rfl rfl (fun X e1 e2 e3 e4 e5 C => ?_)
  have hR : _ ∧ _ := ⟨Nat.le_of_eq (congrArg Room.cells e5).symm, Nat.le_of_eq (congrArg Room.slots e5).symm⟩
  unfold d_X0_secret at h
  refine z_aload (pc := 0) C 4 rfl dX0_secret_0 ?_
  refine z_iconst (pc := 2) C dX0_secret_2 ?_
  refine z_aload_n (pc := 3) C 0 rfl dX0_secret_3 ?_
  refine z_iload_n (pc := 4) C 1 rfl dX0_secret_4 ?_
  refine z_iload_n (pc := 5) C 2 rfl dX0_secret_5 ?_
  refine z_iload_n (pc := 6) C 3 rfl dX0_secret_6 ?_
  rcases bCs h with ⟨r1, M3, e4, h⟩ | ⟨q2, M3, e4, h⟩
  · refine cX0_116 (pc := 7) (st := [vI 0, .ref v4]) (st1 := [vI r1, vI 0, .ref v4]) C rfl (rm := { frames := 9, cells := 0, slots := 0, locals := 167 }) (ct_X1_secret C.2.1 v0 v1 v2 v3 M _ _ hv0 e4) ⟨by decide, by decide, Nat.zero_le _, Nat.zero_le _⟩ (Or.inl hv0) rfl (Nat.le_of_ble_eq_true rfl) dX0_secret_7 (c2 := 0) (s2 := 0) rfl rfl (fun x5 => ?_)
    have k6 := x5 _ 19000 (by decide) (Or.inr (by decide)) hv4
    refine z_i2l (pc := 10) C dX0_secret_10 ?_
    refine z_lsw (pc := 11) C k6 (by decide +kernel) dX0_secret_11 ?_
    refine z_goto (pc := 12) C dX0_secret_12 (tgt := 19) (by decide) ?_
    refine z_iconst (pc := 19) C dX0_secret_19 ?_
    cases h
    exact z_iret (pc := 20) C rfl (show 0 ≤ 1 from by decide) (show 0 ≤ 6 from by decide) dX0_secret_20
  · by_cases c7 : m_kd M3 q2 = 115
    · have h := itt c7 h
      refine kX0_116 (pc := 7) (st := [vI 0, .ref v4]) C rfl (rm := { frames := 9, cells := 1, slots := 6, locals := 167 }) (r := q2) (ct_X1_secret C.2.1 v0 v1 v2 v3 M _ _ hv0 e4) ⟨by decide, by decide, Nat.le_trans (show 1 ≤ 1 from by decide) hR.1, Nat.le_trans (show 6 ≤ 6 from by decide) hR.2⟩ (Or.inl hv0) (Nat.le_of_ble_eq_true rfl) dX0_secret_7 (e := 15) (hpc := 15) (by decide) (Or.inr c7) (Or.inr ⟨by decide, by decide, 15, by decide, q560, Or.inl ⟨rfl, rfl⟩⟩) (c2 := 1) (s2 := 6) rfl rfl (fun x8 => ?_)
      refine z_astore (pc := 15) C (lv' := [(0, .ref v0), (1, vI v1), (2, vI v2), (3, vI v3), (4, .ref v4), (5, .ref q2)]) (by decide) rfl dX0_secret_15 ?_
      refine z_iconst (pc := 17) C dX0_secret_17 ?_
      cases h
      exact z_iret (pc := 18) C rfl (show 1 ≤ 1 from by decide) (show 6 ≤ 6 from by decide) dX0_secret_18
    · have h := itf c7 h
      cases h
