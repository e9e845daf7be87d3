set_option maxRecDepth 100000
def d_X5_isKept (v0 : Int) : Int :=
  if w64 v0 = w64 6386539 then
    1
  else
    if w64 v0 = w64 7103860 then
      1
    else
      if w64 v0 = w64 1836413812 then
        1
      else
        if w64 v0 = w64 2002874990 then
          1
        else
          if w64 v0 = w64 26982 then
            1
          else
            if w64 v0 = w64 6385252 then
              1
            else
              if w64 v0 = w64 28530 then
                1
              else
                if w64 v0 = w64 7497063 then
                  1
                else
                  0
theorem ct_X5_isKept {l : Launch} {S0 : State} {D : va_G} {cA : Nat → ClassId} (hG : x_G l S0 D cA) (v0 : Int) (M : Mem) (r : Int)  (h : d_X5_isKept v0 = r) : x_Me l S0 D cA yX5_isKept cX5_isKept 2 (some .boolean) [] ({ frames := 1, cells := 0, slots := 0, locals := 24 }) [vL v0] M (.returned (some (vI r))) M := by
  refine x_begin (F := 1) (Lo := 24) (mc := 0) (ms := 0) hG (Nat.le_of_ble_eq_true rfl) (lv := [(0, vL v0)]) rfl rfl rfl rfl rfl (fun X e1 e2 e3 e4 e5 C => ?_)
  unfold d_X5_isKept at h
  refine z_lload_n (pc := 0) C 0 rfl dX5_isKept_0 ?_
  refine z_ldc2 (pc := 1) C (x := 6386539) q1869 (by decide +kernel) dX5_isKept_1 ?_
  refine z_lc_eq (pc := 4) C dX5_isKept_4 dX5_isKept_5 (tgt := 64) (by decide) (fun c1 => ?_) (fun c1 => ?_)
  · have h := itt c1 h
    refine z_iconst (pc := 64) C dX5_isKept_64 ?_
    refine z_goto (pc := 65) C dX5_isKept_65 (tgt := 69) (by decide) ?_
    subst h
    exact z_zret (pc := 69) C rfl (Or.inr rfl) (show 0 ≤ 0 from by decide) (show 0 ≤ 0 from by decide) dX5_isKept_69
  · have h := itf c1 h
    refine z_lload_n (pc := 8) C 0 rfl dX5_isKept_8 ?_
    refine z_ldc2 (pc := 9) C (x := 7103860) q1870 (by decide +kernel) dX5_isKept_9 ?_
    refine z_lc_eq (pc := 12) C dX5_isKept_12 dX5_isKept_13 (tgt := 64) (by decide) (fun c2 => ?_) (fun c2 => ?_)
    · have h := itt c2 h
      refine z_iconst (pc := 64) C dX5_isKept_64 ?_
      refine z_goto (pc := 65) C dX5_isKept_65 (tgt := 69) (by decide) ?_
      subst h
      exact z_zret (pc := 69) C rfl (Or.inr rfl) (show 0 ≤ 0 from by decide) (show 0 ≤ 0 from by decide) dX5_isKept_69
    · have h := itf c2 h
      refine z_lload_n (pc := 16) C 0 rfl dX5_isKept_16 ?_
      refine z_ldc2 (pc := 17) C (x := 1836413812) q1871 (by decide +kernel) dX5_isKept_17 ?_
      refine z_lc_eq (pc := 20) C dX5_isKept_20 dX5_isKept_21 (tgt := 64) (by decide) (fun c3 => ?_) (fun c3 => ?_)
      · have h := itt c3 h
        refine z_iconst (pc := 64) C dX5_isKept_64 ?_
        refine z_goto (pc := 65) C dX5_isKept_65 (tgt := 69) (by decide) ?_
        subst h
        exact z_zret (pc := 69) C rfl (Or.inr rfl) (show 0 ≤ 0 from by decide) (show 0 ≤ 0 from by decide) dX5_isKept_69
      · have h := itf c3 h
        refine z_lload_n (pc := 24) C 0 rfl dX5_isKept_24 ?_
        refine z_ldc2 (pc := 25) C (x := 2002874990) q1872 (by decide +kernel) dX5_isKept_25 ?_
        refine z_lc_eq (pc := 28) C dX5_isKept_28 dX5_isKept_29 (tgt := 64) (by decide) (fun c4 => ?_) (fun c4 => ?_)
        · have h := itt c4 h
          refine z_iconst (pc := 64) C dX5_isKept_64 ?_
          refine z_goto (pc := 65) C dX5_isKept_65 (tgt := 69) (by decide) ?_
          subst h
          exact z_zret (pc := 69) C rfl (Or.inr rfl) (show 0 ≤ 0 from by decide) (show 0 ≤ 0 from by decide) dX5_isKept_69
        · have h := itf c4 h
          refine z_lload_n (pc := 32) C 0 rfl dX5_isKept_32 ?_
          refine z_ldc2 (pc := 33) C (x := 26982) q1876 (by decide +kernel) dX5_isKept_33 ?_
          refine z_lc_eq (pc := 36) C dX5_isKept_36 dX5_isKept_37 (tgt := 64) (by decide) (fun c5 => ?_) (fun c5 => ?_)
          · have h := itt c5 h
            refine z_iconst (pc := 64) C dX5_isKept_64 ?_
            refine z_goto (pc := 65) C dX5_isKept_65 (tgt := 69) (by decide) ?_
            subst h
            exact z_zret (pc := 69) C rfl (Or.inr rfl) (show 0 ≤ 0 from by decide) (show 0 ≤ 0 from by decide) dX5_isKept_69
          · have h := itf c5 h
            refine z_lload_n (pc := 40) C 0 rfl dX5_isKept_40 ?_
            refine z_ldc2 (pc := 41) C (x := 6385252) q1877 (by decide +kernel) dX5_isKept_41 ?_
            refine z_lc_eq (pc := 44) C dX5_isKept_44 dX5_isKept_45 (tgt := 64) (by decide) (fun c6 => ?_) (fun c6 => ?_)
            · have h := itt c6 h
              refine z_iconst (pc := 64) C dX5_isKept_64 ?_
              refine z_goto (pc := 65) C dX5_isKept_65 (tgt := 69) (by decide) ?_
              subst h
              exact z_zret (pc := 69) C rfl (Or.inr rfl) (show 0 ≤ 0 from by decide) (show 0 ≤ 0 from by decide) dX5_isKept_69
            · have h := itf c6 h
              refine z_lload_n (pc := 48) C 0 rfl dX5_isKept_48 ?_
              refine z_ldc2 (pc := 49) C (x := 28530) q1878 (by decide +kernel) dX5_isKept_49 ?_
              refine z_lc_eq (pc := 52) C dX5_isKept_52 dX5_isKept_53 (tgt := 64) (by decide) (fun c7 => ?_) (fun c7 => ?_)
              · have h := itt c7 h
                refine z_iconst (pc := 64) C dX5_isKept_64 ?_
                refine z_goto (pc := 65) C dX5_isKept_65 (tgt := 69) (by decide) ?_
                subst h
                exact z_zret (pc := 69) C rfl (Or.inr rfl) (show 0 ≤ 0 from by decide) (show 0 ≤ 0 from by decide) dX5_isKept_69
              · have h := itf c7 h
                refine z_lload_n (pc := 56) C 0 rfl dX5_isKept_56 ?_
                refine z_ldc2 (pc := 57) C (x := 7497063) q1879 (by decide +kernel) dX5_isKept_57 ?_
                refine z_lc_ne (pc := 60) C dX5_isKept_60 dX5_isKept_61 (tgt := 68) (by decide) (fun c8 => ?_) (fun c8 => ?_)
                · have h := itf c8 h
                  refine z_iconst (pc := 68) C dX5_isKept_68 ?_
                  subst h
                  exact z_zret (pc := 69) C rfl (Or.inl rfl) (show 0 ≤ 0 from by decide) (show 0 ≤ 0 from by decide) dX5_isKept_69
                · have h := itt c8 h
                  refine z_iconst (pc := 64) C dX5_isKept_64 ?_
                  refine z_goto (pc := 65) C dX5_isKept_65 (tgt := 69) (by decide) ?_
                  subst h
                  exact z_zret (pc := 69) C rfl (Or.inr rfl) (show 0 ≤ 0 from by decide) (show 0 ≤ 0 from by decide) dX5_isKept_69
def B_X5_nameOf_3 (k3 : Nat → Int → Int → Int → Mem → Option Int) (v0 : Nat) (v1 : Int) (v2 : Int) (v4 : Int) (M : Mem) : Option Int :=
  if inb v1 6 then 
  if w32 (m_i M 515 v0 (ixn v1)) ≤ w32 v4 then
    some (-1)
  else
    if inb ((20 * v1) + v4) 120 then 
    if w32 1 < w32 (m_i M 516 v0 (ixn ((20 * v1) + v4))) then
      k3 v0 v1 v2 (v4 + 1) M
    else
      if w64 (m_i M 517 v0 (ixn ((20 * v1) + v4))) = w64 v2 then
        some v4
      else
        k3 v0 v1 v2 (v4 + 1) M else none else none
def L_X5_nameOf_3  : Nat → Nat → Int → Int → Int → Mem → Option Int
  | 0, _, _, _, _, _ => none
  | n + 1, v0, v1, v2, v4, M => B_X5_nameOf_3 (L_X5_nameOf_3  n) v0 v1 v2 v4 M
def d_X5_nameOf (v0 : Nat) (v1 : Int) (v2 : Int) (M : Mem) : Option Int :=
  L_X5_nameOf_3 FU v0 v1 v2 0 M
theorem cB_X5_nameOf_3 {X : x_Ctx} {M0 : Mem} (C : x_CC X 1 24 yX5_nameOf cX5_nameOf 5 (some .int) []) {k3 : Nat → Int → Int → Int → Mem → Option Int} (hk3 : ∀ (v0 : Nat) (v1 : Int) (v2 : Int) (v4 : Int) (M : Mem) (r : Int), m_kd M v0 = 5 → k3 v0 v1 v2 v4 M = some r → x_Z X 0 0 (x_QF X M0 (.returned (some (vI r))) M 0 0) M0 M 5 [(0, .ref v0), (1, vI v1), (2, vL v2), (4, vI v4)] 3 []) (v0 : Nat) (v1 : Int) (v2 : Int) (v4 : Int) (M : Mem) (r : Int) (hv0 : m_kd M v0 = 5) (h : B_X5_nameOf_3 k3 v0 v1 v2 v4 M = some r)  : x_Z X 0 0 (x_QF X M0 (.returned (some (vI r))) M 0 0) M0 M 5 [(0, .ref v0), (1, vI v1), (2, vL v2), (4, vI v4)] 3 [] := by
  unfold B_X5_nameOf_3 at h
  refine z_iload (pc := 3) C 3 rfl dX5_nameOf_3 ?_
  refine z_aload_n (pc := 5) C 0 rfl dX5_nameOf_5 ?_
  refine gX5_515 (pc := 6) C rfl hv0 dX5_nameOf_6 ?_
  refine z_iload_n (pc := 9) C 1 rfl dX5_nameOf_9 ?_
  obtain ⟨c1, h⟩ := ifn h
  refine z_iaO (pc := 10) (k := 5) (j := 15) C 515 rfl (by decide) (by decide) (by decide) rfl rfl rfl rfl hv0 c1 rfl dX5_nameOf_10 ?_
  refine z_ic_ge (pc := 11) C dX5_nameOf_11 (tgt := 56) (by decide) (fun c2 => ?_) (fun c2 => ?_)
  · have h := itt c2 h
    refine z_iconst (pc := 56) C dX5_nameOf_56 ?_
    cases h
    exact z_iret (pc := 57) C rfl (show 0 ≤ 0 from by decide) (show 0 ≤ 0 from by decide) dX5_nameOf_57
  · have h := itf c2 h
    refine z_aload_n (pc := 14) C 0 rfl dX5_nameOf_14 ?_
    refine gX5_516 (pc := 15) C rfl hv0 dX5_nameOf_15 ?_
    refine z_bipush (pc := 18) C (by decide +kernel) dX5_nameOf_18 ?_
    refine z_iload_n (pc := 20) C 1 rfl dX5_nameOf_20 ?_
    refine z_imul (pc := 21) C dX5_nameOf_21 ?_
    refine z_iload (pc := 22) C 3 rfl dX5_nameOf_22 ?_
    refine z_iadd (pc := 24) C dX5_nameOf_24 ?_
    obtain ⟨c3, h⟩ := ifn h
    refine z_iaO (pc := 25) (k := 5) (j := 16) C 516 rfl (by decide) (by decide) (by decide) rfl rfl rfl rfl hv0 c3 rfl dX5_nameOf_25 ?_
    refine z_iconst (pc := 26) C dX5_nameOf_26 ?_
    refine z_ic_gt (pc := 27) C dX5_nameOf_27 (tgt := 50) (by decide) (fun c4 => ?_) (fun c4 => ?_)
    · have h := itt c4 h
      refine z_iinc (pc := 50) C (lv' := [(0, .ref v0), (1, vI v1), (2, vL v2), (4, vI (v4 + 1))]) 3 rfl (by decide) rfl dX5_nameOf_50 ?_
      refine z_goto (pc := 53) C dX5_nameOf_53 (tgt := 3) (by decide) ?_
      exact hk3 v0 v1 v2 (v4 + 1) M _ hv0 h
    · have h := itf c4 h
      refine z_aload_n (pc := 30) C 0 rfl dX5_nameOf_30 ?_
      refine gX5_517 (pc := 31) C rfl hv0 dX5_nameOf_31 ?_
      refine z_bipush (pc := 34) C (by decide +kernel) dX5_nameOf_34 ?_
      refine z_iload_n (pc := 36) C 1 rfl dX5_nameOf_36 ?_
      refine z_imul (pc := 37) C dX5_nameOf_37 ?_
      refine z_iload (pc := 38) C 3 rfl dX5_nameOf_38 ?_
      refine z_iadd (pc := 40) C dX5_nameOf_40 ?_
      refine z_laO (pc := 41) (k := 5) (j := 17) C 517 rfl (by decide) (by decide) (by decide) rfl rfl rfl rfl hv0 c3 rfl dX5_nameOf_41 ?_
      refine z_lload_n (pc := 42) C 2 rfl dX5_nameOf_42 ?_
      refine z_lc_ne (pc := 43) C dX5_nameOf_43 dX5_nameOf_44 (tgt := 50) (by decide) (fun c5 => ?_) (fun c5 => ?_)
      · have h := itf c5 h
        refine z_iinc (pc := 50) C (lv' := [(0, .ref v0), (1, vI v1), (2, vL v2), (4, vI (v4 + 1))]) 3 rfl (by decide) rfl dX5_nameOf_50 ?_
        refine z_goto (pc := 53) C dX5_nameOf_53 (tgt := 3) (by decide) ?_
        exact hk3 v0 v1 v2 (v4 + 1) M _ hv0 h
      · have h := itt c5 h
        refine z_iload (pc := 47) C 3 rfl dX5_nameOf_47 ?_
        cases h
        exact z_iret (pc := 49) C rfl (show 0 ≤ 0 from by decide) (show 0 ≤ 0 from by decide) dX5_nameOf_49
theorem cL_X5_nameOf_3 {X : x_Ctx} {M0 : Mem} (C : x_CC X 1 24 yX5_nameOf cX5_nameOf 5 (some .int) [])  : ∀ (n : Nat) (v0 : Nat) (v1 : Int) (v2 : Int) (v4 : Int) (M : Mem) (r : Int) (hv0 : m_kd M v0 = 5) (h : L_X5_nameOf_3  n v0 v1 v2 v4 M = some r) , x_Z X 0 0 (x_QF X M0 (.returned (some (vI r))) M 0 0) M0 M 5 [(0, .ref v0), (1, vI v1), (2, vL v2), (4, vI v4)] 3 [] := by
  intro n
  induction n with
  | zero => intro v0 v1 v2 v4 M r hv0 h ; cases h
  | succ n ih => intro v0 v1 v2 v4 M r hv0 h ; exact cB_X5_nameOf_3 C (fun v0 v1 v2 v4 M r hv0 h  => ih v0 v1 v2 v4 M r hv0 h ) v0 v1 v2 v4 M r hv0 h 
theorem ct_X5_nameOf {l : Launch} {S0 : State} {D : va_G} {cA : Nat → ClassId} (hG : x_G l S0 D cA) (v0 : Nat) (v1 : Int) (v2 : Int) (M : Mem) (r : Int) (hv0 : m_kd M v0 = 5) (h : d_X5_nameOf v0 v1 v2 M = some r) : x_Me l S0 D cA yX5_nameOf cX5_nameOf 5 (some .int) [] ({ frames := 1, cells := 0, slots := 0, locals := 24 }) [.ref v0, vI v1, vL v2] M (.returned (some (vI r))) M := by
  refine x_begin (F := 1) (Lo := 24) (mc := 0) (ms := 0) hG (Nat.le_of_ble_eq_true rfl) (lv := [(0, .ref v0), (1, vI v1), (2, vL v2)]) rfl rfl rfl rfl rfl (fun X e1 e2 e3 e4 e5 C => ?_)
  unfold d_X5_nameOf at h
  refine z_iconst (pc := 0) C dX5_nameOf_0 ?_
  refine z_istore (pc := 1) C (lv' := [(0, .ref v0), (1, vI v1), (2, vL v2), (4, vI 0)]) (by decide) rfl dX5_nameOf_1 ?_
  exact cL_X5_nameOf_3 C FU v0 v1 v2 0 M _ hv0 h
def B_X5_isBound_30  (v0 : Nat) (v1 : Int) (M : Mem) : Option (Int × Mem) :=
  if w32 (m_i M 529 v0 0) = w32 3 then
    if w32 v1 = 0 then
      some (1, (m_si M 533 v0 0 (m_i M 532 v0 0)))
    else
      some (1, (m_si M 533 v0 0 (-(m_i M 532 v0 0))))
  else
    some (0, M)
def B_X5_isBound_21  (v0 : Nat) (s0 : Int) (M : Mem) : Option (Int × Mem) :=
  if w32 s0 = 0 then
    B_X5_isBound_30 v0 s0 M
  else
    bN (d_X5_next v0 M) fun r5 M6 => 
    B_X5_isBound_30 v0 s0 M6
def B_X5_isBound_20  (v0 : Nat) (M : Mem) : Option (Int × Mem) :=
  B_X5_isBound_21 v0 0 M
def d_X5_isBound (v0 : Nat) (M : Mem) : Option (Int × Mem) :=
  if w32 (m_i M 529 v0 0) = w32 4 then
    if w32 (m_i M 532 v0 0) = w32 4 then
      B_X5_isBound_21 v0 1 M
    else
      B_X5_isBound_20 v0 M
  else
    B_X5_isBound_20 v0 M
theorem cB_X5_isBound_30 {X : x_Ctx} {M0 : Mem} (C : x_CC X 4 101 yX5_isBound cX5_isBound 2 (some .boolean) [])  (v0 : Nat) (v1 : Int) (M : Mem) (r : Int) (M' : Mem) (hv0 : m_kd M v0 = 5) (h : B_X5_isBound_30  v0 v1 M = some (r, M'))  : x_Z X 0 0 (x_QF X M0 (.returned (some (vI r))) M' 0 0) M0 M 2 [(0, .ref v0), (1, vI v1)] 30 [] := by
  unfold B_X5_isBound_30 at h
  refine z_aload_n (pc := 30) C 0 rfl dX5_isBound_30 ?_
  refine gX5_529 (pc := 31) C rfl (Or.inl hv0) rfl dX5_isBound_31 ?_
  refine z_iconst (pc := 34) C dX5_isBound_34 ?_
  refine z_ic_eq (pc := 35) C dX5_isBound_35 (tgt := 40) (by decide) (fun c3 => ?_) (fun c3 => ?_)
  · have h := itt c3 h
    refine z_aload_n (pc := 40) C 0 rfl dX5_isBound_40 ?_
    refine z_iload_n (pc := 41) C 1 rfl dX5_isBound_41 ?_
    refine z_if_eq (pc := 42) C dX5_isBound_42 (tgt := 53) (by decide) (fun c4 => ?_) (fun c4 => ?_)
    · have h := itt c4 h
      refine z_aload_n (pc := 53) C 0 rfl dX5_isBound_53 ?_
      refine gX5_532 (pc := 54) C rfl (Or.inl hv0) rfl dX5_isBound_54 ?_
      refine pX5_533 (pc := 57) C rfl (Or.inl hv0) dX5_isBound_57 ?_
      refine z_iconst (pc := 60) C dX5_isBound_60 ?_
      cases h
      exact z_zret (pc := 61) C rfl (Or.inr rfl) (show 0 ≤ 0 from by decide) (show 0 ≤ 0 from by decide) dX5_isBound_61
    · have h := itf c4 h
      refine z_aload_n (pc := 45) C 0 rfl dX5_isBound_45 ?_
      refine gX5_532 (pc := 46) C rfl (Or.inl hv0) rfl dX5_isBound_46 ?_
      refine z_ineg (pc := 49) C dX5_isBound_49 ?_
      refine z_goto (pc := 50) C dX5_isBound_50 (tgt := 57) (by decide) ?_
      refine pX5_533 (pc := 57) C rfl (Or.inl hv0) dX5_isBound_57 ?_
      refine z_iconst (pc := 60) C dX5_isBound_60 ?_
      cases h
      exact z_zret (pc := 61) C rfl (Or.inr rfl) (show 0 ≤ 0 from by decide) (show 0 ≤ 0 from by decide) dX5_isBound_61
  · have h := itf c3 h
    refine z_iconst (pc := 38) C dX5_isBound_38 ?_
    cases h
    exact z_zret (pc := 39) C rfl (Or.inl rfl) (show 0 ≤ 0 from by decide) (show 0 ≤ 0 from by decide) dX5_isBound_39
theorem cB_X5_isBound_21 {X : x_Ctx} {M0 : Mem} (C : x_CC X 4 101 yX5_isBound cX5_isBound 2 (some .boolean) [])  (v0 : Nat) (s0 : Int) (M : Mem) (r : Int) (M' : Mem) (hv0 : m_kd M v0 = 5) (h : B_X5_isBound_21  v0 s0 M = some (r, M'))  : x_Z X 0 0 (x_QF X M0 (.returned (some (vI r))) M' 0 0) M0 M 2 [(0, .ref v0)] 21 [vI s0] := by
  unfold B_X5_isBound_21 at h
  refine z_istore_n (pc := 21) C (lv' := [(0, .ref v0), (1, vI s0)]) (by decide) rfl dX5_isBound_21 ?_
  refine z_iload_n (pc := 22) C 1 rfl dX5_isBound_22 ?_
  refine z_if_eq (pc := 23) C dX5_isBound_23 (tgt := 30) (by decide) (fun c2 => ?_) (fun c2 => ?_)
  · have h := itt c2 h
    exact cB_X5_isBound_30 C v0 s0 M _ _ hv0 h
  · have h := itf c2 h
    refine z_aload_n (pc := 26) C 0 rfl dX5_isBound_26 ?_
    obtain ⟨r5, M6, e7, h⟩ := bNs h
    refine cX5_310 (pc := 27) (st := []) (st1 := []) C rfl (rm := { frames := 3, cells := 0, slots := 0, locals := 76 }) (ct_X5_next C.2.1 v0 M _ _ hv0 e7) ⟨by decide, by decide, Nat.zero_le _, Nat.zero_le _⟩ (Or.inl hv0) rfl (Nat.le_of_ble_eq_true rfl) dX5_isBound_27 (c2 := 0) (s2 := 0) rfl rfl (fun x8 => ?_)
    have k9 := x8 _ 5 (by decide) (Or.inl (by decide)) hv0
    exact cB_X5_isBound_30 C v0 s0 M6 _ _ k9 h
theorem cB_X5_isBound_20 {X : x_Ctx} {M0 : Mem} (C : x_CC X 4 101 yX5_isBound cX5_isBound 2 (some .boolean) [])  (v0 : Nat) (M : Mem) (r : Int) (M' : Mem) (hv0 : m_kd M v0 = 5) (h : B_X5_isBound_20  v0 M = some (r, M'))  : x_Z X 0 0 (x_QF X M0 (.returned (some (vI r))) M' 0 0) M0 M 2 [(0, .ref v0)] 20 [] := by
  unfold B_X5_isBound_20 at h
  refine z_iconst (pc := 20) C dX5_isBound_20 ?_
  exact cB_X5_isBound_21 C v0 0 M _ _ hv0 h
theorem ct_X5_isBound {l : Launch} {S0 : State} {D : va_G} {cA : Nat → ClassId} (hG : x_G l S0 D cA) (v0 : Nat) (M : Mem) (r : Int) (M' : Mem) (hv0 : m_kd M v0 = 5) (h : d_X5_isBound v0 M = some (r, M')) : x_Me l S0 D cA yX5_isBound cX5_isBound 2 (some .boolean) [] ({ frames := 4, cells := 0, slots := 0, locals := 101 }) [.ref v0] M (.returned (some (vI r))) M' := by
  refine x_begin (F := 4) (Lo := 101) (mc := 0) (ms := 0) hG (Nat.le_of_ble_eq_true rfl) (lv := [(0, .ref v0)]) rfl rfl rfl rfl rfl (fun X e1 e2 e3 e4 e5 C => ?_)
  unfold d_X5_isBound at h
  refine z_aload_n (pc := 0) C 0 rfl dX5_isBound_0 ?_
  refine gX5_529 (pc := 1) C rfl (Or.inl hv0) rfl dX5_isBound_1 ?_
  refine z_iconst (pc := 4) C dX5_isBound_4 ?_
  refine z_ic_ne (pc := 5) C dX5_isBound_5 (tgt := 20) (by decide) (fun c1 => ?_) (fun c1 => ?_)
  · have h := itf c1 h
    exact cB_X5_isBound_20 C v0 M _ _ hv0 h
  · have h := itt c1 h
    refine z_aload_n (pc := 8) C 0 rfl dX5_isBound_8 ?_
    refine gX5_532 (pc := 9) C rfl (Or.inl hv0) rfl dX5_isBound_9 ?_
    refine z_iconst (pc := 12) C dX5_isBound_12 ?_
    refine z_ic_ne (pc := 13) C dX5_isBound_13 (tgt := 20) (by decide) (fun c10 => ?_) (fun c10 => ?_)
    · have h := itf c10 h
      exact cB_X5_isBound_20 C v0 M _ _ hv0 h
    · have h := itt c10 h
      refine z_iconst (pc := 16) C dX5_isBound_16 ?_
      refine z_goto (pc := 17) C dX5_isBound_17 (tgt := 21) (by decide) ?_
      exact cB_X5_isBound_21 C v0 1 M _ _ hv0 h
def d_X5_isBounds (v0 : Nat) (v1 : Int) (M : Mem) : Option (Int × Mem) :=
  bN (d_X5_isBound v0 M) fun r1 M2 => 
  if w32 r1 = 0 then
    some (0, M2)
  else
    if inb v1 120 then 
    bN (d_X5_next v0 (m_si M2 518 v0 (ixn v1) (m_i M2 533 v0 0))) fun r8 M9 => 
    bN (d_X5_isBound v0 M9) fun r13 M14 => 
    if w32 r13 = 0 then
      some (0, M14)
    else
      if w32 (m_i M14 518 v0 (ixn v1)) ≤ w32 (m_i M14 533 v0 0) then
        bN (d_X5_next v0 (m_si M14 519 v0 (ixn v1) (m_i M14 533 v0 0))) fun r20 M21 => 
        some (1, M21)
      else
        some (0, (m_si M14 530 v0 0 (m_i M9 530 v0 0))) else none
theorem ct_X5_isBounds {l : Launch} {S0 : State} {D : va_G} {cA : Nat → ClassId} (hG : x_G l S0 D cA) (v0 : Nat) (v1 : Int) (M : Mem) (r : Int) (M' : Mem) (hv0 : m_kd M v0 = 5) (h : d_X5_isBounds v0 v1 M = some (r, M')) : x_Me l S0 D cA yX5_isBounds cX5_isBounds 3 (some .boolean) [] ({ frames := 5, cells := 0, slots := 0, locals := 126 }) [.ref v0, vI v1] M (.returned (some (vI r))) M' := by
  refine x_begin (F := 5) (Lo := 126) (mc := 0) (ms := 0) hG (Nat.le_of_ble_eq_true rfl) (lv := [(0, .ref v0), (1, vI v1)]) rfl rfl rfl rfl rfl (fun X e1 e2 e3 e4 e5 C => ?_)
  unfold d_X5_isBounds at h
  refine z_aload_n (pc := 0) C 0 rfl dX5_isBounds_0 ?_
  obtain ⟨r1, M2, e3, h⟩ := bNs h
  refine cX5_343 (pc := 1) (st := []) (st1 := [vI r1]) C rfl (rm := { frames := 4, cells := 0, slots := 0, locals := 101 }) (ct_X5_isBound C.2.1 v0 M _ _ hv0 e3) ⟨by decide, by decide, Nat.zero_le _, Nat.zero_le _⟩ (Or.inl hv0) rfl (Nat.le_of_ble_eq_true rfl) dX5_isBounds_1 (c2 := 0) (s2 := 0) rfl rfl (fun x4 => ?_)
  have k5 := x4 _ 5 (by decide) (Or.inl (by decide)) hv0
  refine z_if_ne (pc := 4) C dX5_isBounds_4 (tgt := 9) (by decide) (fun c6 => ?_) (fun c6 => ?_)
  · have h := itf c6 h
    refine z_aload_n (pc := 9) C 0 rfl dX5_isBounds_9 ?_
    refine gX5_518 (pc := 10) C rfl k5 dX5_isBounds_10 ?_
    refine z_iload_n (pc := 13) C 1 rfl dX5_isBounds_13 ?_
    refine z_aload_n (pc := 14) C 0 rfl dX5_isBounds_14 ?_
    refine gX5_533 (pc := 15) C rfl (Or.inl k5) rfl dX5_isBounds_15 ?_
    obtain ⟨c7, h⟩ := ifn h
    refine z_isO (pc := 18) (k := 5) (j := 18) C 518 rfl (by decide) (by decide) (by decide) rfl rfl rfl rfl k5 c7 dX5_isBounds_18 ?_
    refine z_aload_n (pc := 19) C 0 rfl dX5_isBounds_19 ?_
    obtain ⟨r8, M9, e10, h⟩ := bNs h
    refine cX5_310 (pc := 20) (st := []) (st1 := []) C rfl (rm := { frames := 3, cells := 0, slots := 0, locals := 76 }) (ct_X5_next C.2.1 v0 (m_si M2 518 v0 (ixn v1) (m_i M2 533 v0 0)) _ _ k5 e10) ⟨by decide, by decide, Nat.zero_le _, Nat.zero_le _⟩ (Or.inl k5) rfl (Nat.le_of_ble_eq_true rfl) dX5_isBounds_20 (c2 := 0) (s2 := 0) rfl rfl (fun x11 => ?_)
    have k12 := x11 _ 5 (by decide) (Or.inl (by decide)) k5
    refine z_aload_n (pc := 23) C 0 rfl dX5_isBounds_23 ?_
    refine gX5_530 (pc := 24) C rfl (Or.inl k12) rfl dX5_isBounds_24 ?_
    refine z_istore_n (pc := 27) C (lv' := [(0, .ref v0), (1, vI v1), (2, vI (m_i M9 530 v0 0))]) (by decide) rfl dX5_isBounds_27 ?_
    refine z_aload_n (pc := 28) C 0 rfl dX5_isBounds_28 ?_
    obtain ⟨r13, M14, e15, h⟩ := bNs h
    refine cX5_343 (pc := 29) (st := []) (st1 := [vI r13]) C rfl (rm := { frames := 4, cells := 0, slots := 0, locals := 101 }) (ct_X5_isBound C.2.1 v0 M9 _ _ k12 e15) ⟨by decide, by decide, Nat.zero_le _, Nat.zero_le _⟩ (Or.inl k12) rfl (Nat.le_of_ble_eq_true rfl) dX5_isBounds_29 (c2 := 0) (s2 := 0) rfl rfl (fun x16 => ?_)
    have k17 := x16 _ 5 (by decide) (Or.inl (by decide)) k12
    refine z_if_ne (pc := 32) C dX5_isBounds_32 (tgt := 37) (by decide) (fun c18 => ?_) (fun c18 => ?_)
    · have h := itf c18 h
      refine z_aload_n (pc := 37) C 0 rfl dX5_isBounds_37 ?_
      refine gX5_533 (pc := 38) C rfl (Or.inl k17) rfl dX5_isBounds_38 ?_
      refine z_aload_n (pc := 41) C 0 rfl dX5_isBounds_41 ?_
      refine gX5_518 (pc := 42) C rfl k17 dX5_isBounds_42 ?_
      refine z_iload_n (pc := 45) C 1 rfl dX5_isBounds_45 ?_
      refine z_iaO (pc := 46) (k := 5) (j := 18) C 518 rfl (by decide) (by decide) (by decide) rfl rfl rfl rfl k17 c7 rfl dX5_isBounds_46 ?_
      refine z_ic_ge (pc := 47) C dX5_isBounds_47 (tgt := 57) (by decide) (fun c19 => ?_) (fun c19 => ?_)
      · have h := itt c19 h
        refine z_aload_n (pc := 57) C 0 rfl dX5_isBounds_57 ?_
        refine gX5_519 (pc := 58) C rfl k17 dX5_isBounds_58 ?_
        refine z_iload_n (pc := 61) C 1 rfl dX5_isBounds_61 ?_
        refine z_aload_n (pc := 62) C 0 rfl dX5_isBounds_62 ?_
        refine gX5_533 (pc := 63) C rfl (Or.inl k17) rfl dX5_isBounds_63 ?_
        refine z_isO (pc := 66) (k := 5) (j := 19) C 519 rfl (by decide) (by decide) (by decide) rfl rfl rfl rfl k17 c7 dX5_isBounds_66 ?_
        refine z_aload_n (pc := 67) C 0 rfl dX5_isBounds_67 ?_
        obtain ⟨r20, M21, e22, h⟩ := bNs h
        refine cX5_310 (pc := 68) (st := []) (st1 := []) C rfl (rm := { frames := 3, cells := 0, slots := 0, locals := 76 }) (ct_X5_next C.2.1 v0 (m_si M14 519 v0 (ixn v1) (m_i M14 533 v0 0)) _ _ k17 e22) ⟨by decide, by decide, Nat.zero_le _, Nat.zero_le _⟩ (Or.inl k17) rfl (Nat.le_of_ble_eq_true rfl) dX5_isBounds_68 (c2 := 0) (s2 := 0) rfl rfl (fun x23 => ?_)
        refine z_iconst (pc := 71) C dX5_isBounds_71 ?_
        cases h
        exact z_zret (pc := 72) C rfl (Or.inr rfl) (show 0 ≤ 0 from by decide) (show 0 ≤ 0 from by decide) dX5_isBounds_72
      · have h := itf c19 h
        refine z_aload_n (pc := 50) C 0 rfl dX5_isBounds_50 ?_
        refine z_iload_n (pc := 51) C 2 rfl dX5_isBounds_51 ?_
        refine pX5_530 (pc := 52) C rfl (Or.inl k17) dX5_isBounds_52 ?_
        refine z_iconst (pc := 55) C dX5_isBounds_55 ?_
        cases h
        exact z_zret (pc := 56) C rfl (Or.inl rfl) (show 0 ≤ 0 from by decide) (show 0 ≤ 0 from by decide) dX5_isBounds_56
    · have h := itt c18 h
      refine z_iconst (pc := 35) C dX5_isBounds_35 ?_
      cases h
      exact z_zret (pc := 36) C rfl (Or.inl rfl) (show 0 ≤ 0 from by decide) (show 0 ≤ 0 from by decide) dX5_isBounds_36
  · have h := itt c6 h
    refine z_iconst (pc := 7) C dX5_isBounds_7 ?_
    cases h
    exact z_zret (pc := 8) C rfl (Or.inl rfl) (show 0 ≤ 0 from by decide) (show 0 ≤ 0 from by decide) dX5_isBounds_8
def d_X5_lay (v0 : Nat) (v1 : Int) (v2 : Int) (M : Mem) : Option (Int × Mem) :=
  if inb (m_i M 527 v0 0) 7200 then 
  some (0, (m_si (m_si (m_si M 525 v0 (ixn (m_i M 527 v0 0)) v1) 526 v0 (ixn (m_i M 527 v0 0)) v2) 527 v0 0 ((m_i M 527 v0 0) + 1))) else none
theorem ct_X5_lay {l : Launch} {S0 : State} {D : va_G} {cA : Nat → ClassId} (hG : x_G l S0 D cA) (v0 : Nat) (v1 : Int) (v2 : Int) (M : Mem) (r : Int) (M' : Mem) (hv0 : m_kd M v0 = 5) (h : d_X5_lay v0 v1 v2 M = some (r, M')) : x_Me l S0 D cA yX5_lay cX5_lay 3 none [] ({ frames := 1, cells := 0, slots := 0, locals := 24 }) [.ref v0, vI v1, vI v2] M (.returned none) M' := by
  refine x_begin (F := 1) (Lo := 24) (mc := 0) (ms := 0) hG (Nat.le_of_ble_eq_true rfl) (lv := [(0, .ref v0), (1, vI v1), (2, vI v2)]) rfl rfl rfl rfl rfl (fun X e1 e2 e3 e4 e5 C => ?_)
  unfold d_X5_lay at h
  refine z_aload_n (pc := 0) C 0 rfl dX5_lay_0 ?_
  refine gX5_525 (pc := 1) C rfl hv0 dX5_lay_1 ?_
  refine z_aload_n (pc := 4) C 0 rfl dX5_lay_4 ?_
  refine gX5_527 (pc := 5) C rfl (Or.inl hv0) rfl dX5_lay_5 ?_
  refine z_iload_n (pc := 8) C 1 rfl dX5_lay_8 ?_
  obtain ⟨c1, h⟩ := ifn h
  refine z_isO (pc := 9) (k := 5) (j := 25) C 525 rfl (by decide) (by decide) (by decide) rfl rfl rfl rfl hv0 c1 dX5_lay_9 ?_
  refine z_aload_n (pc := 10) C 0 rfl dX5_lay_10 ?_
  refine gX5_526 (pc := 11) C rfl hv0 dX5_lay_11 ?_
  refine z_aload_n (pc := 14) C 0 rfl dX5_lay_14 ?_
  refine gX5_527 (pc := 15) C rfl (Or.inl hv0) (x := m_i M 527 v0 0) ((m_i_ne (by decide)).trans rfl) dX5_lay_15 ?_
  refine z_iload_n (pc := 18) C 2 rfl dX5_lay_18 ?_
  refine z_isO (pc := 19) (k := 5) (j := 26) C 526 rfl (by decide) (by decide) (by decide) rfl rfl rfl rfl hv0 c1 dX5_lay_19 ?_
  refine z_aload_n (pc := 20) C 0 rfl dX5_lay_20 ?_
  refine z_dup (pc := 21) C rfl dX5_lay_21 ?_
  refine gX5_527 (pc := 22) C rfl (Or.inl hv0) (x := m_i M 527 v0 0) ((m_i_ne (by decide)).trans ((m_i_ne (by decide)).trans rfl)) dX5_lay_22 ?_
  refine z_iconst (pc := 25) C dX5_lay_25 ?_
  refine z_iadd (pc := 26) C dX5_lay_26 ?_
  refine pX5_527 (pc := 27) C rfl (Or.inl hv0) dX5_lay_27 ?_
  cases h
  exact z_vret (pc := 30) C rfl (show 0 ≤ 0 from by decide) (show 0 ≤ 0 from by decide) dX5_lay_30
def d_X5_isWord (v0 : Nat) (v1 : Int) (M : Mem) : Int :=
  if w32 (m_i M 529 v0 0) = w32 2 then
    if w64 (m_i M 531 v0 0) = w64 v1 then
      1
    else
      0
  else
    0
theorem ct_X5_isWord {l : Launch} {S0 : State} {D : va_G} {cA : Nat → ClassId} (hG : x_G l S0 D cA) (v0 : Nat) (v1 : Int) (M : Mem) (r : Int) (hv0 : m_kd M v0 = 5) (h : d_X5_isWord v0 v1 M = r) : x_Me l S0 D cA yX5_isWord cX5_isWord 3 (some .boolean) [] ({ frames := 1, cells := 0, slots := 0, locals := 24 }) [.ref v0, vL v1] M (.returned (some (vI r))) M := by
  refine x_begin (F := 1) (Lo := 24) (mc := 0) (ms := 0) hG (Nat.le_of_ble_eq_true rfl) (lv := [(0, .ref v0), (1, vL v1)]) rfl rfl rfl rfl rfl (fun X e1 e2 e3 e4 e5 C => ?_)
  unfold d_X5_isWord at h
  refine z_aload_n (pc := 0) C 0 rfl dX5_isWord_0 ?_
  refine gX5_529 (pc := 1) C rfl (Or.inl hv0) rfl dX5_isWord_1 ?_
  refine z_iconst (pc := 4) C dX5_isWord_4 ?_
  refine z_ic_ne (pc := 5) C dX5_isWord_5 (tgt := 21) (by decide) (fun c1 => ?_) (fun c1 => ?_)
  · have h := itf c1 h
    refine z_iconst (pc := 21) C dX5_isWord_21 ?_
    subst h
    exact z_zret (pc := 22) C rfl (Or.inl rfl) (show 0 ≤ 0 from by decide) (show 0 ≤ 0 from by decide) dX5_isWord_22
  · have h := itt c1 h
    refine z_aload_n (pc := 8) C 0 rfl dX5_isWord_8 ?_
    refine gX5_531 (pc := 9) C rfl (Or.inl hv0) rfl dX5_isWord_9 ?_
    refine z_lload_n (pc := 12) C 1 rfl dX5_isWord_12 ?_
    refine z_lc_ne (pc := 13) C dX5_isWord_13 dX5_isWord_14 (tgt := 21) (by decide) (fun c2 => ?_) (fun c2 => ?_)
    · have h := itf c2 h
      refine z_iconst (pc := 21) C dX5_isWord_21 ?_
      subst h
      exact z_zret (pc := 22) C rfl (Or.inl rfl) (show 0 ≤ 0 from by decide) (show 0 ≤ 0 from by decide) dX5_isWord_22
    · have h := itt c2 h
      refine z_iconst (pc := 17) C dX5_isWord_17 ?_
      refine z_goto (pc := 18) C dX5_isWord_18 (tgt := 22) (by decide) ?_
      subst h
      exact z_zret (pc := 22) C rfl (Or.inr rfl) (show 0 ≤ 0 from by decide) (show 0 ≤ 0 from by decide) dX5_isWord_22
def B_X5_term_69  (v0 : Nat) (M : Mem) : Option (Int × Mem) :=
  if w32 (d_X5_isWord v0 7497063 M) = 0 then
    if w32 (m_i M 529 v0 0) = w32 2 then
      if w32 (d_X5_isKept (m_i M 531 v0 0)) = 0 then
        bR (d_X5_nameOf v0 (m_i M 514 v0 0) (m_i M 531 v0 0) M) fun r8 => 
        if w32 r8 = w32 (-1) then
          some (0, M)
        else
          bR (d_X5_nameOf v0 (m_i M 514 v0 0) (m_i M 531 v0 0) M) fun r11 => 
          bN (d_X5_lay v0 1 r11 M) fun r13 M14 => 
          bN (d_X5_next v0 M14) fun r18 M19 => 
          some (1, M19)
      else
        some (0, M)
    else
      some (0, M)
  else
    bN (d_X5_next v0 M) fun r22 M23 => 
    if w32 (m_i M23 529 v0 0) = w32 3 then
      if w32 (m_i M23 532 v0 0) ≤ w32 5 then
        bN (d_X5_lay v0 2 (m_i M23 532 v0 0) M23) fun r29 M30 => 
        bN (d_X5_next v0 M30) fun r34 M35 => 
        some (1, M35)
      else
        some (0, M23)
    else
      some (0, M23)
def d_X5_term (v0 : Nat) (M : Mem) : Option (Int × Mem) :=
  if w32 (m_i M 529 v0 0) = w32 3 then
    bN (d_X5_lay v0 0 (m_i M 532 v0 0) M) fun r54 M55 => 
    bN (d_X5_next v0 M55) fun r59 M60 => 
    some (1, M60)
  else
    if w32 (m_i M 529 v0 0) = w32 4 then
      if w32 (m_i M 532 v0 0) = w32 4 then
        bN (d_X5_next v0 M) fun r39 M40 => 
        if w32 (m_i M40 529 v0 0) = w32 3 then
          bN (d_X5_lay v0 0 (-(m_i M40 532 v0 0)) M40) fun r45 M46 => 
          bN (d_X5_next v0 M46) fun r50 M51 => 
          some (1, M51)
        else
          some (0, M40)
      else
        B_X5_term_69 v0 M
    else
      B_X5_term_69 v0 M
theorem cB_X5_term_69 {X : x_Ctx} {M0 : Mem} (C : x_CC X 4 101 yX5_term cX5_term 1 (some .boolean) [])  (v0 : Nat) (M : Mem) (r : Int) (M' : Mem) (hv0 : m_kd M v0 = 5) (h : B_X5_term_69  v0 M = some (r, M'))  : x_Z X 0 0 (x_QF X M0 (.returned (some (vI r))) M' 0 0) M0 M 1 [(0, .ref v0)] 69 [] := by
  unfold B_X5_term_69 at h
  refine z_aload_n (pc := 69) C 0 rfl dX5_term_69 ?_
  refine z_ldc2 (pc := 70) C (x := 7497063) q1879 (by decide +kernel) dX5_term_70 ?_
  refine cX5_313 (pc := 73) (st := []) (st1 := [vI (d_X5_isWord v0 7497063 M)]) C rfl (rm := { frames := 1, cells := 0, slots := 0, locals := 24 }) (ct_X5_isWord C.2.1 v0 7497063 M _ hv0 rfl) ⟨by decide, by decide, Nat.zero_le _, Nat.zero_le _⟩ (Or.inl hv0) rfl (Nat.le_of_ble_eq_true rfl) dX5_term_73 (c2 := 0) (s2 := 0) rfl rfl (fun _ => ?_)
  refine z_if_eq (pc := 76) C dX5_term_76 (tgt := 116) (by decide) (fun c4 => ?_) (fun c4 => ?_)
  · have h := itt c4 h
    refine z_aload_n (pc := 116) C 0 rfl dX5_term_116 ?_
    refine gX5_529 (pc := 117) C rfl (Or.inl hv0) rfl dX5_term_117 ?_
    refine z_iconst (pc := 120) C dX5_term_120 ?_
    refine z_ic_ne (pc := 121) C dX5_term_121 (tgt := 150) (by decide) (fun c5 => ?_) (fun c5 => ?_)
    · have h := itf c5 h
      refine z_iconst (pc := 150) C dX5_term_150 ?_
      cases h
      exact z_zret (pc := 151) C rfl (Or.inl rfl) (show 0 ≤ 0 from by decide) (show 0 ≤ 0 from by decide) dX5_term_151
    · have h := itt c5 h
      refine z_aload_n (pc := 124) C 0 rfl dX5_term_124 ?_
      refine gX5_531 (pc := 125) C rfl (Or.inl hv0) rfl dX5_term_125 ?_
      refine cX5_317 (pc := 128) (st := []) (st1 := [vI (d_X5_isKept (m_i M 531 v0 0))]) C rfl (rm := { frames := 1, cells := 0, slots := 0, locals := 24 }) (ct_X5_isKept C.2.1 (m_i M 531 v0 0) M _  rfl) ⟨by decide, by decide, Nat.zero_le _, Nat.zero_le _⟩ rfl (Nat.le_of_ble_eq_true rfl) dX5_term_128 (c2 := 0) (s2 := 0) rfl rfl (fun _ => ?_)
      refine z_if_ne (pc := 131) C dX5_term_131 (tgt := 150) (by decide) (fun c7 => ?_) (fun c7 => ?_)
      · have h := itf c7 h
        refine z_iconst (pc := 150) C dX5_term_150 ?_
        cases h
        exact z_zret (pc := 151) C rfl (Or.inl rfl) (show 0 ≤ 0 from by decide) (show 0 ≤ 0 from by decide) dX5_term_151
      · have h := itt c7 h
        refine z_aload_n (pc := 134) C 0 rfl dX5_term_134 ?_
        refine z_aload_n (pc := 135) C 0 rfl dX5_term_135 ?_
        refine gX5_514 (pc := 136) C rfl (Or.inl hv0) rfl dX5_term_136 ?_
        refine z_aload_n (pc := 139) C 0 rfl dX5_term_139 ?_
        refine gX5_531 (pc := 140) C rfl (Or.inl hv0) rfl dX5_term_140 ?_
        obtain ⟨r8, e9, h⟩ := bRs h
        refine cX5_323 (pc := 143) (st := []) (st1 := [vI r8]) C rfl (rm := { frames := 1, cells := 0, slots := 0, locals := 24 }) (ct_X5_nameOf C.2.1 v0 (m_i M 514 v0 0) (m_i M 531 v0 0) M _ hv0 e9) ⟨by decide, by decide, Nat.zero_le _, Nat.zero_le _⟩ (Or.inl hv0) rfl (Nat.le_of_ble_eq_true rfl) dX5_term_143 (c2 := 0) (s2 := 0) rfl rfl (fun _ => ?_)
        refine z_iconst (pc := 146) C dX5_term_146 ?_
        refine z_ic_ne (pc := 147) C dX5_term_147 (tgt := 152) (by decide) (fun c10 => ?_) (fun c10 => ?_)
        · have h := itf c10 h
          refine z_aload_n (pc := 152) C 0 rfl dX5_term_152 ?_
          refine z_iconst (pc := 153) C dX5_term_153 ?_
          refine z_aload_n (pc := 154) C 0 rfl dX5_term_154 ?_
          refine z_aload_n (pc := 155) C 0 rfl dX5_term_155 ?_
          refine gX5_514 (pc := 156) C rfl (Or.inl hv0) rfl dX5_term_156 ?_
          refine z_aload_n (pc := 159) C 0 rfl dX5_term_159 ?_
          refine gX5_531 (pc := 160) C rfl (Or.inl hv0) rfl dX5_term_160 ?_
          obtain ⟨r11, e12, h⟩ := bRs h
          refine cX5_323 (pc := 163) (st := [vI 1, .ref v0]) (st1 := [vI r11, vI 1, .ref v0]) C rfl (rm := { frames := 1, cells := 0, slots := 0, locals := 24 }) (ct_X5_nameOf C.2.1 v0 (m_i M 514 v0 0) (m_i M 531 v0 0) M _ hv0 e12) ⟨by decide, by decide, Nat.zero_le _, Nat.zero_le _⟩ (Or.inl hv0) rfl (Nat.le_of_ble_eq_true rfl) dX5_term_163 (c2 := 0) (s2 := 0) rfl rfl (fun _ => ?_)
          obtain ⟨r13, M14, e15, h⟩ := bNs h
          refine cX5_306 (pc := 166) (st := []) (st1 := []) C rfl (rm := { frames := 1, cells := 0, slots := 0, locals := 24 }) (ct_X5_lay C.2.1 v0 1 r11 M _ _ hv0 e15) ⟨by decide, by decide, Nat.zero_le _, Nat.zero_le _⟩ (Or.inl hv0) rfl (Nat.le_of_ble_eq_true rfl) dX5_term_166 (c2 := 0) (s2 := 0) rfl rfl (fun x16 => ?_)
          have k17 := x16 _ 5 (by decide) (Or.inl (by decide)) hv0
          refine z_aload_n (pc := 169) C 0 rfl dX5_term_169 ?_
          obtain ⟨r18, M19, e20, h⟩ := bNs h
          refine cX5_310 (pc := 170) (st := []) (st1 := []) C rfl (rm := { frames := 3, cells := 0, slots := 0, locals := 76 }) (ct_X5_next C.2.1 v0 M14 _ _ k17 e20) ⟨by decide, by decide, Nat.zero_le _, Nat.zero_le _⟩ (Or.inl k17) rfl (Nat.le_of_ble_eq_true rfl) dX5_term_170 (c2 := 0) (s2 := 0) rfl rfl (fun x21 => ?_)
          refine z_iconst (pc := 173) C dX5_term_173 ?_
          cases h
          exact z_zret (pc := 174) C rfl (Or.inr rfl) (show 0 ≤ 0 from by decide) (show 0 ≤ 0 from by decide) dX5_term_174
        · have h := itt c10 h
          refine z_iconst (pc := 150) C dX5_term_150 ?_
          cases h
          exact z_zret (pc := 151) C rfl (Or.inl rfl) (show 0 ≤ 0 from by decide) (show 0 ≤ 0 from by decide) dX5_term_151
  · have h := itf c4 h
    refine z_aload_n (pc := 79) C 0 rfl dX5_term_79 ?_
    obtain ⟨r22, M23, e24, h⟩ := bNs h
    refine cX5_310 (pc := 80) (st := []) (st1 := []) C rfl (rm := { frames := 3, cells := 0, slots := 0, locals := 76 }) (ct_X5_next C.2.1 v0 M _ _ hv0 e24) ⟨by decide, by decide, Nat.zero_le _, Nat.zero_le _⟩ (Or.inl hv0) rfl (Nat.le_of_ble_eq_true rfl) dX5_term_80 (c2 := 0) (s2 := 0) rfl rfl (fun x25 => ?_)
    have k26 := x25 _ 5 (by decide) (Or.inl (by decide)) hv0
    refine z_aload_n (pc := 83) C 0 rfl dX5_term_83 ?_
    refine gX5_529 (pc := 84) C rfl (Or.inl k26) rfl dX5_term_84 ?_
    refine z_iconst (pc := 87) C dX5_term_87 ?_
    refine z_ic_ne (pc := 88) C dX5_term_88 (tgt := 99) (by decide) (fun c27 => ?_) (fun c27 => ?_)
    · have h := itf c27 h
      refine z_iconst (pc := 99) C dX5_term_99 ?_
      cases h
      exact z_zret (pc := 100) C rfl (Or.inl rfl) (show 0 ≤ 0 from by decide) (show 0 ≤ 0 from by decide) dX5_term_100
    · have h := itt c27 h
      refine z_aload_n (pc := 91) C 0 rfl dX5_term_91 ?_
      refine gX5_532 (pc := 92) C rfl (Or.inl k26) rfl dX5_term_92 ?_
      refine z_iconst (pc := 95) C dX5_term_95 ?_
      refine z_ic_le (pc := 96) C dX5_term_96 (tgt := 101) (by decide) (fun c28 => ?_) (fun c28 => ?_)
      · have h := itt c28 h
        refine z_aload_n (pc := 101) C 0 rfl dX5_term_101 ?_
        refine z_iconst (pc := 102) C dX5_term_102 ?_
        refine z_aload_n (pc := 103) C 0 rfl dX5_term_103 ?_
        refine gX5_532 (pc := 104) C rfl (Or.inl k26) rfl dX5_term_104 ?_
        obtain ⟨r29, M30, e31, h⟩ := bNs h
        refine cX5_306 (pc := 107) (st := []) (st1 := []) C rfl (rm := { frames := 1, cells := 0, slots := 0, locals := 24 }) (ct_X5_lay C.2.1 v0 2 (m_i M23 532 v0 0) M23 _ _ k26 e31) ⟨by decide, by decide, Nat.zero_le _, Nat.zero_le _⟩ (Or.inl k26) rfl (Nat.le_of_ble_eq_true rfl) dX5_term_107 (c2 := 0) (s2 := 0) rfl rfl (fun x32 => ?_)
        have k33 := x32 _ 5 (by decide) (Or.inl (by decide)) k26
        refine z_aload_n (pc := 110) C 0 rfl dX5_term_110 ?_
        obtain ⟨r34, M35, e36, h⟩ := bNs h
        refine cX5_310 (pc := 111) (st := []) (st1 := []) C rfl (rm := { frames := 3, cells := 0, slots := 0, locals := 76 }) (ct_X5_next C.2.1 v0 M30 _ _ k33 e36) ⟨by decide, by decide, Nat.zero_le _, Nat.zero_le _⟩ (Or.inl k33) rfl (Nat.le_of_ble_eq_true rfl) dX5_term_111 (c2 := 0) (s2 := 0) rfl rfl (fun x37 => ?_)
        refine z_iconst (pc := 114) C dX5_term_114 ?_
        cases h
        exact z_zret (pc := 115) C rfl (Or.inr rfl) (show 0 ≤ 0 from by decide) (show 0 ≤ 0 from by decide) dX5_term_115
      · have h := itf c28 h
        refine z_iconst (pc := 99) C dX5_term_99 ?_
        cases h
        exact z_zret (pc := 100) C rfl (Or.inl rfl) (show 0 ≤ 0 from by decide) (show 0 ≤ 0 from by decide) dX5_term_100
theorem ct_X5_term {l : Launch} {S0 : State} {D : va_G} {cA : Nat → ClassId} (hG : x_G l S0 D cA) (v0 : Nat) (M : Mem) (r : Int) (M' : Mem) (hv0 : m_kd M v0 = 5) (h : d_X5_term v0 M = some (r, M')) : x_Me l S0 D cA yX5_term cX5_term 1 (some .boolean) [] ({ frames := 4, cells := 0, slots := 0, locals := 101 }) [.ref v0] M (.returned (some (vI r))) M' := by
  refine x_begin (F := 4) (Lo := 101) (mc := 0) (ms := 0) hG (Nat.le_of_ble_eq_true rfl) (lv := [(0, .ref v0)]) rfl rfl rfl rfl rfl (fun X e1 e2 e3 e4 e5 C => ?_)
  unfold d_X5_term at h
  refine z_aload_n (pc := 0) C 0 rfl dX5_term_0 ?_
  refine gX5_529 (pc := 1) C rfl (Or.inl hv0) rfl dX5_term_1 ?_
  refine z_iconst (pc := 4) C dX5_term_4 ?_
  refine z_ic_ne (pc := 5) C dX5_term_5 (tgt := 23) (by decide) (fun c1 => ?_) (fun c1 => ?_)
  · have h := itf c1 h
    refine z_aload_n (pc := 23) C 0 rfl dX5_term_23 ?_
    refine gX5_529 (pc := 24) C rfl (Or.inl hv0) rfl dX5_term_24 ?_
    refine z_iconst (pc := 27) C dX5_term_27 ?_
    refine z_ic_ne (pc := 28) C dX5_term_28 (tgt := 69) (by decide) (fun c2 => ?_) (fun c2 => ?_)
    · have h := itf c2 h
      exact cB_X5_term_69 C v0 M _ _ hv0 h
    · have h := itt c2 h
      refine z_aload_n (pc := 31) C 0 rfl dX5_term_31 ?_
      refine gX5_532 (pc := 32) C rfl (Or.inl hv0) rfl dX5_term_32 ?_
      refine z_iconst (pc := 35) C dX5_term_35 ?_
      refine z_ic_ne (pc := 36) C dX5_term_36 (tgt := 69) (by decide) (fun c38 => ?_) (fun c38 => ?_)
      · have h := itf c38 h
        exact cB_X5_term_69 C v0 M _ _ hv0 h
      · have h := itt c38 h
        refine z_aload_n (pc := 39) C 0 rfl dX5_term_39 ?_
        obtain ⟨r39, M40, e41, h⟩ := bNs h
        refine cX5_310 (pc := 40) (st := []) (st1 := []) C rfl (rm := { frames := 3, cells := 0, slots := 0, locals := 76 }) (ct_X5_next C.2.1 v0 M _ _ hv0 e41) ⟨by decide, by decide, Nat.zero_le _, Nat.zero_le _⟩ (Or.inl hv0) rfl (Nat.le_of_ble_eq_true rfl) dX5_term_40 (c2 := 0) (s2 := 0) rfl rfl (fun x42 => ?_)
        have k43 := x42 _ 5 (by decide) (Or.inl (by decide)) hv0
        refine z_aload_n (pc := 43) C 0 rfl dX5_term_43 ?_
        refine gX5_529 (pc := 44) C rfl (Or.inl k43) rfl dX5_term_44 ?_
        refine z_iconst (pc := 47) C dX5_term_47 ?_
        refine z_ic_eq (pc := 48) C dX5_term_48 (tgt := 53) (by decide) (fun c44 => ?_) (fun c44 => ?_)
        · have h := itt c44 h
          refine z_aload_n (pc := 53) C 0 rfl dX5_term_53 ?_
          refine z_iconst (pc := 54) C dX5_term_54 ?_
          refine z_aload_n (pc := 55) C 0 rfl dX5_term_55 ?_
          refine gX5_532 (pc := 56) C rfl (Or.inl k43) rfl dX5_term_56 ?_
          refine z_ineg (pc := 59) C dX5_term_59 ?_
          obtain ⟨r45, M46, e47, h⟩ := bNs h
          refine cX5_306 (pc := 60) (st := []) (st1 := []) C rfl (rm := { frames := 1, cells := 0, slots := 0, locals := 24 }) (ct_X5_lay C.2.1 v0 0 (-(m_i M40 532 v0 0)) M40 _ _ k43 e47) ⟨by decide, by decide, Nat.zero_le _, Nat.zero_le _⟩ (Or.inl k43) rfl (Nat.le_of_ble_eq_true rfl) dX5_term_60 (c2 := 0) (s2 := 0) rfl rfl (fun x48 => ?_)
          have k49 := x48 _ 5 (by decide) (Or.inl (by decide)) k43
          refine z_aload_n (pc := 63) C 0 rfl dX5_term_63 ?_
          obtain ⟨r50, M51, e52, h⟩ := bNs h
          refine cX5_310 (pc := 64) (st := []) (st1 := []) C rfl (rm := { frames := 3, cells := 0, slots := 0, locals := 76 }) (ct_X5_next C.2.1 v0 M46 _ _ k49 e52) ⟨by decide, by decide, Nat.zero_le _, Nat.zero_le _⟩ (Or.inl k49) rfl (Nat.le_of_ble_eq_true rfl) dX5_term_64 (c2 := 0) (s2 := 0) rfl rfl (fun x53 => ?_)
          refine z_iconst (pc := 67) C dX5_term_67 ?_
          cases h
          exact z_zret (pc := 68) C rfl (Or.inr rfl) (show 0 ≤ 0 from by decide) (show 0 ≤ 0 from by decide) dX5_term_68
        · have h := itf c44 h
          refine z_iconst (pc := 51) C dX5_term_51 ?_
          cases h
          exact z_zret (pc := 52) C rfl (Or.inl rfl) (show 0 ≤ 0 from by decide) (show 0 ≤ 0 from by decide) dX5_term_52
  · have h := itt c1 h
    refine z_aload_n (pc := 8) C 0 rfl dX5_term_8 ?_
    refine z_iconst (pc := 9) C dX5_term_9 ?_
    refine z_aload_n (pc := 10) C 0 rfl dX5_term_10 ?_
    refine gX5_532 (pc := 11) C rfl (Or.inl hv0) rfl dX5_term_11 ?_
    obtain ⟨r54, M55, e56, h⟩ := bNs h
    refine cX5_306 (pc := 14) (st := []) (st1 := []) C rfl (rm := { frames := 1, cells := 0, slots := 0, locals := 24 }) (ct_X5_lay C.2.1 v0 0 (m_i M 532 v0 0) M _ _ hv0 e56) ⟨by decide, by decide, Nat.zero_le _, Nat.zero_le _⟩ (Or.inl hv0) rfl (Nat.le_of_ble_eq_true rfl) dX5_term_14 (c2 := 0) (s2 := 0) rfl rfl (fun x57 => ?_)
    have k58 := x57 _ 5 (by decide) (Or.inl (by decide)) hv0
    refine z_aload_n (pc := 17) C 0 rfl dX5_term_17 ?_
    obtain ⟨r59, M60, e61, h⟩ := bNs h
    refine cX5_310 (pc := 18) (st := []) (st1 := []) C rfl (rm := { frames := 3, cells := 0, slots := 0, locals := 76 }) (ct_X5_next C.2.1 v0 M55 _ _ k58 e61) ⟨by decide, by decide, Nat.zero_le _, Nat.zero_le _⟩ (Or.inl k58) rfl (Nat.le_of_ble_eq_true rfl) dX5_term_18 (c2 := 0) (s2 := 0) rfl rfl (fun x62 => ?_)
    refine z_iconst (pc := 21) C dX5_term_21 ?_
    cases h
    exact z_zret (pc := 22) C rfl (Or.inr rfl) (show 0 ≤ 0 from by decide) (show 0 ≤ 0 from by decide) dX5_term_22
def B_X5_expr_9 (k9 : Nat → Mem → Option (Int × Mem)) (v0 : Nat) (M : Mem) : Option (Int × Mem) :=
  if w32 (m_i M 529 v0 0) = w32 4 then
    bN (d_X5_lay v0 (m_i M 532 v0 0) 0 M) fun r8 M9 => 
    bN (d_X5_next v0 M9) fun r13 M14 => 
    bN (d_X5_term v0 M14) fun r18 M19 => 
    if w32 r18 = 0 then
      some (0, M19)
    else
      k9 v0 M19
  else
    some (1, M)
def L_X5_expr_9  : Nat → Nat → Mem → Option (Int × Mem)
  | 0, _, _ => none
  | n + 1, v0, M => B_X5_expr_9 (L_X5_expr_9  n) v0 M
def d_X5_expr (v0 : Nat) (M : Mem) : Option (Int × Mem) :=
  bN (d_X5_term v0 M) fun r1 M2 => 
  if w32 r1 = 0 then
    some (0, M2)
  else
    L_X5_expr_9 FU v0 M2
theorem cB_X5_expr_9 {X : x_Ctx} {M0 : Mem} (C : x_CC X 5 125 yX5_expr cX5_expr 1 (some .boolean) []) {k9 : Nat → Mem → Option (Int × Mem)} (hk9 : ∀ (v0 : Nat) (M : Mem) (r : Int) (M' : Mem), m_kd M v0 = 5 → k9 v0 M = some (r, M') → x_Z X 0 0 (x_QF X M0 (.returned (some (vI r))) M' 0 0) M0 M 1 [(0, .ref v0)] 9 []) (v0 : Nat) (M : Mem) (r : Int) (M' : Mem) (hv0 : m_kd M v0 = 5) (h : B_X5_expr_9 k9 v0 M = some (r, M'))  : x_Z X 0 0 (x_QF X M0 (.returned (some (vI r))) M' 0 0) M0 M 1 [(0, .ref v0)] 9 [] := by
  unfold B_X5_expr_9 at h
  refine z_aload_n (pc := 9) C 0 rfl dX5_expr_9 ?_
  refine gX5_529 (pc := 10) C rfl (Or.inl hv0) rfl dX5_expr_10 ?_
  refine z_iconst (pc := 13) C dX5_expr_13 ?_
  refine z_ic_ne (pc := 14) C dX5_expr_14 (tgt := 39) (by decide) (fun c7 => ?_) (fun c7 => ?_)
  · have h := itf c7 h
    refine z_iconst (pc := 39) C dX5_expr_39 ?_
    cases h
    exact z_zret (pc := 40) C rfl (Or.inr rfl) (show 0 ≤ 0 from by decide) (show 0 ≤ 0 from by decide) dX5_expr_40
  · have h := itt c7 h
    refine z_aload_n (pc := 17) C 0 rfl dX5_expr_17 ?_
    refine z_aload_n (pc := 18) C 0 rfl dX5_expr_18 ?_
    refine gX5_532 (pc := 19) C rfl (Or.inl hv0) rfl dX5_expr_19 ?_
    refine z_iconst (pc := 22) C dX5_expr_22 ?_
    obtain ⟨r8, M9, e10, h⟩ := bNs h
    refine cX5_306 (pc := 23) (st := []) (st1 := []) C rfl (rm := { frames := 1, cells := 0, slots := 0, locals := 24 }) (ct_X5_lay C.2.1 v0 (m_i M 532 v0 0) 0 M _ _ hv0 e10) ⟨by decide, by decide, Nat.zero_le _, Nat.zero_le _⟩ (Or.inl hv0) rfl (Nat.le_of_ble_eq_true rfl) dX5_expr_23 (c2 := 0) (s2 := 0) rfl rfl (fun x11 => ?_)
    have k12 := x11 _ 5 (by decide) (Or.inl (by decide)) hv0
    refine z_aload_n (pc := 26) C 0 rfl dX5_expr_26 ?_
    obtain ⟨r13, M14, e15, h⟩ := bNs h
    refine cX5_310 (pc := 27) (st := []) (st1 := []) C rfl (rm := { frames := 3, cells := 0, slots := 0, locals := 76 }) (ct_X5_next C.2.1 v0 M9 _ _ k12 e15) ⟨by decide, by decide, Nat.zero_le _, Nat.zero_le _⟩ (Or.inl k12) rfl (Nat.le_of_ble_eq_true rfl) dX5_expr_27 (c2 := 0) (s2 := 0) rfl rfl (fun x16 => ?_)
    have k17 := x16 _ 5 (by decide) (Or.inl (by decide)) k12
    refine z_aload_n (pc := 30) C 0 rfl dX5_expr_30 ?_
    obtain ⟨r18, M19, e20, h⟩ := bNs h
    refine cX5_327 (pc := 31) (st := []) (st1 := [vI r18]) C rfl (rm := { frames := 4, cells := 0, slots := 0, locals := 101 }) (ct_X5_term C.2.1 v0 M14 _ _ k17 e20) ⟨by decide, by decide, Nat.zero_le _, Nat.zero_le _⟩ (Or.inl k17) rfl (Nat.le_of_ble_eq_true rfl) dX5_expr_31 (c2 := 0) (s2 := 0) rfl rfl (fun x21 => ?_)
    have k22 := x21 _ 5 (by decide) (Or.inl (by decide)) k17
    refine z_if_ne (pc := 34) C dX5_expr_34 (tgt := 9) (by decide) (fun c23 => ?_) (fun c23 => ?_)
    · have h := itf c23 h
      exact hk9 v0 M19 _ _ k22 h
    · have h := itt c23 h
      refine z_iconst (pc := 37) C dX5_expr_37 ?_
      cases h
      exact z_zret (pc := 38) C rfl (Or.inl rfl) (show 0 ≤ 0 from by decide) (show 0 ≤ 0 from by decide) dX5_expr_38
theorem cL_X5_expr_9 {X : x_Ctx} {M0 : Mem} (C : x_CC X 5 125 yX5_expr cX5_expr 1 (some .boolean) [])  : ∀ (n : Nat) (v0 : Nat) (M : Mem) (r : Int) (M' : Mem) (hv0 : m_kd M v0 = 5) (h : L_X5_expr_9  n v0 M = some (r, M')) , x_Z X 0 0 (x_QF X M0 (.returned (some (vI r))) M' 0 0) M0 M 1 [(0, .ref v0)] 9 [] := by
  intro n
  induction n with
  | zero => intro v0 M r M' hv0 h ; cases h
  | succ n ih => intro v0 M r M' hv0 h ; exact cB_X5_expr_9 C (fun v0 M r M' hv0 h  => ih v0 M r M' hv0 h ) v0 M r M' hv0 h 
theorem ct_X5_expr {l : Launch} {S0 : State} {D : va_G} {cA : Nat → ClassId} (hG : x_G l S0 D cA) (v0 : Nat) (M : Mem) (r : Int) (M' : Mem) (hv0 : m_kd M v0 = 5) (h : d_X5_expr v0 M = some (r, M')) : x_Me l S0 D cA yX5_expr cX5_expr 1 (some .boolean) [] ({ frames := 5, cells := 0, slots := 0, locals := 125 }) [.ref v0] M (.returned (some (vI r))) M' := by
  refine x_begin (F := 5) (Lo := 125) (mc := 0) (ms := 0) hG (Nat.le_of_ble_eq_true rfl) (lv := [(0, .ref v0)]) rfl rfl rfl rfl rfl (fun X e1 e2 e3 e4 e5 C => ?_)
  unfold d_X5_expr at h
  refine z_aload_n (pc := 0) C 0 rfl dX5_expr_0 ?_
  obtain ⟨r1, M2, e3, h⟩ := bNs h
  refine cX5_327 (pc := 1) (st := []) (st1 := [vI r1]) C rfl (rm := { frames := 4, cells := 0, slots := 0, locals := 101 }) (ct_X5_term C.2.1 v0 M _ _ hv0 e3) ⟨by decide, by decide, Nat.zero_le _, Nat.zero_le _⟩ (Or.inl hv0) rfl (Nat.le_of_ble_eq_true rfl) dX5_expr_1 (c2 := 0) (s2 := 0) rfl rfl (fun x4 => ?_)
  have k5 := x4 _ 5 (by decide) (Or.inl (by decide)) hv0
  refine z_if_ne (pc := 4) C dX5_expr_4 (tgt := 9) (by decide) (fun c6 => ?_) (fun c6 => ?_)
  · have h := itf c6 h
    exact cL_X5_expr_9 C FU v0 M2 _ _ k5 h
  · have h := itt c6 h
    refine z_iconst (pc := 7) C dX5_expr_7 ?_
    cases h
    exact z_zret (pc := 8) C rfl (Or.inl rfl) (show 0 ≤ 0 from by decide) (show 0 ≤ 0 from by decide) dX5_expr_8
def B_X5_cond_70 (k2 : Nat → Int → Mem → Option (Int × Mem)) (v0 : Nat) (s0 : Int) (M : Mem) : Option (Int × Mem) :=
  if w32 s0 = 0 then
    k2 v0 s0 M
  else
    if w64 (m_i M 531 v0 0) = w64 6385252 then
      bN (d_X5_lay v0 11 0 M) fun r39 M40 => 
      bN (d_X5_next v0 M40) fun r44 M45 => 
      k2 v0 s0 M45
    else
      bN (d_X5_lay v0 12 0 M) fun r29 M30 => 
      bN (d_X5_next v0 M30) fun r34 M35 => 
      k2 v0 s0 M35
def B_X5_cond_65 (k2 : Nat → Int → Mem → Option (Int × Mem)) (v0 : Nat) (M : Mem) : Option (Int × Mem) :=
  B_X5_cond_70 k2 v0 1 M
def B_X5_cond_2 (k2 : Nat → Int → Mem → Option (Int × Mem)) (v0 : Nat) (v1 : Int) (M : Mem) : Option (Int × Mem) :=
  if w32 v1 = 0 then
    some (1, M)
  else
    bN (d_X5_expr v0 M) fun r2 M3 => 
    if w32 r2 = 0 then
      some (0, M3)
    else
      if w32 (m_i M3 529 v0 0) = w32 5 then
        bN (d_X5_lay v0 (m_i M3 532 v0 0) 0 M3) fun r9 M10 => 
        bN (d_X5_next v0 M10) fun r14 M15 => 
        bN (d_X5_expr v0 M15) fun r19 M20 => 
        if w32 r19 = 0 then
          some (0, M20)
        else
          if w32 (d_X5_isWord v0 6385252 M20) = 0 then
            if w32 (d_X5_isWord v0 28530 M20) = 0 then
              B_X5_cond_70 k2 v0 0 M20
            else
              B_X5_cond_65 k2 v0 M20
          else
            B_X5_cond_65 k2 v0 M20
      else
        some (0, M3)
def L_X5_cond_2  : Nat → Nat → Int → Mem → Option (Int × Mem)
  | 0, _, _, _ => none
  | n + 1, v0, v1, M => B_X5_cond_2 (L_X5_cond_2  n) v0 v1 M
def d_X5_cond (v0 : Nat) (M : Mem) : Option (Int × Mem) :=
  L_X5_cond_2 FU v0 1 M
theorem cB_X5_cond_70 {X : x_Ctx} {M0 : Mem} (C : x_CC X 6 149 yX5_cond cX5_cond 2 (some .boolean) []) {k2 : Nat → Int → Mem → Option (Int × Mem)} (hk2 : ∀ (v0 : Nat) (v1 : Int) (M : Mem) (r : Int) (M' : Mem), m_kd M v0 = 5 → k2 v0 v1 M = some (r, M') → x_Z X 0 0 (x_QF X M0 (.returned (some (vI r))) M' 0 0) M0 M 2 [(0, .ref v0), (1, vI v1)] 2 []) (v0 : Nat) (s0 : Int) (M : Mem) (r : Int) (M' : Mem) (hv0 : m_kd M v0 = 5) (h : B_X5_cond_70 k2 v0 s0 M = some (r, M'))  : x_Z X 0 0 (x_QF X M0 (.returned (some (vI r))) M' 0 0) M0 M 2 [(0, .ref v0)] 70 [vI s0] := by
  unfold B_X5_cond_70 at h
  refine z_istore_n (pc := 70) C (lv' := [(0, .ref v0), (1, vI s0)]) (by decide) rfl dX5_cond_70 ?_
  refine z_iload_n (pc := 71) C 1 rfl dX5_cond_71 ?_
  refine z_if_eq (pc := 72) C dX5_cond_72 (tgt := 2) (by decide) (fun c27 => ?_) (fun c27 => ?_)
  · have h := itt c27 h
    exact hk2 v0 s0 M _ _ hv0 h
  · have h := itf c27 h
    refine z_aload_n (pc := 75) C 0 rfl dX5_cond_75 ?_
    refine z_aload_n (pc := 76) C 0 rfl dX5_cond_76 ?_
    refine gX5_531 (pc := 77) C rfl (Or.inl hv0) rfl dX5_cond_77 ?_
    refine z_ldc2 (pc := 80) C (x := 6385252) q1877 (by decide +kernel) dX5_cond_80 ?_
    refine z_lc_ne (pc := 83) C dX5_cond_83 dX5_cond_84 (tgt := 92) (by decide) (fun c28 => ?_) (fun c28 => ?_)
    · have h := itf c28 h
      refine z_bipush (pc := 92) C (by decide +kernel) dX5_cond_92 ?_
      refine z_iconst (pc := 94) C dX5_cond_94 ?_
      obtain ⟨r29, M30, e31, h⟩ := bNs h
      refine cX5_306 (pc := 95) (st := []) (st1 := []) C rfl (rm := { frames := 1, cells := 0, slots := 0, locals := 24 }) (ct_X5_lay C.2.1 v0 12 0 M _ _ hv0 e31) ⟨by decide, by decide, Nat.zero_le _, Nat.zero_le _⟩ (Or.inl hv0) rfl (Nat.le_of_ble_eq_true rfl) dX5_cond_95 (c2 := 0) (s2 := 0) rfl rfl (fun x32 => ?_)
      have k33 := x32 _ 5 (by decide) (Or.inl (by decide)) hv0
      refine z_aload_n (pc := 98) C 0 rfl dX5_cond_98 ?_
      obtain ⟨r34, M35, e36, h⟩ := bNs h
      refine cX5_310 (pc := 99) (st := []) (st1 := []) C rfl (rm := { frames := 3, cells := 0, slots := 0, locals := 76 }) (ct_X5_next C.2.1 v0 M30 _ _ k33 e36) ⟨by decide, by decide, Nat.zero_le _, Nat.zero_le _⟩ (Or.inl k33) rfl (Nat.le_of_ble_eq_true rfl) dX5_cond_99 (c2 := 0) (s2 := 0) rfl rfl (fun x37 => ?_)
      have k38 := x37 _ 5 (by decide) (Or.inl (by decide)) k33
      refine z_goto (pc := 102) C dX5_cond_102 (tgt := 2) (by decide) ?_
      exact hk2 v0 s0 M35 _ _ k38 h
    · have h := itt c28 h
      refine z_bipush (pc := 87) C (by decide +kernel) dX5_cond_87 ?_
      refine z_goto (pc := 89) C dX5_cond_89 (tgt := 94) (by decide) ?_
      refine z_iconst (pc := 94) C dX5_cond_94 ?_
      obtain ⟨r39, M40, e41, h⟩ := bNs h
      refine cX5_306 (pc := 95) (st := []) (st1 := []) C rfl (rm := { frames := 1, cells := 0, slots := 0, locals := 24 }) (ct_X5_lay C.2.1 v0 11 0 M _ _ hv0 e41) ⟨by decide, by decide, Nat.zero_le _, Nat.zero_le _⟩ (Or.inl hv0) rfl (Nat.le_of_ble_eq_true rfl) dX5_cond_95 (c2 := 0) (s2 := 0) rfl rfl (fun x42 => ?_)
      have k43 := x42 _ 5 (by decide) (Or.inl (by decide)) hv0
      refine z_aload_n (pc := 98) C 0 rfl dX5_cond_98 ?_
      obtain ⟨r44, M45, e46, h⟩ := bNs h
      refine cX5_310 (pc := 99) (st := []) (st1 := []) C rfl (rm := { frames := 3, cells := 0, slots := 0, locals := 76 }) (ct_X5_next C.2.1 v0 M40 _ _ k43 e46) ⟨by decide, by decide, Nat.zero_le _, Nat.zero_le _⟩ (Or.inl k43) rfl (Nat.le_of_ble_eq_true rfl) dX5_cond_99 (c2 := 0) (s2 := 0) rfl rfl (fun x47 => ?_)
      have k48 := x47 _ 5 (by decide) (Or.inl (by decide)) k43
      refine z_goto (pc := 102) C dX5_cond_102 (tgt := 2) (by decide) ?_
      exact hk2 v0 s0 M45 _ _ k48 h
theorem cB_X5_cond_65 {X : x_Ctx} {M0 : Mem} (C : x_CC X 6 149 yX5_cond cX5_cond 2 (some .boolean) []) {k2 : Nat → Int → Mem → Option (Int × Mem)} (hk2 : ∀ (v0 : Nat) (v1 : Int) (M : Mem) (r : Int) (M' : Mem), m_kd M v0 = 5 → k2 v0 v1 M = some (r, M') → x_Z X 0 0 (x_QF X M0 (.returned (some (vI r))) M' 0 0) M0 M 2 [(0, .ref v0), (1, vI v1)] 2 []) (v0 : Nat) (M : Mem) (r : Int) (M' : Mem) (hv0 : m_kd M v0 = 5) (h : B_X5_cond_65 k2 v0 M = some (r, M'))  : x_Z X 0 0 (x_QF X M0 (.returned (some (vI r))) M' 0 0) M0 M 2 [(0, .ref v0)] 65 [] := by
  unfold B_X5_cond_65 at h
  refine z_iconst (pc := 65) C dX5_cond_65 ?_
  refine z_goto (pc := 66) C dX5_cond_66 (tgt := 70) (by decide) ?_
  exact cB_X5_cond_70 C hk2 v0 1 M _ _ hv0 h
theorem cB_X5_cond_2 {X : x_Ctx} {M0 : Mem} (C : x_CC X 6 149 yX5_cond cX5_cond 2 (some .boolean) []) {k2 : Nat → Int → Mem → Option (Int × Mem)} (hk2 : ∀ (v0 : Nat) (v1 : Int) (M : Mem) (r : Int) (M' : Mem), m_kd M v0 = 5 → k2 v0 v1 M = some (r, M') → x_Z X 0 0 (x_QF X M0 (.returned (some (vI r))) M' 0 0) M0 M 2 [(0, .ref v0), (1, vI v1)] 2 []) (v0 : Nat) (v1 : Int) (M : Mem) (r : Int) (M' : Mem) (hv0 : m_kd M v0 = 5) (h : B_X5_cond_2 k2 v0 v1 M = some (r, M'))  : x_Z X 0 0 (x_QF X M0 (.returned (some (vI r))) M' 0 0) M0 M 2 [(0, .ref v0), (1, vI v1)] 2 [] := by
  unfold B_X5_cond_2 at h
  refine z_iload_n (pc := 2) C 1 rfl dX5_cond_2 ?_
  refine z_if_eq (pc := 3) C dX5_cond_3 (tgt := 105) (by decide) (fun c1 => ?_) (fun c1 => ?_)
  · have h := itt c1 h
    refine z_iconst (pc := 105) C dX5_cond_105 ?_
    cases h
    exact z_zret (pc := 106) C rfl (Or.inr rfl) (show 0 ≤ 0 from by decide) (show 0 ≤ 0 from by decide) dX5_cond_106
  · have h := itf c1 h
    refine z_aload_n (pc := 6) C 0 rfl dX5_cond_6 ?_
    obtain ⟨r2, M3, e4, h⟩ := bNs h
    refine cX5_331 (pc := 7) (st := []) (st1 := [vI r2]) C rfl (rm := { frames := 5, cells := 0, slots := 0, locals := 125 }) (ct_X5_expr C.2.1 v0 M _ _ hv0 e4) ⟨by decide, by decide, Nat.zero_le _, Nat.zero_le _⟩ (Or.inl hv0) rfl (Nat.le_of_ble_eq_true rfl) dX5_cond_7 (c2 := 0) (s2 := 0) rfl rfl (fun x5 => ?_)
    have k6 := x5 _ 5 (by decide) (Or.inl (by decide)) hv0
    refine z_if_eq (pc := 10) C dX5_cond_10 (tgt := 21) (by decide) (fun c7 => ?_) (fun c7 => ?_)
    · have h := itt c7 h
      refine z_iconst (pc := 21) C dX5_cond_21 ?_
      cases h
      exact z_zret (pc := 22) C rfl (Or.inl rfl) (show 0 ≤ 0 from by decide) (show 0 ≤ 0 from by decide) dX5_cond_22
    · have h := itf c7 h
      refine z_aload_n (pc := 13) C 0 rfl dX5_cond_13 ?_
      refine gX5_529 (pc := 14) C rfl (Or.inl k6) rfl dX5_cond_14 ?_
      refine z_iconst (pc := 17) C dX5_cond_17 ?_
      refine z_ic_eq (pc := 18) C dX5_cond_18 (tgt := 23) (by decide) (fun c8 => ?_) (fun c8 => ?_)
      · have h := itt c8 h
        refine z_aload_n (pc := 23) C 0 rfl dX5_cond_23 ?_
        refine z_aload_n (pc := 24) C 0 rfl dX5_cond_24 ?_
        refine gX5_532 (pc := 25) C rfl (Or.inl k6) rfl dX5_cond_25 ?_
        refine z_iconst (pc := 28) C dX5_cond_28 ?_
        obtain ⟨r9, M10, e11, h⟩ := bNs h
        refine cX5_306 (pc := 29) (st := []) (st1 := []) C rfl (rm := { frames := 1, cells := 0, slots := 0, locals := 24 }) (ct_X5_lay C.2.1 v0 (m_i M3 532 v0 0) 0 M3 _ _ k6 e11) ⟨by decide, by decide, Nat.zero_le _, Nat.zero_le _⟩ (Or.inl k6) rfl (Nat.le_of_ble_eq_true rfl) dX5_cond_29 (c2 := 0) (s2 := 0) rfl rfl (fun x12 => ?_)
        have k13 := x12 _ 5 (by decide) (Or.inl (by decide)) k6
        refine z_aload_n (pc := 32) C 0 rfl dX5_cond_32 ?_
        obtain ⟨r14, M15, e16, h⟩ := bNs h
        refine cX5_310 (pc := 33) (st := []) (st1 := []) C rfl (rm := { frames := 3, cells := 0, slots := 0, locals := 76 }) (ct_X5_next C.2.1 v0 M10 _ _ k13 e16) ⟨by decide, by decide, Nat.zero_le _, Nat.zero_le _⟩ (Or.inl k13) rfl (Nat.le_of_ble_eq_true rfl) dX5_cond_33 (c2 := 0) (s2 := 0) rfl rfl (fun x17 => ?_)
        have k18 := x17 _ 5 (by decide) (Or.inl (by decide)) k13
        refine z_aload_n (pc := 36) C 0 rfl dX5_cond_36 ?_
        obtain ⟨r19, M20, e21, h⟩ := bNs h
        refine cX5_331 (pc := 37) (st := []) (st1 := [vI r19]) C rfl (rm := { frames := 5, cells := 0, slots := 0, locals := 125 }) (ct_X5_expr C.2.1 v0 M15 _ _ k18 e21) ⟨by decide, by decide, Nat.zero_le _, Nat.zero_le _⟩ (Or.inl k18) rfl (Nat.le_of_ble_eq_true rfl) dX5_cond_37 (c2 := 0) (s2 := 0) rfl rfl (fun x22 => ?_)
        have k23 := x22 _ 5 (by decide) (Or.inl (by decide)) k18
        refine z_if_ne (pc := 40) C dX5_cond_40 (tgt := 45) (by decide) (fun c24 => ?_) (fun c24 => ?_)
        · have h := itf c24 h
          refine z_aload_n (pc := 45) C 0 rfl dX5_cond_45 ?_
          refine z_ldc2 (pc := 46) C (x := 6385252) q1877 (by decide +kernel) dX5_cond_46 ?_
          refine cX5_313 (pc := 49) (st := []) (st1 := [vI (d_X5_isWord v0 6385252 M20)]) C rfl (rm := { frames := 1, cells := 0, slots := 0, locals := 24 }) (ct_X5_isWord C.2.1 v0 6385252 M20 _ k23 rfl) ⟨by decide, by decide, Nat.zero_le _, Nat.zero_le _⟩ (Or.inl k23) rfl (Nat.le_of_ble_eq_true rfl) dX5_cond_49 (c2 := 0) (s2 := 0) rfl rfl (fun _ => ?_)
          refine z_if_ne (pc := 52) C dX5_cond_52 (tgt := 65) (by decide) (fun c26 => ?_) (fun c26 => ?_)
          · have h := itf c26 h
            exact z_lv [0] rfl <| cB_X5_cond_65 C hk2 v0 M20 _ _ k23 h
          · have h := itt c26 h
            refine z_aload_n (pc := 55) C 0 rfl dX5_cond_55 ?_
            refine z_ldc2 (pc := 56) C (x := 28530) q1878 (by decide +kernel) dX5_cond_56 ?_
            refine cX5_313 (pc := 59) (st := []) (st1 := [vI (d_X5_isWord v0 28530 M20)]) C rfl (rm := { frames := 1, cells := 0, slots := 0, locals := 24 }) (ct_X5_isWord C.2.1 v0 28530 M20 _ k23 rfl) ⟨by decide, by decide, Nat.zero_le _, Nat.zero_le _⟩ (Or.inl k23) rfl (Nat.le_of_ble_eq_true rfl) dX5_cond_59 (c2 := 0) (s2 := 0) rfl rfl (fun _ => ?_)
            refine z_if_eq (pc := 62) C dX5_cond_62 (tgt := 69) (by decide) (fun c50 => ?_) (fun c50 => ?_)
            · have h := itt c50 h
              refine z_iconst (pc := 69) C dX5_cond_69 ?_
              exact z_lv [0] rfl <| cB_X5_cond_70 C hk2 v0 0 M20 _ _ k23 h
            · have h := itf c50 h
              exact z_lv [0] rfl <| cB_X5_cond_65 C hk2 v0 M20 _ _ k23 h
        · have h := itt c24 h
          refine z_iconst (pc := 43) C dX5_cond_43 ?_
          cases h
          exact z_zret (pc := 44) C rfl (Or.inl rfl) (show 0 ≤ 0 from by decide) (show 0 ≤ 0 from by decide) dX5_cond_44
      · have h := itf c8 h
        refine z_iconst (pc := 21) C dX5_cond_21 ?_
        cases h
        exact z_zret (pc := 22) C rfl (Or.inl rfl) (show 0 ≤ 0 from by decide) (show 0 ≤ 0 from by decide) dX5_cond_22
theorem cL_X5_cond_2 {X : x_Ctx} {M0 : Mem} (C : x_CC X 6 149 yX5_cond cX5_cond 2 (some .boolean) [])  : ∀ (n : Nat) (v0 : Nat) (v1 : Int) (M : Mem) (r : Int) (M' : Mem) (hv0 : m_kd M v0 = 5) (h : L_X5_cond_2  n v0 v1 M = some (r, M')) , x_Z X 0 0 (x_QF X M0 (.returned (some (vI r))) M' 0 0) M0 M 2 [(0, .ref v0), (1, vI v1)] 2 [] := by
  intro n
  induction n with
  | zero => intro v0 v1 M r M' hv0 h ; cases h
  | succ n ih => intro v0 v1 M r M' hv0 h ; exact cB_X5_cond_2 C (fun v0 v1 M r M' hv0 h  => ih v0 v1 M r M' hv0 h ) v0 v1 M r M' hv0 h 
theorem ct_X5_cond {l : Launch} {S0 : State} {D : va_G} {cA : Nat → ClassId} (hG : x_G l S0 D cA) (v0 : Nat) (M : Mem) (r : Int) (M' : Mem) (hv0 : m_kd M v0 = 5) (h : d_X5_cond v0 M = some (r, M')) : x_Me l S0 D cA yX5_cond cX5_cond 2 (some .boolean) [] ({ frames := 6, cells := 0, slots := 0, locals := 149 }) [.ref v0] M (.returned (some (vI r))) M' := by
  refine x_begin (F := 6) (Lo := 149) (mc := 0) (ms := 0) hG (Nat.le_of_ble_eq_true rfl) (lv := [(0, .ref v0)]) rfl rfl rfl rfl rfl (fun X e1 e2 e3 e4 e5 C => ?_)
  unfold d_X5_cond at h
  refine z_iconst (pc := 0) C dX5_cond_0 ?_
  refine z_istore_n (pc := 1) C (lv' := [(0, .ref v0), (1, vI 1)]) (by decide) rfl dX5_cond_1 ?_
  exact cL_X5_cond_2 C FU v0 1 M _ _ hv0 h
def B_X5_isStatement_403  (v0 : Nat) (M : Mem) : Option (Int × Mem) :=
  if w32 (m_i M 529 v0 0) = w32 6 then
    some (1, M)
  else
    some (0, M)
def B_X5_isStatement_369  (v0 : Nat) (v1 : Int) (v4 : Int) (M : Mem) : Option (Int × Mem) :=
  if w32 v4 = 0 then
    B_X5_isStatement_403 v0 M
  else
    if inb v1 120 then 
    bN (d_X5_cond v0 (m_si M 523 v0 (ixn v1) (m_i M 527 v0 0))) fun r27 M28 => 
    if w32 r27 = 0 then
      some (0, M28)
    else
      B_X5_isStatement_403 v0 (m_si M28 524 v0 (ixn v1) (m_i M28 527 v0 0)) else none
def B_X5_isStatement_345  (v0 : Nat) (v1 : Int) (v2 : Int) (s0 : Int) (M : Mem) : Option (Int × Mem) :=
  if w32 1 < w32 v2 then
    B_X5_isStatement_369 v0 v1 s0 M
  else
    if w32 (d_X5_isWord v0 26982 M) = 0 then
      B_X5_isStatement_369 v0 v1 s0 M
    else
      bN (d_X5_next v0 M) fun r35 M36 => 
      B_X5_isStatement_369 v0 v1 1 M36
def B_X5_isStatement_335  (v0 : Nat) (v1 : Int) (v2 : Int) (M : Mem) : Option (Int × Mem) :=
  if w32 v2 < w32 2 then
    B_X5_isStatement_345 v0 v1 v2 0 M
  else
    B_X5_isStatement_345 v0 v1 v2 1 M
def B_X5_isStatement_325  (v0 : Nat) (v1 : Int) (v2 : Int) (M : Mem) : Option (Int × Mem) :=
  if inb v1 120 then 
  B_X5_isStatement_335 v0 v1 v2 (m_si M 522 v0 (ixn v1) (m_i M 527 v0 0)) else none
def B_X5_isStatement_207  (v0 : Nat) (v1 : Int) (v2 : Int) (s0 : Nat) (s1 : Int) (s2 : Int) (M : Mem) : Option (Int × Mem) :=
  if inb s1 120 then 
  if inb v1 120 then 
  bN (d_X5_next v0 (m_si (m_si (m_si (m_si (m_si M 520 s0 (ixn s1) s2) 521 v0 (ixn v1) (m_i M 527 v0 0)) 522 v0 (ixn v1) (m_i M 527 v0 0)) 523 v0 (ixn v1) (-1)) 524 v0 (ixn v1) (-1))) fun r16 M17 => 
  if w32 1 < w32 v2 then
    B_X5_isStatement_335 v0 v1 v2 M17
  else
    if w32 (m_i M17 529 v0 0) = w32 2 then
      if w32 (d_X5_isKept (m_i M17 531 v0 0)) = 0 then
        bR (d_X5_nameOf v0 (m_i M17 514 v0 0) (m_i M17 531 v0 0) M17) fun r43 => 
        if w32 r43 = w32 (-1) then
          bN (d_X5_next v0 (m_si M17 517 v0 (ixn v1) (m_i M17 531 v0 0))) fun r46 M47 => 
          if w32 v2 = 0 then
            bN (d_X5_isBounds v0 v1 M47) fun r59 M60 => 
            if w32 r59 = 0 then
              some (0, M60)
            else
              B_X5_isStatement_325 v0 v1 v2 M60
          else
            bN (d_X5_expr v0 M47) fun r52 M53 => 
            if w32 r52 = 0 then
              some (0, M53)
            else
              B_X5_isStatement_325 v0 v1 v2 M53
        else
          some (0, M17)
      else
        some (0, M17)
    else
      some (0, M17) else none else none
def B_X5_isStatement_172  (v0 : Nat) (v1 : Int) (v2 : Int) (M : Mem) : Option (Int × Mem) :=
  if inb v1 120 then 
  if w32 v2 = 0 then
    B_X5_isStatement_207 v0 v1 v2 v0 v1 1 (m_si (m_si (m_si M 516 v0 (ixn v1) v2) 518 v0 (ixn v1) 0) 519 v0 (ixn v1) 0)
  else
    B_X5_isStatement_207 v0 v1 v2 v0 v1 0 (m_si (m_si (m_si M 516 v0 (ixn v1) v2) 518 v0 (ixn v1) 0) 519 v0 (ixn v1) 0) else none
def B_X5_isStatement_109 (k109 : Nat → Int → Int → Int → Int → Mem → Option (Int × Mem)) (v0 : Nat) (v1 : Int) (v2 : Int) (v3 : Int) (v4 : Int) (M : Mem) : Option (Int × Mem) :=
  if inb (m_i M 514 v0 0) 6 then 
  if w32 (m_i M 515 v0 (ixn (m_i M 514 v0 0))) ≤ w32 v4 then
    if w32 v2 = w32 (-1) then
      some (0, M)
    else
      if w32 v2 = 0 then
        if w32 v3 = w32 10 then
          some (0, M)
        else
          B_X5_isStatement_172 v0 v1 v2 M
      else
        B_X5_isStatement_172 v0 v1 v2 M
  else
    if inb ((20 * (m_i M 514 v0 0)) + v4) 120 then 
    if w32 (m_i M 516 v0 (ixn ((20 * (m_i M 514 v0 0)) + v4))) = 0 then
      k109 v0 v1 v2 (v3 + 1) (v4 + 1) M
    else
      k109 v0 v1 v2 (v3 + 0) (v4 + 1) M else none else none
def L_X5_isStatement_109  : Nat → Nat → Int → Int → Int → Int → Mem → Option (Int × Mem)
  | 0, _, _, _, _, _, _ => none
  | n + 1, v0, v1, v2, v3, v4, M => B_X5_isStatement_109 (L_X5_isStatement_109  n) v0 v1 v2 v3 v4 M
def d_X5_isStatement (v0 : Nat) (M : Mem) : Option (Int × Mem) :=
  if w32 (m_i M 529 v0 0) = w32 2 then
    if inb (m_i M 514 v0 0) 6 then 
    if w32 (m_i M 515 v0 (ixn (m_i M 514 v0 0))) = w32 20 then
      some (0, M)
    else
      if w64 (m_i M 531 v0 0) = w64 6386539 then
        L_X5_isStatement_109 FU v0 ((20 * (m_i M 514 v0 0)) + (m_i M 515 v0 (ixn (m_i M 514 v0 0)))) 0 0 0 M
      else
        if w64 (m_i M 531 v0 0) = w64 7103860 then
          L_X5_isStatement_109 FU v0 ((20 * (m_i M 514 v0 0)) + (m_i M 515 v0 (ixn (m_i M 514 v0 0)))) 1 0 0 M
        else
          if w64 (m_i M 531 v0 0) = w64 1836413812 then
            L_X5_isStatement_109 FU v0 ((20 * (m_i M 514 v0 0)) + (m_i M 515 v0 (ixn (m_i M 514 v0 0)))) 2 0 0 M
          else
            if w64 (m_i M 531 v0 0) = w64 2002874990 then
              L_X5_isStatement_109 FU v0 ((20 * (m_i M 514 v0 0)) + (m_i M 515 v0 (ixn (m_i M 514 v0 0)))) 3 0 0 M
            else
              L_X5_isStatement_109 FU v0 ((20 * (m_i M 514 v0 0)) + (m_i M 515 v0 (ixn (m_i M 514 v0 0)))) (-1) 0 0 M else none
  else
    some (0, M)
theorem cB_X5_isStatement_403 {X : x_Ctx} {M0 : Mem} (C : x_CC X 7 174 yX5_isStatement cX5_isStatement 5 (some .boolean) [])  (v0 : Nat) (M : Mem) (r : Int) (M' : Mem) (hv0 : m_kd M v0 = 5) (h : B_X5_isStatement_403  v0 M = some (r, M'))  : x_Z X 0 0 (x_QF X M0 (.returned (some (vI r))) M' 0 0) M0 M 5 [(0, .ref v0)] 403 [] := by
  unfold B_X5_isStatement_403 at h
  refine z_aload_n (pc := 403) C 0 rfl dX5_isStatement_403 ?_
  refine gX5_529 (pc := 404) C rfl (Or.inl hv0) rfl dX5_isStatement_404 ?_
  refine z_bipush (pc := 407) C (by decide +kernel) dX5_isStatement_407 ?_
  refine z_ic_ne (pc := 409) C dX5_isStatement_409 (tgt := 416) (by decide) (fun c25 => ?_) (fun c25 => ?_)
  · have h := itf c25 h
    refine z_iconst (pc := 416) C dX5_isStatement_416 ?_
    cases h
    exact z_zret (pc := 417) C rfl (Or.inl rfl) (show 0 ≤ 0 from by decide) (show 0 ≤ 0 from by decide) dX5_isStatement_417
  · have h := itt c25 h
    refine z_iconst (pc := 412) C dX5_isStatement_412 ?_
    refine z_goto (pc := 413) C dX5_isStatement_413 (tgt := 417) (by decide) ?_
    cases h
    exact z_zret (pc := 417) C rfl (Or.inr rfl) (show 0 ≤ 0 from by decide) (show 0 ≤ 0 from by decide) dX5_isStatement_417
theorem cB_X5_isStatement_369 {X : x_Ctx} {M0 : Mem} (C : x_CC X 7 174 yX5_isStatement cX5_isStatement 5 (some .boolean) [])  (v0 : Nat) (v1 : Int) (v4 : Int) (M : Mem) (r : Int) (M' : Mem) (hv0 : m_kd M v0 = 5) (h : B_X5_isStatement_369  v0 v1 v4 M = some (r, M'))  : x_Z X 0 0 (x_QF X M0 (.returned (some (vI r))) M' 0 0) M0 M 5 [(0, .ref v0), (1, vI v1), (4, vI v4)] 369 [] := by
  unfold B_X5_isStatement_369 at h
  refine z_iload (pc := 369) C 2 rfl dX5_isStatement_369 ?_
  refine z_if_eq (pc := 371) C dX5_isStatement_371 (tgt := 403) (by decide) (fun c24 => ?_) (fun c24 => ?_)
  · have h := itt c24 h
    exact z_lv [0] rfl <| cB_X5_isStatement_403 C v0 M _ _ hv0 h
  · have h := itf c24 h
    refine z_aload_n (pc := 374) C 0 rfl dX5_isStatement_374 ?_
    refine gX5_523 (pc := 375) C rfl hv0 dX5_isStatement_375 ?_
    refine z_iload_n (pc := 378) C 1 rfl dX5_isStatement_378 ?_
    refine z_aload_n (pc := 379) C 0 rfl dX5_isStatement_379 ?_
    refine gX5_527 (pc := 380) C rfl (Or.inl hv0) rfl dX5_isStatement_380 ?_
    obtain ⟨c26, h⟩ := ifn h
    refine z_isO (pc := 383) (k := 5) (j := 23) C 523 rfl (by decide) (by decide) (by decide) rfl rfl rfl rfl hv0 c26 dX5_isStatement_383 ?_
    refine z_aload_n (pc := 384) C 0 rfl dX5_isStatement_384 ?_
    obtain ⟨r27, M28, e29, h⟩ := bNs h
    refine cX5_340 (pc := 385) (st := []) (st1 := [vI r27]) C rfl (rm := { frames := 6, cells := 0, slots := 0, locals := 149 }) (ct_X5_cond C.2.1 v0 (m_si M 523 v0 (ixn v1) (m_i M 527 v0 0)) _ _ hv0 e29) ⟨by decide, by decide, Nat.zero_le _, Nat.zero_le _⟩ (Or.inl hv0) rfl (Nat.le_of_ble_eq_true rfl) dX5_isStatement_385 (c2 := 0) (s2 := 0) rfl rfl (fun x30 => ?_)
    have k31 := x30 _ 5 (by decide) (Or.inl (by decide)) hv0
    refine z_if_ne (pc := 388) C dX5_isStatement_388 (tgt := 393) (by decide) (fun c32 => ?_) (fun c32 => ?_)
    · have h := itf c32 h
      refine z_aload_n (pc := 393) C 0 rfl dX5_isStatement_393 ?_
      refine gX5_524 (pc := 394) C rfl k31 dX5_isStatement_394 ?_
      refine z_iload_n (pc := 397) C 1 rfl dX5_isStatement_397 ?_
      refine z_aload_n (pc := 398) C 0 rfl dX5_isStatement_398 ?_
      refine gX5_527 (pc := 399) C rfl (Or.inl k31) rfl dX5_isStatement_399 ?_
      refine z_isO (pc := 402) (k := 5) (j := 24) C 524 rfl (by decide) (by decide) (by decide) rfl rfl rfl rfl k31 c26 dX5_isStatement_402 ?_
      exact z_lv [0] rfl <| cB_X5_isStatement_403 C v0 (m_si M28 524 v0 (ixn v1) (m_i M28 527 v0 0)) _ _ k31 h
    · have h := itt c32 h
      refine z_iconst (pc := 391) C dX5_isStatement_391 ?_
      cases h
      exact z_zret (pc := 392) C rfl (Or.inl rfl) (show 0 ≤ 0 from by decide) (show 0 ≤ 0 from by decide) dX5_isStatement_392
theorem cB_X5_isStatement_345 {X : x_Ctx} {M0 : Mem} (C : x_CC X 7 174 yX5_isStatement cX5_isStatement 5 (some .boolean) [])  (v0 : Nat) (v1 : Int) (v2 : Int) (s0 : Int) (M : Mem) (r : Int) (M' : Mem) (hv0 : m_kd M v0 = 5) (h : B_X5_isStatement_345  v0 v1 v2 s0 M = some (r, M'))  : x_Z X 0 0 (x_QF X M0 (.returned (some (vI r))) M' 0 0) M0 M 5 [(0, .ref v0), (1, vI v1), (2, vI v2)] 345 [vI s0] := by
  unfold B_X5_isStatement_345 at h
  refine z_istore (pc := 345) C (lv' := [(0, .ref v0), (1, vI v1), (2, vI v2), (4, vI s0)]) (by decide) rfl dX5_isStatement_345 ?_
  refine z_iload_n (pc := 347) C 2 rfl dX5_isStatement_347 ?_
  refine z_iconst (pc := 348) C dX5_isStatement_348 ?_
  refine z_ic_gt (pc := 349) C dX5_isStatement_349 (tgt := 369) (by decide) (fun c23 => ?_) (fun c23 => ?_)
  · have h := itt c23 h
    exact z_lv [0, 1, 3] rfl <| cB_X5_isStatement_369 C v0 v1 s0 M _ _ hv0 h
  · have h := itf c23 h
    refine z_aload_n (pc := 352) C 0 rfl dX5_isStatement_352 ?_
    refine z_ldc2 (pc := 353) C (x := 26982) q1876 (by decide +kernel) dX5_isStatement_353 ?_
    refine cX5_313 (pc := 356) (st := []) (st1 := [vI (d_X5_isWord v0 26982 M)]) C rfl (rm := { frames := 1, cells := 0, slots := 0, locals := 24 }) (ct_X5_isWord C.2.1 v0 26982 M _ hv0 rfl) ⟨by decide, by decide, Nat.zero_le _, Nat.zero_le _⟩ (Or.inl hv0) rfl (Nat.le_of_ble_eq_true rfl) dX5_isStatement_356 (c2 := 0) (s2 := 0) rfl rfl (fun _ => ?_)
    refine z_if_eq (pc := 359) C dX5_isStatement_359 (tgt := 369) (by decide) (fun c34 => ?_) (fun c34 => ?_)
    · have h := itt c34 h
      exact z_lv [0, 1, 3] rfl <| cB_X5_isStatement_369 C v0 v1 s0 M _ _ hv0 h
    · have h := itf c34 h
      refine z_iconst (pc := 362) C dX5_isStatement_362 ?_
      refine z_istore (pc := 363) C (lv' := [(0, .ref v0), (1, vI v1), (2, vI v2), (4, vI 1)]) (by decide) rfl dX5_isStatement_363 ?_
      refine z_aload_n (pc := 365) C 0 rfl dX5_isStatement_365 ?_
      obtain ⟨r35, M36, e37, h⟩ := bNs h
      refine cX5_310 (pc := 366) (st := []) (st1 := []) C rfl (rm := { frames := 3, cells := 0, slots := 0, locals := 76 }) (ct_X5_next C.2.1 v0 M _ _ hv0 e37) ⟨by decide, by decide, Nat.zero_le _, Nat.zero_le _⟩ (Or.inl hv0) rfl (Nat.le_of_ble_eq_true rfl) dX5_isStatement_366 (c2 := 0) (s2 := 0) rfl rfl (fun x38 => ?_)
      have k39 := x38 _ 5 (by decide) (Or.inl (by decide)) hv0
      exact z_lv [0, 1, 3] rfl <| cB_X5_isStatement_369 C v0 v1 1 M36 _ _ k39 h
theorem cB_X5_isStatement_335 {X : x_Ctx} {M0 : Mem} (C : x_CC X 7 174 yX5_isStatement cX5_isStatement 5 (some .boolean) [])  (v0 : Nat) (v1 : Int) (v2 : Int) (M : Mem) (r : Int) (M' : Mem) (hv0 : m_kd M v0 = 5) (h : B_X5_isStatement_335  v0 v1 v2 M = some (r, M'))  : x_Z X 0 0 (x_QF X M0 (.returned (some (vI r))) M' 0 0) M0 M 5 [(0, .ref v0), (1, vI v1), (2, vI v2)] 335 [] := by
  unfold B_X5_isStatement_335 at h
  refine z_iload_n (pc := 335) C 2 rfl dX5_isStatement_335 ?_
  refine z_iconst (pc := 336) C dX5_isStatement_336 ?_
  refine z_ic_lt (pc := 337) C dX5_isStatement_337 (tgt := 344) (by decide) (fun c22 => ?_) (fun c22 => ?_)
  · have h := itt c22 h
    refine z_iconst (pc := 344) C dX5_isStatement_344 ?_
    exact cB_X5_isStatement_345 C v0 v1 v2 0 M _ _ hv0 h
  · have h := itf c22 h
    refine z_iconst (pc := 340) C dX5_isStatement_340 ?_
    refine z_goto (pc := 341) C dX5_isStatement_341 (tgt := 345) (by decide) ?_
    exact cB_X5_isStatement_345 C v0 v1 v2 1 M _ _ hv0 h
theorem cB_X5_isStatement_325 {X : x_Ctx} {M0 : Mem} (C : x_CC X 7 174 yX5_isStatement cX5_isStatement 5 (some .boolean) [])  (v0 : Nat) (v1 : Int) (v2 : Int) (M : Mem) (r : Int) (M' : Mem) (hv0 : m_kd M v0 = 5) (h : B_X5_isStatement_325  v0 v1 v2 M = some (r, M'))  : x_Z X 0 0 (x_QF X M0 (.returned (some (vI r))) M' 0 0) M0 M 5 [(0, .ref v0), (1, vI v1), (2, vI v2)] 325 [] := by
  unfold B_X5_isStatement_325 at h
  refine z_aload_n (pc := 325) C 0 rfl dX5_isStatement_325 ?_
  refine gX5_522 (pc := 326) C rfl hv0 dX5_isStatement_326 ?_
  refine z_iload_n (pc := 329) C 1 rfl dX5_isStatement_329 ?_
  refine z_aload_n (pc := 330) C 0 rfl dX5_isStatement_330 ?_
  refine gX5_527 (pc := 331) C rfl (Or.inl hv0) rfl dX5_isStatement_331 ?_
  obtain ⟨c58, h⟩ := ifn h
  refine z_isO (pc := 334) (k := 5) (j := 22) C 522 rfl (by decide) (by decide) (by decide) rfl rfl rfl rfl hv0 c58 dX5_isStatement_334 ?_
  exact cB_X5_isStatement_335 C v0 v1 v2 (m_si M 522 v0 (ixn v1) (m_i M 527 v0 0)) _ _ hv0 h
theorem cB_X5_isStatement_207 {X : x_Ctx} {M0 : Mem} (C : x_CC X 7 174 yX5_isStatement cX5_isStatement 5 (some .boolean) [])  (v0 : Nat) (v1 : Int) (v2 : Int) (s0 : Nat) (s1 : Int) (s2 : Int) (M : Mem) (r : Int) (M' : Mem) (hv0 : m_kd M v0 = 5) (hs0 : m_kd M s0 = 5) (h : B_X5_isStatement_207  v0 v1 v2 s0 s1 s2 M = some (r, M'))  : x_Z X 0 0 (x_QF X M0 (.returned (some (vI r))) M' 0 0) M0 M 5 [(0, .ref v0), (1, vI v1), (2, vI v2)] 207 [vI s2, vI s1, .ref (s0 + 14)] := by
  unfold B_X5_isStatement_207 at h
  obtain ⟨c14, h⟩ := ifn h
  refine z_isO (pc := 207) (k := 5) (j := 20) C 520 rfl (by decide) (by decide) (by decide) rfl rfl rfl rfl hs0 c14 dX5_isStatement_207 ?_
  refine z_aload_n (pc := 208) C 0 rfl dX5_isStatement_208 ?_
  refine gX5_521 (pc := 209) C rfl hv0 dX5_isStatement_209 ?_
  refine z_iload_n (pc := 212) C 1 rfl dX5_isStatement_212 ?_
  refine z_aload_n (pc := 213) C 0 rfl dX5_isStatement_213 ?_
  refine gX5_527 (pc := 214) C rfl (Or.inl hv0) (x := m_i M 527 v0 0) ((m_i_ne (by decide)).trans rfl) dX5_isStatement_214 ?_
  obtain ⟨c15, h⟩ := ifn h
  refine z_isO (pc := 217) (k := 5) (j := 21) C 521 rfl (by decide) (by decide) (by decide) rfl rfl rfl rfl hv0 c15 dX5_isStatement_217 ?_
  refine z_aload_n (pc := 218) C 0 rfl dX5_isStatement_218 ?_
  refine gX5_522 (pc := 219) C rfl hv0 dX5_isStatement_219 ?_
  refine z_iload_n (pc := 222) C 1 rfl dX5_isStatement_222 ?_
  refine z_aload_n (pc := 223) C 0 rfl dX5_isStatement_223 ?_
  refine gX5_527 (pc := 224) C rfl (Or.inl hv0) (x := m_i M 527 v0 0) ((m_i_ne (by decide)).trans ((m_i_ne (by decide)).trans rfl)) dX5_isStatement_224 ?_
  refine z_isO (pc := 227) (k := 5) (j := 22) C 522 rfl (by decide) (by decide) (by decide) rfl rfl rfl rfl hv0 c15 dX5_isStatement_227 ?_
  refine z_aload_n (pc := 228) C 0 rfl dX5_isStatement_228 ?_
  refine gX5_523 (pc := 229) C rfl hv0 dX5_isStatement_229 ?_
  refine z_iload_n (pc := 232) C 1 rfl dX5_isStatement_232 ?_
  refine z_iconst (pc := 233) C dX5_isStatement_233 ?_
  refine z_isO (pc := 234) (k := 5) (j := 23) C 523 rfl (by decide) (by decide) (by decide) rfl rfl rfl rfl hv0 c15 dX5_isStatement_234 ?_
  refine z_aload_n (pc := 235) C 0 rfl dX5_isStatement_235 ?_
  refine gX5_524 (pc := 236) C rfl hv0 dX5_isStatement_236 ?_
  refine z_iload_n (pc := 239) C 1 rfl dX5_isStatement_239 ?_
  refine z_iconst (pc := 240) C dX5_isStatement_240 ?_
  refine z_isO (pc := 241) (k := 5) (j := 24) C 524 rfl (by decide) (by decide) (by decide) rfl rfl rfl rfl hv0 c15 dX5_isStatement_241 ?_
  refine z_aload_n (pc := 242) C 0 rfl dX5_isStatement_242 ?_
  obtain ⟨r16, M17, e18, h⟩ := bNs h
  refine cX5_310 (pc := 243) (st := []) (st1 := []) C rfl (rm := { frames := 3, cells := 0, slots := 0, locals := 76 }) (ct_X5_next C.2.1 v0 (m_si (m_si (m_si (m_si (m_si M 520 s0 (ixn s1) s2) 521 v0 (ixn v1) (m_i M 527 v0 0)) 522 v0 (ixn v1) (m_i M 527 v0 0)) 523 v0 (ixn v1) (-1)) 524 v0 (ixn v1) (-1)) _ _ hv0 e18) ⟨by decide, by decide, Nat.zero_le _, Nat.zero_le _⟩ (Or.inl hv0) rfl (Nat.le_of_ble_eq_true rfl) dX5_isStatement_243 (c2 := 0) (s2 := 0) rfl rfl (fun x19 => ?_)
  have k20 := x19 _ 5 (by decide) (Or.inl (by decide)) hv0
  refine z_iload_n (pc := 246) C 2 rfl dX5_isStatement_246 ?_
  refine z_iconst (pc := 247) C dX5_isStatement_247 ?_
  refine z_ic_gt (pc := 248) C dX5_isStatement_248 (tgt := 335) (by decide) (fun c21 => ?_) (fun c21 => ?_)
  · have h := itt c21 h
    exact cB_X5_isStatement_335 C v0 v1 v2 M17 _ _ k20 h
  · have h := itf c21 h
    refine z_aload_n (pc := 251) C 0 rfl dX5_isStatement_251 ?_
    refine gX5_529 (pc := 252) C rfl (Or.inl k20) rfl dX5_isStatement_252 ?_
    refine z_iconst (pc := 255) C dX5_isStatement_255 ?_
    refine z_ic_ne (pc := 256) C dX5_isStatement_256 (tgt := 285) (by decide) (fun c40 => ?_) (fun c40 => ?_)
    · have h := itf c40 h
      refine z_iconst (pc := 285) C dX5_isStatement_285 ?_
      cases h
      exact z_zret (pc := 286) C rfl (Or.inl rfl) (show 0 ≤ 0 from by decide) (show 0 ≤ 0 from by decide) dX5_isStatement_286
    · have h := itt c40 h
      refine z_aload_n (pc := 259) C 0 rfl dX5_isStatement_259 ?_
      refine gX5_531 (pc := 260) C rfl (Or.inl k20) rfl dX5_isStatement_260 ?_
      refine cX5_317 (pc := 263) (st := []) (st1 := [vI (d_X5_isKept (m_i M17 531 v0 0))]) C rfl (rm := { frames := 1, cells := 0, slots := 0, locals := 24 }) (ct_X5_isKept C.2.1 (m_i M17 531 v0 0) M17 _  rfl) ⟨by decide, by decide, Nat.zero_le _, Nat.zero_le _⟩ rfl (Nat.le_of_ble_eq_true rfl) dX5_isStatement_263 (c2 := 0) (s2 := 0) rfl rfl (fun _ => ?_)
      refine z_if_ne (pc := 266) C dX5_isStatement_266 (tgt := 285) (by decide) (fun c42 => ?_) (fun c42 => ?_)
      · have h := itf c42 h
        refine z_iconst (pc := 285) C dX5_isStatement_285 ?_
        cases h
        exact z_zret (pc := 286) C rfl (Or.inl rfl) (show 0 ≤ 0 from by decide) (show 0 ≤ 0 from by decide) dX5_isStatement_286
      · have h := itt c42 h
        refine z_aload_n (pc := 269) C 0 rfl dX5_isStatement_269 ?_
        refine z_aload_n (pc := 270) C 0 rfl dX5_isStatement_270 ?_
        refine gX5_514 (pc := 271) C rfl (Or.inl k20) rfl dX5_isStatement_271 ?_
        refine z_aload_n (pc := 274) C 0 rfl dX5_isStatement_274 ?_
        refine gX5_531 (pc := 275) C rfl (Or.inl k20) rfl dX5_isStatement_275 ?_
        obtain ⟨r43, e44, h⟩ := bRs h
        refine cX5_323 (pc := 278) (st := []) (st1 := [vI r43]) C rfl (rm := { frames := 1, cells := 0, slots := 0, locals := 24 }) (ct_X5_nameOf C.2.1 v0 (m_i M17 514 v0 0) (m_i M17 531 v0 0) M17 _ k20 e44) ⟨by decide, by decide, Nat.zero_le _, Nat.zero_le _⟩ (Or.inl k20) rfl (Nat.le_of_ble_eq_true rfl) dX5_isStatement_278 (c2 := 0) (s2 := 0) rfl rfl (fun _ => ?_)
        refine z_iconst (pc := 281) C dX5_isStatement_281 ?_
        refine z_ic_eq (pc := 282) C dX5_isStatement_282 (tgt := 287) (by decide) (fun c45 => ?_) (fun c45 => ?_)
        · have h := itt c45 h
          refine z_aload_n (pc := 287) C 0 rfl dX5_isStatement_287 ?_
          refine gX5_517 (pc := 288) C rfl k20 dX5_isStatement_288 ?_
          refine z_iload_n (pc := 291) C 1 rfl dX5_isStatement_291 ?_
          refine z_aload_n (pc := 292) C 0 rfl dX5_isStatement_292 ?_
          refine gX5_531 (pc := 293) C rfl (Or.inl k20) rfl dX5_isStatement_293 ?_
          refine z_lsO (pc := 296) (k := 5) (j := 17) C 517 rfl (by decide) (by decide) (by decide) rfl rfl rfl rfl k20 c15 dX5_isStatement_296 ?_
          refine z_aload_n (pc := 297) C 0 rfl dX5_isStatement_297 ?_
          obtain ⟨r46, M47, e48, h⟩ := bNs h
          refine cX5_310 (pc := 298) (st := []) (st1 := []) C rfl (rm := { frames := 3, cells := 0, slots := 0, locals := 76 }) (ct_X5_next C.2.1 v0 (m_si M17 517 v0 (ixn v1) (m_i M17 531 v0 0)) _ _ k20 e48) ⟨by decide, by decide, Nat.zero_le _, Nat.zero_le _⟩ (Or.inl k20) rfl (Nat.le_of_ble_eq_true rfl) dX5_isStatement_298 (c2 := 0) (s2 := 0) rfl rfl (fun x49 => ?_)
          have k50 := x49 _ 5 (by decide) (Or.inl (by decide)) k20
          refine z_iload_n (pc := 301) C 2 rfl dX5_isStatement_301 ?_
          refine z_if_ne (pc := 302) C dX5_isStatement_302 (tgt := 316) (by decide) (fun c51 => ?_) (fun c51 => ?_)
          · have h := itf c51 h
            refine z_aload_n (pc := 316) C 0 rfl dX5_isStatement_316 ?_
            obtain ⟨r52, M53, e54, h⟩ := bNs h
            refine cX5_331 (pc := 317) (st := []) (st1 := [vI r52]) C rfl (rm := { frames := 5, cells := 0, slots := 0, locals := 125 }) (ct_X5_expr C.2.1 v0 M47 _ _ k50 e54) ⟨by decide, by decide, Nat.zero_le _, Nat.zero_le _⟩ (Or.inl k50) rfl (Nat.le_of_ble_eq_true rfl) dX5_isStatement_317 (c2 := 0) (s2 := 0) rfl rfl (fun x55 => ?_)
            have k56 := x55 _ 5 (by decide) (Or.inl (by decide)) k50
            refine z_if_ne (pc := 320) C dX5_isStatement_320 (tgt := 325) (by decide) (fun c57 => ?_) (fun c57 => ?_)
            · have h := itf c57 h
              exact cB_X5_isStatement_325 C v0 v1 v2 M53 _ _ k56 h
            · have h := itt c57 h
              refine z_iconst (pc := 323) C dX5_isStatement_323 ?_
              cases h
              exact z_zret (pc := 324) C rfl (Or.inl rfl) (show 0 ≤ 0 from by decide) (show 0 ≤ 0 from by decide) dX5_isStatement_324
          · have h := itt c51 h
            refine z_aload_n (pc := 305) C 0 rfl dX5_isStatement_305 ?_
            refine z_iload_n (pc := 306) C 1 rfl dX5_isStatement_306 ?_
            obtain ⟨r59, M60, e61, h⟩ := bNs h
            refine cX5_337 (pc := 307) (st := []) (st1 := [vI r59]) C rfl (rm := { frames := 5, cells := 0, slots := 0, locals := 126 }) (ct_X5_isBounds C.2.1 v0 v1 M47 _ _ k50 e61) ⟨by decide, by decide, Nat.zero_le _, Nat.zero_le _⟩ (Or.inl k50) rfl (Nat.le_of_ble_eq_true rfl) dX5_isStatement_307 (c2 := 0) (s2 := 0) rfl rfl (fun x62 => ?_)
            have k63 := x62 _ 5 (by decide) (Or.inl (by decide)) k50
            refine z_if_ne (pc := 310) C dX5_isStatement_310 (tgt := 325) (by decide) (fun c64 => ?_) (fun c64 => ?_)
            · have h := itf c64 h
              exact cB_X5_isStatement_325 C v0 v1 v2 M60 _ _ k63 h
            · have h := itt c64 h
              refine z_goto (pc := 313) C dX5_isStatement_313 (tgt := 323) (by decide) ?_
              refine z_iconst (pc := 323) C dX5_isStatement_323 ?_
              cases h
              exact z_zret (pc := 324) C rfl (Or.inl rfl) (show 0 ≤ 0 from by decide) (show 0 ≤ 0 from by decide) dX5_isStatement_324
        · have h := itf c45 h
          refine z_iconst (pc := 285) C dX5_isStatement_285 ?_
          cases h
          exact z_zret (pc := 286) C rfl (Or.inl rfl) (show 0 ≤ 0 from by decide) (show 0 ≤ 0 from by decide) dX5_isStatement_286
theorem cB_X5_isStatement_172 {X : x_Ctx} {M0 : Mem} (C : x_CC X 7 174 yX5_isStatement cX5_isStatement 5 (some .boolean) [])  (v0 : Nat) (v1 : Int) (v2 : Int) (M : Mem) (r : Int) (M' : Mem) (hv0 : m_kd M v0 = 5) (h : B_X5_isStatement_172  v0 v1 v2 M = some (r, M'))  : x_Z X 0 0 (x_QF X M0 (.returned (some (vI r))) M' 0 0) M0 M 5 [(0, .ref v0), (1, vI v1), (2, vI v2)] 172 [] := by
  unfold B_X5_isStatement_172 at h
  refine z_aload_n (pc := 172) C 0 rfl dX5_isStatement_172 ?_
  refine gX5_516 (pc := 173) C rfl hv0 dX5_isStatement_173 ?_
  refine z_iload_n (pc := 176) C 1 rfl dX5_isStatement_176 ?_
  refine z_iload_n (pc := 177) C 2 rfl dX5_isStatement_177 ?_
  obtain ⟨c12, h⟩ := ifn h
  refine z_isO (pc := 178) (k := 5) (j := 16) C 516 rfl (by decide) (by decide) (by decide) rfl rfl rfl rfl hv0 c12 dX5_isStatement_178 ?_
  refine z_aload_n (pc := 179) C 0 rfl dX5_isStatement_179 ?_
  refine gX5_518 (pc := 180) C rfl hv0 dX5_isStatement_180 ?_
  refine z_iload_n (pc := 183) C 1 rfl dX5_isStatement_183 ?_
  refine z_iconst (pc := 184) C dX5_isStatement_184 ?_
  refine z_isO (pc := 185) (k := 5) (j := 18) C 518 rfl (by decide) (by decide) (by decide) rfl rfl rfl rfl hv0 c12 dX5_isStatement_185 ?_
  refine z_aload_n (pc := 186) C 0 rfl dX5_isStatement_186 ?_
  refine gX5_519 (pc := 187) C rfl hv0 dX5_isStatement_187 ?_
  refine z_iload_n (pc := 190) C 1 rfl dX5_isStatement_190 ?_
  refine z_iconst (pc := 191) C dX5_isStatement_191 ?_
  refine z_isO (pc := 192) (k := 5) (j := 19) C 519 rfl (by decide) (by decide) (by decide) rfl rfl rfl rfl hv0 c12 dX5_isStatement_192 ?_
  refine z_aload_n (pc := 193) C 0 rfl dX5_isStatement_193 ?_
  refine gX5_520 (pc := 194) C rfl hv0 dX5_isStatement_194 ?_
  refine z_iload_n (pc := 197) C 1 rfl dX5_isStatement_197 ?_
  refine z_iload_n (pc := 198) C 2 rfl dX5_isStatement_198 ?_
  refine z_if_ne (pc := 199) C dX5_isStatement_199 (tgt := 206) (by decide) (fun c13 => ?_) (fun c13 => ?_)
  · have h := itf c13 h
    refine z_iconst (pc := 206) C dX5_isStatement_206 ?_
    exact cB_X5_isStatement_207 C v0 v1 v2 v0 v1 0 (m_si (m_si (m_si M 516 v0 (ixn v1) v2) 518 v0 (ixn v1) 0) 519 v0 (ixn v1) 0) _ _ hv0 hv0 h
  · have h := itt c13 h
    refine z_iconst (pc := 202) C dX5_isStatement_202 ?_
    refine z_goto (pc := 203) C dX5_isStatement_203 (tgt := 207) (by decide) ?_
    exact cB_X5_isStatement_207 C v0 v1 v2 v0 v1 1 (m_si (m_si (m_si M 516 v0 (ixn v1) v2) 518 v0 (ixn v1) 0) 519 v0 (ixn v1) 0) _ _ hv0 hv0 h
theorem cB_X5_isStatement_109 {X : x_Ctx} {M0 : Mem} (C : x_CC X 7 174 yX5_isStatement cX5_isStatement 5 (some .boolean) []) {k109 : Nat → Int → Int → Int → Int → Mem → Option (Int × Mem)} (hk109 : ∀ (v0 : Nat) (v1 : Int) (v2 : Int) (v3 : Int) (v4 : Int) (M : Mem) (r : Int) (M' : Mem), m_kd M v0 = 5 → k109 v0 v1 v2 v3 v4 M = some (r, M') → x_Z X 0 0 (x_QF X M0 (.returned (some (vI r))) M' 0 0) M0 M 5 [(0, .ref v0), (1, vI v1), (2, vI v2), (3, vI v3), (4, vI v4)] 109 []) (v0 : Nat) (v1 : Int) (v2 : Int) (v3 : Int) (v4 : Int) (M : Mem) (r : Int) (M' : Mem) (hv0 : m_kd M v0 = 5) (h : B_X5_isStatement_109 k109 v0 v1 v2 v3 v4 M = some (r, M'))  : x_Z X 0 0 (x_QF X M0 (.returned (some (vI r))) M' 0 0) M0 M 5 [(0, .ref v0), (1, vI v1), (2, vI v2), (3, vI v3), (4, vI v4)] 109 [] := by
  unfold B_X5_isStatement_109 at h
  refine z_iload (pc := 109) C 4 rfl dX5_isStatement_109 ?_
  refine z_aload_n (pc := 111) C 0 rfl dX5_isStatement_111 ?_
  refine gX5_515 (pc := 112) C rfl hv0 dX5_isStatement_112 ?_
  refine z_aload_n (pc := 115) C 0 rfl dX5_isStatement_115 ?_
  refine gX5_514 (pc := 116) C rfl (Or.inl hv0) rfl dX5_isStatement_116 ?_
  obtain ⟨c8, h⟩ := ifn h
  refine z_iaO (pc := 119) (k := 5) (j := 15) C 515 rfl (by decide) (by decide) (by decide) rfl rfl rfl rfl hv0 c8 rfl dX5_isStatement_119 ?_
  refine z_ic_ge (pc := 120) C dX5_isStatement_120 (tgt := 155) (by decide) (fun c9 => ?_) (fun c9 => ?_)
  · have h := itt c9 h
    refine z_iload_n (pc := 155) C 2 rfl dX5_isStatement_155 ?_
    refine z_iconst (pc := 156) C dX5_isStatement_156 ?_
    refine z_ic_eq (pc := 157) C dX5_isStatement_157 (tgt := 170) (by decide) (fun c10 => ?_) (fun c10 => ?_)
    · have h := itt c10 h
      refine z_iconst (pc := 170) C dX5_isStatement_170 ?_
      cases h
      exact z_zret (pc := 171) C rfl (Or.inl rfl) (show 0 ≤ 0 from by decide) (show 0 ≤ 0 from by decide) dX5_isStatement_171
    · have h := itf c10 h
      refine z_iload_n (pc := 160) C 2 rfl dX5_isStatement_160 ?_
      refine z_if_ne (pc := 161) C dX5_isStatement_161 (tgt := 172) (by decide) (fun c11 => ?_) (fun c11 => ?_)
      · have h := itf c11 h
        exact z_lv [0, 1, 2] rfl <| cB_X5_isStatement_172 C v0 v1 v2 M _ _ hv0 h
      · have h := itt c11 h
        refine z_iload_n (pc := 164) C 3 rfl dX5_isStatement_164 ?_
        refine z_bipush (pc := 165) C (by decide +kernel) dX5_isStatement_165 ?_
        refine z_ic_ne (pc := 167) C dX5_isStatement_167 (tgt := 172) (by decide) (fun c65 => ?_) (fun c65 => ?_)
        · have h := itf c65 h
          exact z_lv [0, 1, 2] rfl <| cB_X5_isStatement_172 C v0 v1 v2 M _ _ hv0 h
        · have h := itt c65 h
          refine z_iconst (pc := 170) C dX5_isStatement_170 ?_
          cases h
          exact z_zret (pc := 171) C rfl (Or.inl rfl) (show 0 ≤ 0 from by decide) (show 0 ≤ 0 from by decide) dX5_isStatement_171
  · have h := itf c9 h
    refine z_iload_n (pc := 123) C 3 rfl dX5_isStatement_123 ?_
    refine z_aload_n (pc := 124) C 0 rfl dX5_isStatement_124 ?_
    refine gX5_516 (pc := 125) C rfl hv0 dX5_isStatement_125 ?_
    refine z_bipush (pc := 128) C (by decide +kernel) dX5_isStatement_128 ?_
    refine z_aload_n (pc := 130) C 0 rfl dX5_isStatement_130 ?_
    refine gX5_514 (pc := 131) C rfl (Or.inl hv0) rfl dX5_isStatement_131 ?_
    refine z_imul (pc := 134) C dX5_isStatement_134 ?_
    refine z_iload (pc := 135) C 4 rfl dX5_isStatement_135 ?_
    refine z_iadd (pc := 137) C dX5_isStatement_137 ?_
    obtain ⟨c66, h⟩ := ifn h
    refine z_iaO (pc := 138) (k := 5) (j := 16) C 516 rfl (by decide) (by decide) (by decide) rfl rfl rfl rfl hv0 c66 rfl dX5_isStatement_138 ?_
    refine z_if_ne (pc := 139) C dX5_isStatement_139 (tgt := 146) (by decide) (fun c67 => ?_) (fun c67 => ?_)
    · have h := itf c67 h
      refine z_iconst (pc := 146) C dX5_isStatement_146 ?_
      refine z_iadd (pc := 147) C dX5_isStatement_147 ?_
      refine z_istore_n (pc := 148) C (lv' := [(0, .ref v0), (1, vI v1), (2, vI v2), (3, vI (v3 + 0)), (4, vI v4)]) (by decide) rfl dX5_isStatement_148 ?_
      refine z_iinc (pc := 149) C (lv' := [(0, .ref v0), (1, vI v1), (2, vI v2), (3, vI (v3 + 0)), (4, vI (v4 + 1))]) 4 rfl (by decide) rfl dX5_isStatement_149 ?_
      refine z_goto (pc := 152) C dX5_isStatement_152 (tgt := 109) (by decide) ?_
      exact hk109 v0 v1 v2 (v3 + 0) (v4 + 1) M _ _ hv0 h
    · have h := itt c67 h
      refine z_iconst (pc := 142) C dX5_isStatement_142 ?_
      refine z_goto (pc := 143) C dX5_isStatement_143 (tgt := 147) (by decide) ?_
      refine z_iadd (pc := 147) C dX5_isStatement_147 ?_
      refine z_istore_n (pc := 148) C (lv' := [(0, .ref v0), (1, vI v1), (2, vI v2), (3, vI (v3 + 1)), (4, vI v4)]) (by decide) rfl dX5_isStatement_148 ?_
      refine z_iinc (pc := 149) C (lv' := [(0, .ref v0), (1, vI v1), (2, vI v2), (3, vI (v3 + 1)), (4, vI (v4 + 1))]) 4 rfl (by decide) rfl dX5_isStatement_149 ?_
      refine z_goto (pc := 152) C dX5_isStatement_152 (tgt := 109) (by decide) ?_
      exact hk109 v0 v1 v2 (v3 + 1) (v4 + 1) M _ _ hv0 h
theorem cL_X5_isStatement_109 {X : x_Ctx} {M0 : Mem} (C : x_CC X 7 174 yX5_isStatement cX5_isStatement 5 (some .boolean) [])  : ∀ (n : Nat) (v0 : Nat) (v1 : Int) (v2 : Int) (v3 : Int) (v4 : Int) (M : Mem) (r : Int) (M' : Mem) (hv0 : m_kd M v0 = 5) (h : L_X5_isStatement_109  n v0 v1 v2 v3 v4 M = some (r, M')) , x_Z X 0 0 (x_QF X M0 (.returned (some (vI r))) M' 0 0) M0 M 5 [(0, .ref v0), (1, vI v1), (2, vI v2), (3, vI v3), (4, vI v4)] 109 [] := by
  intro n
  induction n with
  | zero => intro v0 v1 v2 v3 v4 M r M' hv0 h ; cases h
  | succ n ih => intro v0 v1 v2 v3 v4 M r M' hv0 h ; exact cB_X5_isStatement_109 C (fun v0 v1 v2 v3 v4 M r M' hv0 h  => ih v0 v1 v2 v3 v4 M r M' hv0 h ) v0 v1 v2 v3 v4 M r M' hv0 h 
theorem ct_X5_isStatement {l : Launch} {S0 : State} {D : va_G} {cA : Nat → ClassId} (hG : x_G l S0 D cA) (v0 : Nat) (M : Mem) (r : Int) (M' : Mem) (hv0 : m_kd M v0 = 5) (h : d_X5_isStatement v0 M = some (r, M')) : x_Me l S0 D cA yX5_isStatement cX5_isStatement 5 (some .boolean) [] ({ frames := 7, cells := 0, slots := 0, locals := 174 }) [.ref v0] M (.returned (some (vI r))) M' := by
  refine x_begin (F := 7) (Lo := 174) (mc := 0) (ms := 0) hG (Nat.le_of_ble_eq_true rfl) (lv := [(0, .ref v0)]) rfl rfl rfl rfl rfl (fun X e1 e2 e3 e4 e5 C => ?_)
  unfold d_X5_isStatement at h
  refine z_aload_n (pc := 0) C 0 rfl dX5_isStatement_0 ?_
  refine gX5_529 (pc := 1) C rfl (Or.inl hv0) rfl dX5_isStatement_1 ?_
  refine z_iconst (pc := 4) C dX5_isStatement_4 ?_
  refine z_ic_ne (pc := 5) C dX5_isStatement_5 (tgt := 22) (by decide) (fun c1 => ?_) (fun c1 => ?_)
  · have h := itf c1 h
    refine z_iconst (pc := 22) C dX5_isStatement_22 ?_
    cases h
    exact z_zret (pc := 23) C rfl (Or.inl rfl) (show 0 ≤ 0 from by decide) (show 0 ≤ 0 from by decide) dX5_isStatement_23
  · have h := itt c1 h
    refine z_aload_n (pc := 8) C 0 rfl dX5_isStatement_8 ?_
    refine gX5_515 (pc := 9) C rfl hv0 dX5_isStatement_9 ?_
    refine z_aload_n (pc := 12) C 0 rfl dX5_isStatement_12 ?_
    refine gX5_514 (pc := 13) C rfl (Or.inl hv0) rfl dX5_isStatement_13 ?_
    obtain ⟨c2, h⟩ := ifn h
    refine z_iaO (pc := 16) (k := 5) (j := 15) C 515 rfl (by decide) (by decide) (by decide) rfl rfl rfl rfl hv0 c2 rfl dX5_isStatement_16 ?_
    refine z_bipush (pc := 17) C (by decide +kernel) dX5_isStatement_17 ?_
    refine z_ic_ne (pc := 19) C dX5_isStatement_19 (tgt := 24) (by decide) (fun c3 => ?_) (fun c3 => ?_)
    · have h := itf c3 h
      refine z_bipush (pc := 24) C (by decide +kernel) dX5_isStatement_24 ?_
      refine z_aload_n (pc := 26) C 0 rfl dX5_isStatement_26 ?_
      refine gX5_514 (pc := 27) C rfl (Or.inl hv0) rfl dX5_isStatement_27 ?_
      refine z_imul (pc := 30) C dX5_isStatement_30 ?_
      refine z_aload_n (pc := 31) C 0 rfl dX5_isStatement_31 ?_
      refine gX5_515 (pc := 32) C rfl hv0 dX5_isStatement_32 ?_
      refine z_aload_n (pc := 35) C 0 rfl dX5_isStatement_35 ?_
      refine gX5_514 (pc := 36) C rfl (Or.inl hv0) rfl dX5_isStatement_36 ?_
      refine z_iaO (pc := 39) (k := 5) (j := 15) C 515 rfl (by decide) (by decide) (by decide) rfl rfl rfl rfl hv0 c2 rfl dX5_isStatement_39 ?_
      refine z_iadd (pc := 40) C dX5_isStatement_40 ?_
      refine z_istore_n (pc := 41) C (lv' := [(0, .ref v0), (1, vI ((20 * (m_i M 514 v0 0)) + (m_i M 515 v0 (ixn (m_i M 514 v0 0)))))]) (by decide) rfl dX5_isStatement_41 ?_
      refine z_aload_n (pc := 42) C 0 rfl dX5_isStatement_42 ?_
      refine gX5_531 (pc := 43) C rfl (Or.inl hv0) rfl dX5_isStatement_43 ?_
      refine z_ldc2 (pc := 46) C (x := 6386539) q1869 (by decide +kernel) dX5_isStatement_46 ?_
      refine z_lc_ne (pc := 49) C dX5_isStatement_49 dX5_isStatement_50 (tgt := 57) (by decide) (fun c4 => ?_) (fun c4 => ?_)
      · have h := itf c4 h
        refine z_aload_n (pc := 57) C 0 rfl dX5_isStatement_57 ?_
        refine gX5_531 (pc := 58) C rfl (Or.inl hv0) rfl dX5_isStatement_58 ?_
        refine z_ldc2 (pc := 61) C (x := 7103860) q1870 (by decide +kernel) dX5_isStatement_61 ?_
        refine z_lc_ne (pc := 64) C dX5_isStatement_64 dX5_isStatement_65 (tgt := 72) (by decide) (fun c5 => ?_) (fun c5 => ?_)
        · have h := itf c5 h
          refine z_aload_n (pc := 72) C 0 rfl dX5_isStatement_72 ?_
          refine gX5_531 (pc := 73) C rfl (Or.inl hv0) rfl dX5_isStatement_73 ?_
          refine z_ldc2 (pc := 76) C (x := 1836413812) q1871 (by decide +kernel) dX5_isStatement_76 ?_
          refine z_lc_ne (pc := 79) C dX5_isStatement_79 dX5_isStatement_80 (tgt := 87) (by decide) (fun c6 => ?_) (fun c6 => ?_)
          · have h := itf c6 h
            refine z_aload_n (pc := 87) C 0 rfl dX5_isStatement_87 ?_
            refine gX5_531 (pc := 88) C rfl (Or.inl hv0) rfl dX5_isStatement_88 ?_
            refine z_ldc2 (pc := 91) C (x := 2002874990) q1872 (by decide +kernel) dX5_isStatement_91 ?_
            refine z_lc_ne (pc := 94) C dX5_isStatement_94 dX5_isStatement_95 (tgt := 102) (by decide) (fun c7 => ?_) (fun c7 => ?_)
            · have h := itf c7 h
              refine z_iconst (pc := 102) C dX5_isStatement_102 ?_
              refine z_istore_n (pc := 103) C (lv' := [(0, .ref v0), (1, vI ((20 * (m_i M 514 v0 0)) + (m_i M 515 v0 (ixn (m_i M 514 v0 0))))), (2, vI (-1))]) (by decide) rfl dX5_isStatement_103 ?_
              refine z_iconst (pc := 104) C dX5_isStatement_104 ?_
              refine z_istore_n (pc := 105) C (lv' := [(0, .ref v0), (1, vI ((20 * (m_i M 514 v0 0)) + (m_i M 515 v0 (ixn (m_i M 514 v0 0))))), (2, vI (-1)), (3, vI 0)]) (by decide) rfl dX5_isStatement_105 ?_
              refine z_iconst (pc := 106) C dX5_isStatement_106 ?_
              refine z_istore (pc := 107) C (lv' := [(0, .ref v0), (1, vI ((20 * (m_i M 514 v0 0)) + (m_i M 515 v0 (ixn (m_i M 514 v0 0))))), (2, vI (-1)), (3, vI 0), (4, vI 0)]) (by decide) rfl dX5_isStatement_107 ?_
              exact cL_X5_isStatement_109 C FU v0 ((20 * (m_i M 514 v0 0)) + (m_i M 515 v0 (ixn (m_i M 514 v0 0)))) (-1) 0 0 M _ _ hv0 h
            · have h := itt c7 h
              refine z_iconst (pc := 98) C dX5_isStatement_98 ?_
              refine z_goto (pc := 99) C dX5_isStatement_99 (tgt := 103) (by decide) ?_
              refine z_istore_n (pc := 103) C (lv' := [(0, .ref v0), (1, vI ((20 * (m_i M 514 v0 0)) + (m_i M 515 v0 (ixn (m_i M 514 v0 0))))), (2, vI 3)]) (by decide) rfl dX5_isStatement_103 ?_
              refine z_iconst (pc := 104) C dX5_isStatement_104 ?_
              refine z_istore_n (pc := 105) C (lv' := [(0, .ref v0), (1, vI ((20 * (m_i M 514 v0 0)) + (m_i M 515 v0 (ixn (m_i M 514 v0 0))))), (2, vI 3), (3, vI 0)]) (by decide) rfl dX5_isStatement_105 ?_
              refine z_iconst (pc := 106) C dX5_isStatement_106 ?_
              refine z_istore (pc := 107) C (lv' := [(0, .ref v0), (1, vI ((20 * (m_i M 514 v0 0)) + (m_i M 515 v0 (ixn (m_i M 514 v0 0))))), (2, vI 3), (3, vI 0), (4, vI 0)]) (by decide) rfl dX5_isStatement_107 ?_
              exact cL_X5_isStatement_109 C FU v0 ((20 * (m_i M 514 v0 0)) + (m_i M 515 v0 (ixn (m_i M 514 v0 0)))) 3 0 0 M _ _ hv0 h
          · have h := itt c6 h
            refine z_iconst (pc := 83) C dX5_isStatement_83 ?_
            refine z_goto (pc := 84) C dX5_isStatement_84 (tgt := 103) (by decide) ?_
            refine z_istore_n (pc := 103) C (lv' := [(0, .ref v0), (1, vI ((20 * (m_i M 514 v0 0)) + (m_i M 515 v0 (ixn (m_i M 514 v0 0))))), (2, vI 2)]) (by decide) rfl dX5_isStatement_103 ?_
            refine z_iconst (pc := 104) C dX5_isStatement_104 ?_
            refine z_istore_n (pc := 105) C (lv' := [(0, .ref v0), (1, vI ((20 * (m_i M 514 v0 0)) + (m_i M 515 v0 (ixn (m_i M 514 v0 0))))), (2, vI 2), (3, vI 0)]) (by decide) rfl dX5_isStatement_105 ?_
            refine z_iconst (pc := 106) C dX5_isStatement_106 ?_
            refine z_istore (pc := 107) C (lv' := [(0, .ref v0), (1, vI ((20 * (m_i M 514 v0 0)) + (m_i M 515 v0 (ixn (m_i M 514 v0 0))))), (2, vI 2), (3, vI 0), (4, vI 0)]) (by decide) rfl dX5_isStatement_107 ?_
            exact cL_X5_isStatement_109 C FU v0 ((20 * (m_i M 514 v0 0)) + (m_i M 515 v0 (ixn (m_i M 514 v0 0)))) 2 0 0 M _ _ hv0 h
        · have h := itt c5 h
          refine z_iconst (pc := 68) C dX5_isStatement_68 ?_
          refine z_goto (pc := 69) C dX5_isStatement_69 (tgt := 103) (by decide) ?_
          refine z_istore_n (pc := 103) C (lv' := [(0, .ref v0), (1, vI ((20 * (m_i M 514 v0 0)) + (m_i M 515 v0 (ixn (m_i M 514 v0 0))))), (2, vI 1)]) (by decide) rfl dX5_isStatement_103 ?_
          refine z_iconst (pc := 104) C dX5_isStatement_104 ?_
          refine z_istore_n (pc := 105) C (lv' := [(0, .ref v0), (1, vI ((20 * (m_i M 514 v0 0)) + (m_i M 515 v0 (ixn (m_i M 514 v0 0))))), (2, vI 1), (3, vI 0)]) (by decide) rfl dX5_isStatement_105 ?_
          refine z_iconst (pc := 106) C dX5_isStatement_106 ?_
          refine z_istore (pc := 107) C (lv' := [(0, .ref v0), (1, vI ((20 * (m_i M 514 v0 0)) + (m_i M 515 v0 (ixn (m_i M 514 v0 0))))), (2, vI 1), (3, vI 0), (4, vI 0)]) (by decide) rfl dX5_isStatement_107 ?_
          exact cL_X5_isStatement_109 C FU v0 ((20 * (m_i M 514 v0 0)) + (m_i M 515 v0 (ixn (m_i M 514 v0 0)))) 1 0 0 M _ _ hv0 h
      · have h := itt c4 h
        refine z_iconst (pc := 53) C dX5_isStatement_53 ?_
        refine z_goto (pc := 54) C dX5_isStatement_54 (tgt := 103) (by decide) ?_
        refine z_istore_n (pc := 103) C (lv' := [(0, .ref v0), (1, vI ((20 * (m_i M 514 v0 0)) + (m_i M 515 v0 (ixn (m_i M 514 v0 0))))), (2, vI 0)]) (by decide) rfl dX5_isStatement_103 ?_
        refine z_iconst (pc := 104) C dX5_isStatement_104 ?_
        refine z_istore_n (pc := 105) C (lv' := [(0, .ref v0), (1, vI ((20 * (m_i M 514 v0 0)) + (m_i M 515 v0 (ixn (m_i M 514 v0 0))))), (2, vI 0), (3, vI 0)]) (by decide) rfl dX5_isStatement_105 ?_
        refine z_iconst (pc := 106) C dX5_isStatement_106 ?_
        refine z_istore (pc := 107) C (lv' := [(0, .ref v0), (1, vI ((20 * (m_i M 514 v0 0)) + (m_i M 515 v0 (ixn (m_i M 514 v0 0))))), (2, vI 0), (3, vI 0), (4, vI 0)]) (by decide) rfl dX5_isStatement_107 ?_
        exact cL_X5_isStatement_109 C FU v0 ((20 * (m_i M 514 v0 0)) + (m_i M 515 v0 (ixn (m_i M 514 v0 0)))) 0 0 0 M _ _ hv0 h
    · have h := itt c3 h
      refine z_iconst (pc := 22) C dX5_isStatement_22 ?_
      cases h
      exact z_zret (pc := 23) C rfl (Or.inl rfl) (show 0 ≤ 0 from by decide) (show 0 ≤ 0 from by decide) dX5_isStatement_23
def B_X5_form_97  (v0 : Nat) (v1 : Int) (v2 : Int) (M : Mem) : Option (Int × Mem) :=
  if w32 v2 = 0 then
    some ((-1) - (m_i M 530 v0 0), (m_si (m_si M 513 v0 0 0) 527 v0 0 v1))
  else
    some (((m_i M 514 v0 0) + 1) - 1, (m_si (m_si M 513 v0 0 0) 514 v0 0 ((m_i M 514 v0 0) + 1)))
def B_X5_form_57 (k57 : Nat → Int → Int → Mem → Option (Int × Mem)) (v0 : Nat) (v1 : Int) (v2 : Int) (M : Mem) : Option (Int × Mem) :=
  if w32 v2 = 0 then
    B_X5_form_97 v0 v1 v2 M
  else
    if w32 (m_i M 529 v0 0) = 0 then
      B_X5_form_97 v0 v1 v2 M
    else
      bN (d_X5_isStatement v0 M) fun r12 M13 => 
      if w32 r12 = 0 then
        k57 v0 v1 r12 M13
      else
        if inb (m_i M13 514 v0 0) 6 then 
        bN (d_X5_next v0 (m_si M13 515 v0 (ixn (m_i M13 514 v0 0)) ((m_i M13 515 v0 (ixn (m_i M13 514 v0 0))) + 1))) fun r19 M20 => 
        k57 v0 v1 r12 M20 else none
def L_X5_form_57  : Nat → Nat → Int → Int → Mem → Option (Int × Mem)
  | 0, _, _, _, _ => none
  | n + 1, v0, v1, v2, M => B_X5_form_57 (L_X5_form_57  n) v0 v1 v2 M
def d_X5_form (v0 : Nat) (M : Mem) : Option (Int × Mem) :=
  if w32 (m_i M 514 v0 0) = w32 6 then
    bN (d_X5_fail v0 1 (m_si M 500 v0 0 0)) fun r24 M25 => 
    some (r24, M25)
  else
    if inb (m_i M 514 v0 0) 6 then 
    bN (d_X5_next v0 (m_si (m_si (m_si M 500 v0 0 0) 515 v0 (ixn (m_i M 514 v0 0)) 0) 528 v0 0 0)) fun r3 M4 => 
    if w32 (m_i M4 529 v0 0) = 0 then
      L_X5_form_57 FU v0 (m_i M 527 v0 0) 0 M4
    else
      L_X5_form_57 FU v0 (m_i M 527 v0 0) 1 M4 else none
theorem cB_X5_form_97 {X : x_Ctx} {M0 : Mem} (C : x_CC X 8 202 yX5_form cX5_form 3 (some .int) [])  (v0 : Nat) (v1 : Int) (v2 : Int) (M : Mem) (r : Int) (M' : Mem) (hv0 : m_kd M v0 = 5) (h : B_X5_form_97  v0 v1 v2 M = some (r, M'))  : x_Z X 0 0 (x_QF X M0 (.returned (some (vI r))) M' 0 0) M0 M 3 [(0, .ref v0), (1, vI v1), (2, vI v2)] 97 [] := by
  unfold B_X5_form_97 at h
  refine z_aload_n (pc := 97) C 0 rfl dX5_form_97 ?_
  refine z_iconst (pc := 98) C dX5_form_98 ?_
  refine pX5_513 (pc := 99) C rfl (Or.inl hv0) dX5_form_99 ?_
  refine z_iload_n (pc := 102) C 2 rfl dX5_form_102 ?_
  refine z_if_ne (pc := 103) C dX5_form_103 (tgt := 118) (by decide) (fun c10 => ?_) (fun c10 => ?_)
  · have h := itf c10 h
    refine z_aload_n (pc := 118) C 0 rfl dX5_form_118 ?_
    refine z_dup (pc := 119) C rfl dX5_form_119 ?_
    refine gX5_514 (pc := 120) C rfl (Or.inl hv0) (x := m_i M 514 v0 0) ((m_i_ne (by decide)).trans rfl) dX5_form_120 ?_
    refine z_iconst (pc := 123) C dX5_form_123 ?_
    refine z_iadd (pc := 124) C dX5_form_124 ?_
    refine pX5_514 (pc := 125) C rfl (Or.inl hv0) dX5_form_125 ?_
    refine z_aload_n (pc := 128) C 0 rfl dX5_form_128 ?_
    refine gX5_514 (pc := 129) C rfl (Or.inl hv0) (x := (m_i M 514 v0 0) + 1) (m_i_self _ _ _ _ _) dX5_form_129 ?_
    refine z_iconst (pc := 132) C dX5_form_132 ?_
    refine z_isub (pc := 133) C dX5_form_133 ?_
    cases h
    exact z_iret (pc := 134) C rfl (show 0 ≤ 0 from by decide) (show 0 ≤ 0 from by decide) dX5_form_134
  · have h := itt c10 h
    refine z_aload_n (pc := 106) C 0 rfl dX5_form_106 ?_
    refine z_iload_n (pc := 107) C 1 rfl dX5_form_107 ?_
    refine pX5_527 (pc := 108) C rfl (Or.inl hv0) dX5_form_108 ?_
    refine z_iconst (pc := 111) C dX5_form_111 ?_
    refine z_aload_n (pc := 112) C 0 rfl dX5_form_112 ?_
    refine gX5_530 (pc := 113) C rfl (Or.inl hv0) (x := m_i M 530 v0 0) ((m_i_ne (by decide)).trans ((m_i_ne (by decide)).trans rfl)) dX5_form_113 ?_
    refine z_isub (pc := 116) C dX5_form_116 ?_
    cases h
    exact z_iret (pc := 117) C rfl (show 0 ≤ 0 from by decide) (show 0 ≤ 0 from by decide) dX5_form_117
theorem cB_X5_form_57 {X : x_Ctx} {M0 : Mem} (C : x_CC X 8 202 yX5_form cX5_form 3 (some .int) []) {k57 : Nat → Int → Int → Mem → Option (Int × Mem)} (hk57 : ∀ (v0 : Nat) (v1 : Int) (v2 : Int) (M : Mem) (r : Int) (M' : Mem), m_kd M v0 = 5 → k57 v0 v1 v2 M = some (r, M') → x_Z X 0 0 (x_QF X M0 (.returned (some (vI r))) M' 0 0) M0 M 3 [(0, .ref v0), (1, vI v1), (2, vI v2)] 57 []) (v0 : Nat) (v1 : Int) (v2 : Int) (M : Mem) (r : Int) (M' : Mem) (hv0 : m_kd M v0 = 5) (h : B_X5_form_57 k57 v0 v1 v2 M = some (r, M'))  : x_Z X 0 0 (x_QF X M0 (.returned (some (vI r))) M' 0 0) M0 M 3 [(0, .ref v0), (1, vI v1), (2, vI v2)] 57 [] := by
  unfold B_X5_form_57 at h
  refine z_iload_n (pc := 57) C 2 rfl dX5_form_57 ?_
  refine z_if_eq (pc := 58) C dX5_form_58 (tgt := 97) (by decide) (fun c9 => ?_) (fun c9 => ?_)
  · have h := itt c9 h
    exact cB_X5_form_97 C v0 v1 v2 M _ _ hv0 h
  · have h := itf c9 h
    refine z_aload_n (pc := 61) C 0 rfl dX5_form_61 ?_
    refine gX5_529 (pc := 62) C rfl (Or.inl hv0) rfl dX5_form_62 ?_
    refine z_if_eq (pc := 65) C dX5_form_65 (tgt := 97) (by decide) (fun c11 => ?_) (fun c11 => ?_)
    · have h := itt c11 h
      exact cB_X5_form_97 C v0 v1 v2 M _ _ hv0 h
    · have h := itf c11 h
      refine z_aload_n (pc := 68) C 0 rfl dX5_form_68 ?_
      obtain ⟨r12, M13, e14, h⟩ := bNs h
      refine cX5_346 (pc := 69) (st := []) (st1 := [vI r12]) C rfl (rm := { frames := 7, cells := 0, slots := 0, locals := 174 }) (ct_X5_isStatement C.2.1 v0 M _ _ hv0 e14) ⟨by decide, by decide, Nat.zero_le _, Nat.zero_le _⟩ (Or.inl hv0) rfl (Nat.le_of_ble_eq_true rfl) dX5_form_69 (c2 := 0) (s2 := 0) rfl rfl (fun x15 => ?_)
      have k16 := x15 _ 5 (by decide) (Or.inl (by decide)) hv0
      refine z_istore_n (pc := 72) C (lv' := [(0, .ref v0), (1, vI v1), (2, vI r12)]) (by decide) rfl dX5_form_72 ?_
      refine z_iload_n (pc := 73) C 2 rfl dX5_form_73 ?_
      refine z_if_eq (pc := 74) C dX5_form_74 (tgt := 57) (by decide) (fun c17 => ?_) (fun c17 => ?_)
      · have h := itt c17 h
        exact hk57 v0 v1 r12 M13 _ _ k16 h
      · have h := itf c17 h
        refine z_aload_n (pc := 77) C 0 rfl dX5_form_77 ?_
        refine gX5_515 (pc := 78) C rfl k16 dX5_form_78 ?_
        refine z_aload_n (pc := 81) C 0 rfl dX5_form_81 ?_
        refine gX5_514 (pc := 82) C rfl (Or.inl k16) rfl dX5_form_82 ?_
        refine z_dup2 (pc := 85) C rfl rfl dX5_form_85 ?_
        obtain ⟨c18, h⟩ := ifn h
        refine z_iaO (pc := 86) (k := 5) (j := 15) C 515 rfl (by decide) (by decide) (by decide) rfl rfl rfl rfl k16 c18 rfl dX5_form_86 ?_
        refine z_iconst (pc := 87) C dX5_form_87 ?_
        refine z_iadd (pc := 88) C dX5_form_88 ?_
        refine z_isO (pc := 89) (k := 5) (j := 15) C 515 rfl (by decide) (by decide) (by decide) rfl rfl rfl rfl k16 c18 dX5_form_89 ?_
        refine z_aload_n (pc := 90) C 0 rfl dX5_form_90 ?_
        obtain ⟨r19, M20, e21, h⟩ := bNs h
        refine cX5_310 (pc := 91) (st := []) (st1 := []) C rfl (rm := { frames := 3, cells := 0, slots := 0, locals := 76 }) (ct_X5_next C.2.1 v0 (m_si M13 515 v0 (ixn (m_i M13 514 v0 0)) ((m_i M13 515 v0 (ixn (m_i M13 514 v0 0))) + 1)) _ _ k16 e21) ⟨by decide, by decide, Nat.zero_le _, Nat.zero_le _⟩ (Or.inl k16) rfl (Nat.le_of_ble_eq_true rfl) dX5_form_91 (c2 := 0) (s2 := 0) rfl rfl (fun x22 => ?_)
        have k23 := x22 _ 5 (by decide) (Or.inl (by decide)) k16
        refine z_goto (pc := 94) C dX5_form_94 (tgt := 57) (by decide) ?_
        exact hk57 v0 v1 r12 M20 _ _ k23 h
theorem cL_X5_form_57 {X : x_Ctx} {M0 : Mem} (C : x_CC X 8 202 yX5_form cX5_form 3 (some .int) [])  : ∀ (n : Nat) (v0 : Nat) (v1 : Int) (v2 : Int) (M : Mem) (r : Int) (M' : Mem) (hv0 : m_kd M v0 = 5) (h : L_X5_form_57  n v0 v1 v2 M = some (r, M')) , x_Z X 0 0 (x_QF X M0 (.returned (some (vI r))) M' 0 0) M0 M 3 [(0, .ref v0), (1, vI v1), (2, vI v2)] 57 [] := by
  intro n
  induction n with
  | zero => intro v0 v1 v2 M r M' hv0 h ; cases h
  | succ n ih => intro v0 v1 v2 M r M' hv0 h ; exact cB_X5_form_57 C (fun v0 v1 v2 M r M' hv0 h  => ih v0 v1 v2 M r M' hv0 h ) v0 v1 v2 M r M' hv0 h 
theorem ct_X5_form {l : Launch} {S0 : State} {D : va_G} {cA : Nat → ClassId} (hG : x_G l S0 D cA) (v0 : Nat) (M : Mem) (r : Int) (M' : Mem) (hv0 : m_kd M v0 = 5) (h : d_X5_form v0 M = some (r, M')) : x_Me l S0 D cA yX5_form cX5_form 3 (some .int) [] ({ frames := 8, cells := 0, slots := 0, locals := 202 }) [.ref v0] M (.returned (some (vI r))) M' := by
  refine x_begin (F := 8) (Lo := 202) (mc := 0) (ms := 0) hG (Nat.le_of_ble_eq_true rfl) (lv := [(0, .ref v0)]) rfl rfl rfl rfl rfl (fun X e1 e2 e3 e4 e5 C => ?_)
  unfold d_X5_form at h
  refine z_aload_n (pc := 0) C 0 rfl dX5_form_0 ?_
  refine z_iconst (pc := 1) C dX5_form_1 ?_
  refine pX5_500 (pc := 2) C rfl (Or.inl hv0) dX5_form_2 ?_
  refine z_aload_n (pc := 5) C 0 rfl dX5_form_5 ?_
  refine gX5_514 (pc := 6) C rfl (Or.inl hv0) (x := m_i M 514 v0 0) ((m_i_ne (by decide)).trans rfl) dX5_form_6 ?_
  refine z_bipush (pc := 9) C (by decide +kernel) dX5_form_9 ?_
  refine z_ic_ne (pc := 11) C dX5_form_11 (tgt := 20) (by decide) (fun c1 => ?_) (fun c1 => ?_)
  · have h := itf c1 h
    refine z_aload_n (pc := 20) C 0 rfl dX5_form_20 ?_
    refine gX5_527 (pc := 21) C rfl (Or.inl hv0) (x := m_i M 527 v0 0) ((m_i_ne (by decide)).trans rfl) dX5_form_21 ?_
    refine z_istore_n (pc := 24) C (lv' := [(0, .ref v0), (1, vI (m_i M 527 v0 0))]) (by decide) rfl dX5_form_24 ?_
    refine z_aload_n (pc := 25) C 0 rfl dX5_form_25 ?_
    refine gX5_515 (pc := 26) C rfl hv0 dX5_form_26 ?_
    refine z_aload_n (pc := 29) C 0 rfl dX5_form_29 ?_
    refine gX5_514 (pc := 30) C rfl (Or.inl hv0) (x := m_i M 514 v0 0) ((m_i_ne (by decide)).trans rfl) dX5_form_30 ?_
    refine z_iconst (pc := 33) C dX5_form_33 ?_
    obtain ⟨c2, h⟩ := ifn h
    refine z_isO (pc := 34) (k := 5) (j := 15) C 515 rfl (by decide) (by decide) (by decide) rfl rfl rfl rfl hv0 c2 dX5_form_34 ?_
    refine z_aload_n (pc := 35) C 0 rfl dX5_form_35 ?_
    refine z_iconst (pc := 36) C dX5_form_36 ?_
    refine pX5_528 (pc := 37) C rfl (Or.inl hv0) dX5_form_37 ?_
    refine z_aload_n (pc := 40) C 0 rfl dX5_form_40 ?_
    obtain ⟨r3, M4, e5, h⟩ := bNs h
    refine cX5_310 (pc := 41) (st := []) (st1 := []) C rfl (rm := { frames := 3, cells := 0, slots := 0, locals := 76 }) (ct_X5_next C.2.1 v0 (m_si (m_si (m_si M 500 v0 0 0) 515 v0 (ixn (m_i M 514 v0 0)) 0) 528 v0 0 0) _ _ hv0 e5) ⟨by decide, by decide, Nat.zero_le _, Nat.zero_le _⟩ (Or.inl hv0) rfl (Nat.le_of_ble_eq_true rfl) dX5_form_41 (c2 := 0) (s2 := 0) rfl rfl (fun x6 => ?_)
    have k7 := x6 _ 5 (by decide) (Or.inl (by decide)) hv0
    refine z_aload_n (pc := 44) C 0 rfl dX5_form_44 ?_
    refine gX5_529 (pc := 45) C rfl (Or.inl k7) rfl dX5_form_45 ?_
    refine z_if_eq (pc := 48) C dX5_form_48 (tgt := 55) (by decide) (fun c8 => ?_) (fun c8 => ?_)
    · have h := itt c8 h
      refine z_iconst (pc := 55) C dX5_form_55 ?_
      refine z_istore_n (pc := 56) C (lv' := [(0, .ref v0), (1, vI (m_i M 527 v0 0)), (2, vI 0)]) (by decide) rfl dX5_form_56 ?_
      exact cL_X5_form_57 C FU v0 (m_i M 527 v0 0) 0 M4 _ _ k7 h
    · have h := itf c8 h
      refine z_iconst (pc := 51) C dX5_form_51 ?_
      refine z_goto (pc := 52) C dX5_form_52 (tgt := 56) (by decide) ?_
      refine z_istore_n (pc := 56) C (lv' := [(0, .ref v0), (1, vI (m_i M 527 v0 0)), (2, vI 1)]) (by decide) rfl dX5_form_56 ?_
      exact cL_X5_form_57 C FU v0 (m_i M 527 v0 0) 1 M4 _ _ k7 h
  · have h := itt c1 h
    refine z_aload_n (pc := 14) C 0 rfl dX5_form_14 ?_
    refine z_iconst (pc := 15) C dX5_form_15 ?_
    obtain ⟨r24, M25, e26, h⟩ := bNs h
    refine cX5_213 (pc := 16) (st := []) (st1 := [vI r24]) C rfl (rm := { frames := 1, cells := 0, slots := 0, locals := 24 }) (ct_X5_fail C.2.1 v0 1 (m_si M 500 v0 0 0) _ _ hv0 e26) ⟨by decide, by decide, Nat.zero_le _, Nat.zero_le _⟩ (Or.inl hv0) rfl (Nat.le_of_ble_eq_true rfl) dX5_form_16 (c2 := 0) (s2 := 0) rfl rfl (fun x27 => ?_)
    cases h
    exact z_iret (pc := 19) C rfl (show 0 ≤ 0 from by decide) (show 0 ≤ 0 from by decide) dX5_form_19
def d_X5_isForm (v0 : Nat) (v1 : Int) (M : Mem) : Option Int :=
  if (d_X5_isIn (w32 v1) 0 (w32 ((m_i M 514 v0 0) - 1))) = 0 ∨ (d_X5_isIn (w32 v1) 0 (w32 ((m_i M 514 v0 0) - 1))) = 1 then 
  some (d_X5_isIn (w32 v1) 0 (w32 ((m_i M 514 v0 0) - 1))) else none
theorem ct_X5_isForm {l : Launch} {S0 : State} {D : va_G} {cA : Nat → ClassId} (hG : x_G l S0 D cA) (v0 : Nat) (v1 : Int) (M : Mem) (r : Int) (hv0 : m_kd M v0 = 5) (h : d_X5_isForm v0 v1 M = some r) : x_Me l S0 D cA yX5_isForm cX5_isForm 2 (some .boolean) [] ({ frames := 2, cells := 0, slots := 0, locals := 53 }) [.ref v0, vI v1] M (.returned (some (vI r))) M := by
  refine x_begin (F := 2) (Lo := 53) (mc := 0) (ms := 0) hG (Nat.le_of_ble_eq_true rfl) (lv := [(0, .ref v0), (1, vI v1)]) rfl rfl rfl rfl rfl (fun X e1 e2 e3 e4 e5 C => ?_)
  unfold d_X5_isForm at h
  refine z_iload_n (pc := 0) C 1 rfl dX5_isForm_0 ?_
  refine z_i2l (pc := 1) C dX5_isForm_1 ?_
  refine z_lconst (pc := 2) C (x := 0) (by decide +kernel) dX5_isForm_2 ?_
  refine z_aload_n (pc := 3) C 0 rfl dX5_isForm_3 ?_
  refine gX5_514 (pc := 4) C rfl (Or.inl hv0) rfl dX5_isForm_4 ?_
  refine z_iconst (pc := 7) C dX5_isForm_7 ?_
  refine z_isub (pc := 8) C dX5_isForm_8 ?_
  refine z_i2l (pc := 9) C dX5_isForm_9 ?_
  refine cX5_207 (pc := 10) (st := []) (st1 := [vI (d_X5_isIn (w32 v1) 0 (w32 ((m_i M 514 v0 0) - 1)))]) C rfl (rm := { frames := 1, cells := 0, slots := 0, locals := 24 }) (ct_X5_isIn C.2.1 (w32 v1) 0 (w32 ((m_i M 514 v0 0) - 1)) M _  rfl) ⟨by decide, by decide, Nat.zero_le _, Nat.zero_le _⟩ rfl (Nat.le_of_ble_eq_true rfl) dX5_isForm_10 (c2 := 0) (s2 := 0) rfl rfl (fun _ => ?_)
  obtain ⟨c2, h⟩ := ifn h
  cases h
  exact z_zret (pc := 13) C rfl c2 (show 0 ≤ 0 from by decide) (show 0 ≤ 0 from by decide) dX5_isForm_13
def d_X5_isStatementOf (v0 : Nat) (v1 : Int) (v2 : Int) (M : Mem) : Option Int :=
  bR (d_X5_isForm v0 v1 M) fun r1 => 
  if w32 r1 = 0 then
    some 0
  else
    if inb v1 6 then 
    if w32 (d_X5_isIn (w32 v2) 0 (w32 ((m_i M 515 v0 (ixn v1)) - 1))) = 0 then
      some 0
    else
      some 1 else none
theorem ct_X5_isStatementOf {l : Launch} {S0 : State} {D : va_G} {cA : Nat → ClassId} (hG : x_G l S0 D cA) (v0 : Nat) (v1 : Int) (v2 : Int) (M : Mem) (r : Int) (hv0 : m_kd M v0 = 5) (h : d_X5_isStatementOf v0 v1 v2 M = some r) : x_Me l S0 D cA yX5_isStatementOf cX5_isStatementOf 3 (some .boolean) [] ({ frames := 3, cells := 0, slots := 0, locals := 78 }) [.ref v0, vI v1, vI v2] M (.returned (some (vI r))) M := by
  refine x_begin (F := 3) (Lo := 78) (mc := 0) (ms := 0) hG (Nat.le_of_ble_eq_true rfl) (lv := [(0, .ref v0), (1, vI v1), (2, vI v2)]) rfl rfl rfl rfl rfl (fun X e1 e2 e3 e4 e5 C => ?_)
  unfold d_X5_isStatementOf at h
  refine z_aload_n (pc := 0) C 0 rfl dX5_isStatementOf_0 ?_
  refine z_iload_n (pc := 1) C 1 rfl dX5_isStatementOf_1 ?_
  obtain ⟨r1, e2, h⟩ := bRs h
  refine cX5_349 (pc := 2) (st := []) (st1 := [vI r1]) C rfl (rm := { frames := 2, cells := 0, slots := 0, locals := 53 }) (ct_X5_isForm C.2.1 v0 v1 M _ hv0 e2) ⟨by decide, by decide, Nat.zero_le _, Nat.zero_le _⟩ (Or.inl hv0) rfl (Nat.le_of_ble_eq_true rfl) dX5_isStatementOf_2 (c2 := 0) (s2 := 0) rfl rfl (fun _ => ?_)
  refine z_if_eq (pc := 5) C dX5_isStatementOf_5 (tgt := 30) (by decide) (fun c3 => ?_) (fun c3 => ?_)
  · have h := itt c3 h
    refine z_iconst (pc := 30) C dX5_isStatementOf_30 ?_
    cases h
    exact z_zret (pc := 31) C rfl (Or.inl rfl) (show 0 ≤ 0 from by decide) (show 0 ≤ 0 from by decide) dX5_isStatementOf_31
  · have h := itf c3 h
    refine z_iload_n (pc := 8) C 2 rfl dX5_isStatementOf_8 ?_
    refine z_i2l (pc := 9) C dX5_isStatementOf_9 ?_
    refine z_lconst (pc := 10) C (x := 0) (by decide +kernel) dX5_isStatementOf_10 ?_
    refine z_aload_n (pc := 11) C 0 rfl dX5_isStatementOf_11 ?_
    refine gX5_515 (pc := 12) C rfl hv0 dX5_isStatementOf_12 ?_
    refine z_iload_n (pc := 15) C 1 rfl dX5_isStatementOf_15 ?_
    obtain ⟨c4, h⟩ := ifn h
    refine z_iaO (pc := 16) (k := 5) (j := 15) C 515 rfl (by decide) (by decide) (by decide) rfl rfl rfl rfl hv0 c4 rfl dX5_isStatementOf_16 ?_
    refine z_iconst (pc := 17) C dX5_isStatementOf_17 ?_
    refine z_isub (pc := 18) C dX5_isStatementOf_18 ?_
    refine z_i2l (pc := 19) C dX5_isStatementOf_19 ?_
    refine cX5_207 (pc := 20) (st := []) (st1 := [vI (d_X5_isIn (w32 v2) 0 (w32 ((m_i M 515 v0 (ixn v1)) - 1)))]) C rfl (rm := { frames := 1, cells := 0, slots := 0, locals := 24 }) (ct_X5_isIn C.2.1 (w32 v2) 0 (w32 ((m_i M 515 v0 (ixn v1)) - 1)) M _  rfl) ⟨by decide, by decide, Nat.zero_le _, Nat.zero_le _⟩ rfl (Nat.le_of_ble_eq_true rfl) dX5_isStatementOf_20 (c2 := 0) (s2 := 0) rfl rfl (fun _ => ?_)
    refine z_if_eq (pc := 23) C dX5_isStatementOf_23 (tgt := 30) (by decide) (fun c6 => ?_) (fun c6 => ?_)
    · have h := itt c6 h
      refine z_iconst (pc := 30) C dX5_isStatementOf_30 ?_
      cases h
      exact z_zret (pc := 31) C rfl (Or.inl rfl) (show 0 ≤ 0 from by decide) (show 0 ≤ 0 from by decide) dX5_isStatementOf_31
    · have h := itf c6 h
      refine z_iconst (pc := 26) C dX5_isStatementOf_26 ?_
      refine z_goto (pc := 27) C dX5_isStatementOf_27 (tgt := 31) (by decide) ?_
      cases h
      exact z_zret (pc := 31) C rfl (Or.inr rfl) (show 0 ≤ 0 from by decide) (show 0 ≤ 0 from by decide) dX5_isStatementOf_31
def d_X5_statement (v0 : Nat) (v1 : Int) (v2 : Int) (v3 : Int) (M : Mem) : Option (Int × Mem) :=
  bR (d_X5_isStatementOf v0 v1 v2 (m_si M 500 v0 0 0)) fun r1 => 
  if w32 r1 = 0 then
    bN (d_X5_fail v0 1 (m_si M 500 v0 0 0)) fun r17 M18 => 
    some (r17, M18)
  else
    if w32 (d_X5_isIn (w32 v3) 0 3) = 0 then
      bN (d_X5_fail v0 2 (m_si M 500 v0 0 0)) fun r13 M14 => 
      some (r13, M14)
    else
      if w32 v3 = 0 then
        if inb ((20 * v1) + v2) 120 then 
        some (m_i M 516 v0 (ixn ((20 * v1) + v2)), (m_si M 500 v0 0 0)) else none
      else
        if w32 v3 = w32 1 then
          if inb ((20 * v1) + v2) 120 then 
          some (m_i M 518 v0 (ixn ((20 * v1) + v2)), (m_si M 500 v0 0 0)) else none
        else
          if w32 v3 = w32 2 then
            if inb ((20 * v1) + v2) 120 then 
            some (m_i M 519 v0 (ixn ((20 * v1) + v2)), (m_si M 500 v0 0 0)) else none
          else
            if inb ((20 * v1) + v2) 120 then 
            some (m_i M 520 v0 (ixn ((20 * v1) + v2)), (m_si M 500 v0 0 0)) else none
theorem ct_X5_statement {l : Launch} {S0 : State} {D : va_G} {cA : Nat → ClassId} (hG : x_G l S0 D cA) (v0 : Nat) (v1 : Int) (v2 : Int) (v3 : Int) (M : Mem) (r : Int) (M' : Mem) (hv0 : m_kd M v0 = 5) (h : d_X5_statement v0 v1 v2 v3 M = some (r, M')) : x_Me l S0 D cA yX5_statement cX5_statement 5 (some .int) [] ({ frames := 4, cells := 0, slots := 0, locals := 104 }) [.ref v0, vI v1, vI v2, vI v3] M (.returned (some (vI r))) M' := by
  refine x_begin (F := 4) (Lo := 104) (mc := 0) (ms := 0) hG (Nat.le_of_ble_eq_true rfl) (lv := [(0, .ref v0), (1, vI v1), (2, vI v2), (3, vI v3)]) rfl rfl rfl rfl rfl (fun X e1 e2 e3 e4 e5 C => ?_)
  unfold d_X5_statement at h
  refine z_aload_n (pc := 0) C 0 rfl dX5_statement_0 ?_
  refine z_iconst (pc := 1) C dX5_statement_1 ?_
  refine pX5_500 (pc := 2) C rfl (Or.inl hv0) dX5_statement_2 ?_
  refine z_aload_n (pc := 5) C 0 rfl dX5_statement_5 ?_
  refine z_iload_n (pc := 6) C 1 rfl dX5_statement_6 ?_
  refine z_iload_n (pc := 7) C 2 rfl dX5_statement_7 ?_
  obtain ⟨r1, e2, h⟩ := bRs h
  refine cX5_352 (pc := 8) (st := []) (st1 := [vI r1]) C rfl (rm := { frames := 3, cells := 0, slots := 0, locals := 78 }) (ct_X5_isStatementOf C.2.1 v0 v1 v2 (m_si M 500 v0 0 0) _ hv0 e2) ⟨by decide, by decide, Nat.zero_le _, Nat.zero_le _⟩ (Or.inl hv0) rfl (Nat.le_of_ble_eq_true rfl) dX5_statement_8 (c2 := 0) (s2 := 0) rfl rfl (fun _ => ?_)
  refine z_if_ne (pc := 11) C dX5_statement_11 (tgt := 20) (by decide) (fun c3 => ?_) (fun c3 => ?_)
  · have h := itf c3 h
    refine z_iload_n (pc := 20) C 3 rfl dX5_statement_20 ?_
    refine z_i2l (pc := 21) C dX5_statement_21 ?_
    refine z_lconst (pc := 22) C (x := 0) (by decide +kernel) dX5_statement_22 ?_
    refine z_ldc2 (pc := 23) C (x := 3) q1924 (by decide +kernel) dX5_statement_23 ?_
    refine cX5_207 (pc := 26) (st := []) (st1 := [vI (d_X5_isIn (w32 v3) 0 3)]) C rfl (rm := { frames := 1, cells := 0, slots := 0, locals := 24 }) (ct_X5_isIn C.2.1 (w32 v3) 0 3 (m_si M 500 v0 0 0) _  rfl) ⟨by decide, by decide, Nat.zero_le _, Nat.zero_le _⟩ rfl (Nat.le_of_ble_eq_true rfl) dX5_statement_26 (c2 := 0) (s2 := 0) rfl rfl (fun _ => ?_)
    refine z_if_ne (pc := 29) C dX5_statement_29 (tgt := 38) (by decide) (fun c5 => ?_) (fun c5 => ?_)
    · have h := itf c5 h
      refine z_bipush (pc := 38) C (by decide +kernel) dX5_statement_38 ?_
      refine z_iload_n (pc := 40) C 1 rfl dX5_statement_40 ?_
      refine z_imul (pc := 41) C dX5_statement_41 ?_
      refine z_iload_n (pc := 42) C 2 rfl dX5_statement_42 ?_
      refine z_iadd (pc := 43) C dX5_statement_43 ?_
      refine z_istore (pc := 44) C (lv' := [(0, .ref v0), (1, vI v1), (2, vI v2), (3, vI v3), (4, vI ((20 * v1) + v2))]) (by decide) rfl dX5_statement_44 ?_
      refine z_iload_n (pc := 46) C 3 rfl dX5_statement_46 ?_
      refine z_if_ne (pc := 47) C dX5_statement_47 (tgt := 60) (by decide) (fun c6 => ?_) (fun c6 => ?_)
      · have h := itf c6 h
        refine z_iload_n (pc := 60) C 3 rfl dX5_statement_60 ?_
        refine z_iconst (pc := 61) C dX5_statement_61 ?_
        refine z_ic_ne (pc := 62) C dX5_statement_62 (tgt := 75) (by decide) (fun c7 => ?_) (fun c7 => ?_)
        · have h := itf c7 h
          refine z_iload_n (pc := 75) C 3 rfl dX5_statement_75 ?_
          refine z_iconst (pc := 76) C dX5_statement_76 ?_
          refine z_ic_ne (pc := 77) C dX5_statement_77 (tgt := 90) (by decide) (fun c8 => ?_) (fun c8 => ?_)
          · have h := itf c8 h
            refine z_aload_n (pc := 90) C 0 rfl dX5_statement_90 ?_
            refine gX5_520 (pc := 91) C rfl hv0 dX5_statement_91 ?_
            refine z_iload (pc := 94) C 4 rfl dX5_statement_94 ?_
            obtain ⟨c9, h⟩ := ifn h
            refine z_iaO (pc := 96) (k := 5) (j := 20) C 520 rfl (by decide) (by decide) (by decide) rfl rfl rfl rfl hv0 c9 (x := m_i M 520 v0 (ixn ((20 * v1) + v2))) ((m_i_ne (by decide)).trans rfl) dX5_statement_96 ?_
            cases h
            exact z_iret (pc := 97) C rfl (show 0 ≤ 0 from by decide) (show 0 ≤ 0 from by decide) dX5_statement_97
          · have h := itt c8 h
            refine z_aload_n (pc := 80) C 0 rfl dX5_statement_80 ?_
            refine gX5_519 (pc := 81) C rfl hv0 dX5_statement_81 ?_
            refine z_iload (pc := 84) C 4 rfl dX5_statement_84 ?_
            obtain ⟨c10, h⟩ := ifn h
            refine z_iaO (pc := 86) (k := 5) (j := 19) C 519 rfl (by decide) (by decide) (by decide) rfl rfl rfl rfl hv0 c10 (x := m_i M 519 v0 (ixn ((20 * v1) + v2))) ((m_i_ne (by decide)).trans rfl) dX5_statement_86 ?_
            refine z_goto (pc := 87) C dX5_statement_87 (tgt := 97) (by decide) ?_
            cases h
            exact z_iret (pc := 97) C rfl (show 0 ≤ 0 from by decide) (show 0 ≤ 0 from by decide) dX5_statement_97
        · have h := itt c7 h
          refine z_aload_n (pc := 65) C 0 rfl dX5_statement_65 ?_
          refine gX5_518 (pc := 66) C rfl hv0 dX5_statement_66 ?_
          refine z_iload (pc := 69) C 4 rfl dX5_statement_69 ?_
          obtain ⟨c11, h⟩ := ifn h
          refine z_iaO (pc := 71) (k := 5) (j := 18) C 518 rfl (by decide) (by decide) (by decide) rfl rfl rfl rfl hv0 c11 (x := m_i M 518 v0 (ixn ((20 * v1) + v2))) ((m_i_ne (by decide)).trans rfl) dX5_statement_71 ?_
          refine z_goto (pc := 72) C dX5_statement_72 (tgt := 97) (by decide) ?_
          cases h
          exact z_iret (pc := 97) C rfl (show 0 ≤ 0 from by decide) (show 0 ≤ 0 from by decide) dX5_statement_97
      · have h := itt c6 h
        refine z_aload_n (pc := 50) C 0 rfl dX5_statement_50 ?_
        refine gX5_516 (pc := 51) C rfl hv0 dX5_statement_51 ?_
        refine z_iload (pc := 54) C 4 rfl dX5_statement_54 ?_
        obtain ⟨c12, h⟩ := ifn h
        refine z_iaO (pc := 56) (k := 5) (j := 16) C 516 rfl (by decide) (by decide) (by decide) rfl rfl rfl rfl hv0 c12 (x := m_i M 516 v0 (ixn ((20 * v1) + v2))) ((m_i_ne (by decide)).trans rfl) dX5_statement_56 ?_
        refine z_goto (pc := 57) C dX5_statement_57 (tgt := 97) (by decide) ?_
        cases h
        exact z_iret (pc := 97) C rfl (show 0 ≤ 0 from by decide) (show 0 ≤ 0 from by decide) dX5_statement_97
    · have h := itt c5 h
      refine z_aload_n (pc := 32) C 0 rfl dX5_statement_32 ?_
      refine z_iconst (pc := 33) C dX5_statement_33 ?_
      obtain ⟨r13, M14, e15, h⟩ := bNs h
      refine cX5_213 (pc := 34) (st := []) (st1 := [vI r13]) C rfl (rm := { frames := 1, cells := 0, slots := 0, locals := 24 }) (ct_X5_fail C.2.1 v0 2 (m_si M 500 v0 0 0) _ _ hv0 e15) ⟨by decide, by decide, Nat.zero_le _, Nat.zero_le _⟩ (Or.inl hv0) rfl (Nat.le_of_ble_eq_true rfl) dX5_statement_34 (c2 := 0) (s2 := 0) rfl rfl (fun x16 => ?_)
      cases h
      exact z_iret (pc := 37) C rfl (show 0 ≤ 0 from by decide) (show 0 ≤ 0 from by decide) dX5_statement_37
  · have h := itt c3 h
    refine z_aload_n (pc := 14) C 0 rfl dX5_statement_14 ?_
    refine z_iconst (pc := 15) C dX5_statement_15 ?_
    obtain ⟨r17, M18, e19, h⟩ := bNs h
    refine cX5_213 (pc := 16) (st := []) (st1 := [vI r17]) C rfl (rm := { frames := 1, cells := 0, slots := 0, locals := 24 }) (ct_X5_fail C.2.1 v0 1 (m_si M 500 v0 0 0) _ _ hv0 e19) ⟨by decide, by decide, Nat.zero_le _, Nat.zero_le _⟩ (Or.inl hv0) rfl (Nat.le_of_ble_eq_true rfl) dX5_statement_16 (c2 := 0) (s2 := 0) rfl rfl (fun x20 => ?_)
    cases h
    exact z_iret (pc := 19) C rfl (show 0 ≤ 0 from by decide) (show 0 ≤ 0 from by decide) dX5_statement_19
