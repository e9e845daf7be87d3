set_option maxRecDepth 100000
def d_X11_cells (v0 : Nat) (M : Mem) : Int :=
  (m_i M 1100 v0 0) * (m_i M 1101 v0 0)
theorem ct_X11_cells {l : Launch} {S0 : State} {D : va_G} {cA : Nat → ClassId} (hG : x_G l S0 D cA) (v0 : Nat) (M : Mem) (r : Int) (hv0 : m_kd M v0 = 11) (h : d_X11_cells v0 M = r) : x_Me l S0 D cA yX11_cells cX11_cells 1 (some .int) [] ({ frames := 1, cells := 0, slots := 0, locals := 24 }) [.ref v0] M (.returned (some (vI r))) M := by
  refine x_begin (F := 1) (Lo := 24) (mc := 0) (ms := 0) hG (Nat.le_of_ble_eq_true rfl) (lv := [(0, .ref v0)]) rfl rfl rfl rfl rfl (fun X e1 e2 e3 e4 e5 C => ?_)
  unfold d_X11_cells at h
  refine z_aload_n (pc := 0) C 0 rfl dX11_cells_0 ?_
  refine gX11_1100 (pc := 1) C rfl (Or.inl hv0) rfl dX11_cells_1 ?_
  refine z_aload_n (pc := 4) C 0 rfl dX11_cells_4 ?_
  refine gX11_1101 (pc := 5) C rfl (Or.inl hv0) rfl dX11_cells_5 ?_
  refine z_imul (pc := 8) C dX11_cells_8 ?_
  subst h
  exact z_iret (pc := 9) C rfl (show 0 ≤ 0 from by decide) (show 0 ≤ 0 from by decide) dX11_cells_9
def B_X1_table_448 (k448 : Nat → Nat → Int → Mem → Option ((Int ⊕ Nat) × Mem)) (v0 : Nat) (v7 : Nat) (v8 : Int) (M : Mem) : Option ((Int ⊕ Nat) × Mem) :=
  if w32 (d_X11_cells v7 M) ≤ w32 v8 then
    if inb (m_i M 134 v0 0) 12 then 
    some (.inl (m_i M 134 v0 0), (m_si (m_sr M 135 v0 (ixn (m_i M 134 v0 0)) (some v7)) 134 v0 0 ((m_i M 134 v0 0) + 1))) else none
  else
    if inb v8 12 then 
    k448 v0 v7 (v8 + 1) (m_si M 1105 v7 (ixn v8) (m_i M 1102 v7 (ixn v8))) else none
def L_X1_table_448  : Nat → Nat → Nat → Int → Mem → Option ((Int ⊕ Nat) × Mem)
  | 0, _, _, _, _ => none
  | n + 1, v0, v7, v8, M => B_X1_table_448 (L_X1_table_448  n) v0 v7 v8 M
def B_X1_table_320 (k224 : Nat → Int → Int → Int → Int → Nat → Nat → Int → Mem → Option ((Int ⊕ Nat) × Mem)) (v0 : Nat) (v2 : Int) (v3 : Int) (v4 : Int) (v5 : Int) (v6 : Nat) (v7 : Nat) (v8 : Int) (v9 : Nat) (s0 : Int) (M : Mem) : Option ((Int ⊕ Nat) × Mem) :=
  if inb v2 20 then 
  if w32 (m_i M 902 v9 (ixn v2)) = w32 (-2000000) then
    k224 v0 v2 v3 v4 v5 v6 v7 (v8 + 1) M
  else
    if inb v3 20 then 
    if w32 (m_i M 902 v9 (ixn v3)) = w32 (-2000000) then
      k224 v0 v2 v3 v4 v5 v6 v7 (v8 + 1) M
    else
      if 0 ≤ w32 s0 then
        if inb (((((m_i M 902 v9 (ixn v2)) - (m_i M 203 v6 (ixn v2))) * (m_i M 1101 v7 0)) + (m_i M 902 v9 (ixn v3))) - (m_i M 203 v6 (ixn v3))) 12 then 
        k224 v0 v2 v3 v4 v5 v6 v7 (v8 + 1) (m_si (m_si (m_si M 1102 v7 (ixn (((((m_i M 902 v9 (ixn v2)) - (m_i M 203 v6 (ixn v2))) * (m_i M 1101 v7 0)) + (m_i M 902 v9 (ixn v3))) - (m_i M 203 v6 (ixn v3)))) ((m_i M 1102 v7 (ixn (((((m_i M 902 v9 (ixn v2)) - (m_i M 203 v6 (ixn v2))) * (m_i M 1101 v7 0)) + (m_i M 902 v9 (ixn v3))) - (m_i M 203 v6 (ixn v3))))) + s0)) 1103 v7 (ixn (((((m_i M 902 v9 (ixn v2)) - (m_i M 203 v6 (ixn v2))) * (m_i M 1101 v7 0)) + (m_i M 902 v9 (ixn v3))) - (m_i M 203 v6 (ixn v3)))) ((m_i M 1103 v7 (ixn (((((m_i M 902 v9 (ixn v2)) - (m_i M 203 v6 (ixn v2))) * (m_i M 1101 v7 0)) + (m_i M 902 v9 (ixn v3))) - (m_i M 203 v6 (ixn v3))))) + 1)) 1104 v7 (ixn (((((m_i M 902 v9 (ixn v2)) - (m_i M 203 v6 (ixn v2))) * (m_i M 1101 v7 0)) + (m_i M 902 v9 (ixn v3))) - (m_i M 203 v6 (ixn v3)))) (nx32 (m_i M 1104 v7 (ixn (((((m_i M 902 v9 (ixn v2)) - (m_i M 203 v6 (ixn v2))) * (m_i M 1101 v7 0)) + (m_i M 902 v9 (ixn v3))) - (m_i M 203 v6 (ixn v3))))) s0)) else none
      else
        k224 v0 v2 v3 v4 v5 v6 v7 (v8 + 1) M else none else none
def B_X1_table_302 (k224 : Nat → Int → Int → Int → Int → Nat → Nat → Int → Mem → Option ((Int ⊕ Nat) × Mem)) (v0 : Nat) (v2 : Int) (v3 : Int) (v4 : Int) (v5 : Int) (v6 : Nat) (v7 : Nat) (v8 : Int) (v9 : Nat) (M : Mem) : Option ((Int ⊕ Nat) × Mem) :=
  if w32 v4 = w32 (-1) then
    B_X1_table_320 k224 v0 v2 v3 v4 v5 v6 v7 v8 v9 1 M
  else
    if inb v4 20 then 
    B_X1_table_320 k224 v0 v2 v3 v4 v5 v6 v7 v8 v9 (m_i M 902 v9 (ixn v4)) M else none
def B_X1_table_224 (k224 : Nat → Int → Int → Int → Int → Nat → Nat → Int → Mem → Option ((Int ⊕ Nat) × Mem)) (v0 : Nat) (v2 : Int) (v3 : Int) (v4 : Int) (v5 : Int) (v6 : Nat) (v7 : Nat) (v8 : Int) (M : Mem) : Option ((Int ⊕ Nat) × Mem) :=
  if w32 (m_i M 120 v0 0) ≤ w32 v8 then
    L_X1_table_448 FU v0 v7 0 M
  else
    if inb v8 60 then 
    bR (m_r M 121 v0 (ixn v8)) fun q89 => 
    bR (m_r M 901 q89 0) fun q92 => 
    if q92 = v6 then
      bR (d_X1_countBroken v6 (q89 + 1) M) fun r97 => 
      if 0 < w32 r97 then
        k224 v0 v2 v3 v4 v5 v6 v7 (v8 + 1) M
      else
        if w32 v5 = w32 (-1) then
          B_X1_table_302 k224 v0 v2 v3 v4 v5 v6 v7 v8 q89 M
        else
          if inb v5 12 then 
          bR (m_r M 126 v0 (ixn v5)) fun q110 => 
          bR (m_r M 900 q89 0) fun q113 => 
          bR (d_X1_lastOf v0 (m_i M 802 q113 0) 2147483647 M) fun r116 => 
          if inb r116 100 then 
          if w32 (m_i M 1000 q110 (ixn r116)) = 0 then
            k224 v0 v2 v3 v4 v5 v6 v7 (v8 + 1) M
          else
            B_X1_table_302 k224 v0 v2 v3 v4 v5 v6 v7 v8 q89 M else none else none
    else
      k224 v0 v2 v3 v4 v5 v6 v7 (v8 + 1) M else none
def L_X1_table_224  : Nat → Nat → Int → Int → Int → Int → Nat → Nat → Int → Mem → Option ((Int ⊕ Nat) × Mem)
  | 0, _, _, _, _, _, _, _, _, _ => none
  | n + 1, v0, v2, v3, v4, v5, v6, v7, v8, M => B_X1_table_224 (L_X1_table_224  n) v0 v2 v3 v4 v5 v6 v7 v8 M
def B_X1_table_175  (v0 : Nat) (v2 : Int) (v3 : Int) (v4 : Int) (v5 : Int) (v6 : Nat) (s0 : Int) (M : Mem) : Option ((Int ⊕ Nat) × Mem) :=
  bT (d_X1_room s0 M) fun r63 M64 => 
  if inb v2 20 then 
  if inb v3 20 then 
  bN (d_X11_init (m_sz M64) (((m_i M64 204 v6 (ixn v2)) - (m_i M64 203 v6 (ixn v2))) + 1) (((m_i M64 204 v6 (ixn v3)) - (m_i M64 203 v6 (ixn v3))) + 1) (m_nw M64 111)) fun r76 M77 => 
  if m_kd M77 (m_sz M64) = 11 then 
  L_X1_table_224 FU v0 v2 v3 v4 v5 v6 (m_sz M64) 0 M77 else none else none else none
def B_X1_table_158  (v0 : Nat) (v2 : Int) (v3 : Int) (v4 : Int) (v5 : Int) (v6 : Nat) (s0 : Int) (M : Mem) : Option ((Int ⊕ Nat) × Mem) :=
  bT (d_X1_need s0 M) fun r55 M56 => 
  if w32 12 ≤ w32 (m_i M56 134 v0 0) then
    B_X1_table_175 v0 v2 v3 v4 v5 v6 0 M56
  else
    B_X1_table_175 v0 v2 v3 v4 v5 v6 1 M56
def B_X1_table_157  (v0 : Nat) (v2 : Int) (v3 : Int) (v4 : Int) (v5 : Int) (v6 : Nat) (M : Mem) : Option ((Int ⊕ Nat) × Mem) :=
  B_X1_table_158 v0 v2 v3 v4 v5 v6 0 M
def B_X1_table_112  (v0 : Nat) (v2 : Int) (v3 : Int) (v4 : Int) (v5 : Int) (v6 : Nat) (s0 : Int) (M : Mem) : Option ((Int ⊕ Nat) × Mem) :=
  bT (d_X1_need s0 M) fun r46 M47 => 
  if inb v2 20 then 
  if w32 4 ≤ w32 ((m_i M47 204 v6 (ixn v2)) - (m_i M47 203 v6 (ixn v2))) then
    B_X1_table_157 v0 v2 v3 v4 v5 v6 M47
  else
    if inb v3 20 then 
    if w32 3 ≤ w32 ((m_i M47 204 v6 (ixn v3)) - (m_i M47 203 v6 (ixn v3))) then
      B_X1_table_157 v0 v2 v3 v4 v5 v6 M47
    else
      B_X1_table_158 v0 v2 v3 v4 v5 v6 1 M47 else none else none
def B_X1_table_111  (v0 : Nat) (v2 : Int) (v3 : Int) (v4 : Int) (v5 : Int) (v6 : Nat) (M : Mem) : Option ((Int ⊕ Nat) × Mem) :=
  B_X1_table_112 v0 v2 v3 v4 v5 v6 0 M
def B_X1_table_107  (v0 : Nat) (v2 : Int) (v3 : Int) (v4 : Int) (v5 : Int) (v6 : Nat) (M : Mem) : Option ((Int ⊕ Nat) × Mem) :=
  B_X1_table_112 v0 v2 v3 v4 v5 v6 1 M
def B_X1_table_63  (v0 : Nat) (v2 : Int) (v3 : Int) (v4 : Int) (v5 : Int) (v6 : Nat) (s0 : Int) (M : Mem) : Option ((Int ⊕ Nat) × Mem) :=
  bT (d_X1_inside s0 M) fun r36 M37 => 
  bR (d_X2_isAsk v6 v2 M37) fun r43 => 
  if w32 r43 = 0 then
    B_X1_table_111 v0 v2 v3 v4 v5 v6 M37
  else
    bR (d_X2_isAsk v6 v3 M37) fun r122 => 
    if w32 r122 = 0 then
      B_X1_table_111 v0 v2 v3 v4 v5 v6 M37
    else
      if w32 v2 = w32 v3 then
        B_X1_table_111 v0 v2 v3 v4 v5 v6 M37
      else
        if w32 v4 = w32 (-1) then
          B_X1_table_107 v0 v2 v3 v4 v5 v6 M37
        else
          if inb v4 20 then 
          if w32 1 < w32 (m_i M37 202 v6 (ixn v4)) then
            B_X1_table_111 v0 v2 v3 v4 v5 v6 M37
          else
            B_X1_table_107 v0 v2 v3 v4 v5 v6 M37 else none
def B_X1_table_62  (v0 : Nat) (v2 : Int) (v3 : Int) (v4 : Int) (v5 : Int) (v6 : Nat) (M : Mem) : Option ((Int ⊕ Nat) × Mem) :=
  B_X1_table_63 v0 v2 v3 v4 v5 v6 0 M
def d_X1_table (v0 : Nat) (v1 : Int) (v2 : Int) (v3 : Int) (v4 : Int) (v5 : Int) (M : Mem) : Option ((Int ⊕ Nat) × Mem) :=
  bT (d_X1_formOf v0 v1 M) fun r13 M14 => 
  if m_kd M14 r13 = 2 then 
  bT (d_X1_statementIn r13 v2 M14) fun r20 M21 => 
  bT (d_X1_statementIn r13 v3 M21) fun r27 M28 => 
  if w32 (d_X1_isIn (w32 v4) (-1) (w32 ((m_i M28 200 r13 0) - 1))) = 0 then
    B_X1_table_62 v0 v2 v3 v4 v5 r13 M28
  else
    if w32 (d_X1_isIn (w32 v5) (-1) (w32 ((m_i M28 125 v0 0) - 1))) = 0 then
      B_X1_table_62 v0 v2 v3 v4 v5 r13 M28
    else
      B_X1_table_63 v0 v2 v3 v4 v5 r13 1 M28 else none
theorem cB_X1_table_448 {X : x_Ctx} {M0 : Mem} (C : x_CC X 8 139 yX1_table cX1_table 12 (some .int) []) {k448 : Nat → Nat → Int → Mem → Option ((Int ⊕ Nat) × Mem)} (hk448 : ∀ (v0 : Nat) (v7 : Nat) (v8 : Int) (M : Mem) (r : Int ⊕ Nat) (M' : Mem), m_kd M v0 = 1 → m_kd M v7 = 11 → k448 v0 v7 v8 M = some (r, M') → ocN r 5 5 ≤ (XR X).cells ∧ ocN r 56 56 ≤ (XR X).slots → x_Z X 5 56 (x_QF X M0 (ocI r) M' (ocN r 5 5) (ocN r 56 56)) M0 M 12 [(0, .ref v0), (7, .ref v7), (8, vI v8)] 448 []) (v0 : Nat) (v7 : Nat) (v8 : Int) (M : Mem) (r : Int ⊕ Nat) (M' : Mem) (hv0 : m_kd M v0 = 1) (hv7 : m_kd M v7 = 11) (h : B_X1_table_448 k448 v0 v7 v8 M = some (r, M')) (hR : ocN r 5 5 ≤ (XR X).cells ∧ ocN r 56 56 ≤ (XR X).slots) : x_Z X 5 56 (x_QF X M0 (ocI r) M' (ocN r 5 5) (ocN r 56 56)) M0 M 12 [(0, .ref v0), (7, .ref v7), (8, vI v8)] 448 [] := by
  unfold B_X1_table_448 at h
  refine z_iload (pc := 448) C 2 rfl dX1_table_448 ?_
  refine z_aload (pc := 450) C 1 rfl dX1_table_450 ?_
  refine cX1_503 (pc := 452) (st := [vI v8]) (st1 := [vI (d_X11_cells v7 M), vI v8]) C rfl (rm := { frames := 1, cells := 0, slots := 0, locals := 24 }) (ct_X11_cells C.2.1 v7 M _ hv7 rfl) ⟨by decide, by decide, Nat.le_trans (ocN_le (show 5 ≤ 5 from by decide) (show 5 ≤ 5 from by decide)) hR.1, Nat.le_trans (ocN_le (show 56 ≤ 56 from by decide) (show 56 ≤ 56 from by decide)) hR.2⟩ (Or.inl hv7) rfl (Nat.le_of_ble_eq_true rfl) dX1_table_452 (c2 := 5) (s2 := 56) rfl rfl (fun _ => ?_)
  refine z_ic_ge (pc := 455) C dX1_table_455 (tgt := 480) (by decide) (fun c85 => ?_) (fun c85 => ?_)
  · have h := itt c85 h
    refine z_aload_n (pc := 480) C 0 rfl dX1_table_480 ?_
    refine gX1_135 (pc := 481) C rfl hv0 dX1_table_481 ?_
    refine z_aload_n (pc := 484) C 0 rfl dX1_table_484 ?_
    refine gX1_134 (pc := 485) C rfl (Or.inl hv0) rfl dX1_table_485 ?_
    refine z_aload (pc := 488) C 1 rfl dX1_table_488 ?_
    obtain ⟨c86, h⟩ := ifn h
    refine z_asO (pc := 490) (k := 1) (j := 35) C 135 rfl (by decide) (by decide) (by decide) rfl rfl rfl (by decide) rfl (by decide) (by decide) (by decide) rfl hv0 c86 hv7 (by unfold x_rk; decide) dX1_table_490 ?_
    refine z_aload_n (pc := 491) C 0 rfl dX1_table_491 ?_
    refine z_dup (pc := 492) C rfl dX1_table_492 ?_
    refine gX1_134 (pc := 493) C rfl (Or.inl hv0) (x := m_i M 134 v0 0) (m_i_sr.trans rfl) dX1_table_493 ?_
    refine z_dupx1 (pc := 496) C rfl rfl dX1_table_496 ?_
    refine z_iconst (pc := 497) C dX1_table_497 ?_
    refine z_iadd (pc := 498) C dX1_table_498 ?_
    refine pX1_134 (pc := 499) C rfl (Or.inl hv0) dX1_table_499 ?_
    cases h
    exact z_iret (pc := 502) C rfl (show 5 ≤ 5 from by decide) (show 56 ≤ 56 from by decide) dX1_table_502
  · have h := itf c85 h
    refine z_aload (pc := 458) C 1 rfl dX1_table_458 ?_
    refine gX1_1105 (pc := 460) C rfl hv7 dX1_table_460 ?_
    refine z_iload (pc := 463) C 2 rfl dX1_table_463 ?_
    refine z_aload (pc := 465) C 1 rfl dX1_table_465 ?_
    refine gX1_1102 (pc := 467) C rfl hv7 dX1_table_467 ?_
    refine z_iload (pc := 470) C 2 rfl dX1_table_470 ?_
    obtain ⟨c87, h⟩ := ifn h
    refine z_iaO (pc := 472) (k := 11) (j := 2) C 1102 rfl (by decide) (by decide) (by decide) rfl rfl rfl rfl hv7 c87 rfl dX1_table_472 ?_
    refine z_isO (pc := 473) (k := 11) (j := 5) C 1105 rfl (by decide) (by decide) (by decide) rfl rfl rfl rfl hv7 c87 dX1_table_473 ?_
    refine z_iinc (pc := 474) C (lv' := [(0, .ref v0), (7, .ref v7), (8, vI (v8 + 1))]) 2 rfl (by decide) rfl dX1_table_474 ?_
    refine z_goto (pc := 477) C dX1_table_477 (tgt := 448) (by decide) ?_
    exact hk448 v0 v7 (v8 + 1) (m_si M 1105 v7 (ixn v8) (m_i M 1102 v7 (ixn v8))) _ _ hv0 hv7 h hR
theorem cL_X1_table_448 {X : x_Ctx} {M0 : Mem} (C : x_CC X 8 139 yX1_table cX1_table 12 (some .int) [])  : ∀ (n : Nat) (v0 : Nat) (v7 : Nat) (v8 : Int) (M : Mem) (r : Int ⊕ Nat) (M' : Mem) (hv0 : m_kd M v0 = 1) (hv7 : m_kd M v7 = 11) (h : L_X1_table_448  n v0 v7 v8 M = some (r, M')) (hR : ocN r 5 5 ≤ (XR X).cells ∧ ocN r 56 56 ≤ (XR X).slots), x_Z X 5 56 (x_QF X M0 (ocI r) M' (ocN r 5 5) (ocN r 56 56)) M0 M 12 [(0, .ref v0), (7, .ref v7), (8, vI v8)] 448 [] := by
  intro n
  induction n with
  | zero => intro v0 v7 v8 M r M' hv0 hv7 h hR; cases h
  | succ n ih => intro v0 v7 v8 M r M' hv0 hv7 h hR; exact cB_X1_table_448 C (fun v0 v7 v8 M r M' hv0 hv7 h hR => ih v0 v7 v8 M r M' hv0 hv7 h hR) v0 v7 v8 M r M' hv0 hv7 h hR
theorem cB_X1_table_320 {X : x_Ctx} {M0 : Mem} (C : x_CC X 8 139 yX1_table cX1_table 12 (some .int) []) {k224 : Nat → Int → Int → Int → Int → Nat → Nat → Int → Mem → Option ((Int ⊕ Nat) × Mem)} (hk224 : ∀ (v0 : Nat) (v2 : Int) (v3 : Int) (v4 : Int) (v5 : Int) (v6 : Nat) (v7 : Nat) (v8 : Int) (M : Mem) (r : Int ⊕ Nat) (M' : Mem), m_kd M v0 = 1 → m_kd M v6 = 2 → m_kd M v7 = 11 → k224 v0 v2 v3 v4 v5 v6 v7 v8 M = some (r, M') → ocN r 5 5 ≤ (XR X).cells ∧ ocN r 56 56 ≤ (XR X).slots → x_Z X 5 56 (x_QF X M0 (ocI r) M' (ocN r 5 5) (ocN r 56 56)) M0 M 12 [(0, .ref v0), (2, vI v2), (3, vI v3), (4, vI v4), (5, vI v5), (6, .ref v6), (7, .ref v7), (8, vI v8)] 224 []) (v0 : Nat) (v2 : Int) (v3 : Int) (v4 : Int) (v5 : Int) (v6 : Nat) (v7 : Nat) (v8 : Int) (v9 : Nat) (s0 : Int) (M : Mem) (r : Int ⊕ Nat) (M' : Mem) (hv0 : m_kd M v0 = 1) (hv6 : m_kd M v6 = 2) (hv7 : m_kd M v7 = 11) (hv9 : m_kd M v9 = 9) (h : B_X1_table_320 k224 v0 v2 v3 v4 v5 v6 v7 v8 v9 s0 M = some (r, M')) (hR : ocN r 5 5 ≤ (XR X).cells ∧ ocN r 56 56 ≤ (XR X).slots) : x_Z X 5 56 (x_QF X M0 (ocI r) M' (ocN r 5 5) (ocN r 56 56)) M0 M 12 [(0, .ref v0), (2, vI v2), (3, vI v3), (4, vI v4), (5, vI v5), (6, .ref v6), (7, .ref v7), (8, vI v8), (9, .ref v9)] 320 [vI s0] := by
  unfold B_X1_table_320 at h
  refine z_istore (pc := 320) C (lv' := [(0, .ref v0), (2, vI v2), (3, vI v3), (4, vI v4), (5, vI v5), (6, .ref v6), (7, .ref v7), (8, vI v8), (9, .ref v9), (10, vI s0)]) (by decide) rfl dX1_table_320 ?_
  refine z_aload (pc := 322) C 8 rfl dX1_table_322 ?_
  refine gX1_902 (pc := 324) C rfl hv9 dX1_table_324 ?_
  refine z_iload_n (pc := 327) C 1 rfl dX1_table_327 ?_
  obtain ⟨c103, h⟩ := ifn h
  refine z_iaO (pc := 328) (k := 9) (j := 2) C 902 rfl (by decide) (by decide) (by decide) rfl rfl rfl rfl hv9 c103 rfl dX1_table_328 ?_
  refine z_ldc (pc := 329) C (x := -2000000) q661 (by decide +kernel) dX1_table_329 ?_
  refine z_ic_eq (pc := 331) C dX1_table_331 (tgt := 439) (by decide) (fun c104 => ?_) (fun c104 => ?_)
  · have h := itt c104 h
    refine z_iinc (pc := 439) C (lv' := [(0, .ref v0), (2, vI v2), (3, vI v3), (4, vI v4), (5, vI v5), (6, .ref v6), (7, .ref v7), (8, vI (v8 + 1)), (9, .ref v9), (10, vI s0)]) 7 rfl (by decide) rfl dX1_table_439 ?_
    refine z_goto (pc := 442) C dX1_table_442 (tgt := 224) (by decide) ?_
    exact z_lv [0, 1, 2, 3, 4, 5, 6, 7] rfl <| hk224 v0 v2 v3 v4 v5 v6 v7 (v8 + 1) M _ _ hv0 hv6 hv7 h hR
  · have h := itf c104 h
    refine z_aload (pc := 334) C 8 rfl dX1_table_334 ?_
    refine gX1_902 (pc := 336) C rfl hv9 dX1_table_336 ?_
    refine z_iload_n (pc := 339) C 2 rfl dX1_table_339 ?_
    obtain ⟨c105, h⟩ := ifn h
    refine z_iaO (pc := 340) (k := 9) (j := 2) C 902 rfl (by decide) (by decide) (by decide) rfl rfl rfl rfl hv9 c105 rfl dX1_table_340 ?_
    refine z_ldc (pc := 341) C (x := -2000000) q661 (by decide +kernel) dX1_table_341 ?_
    refine z_ic_eq (pc := 343) C dX1_table_343 (tgt := 439) (by decide) (fun c106 => ?_) (fun c106 => ?_)
    · have h := itt c106 h
      refine z_iinc (pc := 439) C (lv' := [(0, .ref v0), (2, vI v2), (3, vI v3), (4, vI v4), (5, vI v5), (6, .ref v6), (7, .ref v7), (8, vI (v8 + 1)), (9, .ref v9), (10, vI s0)]) 7 rfl (by decide) rfl dX1_table_439 ?_
      refine z_goto (pc := 442) C dX1_table_442 (tgt := 224) (by decide) ?_
      exact z_lv [0, 1, 2, 3, 4, 5, 6, 7] rfl <| hk224 v0 v2 v3 v4 v5 v6 v7 (v8 + 1) M _ _ hv0 hv6 hv7 h hR
    · have h := itf c106 h
      refine z_iload (pc := 346) C 9 rfl dX1_table_346 ?_
      refine z_if_ge (pc := 348) C dX1_table_348 (tgt := 354) (by decide) (fun c107 => ?_) (fun c107 => ?_)
      · have h := itt c107 h
        refine z_aload (pc := 354) C 8 rfl dX1_table_354 ?_
        refine gX1_902 (pc := 356) C rfl hv9 dX1_table_356 ?_
        refine z_iload_n (pc := 359) C 1 rfl dX1_table_359 ?_
        refine z_iaO (pc := 360) (k := 9) (j := 2) C 902 rfl (by decide) (by decide) (by decide) rfl rfl rfl rfl hv9 c103 rfl dX1_table_360 ?_
        refine z_aload (pc := 361) C 5 rfl dX1_table_361 ?_
        refine gX1_203 (pc := 363) C rfl hv6 dX1_table_363 ?_
        refine z_iload_n (pc := 366) C 1 rfl dX1_table_366 ?_
        refine z_iaO (pc := 367) (k := 2) (j := 3) C 203 rfl (by decide) (by decide) (by decide) rfl rfl rfl rfl hv6 c103 rfl dX1_table_367 ?_
        refine z_isub (pc := 368) C dX1_table_368 ?_
        refine z_aload (pc := 369) C 6 rfl dX1_table_369 ?_
        refine gX1_1101 (pc := 371) C rfl (Or.inl hv7) rfl dX1_table_371 ?_
        refine z_imul (pc := 374) C dX1_table_374 ?_
        refine z_aload (pc := 375) C 8 rfl dX1_table_375 ?_
        refine gX1_902 (pc := 377) C rfl hv9 dX1_table_377 ?_
        refine z_iload_n (pc := 380) C 2 rfl dX1_table_380 ?_
        refine z_iaO (pc := 381) (k := 9) (j := 2) C 902 rfl (by decide) (by decide) (by decide) rfl rfl rfl rfl hv9 c105 rfl dX1_table_381 ?_
        refine z_iadd (pc := 382) C dX1_table_382 ?_
        refine z_aload (pc := 383) C 5 rfl dX1_table_383 ?_
        refine gX1_203 (pc := 385) C rfl hv6 dX1_table_385 ?_
        refine z_iload_n (pc := 388) C 2 rfl dX1_table_388 ?_
        refine z_iaO (pc := 389) (k := 2) (j := 3) C 203 rfl (by decide) (by decide) (by decide) rfl rfl rfl rfl hv6 c105 rfl dX1_table_389 ?_
        refine z_isub (pc := 390) C dX1_table_390 ?_
        refine z_istore (pc := 391) C (lv' := [(0, .ref v0), (2, vI v2), (3, vI v3), (4, vI v4), (5, vI v5), (6, .ref v6), (7, .ref v7), (8, vI v8), (9, .ref v9), (10, vI s0), (11, vI (((((m_i M 902 v9 (ixn v2)) - (m_i M 203 v6 (ixn v2))) * (m_i M 1101 v7 0)) + (m_i M 902 v9 (ixn v3))) - (m_i M 203 v6 (ixn v3))))]) (by decide) rfl dX1_table_391 ?_
        refine z_aload (pc := 393) C 6 rfl dX1_table_393 ?_
        refine gX1_1102 (pc := 395) C rfl hv7 dX1_table_395 ?_
        refine z_iload (pc := 398) C 10 rfl dX1_table_398 ?_
        refine z_dup2 (pc := 400) C rfl rfl dX1_table_400 ?_
        obtain ⟨c108, h⟩ := ifn h
        refine z_iaO (pc := 401) (k := 11) (j := 2) C 1102 rfl (by decide) (by decide) (by decide) rfl rfl rfl rfl hv7 c108 rfl dX1_table_401 ?_
        refine z_iload (pc := 402) C 9 rfl dX1_table_402 ?_
        refine z_iadd (pc := 404) C dX1_table_404 ?_
        refine z_isO (pc := 405) (k := 11) (j := 2) C 1102 rfl (by decide) (by decide) (by decide) rfl rfl rfl rfl hv7 c108 dX1_table_405 ?_
        refine z_aload (pc := 406) C 6 rfl dX1_table_406 ?_
        refine gX1_1103 (pc := 408) C rfl hv7 dX1_table_408 ?_
        refine z_iload (pc := 411) C 10 rfl dX1_table_411 ?_
        refine z_dup2 (pc := 413) C rfl rfl dX1_table_413 ?_
        refine z_iaO (pc := 414) (k := 11) (j := 3) C 1103 rfl (by decide) (by decide) (by decide) rfl rfl rfl rfl hv7 c108 (x := m_i M 1103 v7 (ixn (((((m_i M 902 v9 (ixn v2)) - (m_i M 203 v6 (ixn v2))) * (m_i M 1101 v7 0)) + (m_i M 902 v9 (ixn v3))) - (m_i M 203 v6 (ixn v3))))) ((m_i_ne (by decide)).trans rfl) dX1_table_414 ?_
        refine z_iconst (pc := 415) C dX1_table_415 ?_
        refine z_iadd (pc := 416) C dX1_table_416 ?_
        refine z_isO (pc := 417) (k := 11) (j := 3) C 1103 rfl (by decide) (by decide) (by decide) rfl rfl rfl rfl hv7 c108 dX1_table_417 ?_
        refine z_aload (pc := 418) C 6 rfl dX1_table_418 ?_
        refine gX1_1104 (pc := 420) C rfl hv7 dX1_table_420 ?_
        refine z_iload (pc := 423) C 10 rfl dX1_table_423 ?_
        refine z_aload (pc := 425) C 6 rfl dX1_table_425 ?_
        refine gX1_1104 (pc := 427) C rfl hv7 dX1_table_427 ?_
        refine z_iload (pc := 430) C 10 rfl dX1_table_430 ?_
        refine z_iaO (pc := 432) (k := 11) (j := 4) C 1104 rfl (by decide) (by decide) (by decide) rfl rfl rfl rfl hv7 c108 (x := m_i M 1104 v7 (ixn (((((m_i M 902 v9 (ixn v2)) - (m_i M 203 v6 (ixn v2))) * (m_i M 1101 v7 0)) + (m_i M 902 v9 (ixn v3))) - (m_i M 203 v6 (ixn v3))))) ((m_i_ne (by decide)).trans ((m_i_ne (by decide)).trans rfl)) dX1_table_432 ?_
        refine z_iload (pc := 433) C 9 rfl dX1_table_433 ?_
        refine z_max (pc := 435) C q1320 q1321 q128 q1322 (by decide) (by decide) (Nat.le_trans (ocN_le (show 5 ≤ 5 from by decide) (show 5 ≤ 5 from by decide)) hR.1) (Nat.le_trans (ocN_le (show 56 ≤ 56 from by decide) (show 56 ≤ 56 from by decide)) hR.2) (Nat.le_of_ble_eq_true rfl) dX1_table_435 ?_
        refine z_isO (pc := 438) (k := 11) (j := 4) C 1104 rfl (by decide) (by decide) (by decide) rfl rfl rfl rfl hv7 c108 dX1_table_438 ?_
        refine z_iinc (pc := 439) C (lv' := [(0, .ref v0), (2, vI v2), (3, vI v3), (4, vI v4), (5, vI v5), (6, .ref v6), (7, .ref v7), (8, vI (v8 + 1)), (9, .ref v9), (10, vI s0), (11, vI (((((m_i M 902 v9 (ixn v2)) - (m_i M 203 v6 (ixn v2))) * (m_i M 1101 v7 0)) + (m_i M 902 v9 (ixn v3))) - (m_i M 203 v6 (ixn v3))))]) 7 rfl (by decide) rfl dX1_table_439 ?_
        refine z_goto (pc := 442) C dX1_table_442 (tgt := 224) (by decide) ?_
        exact z_lv [0, 1, 2, 3, 4, 5, 6, 7] rfl <| hk224 v0 v2 v3 v4 v5 v6 v7 (v8 + 1) (m_si (m_si (m_si M 1102 v7 (ixn (((((m_i M 902 v9 (ixn v2)) - (m_i M 203 v6 (ixn v2))) * (m_i M 1101 v7 0)) + (m_i M 902 v9 (ixn v3))) - (m_i M 203 v6 (ixn v3)))) ((m_i M 1102 v7 (ixn (((((m_i M 902 v9 (ixn v2)) - (m_i M 203 v6 (ixn v2))) * (m_i M 1101 v7 0)) + (m_i M 902 v9 (ixn v3))) - (m_i M 203 v6 (ixn v3))))) + s0)) 1103 v7 (ixn (((((m_i M 902 v9 (ixn v2)) - (m_i M 203 v6 (ixn v2))) * (m_i M 1101 v7 0)) + (m_i M 902 v9 (ixn v3))) - (m_i M 203 v6 (ixn v3)))) ((m_i M 1103 v7 (ixn (((((m_i M 902 v9 (ixn v2)) - (m_i M 203 v6 (ixn v2))) * (m_i M 1101 v7 0)) + (m_i M 902 v9 (ixn v3))) - (m_i M 203 v6 (ixn v3))))) + 1)) 1104 v7 (ixn (((((m_i M 902 v9 (ixn v2)) - (m_i M 203 v6 (ixn v2))) * (m_i M 1101 v7 0)) + (m_i M 902 v9 (ixn v3))) - (m_i M 203 v6 (ixn v3)))) (nx32 (m_i M 1104 v7 (ixn (((((m_i M 902 v9 (ixn v2)) - (m_i M 203 v6 (ixn v2))) * (m_i M 1101 v7 0)) + (m_i M 902 v9 (ixn v3))) - (m_i M 203 v6 (ixn v3))))) s0)) _ _ hv0 hv6 hv7 h hR
      · have h := itf c107 h
        refine z_goto (pc := 351) C dX1_table_351 (tgt := 439) (by decide) ?_
        refine z_iinc (pc := 439) C (lv' := [(0, .ref v0), (2, vI v2), (3, vI v3), (4, vI v4), (5, vI v5), (6, .ref v6), (7, .ref v7), (8, vI (v8 + 1)), (9, .ref v9), (10, vI s0)]) 7 rfl (by decide) rfl dX1_table_439 ?_
        refine z_goto (pc := 442) C dX1_table_442 (tgt := 224) (by decide) ?_
        exact z_lv [0, 1, 2, 3, 4, 5, 6, 7] rfl <| hk224 v0 v2 v3 v4 v5 v6 v7 (v8 + 1) M _ _ hv0 hv6 hv7 h hR
theorem cB_X1_table_302 {X : x_Ctx} {M0 : Mem} (C : x_CC X 8 139 yX1_table cX1_table 12 (some .int) []) {k224 : Nat → Int → Int → Int → Int → Nat → Nat → Int → Mem → Option ((Int ⊕ Nat) × Mem)} (hk224 : ∀ (v0 : Nat) (v2 : Int) (v3 : Int) (v4 : Int) (v5 : Int) (v6 : Nat) (v7 : Nat) (v8 : Int) (M : Mem) (r : Int ⊕ Nat) (M' : Mem), m_kd M v0 = 1 → m_kd M v6 = 2 → m_kd M v7 = 11 → k224 v0 v2 v3 v4 v5 v6 v7 v8 M = some (r, M') → ocN r 5 5 ≤ (XR X).cells ∧ ocN r 56 56 ≤ (XR X).slots → x_Z X 5 56 (x_QF X M0 (ocI r) M' (ocN r 5 5) (ocN r 56 56)) M0 M 12 [(0, .ref v0), (2, vI v2), (3, vI v3), (4, vI v4), (5, vI v5), (6, .ref v6), (7, .ref v7), (8, vI v8)] 224 []) (v0 : Nat) (v2 : Int) (v3 : Int) (v4 : Int) (v5 : Int) (v6 : Nat) (v7 : Nat) (v8 : Int) (v9 : Nat) (M : Mem) (r : Int ⊕ Nat) (M' : Mem) (hv0 : m_kd M v0 = 1) (hv6 : m_kd M v6 = 2) (hv7 : m_kd M v7 = 11) (hv9 : m_kd M v9 = 9) (h : B_X1_table_302 k224 v0 v2 v3 v4 v5 v6 v7 v8 v9 M = some (r, M')) (hR : ocN r 5 5 ≤ (XR X).cells ∧ ocN r 56 56 ≤ (XR X).slots) : x_Z X 5 56 (x_QF X M0 (ocI r) M' (ocN r 5 5) (ocN r 56 56)) M0 M 12 [(0, .ref v0), (2, vI v2), (3, vI v3), (4, vI v4), (5, vI v5), (6, .ref v6), (7, .ref v7), (8, vI v8), (9, .ref v9)] 302 [] := by
  unfold B_X1_table_302 at h
  refine z_iload (pc := 302) C 3 rfl dX1_table_302 ?_
  refine z_iconst (pc := 304) C dX1_table_304 ?_
  refine z_ic_ne (pc := 305) C dX1_table_305 (tgt := 312) (by decide) (fun c101 => ?_) (fun c101 => ?_)
  · have h := itf c101 h
    refine z_aload (pc := 312) C 8 rfl dX1_table_312 ?_
    refine gX1_902 (pc := 314) C rfl hv9 dX1_table_314 ?_
    refine z_iload (pc := 317) C 3 rfl dX1_table_317 ?_
    obtain ⟨c102, h⟩ := ifn h
    refine z_iaO (pc := 319) (k := 9) (j := 2) C 902 rfl (by decide) (by decide) (by decide) rfl rfl rfl rfl hv9 c102 rfl dX1_table_319 ?_
    exact cB_X1_table_320 C hk224 v0 v2 v3 v4 v5 v6 v7 v8 v9 (m_i M 902 v9 (ixn v4)) M _ _ hv0 hv6 hv7 hv9 h hR
  · have h := itt c101 h
    refine z_iconst (pc := 308) C dX1_table_308 ?_
    refine z_goto (pc := 309) C dX1_table_309 (tgt := 320) (by decide) ?_
    exact cB_X1_table_320 C hk224 v0 v2 v3 v4 v5 v6 v7 v8 v9 1 M _ _ hv0 hv6 hv7 hv9 h hR
theorem cB_X1_table_224 {X : x_Ctx} {M0 : Mem} (C : x_CC X 8 139 yX1_table cX1_table 12 (some .int) []) {k224 : Nat → Int → Int → Int → Int → Nat → Nat → Int → Mem → Option ((Int ⊕ Nat) × Mem)} (hk224 : ∀ (v0 : Nat) (v2 : Int) (v3 : Int) (v4 : Int) (v5 : Int) (v6 : Nat) (v7 : Nat) (v8 : Int) (M : Mem) (r : Int ⊕ Nat) (M' : Mem), m_kd M v0 = 1 → m_kd M v6 = 2 → m_kd M v7 = 11 → k224 v0 v2 v3 v4 v5 v6 v7 v8 M = some (r, M') → ocN r 5 5 ≤ (XR X).cells ∧ ocN r 56 56 ≤ (XR X).slots → x_Z X 5 56 (x_QF X M0 (ocI r) M' (ocN r 5 5) (ocN r 56 56)) M0 M 12 [(0, .ref v0), (2, vI v2), (3, vI v3), (4, vI v4), (5, vI v5), (6, .ref v6), (7, .ref v7), (8, vI v8)] 224 []) (v0 : Nat) (v2 : Int) (v3 : Int) (v4 : Int) (v5 : Int) (v6 : Nat) (v7 : Nat) (v8 : Int) (M : Mem) (r : Int ⊕ Nat) (M' : Mem) (hv0 : m_kd M v0 = 1) (hv6 : m_kd M v6 = 2) (hv7 : m_kd M v7 = 11) (h : B_X1_table_224 k224 v0 v2 v3 v4 v5 v6 v7 v8 M = some (r, M')) (hR : ocN r 5 5 ≤ (XR X).cells ∧ ocN r 56 56 ≤ (XR X).slots) : x_Z X 5 56 (x_QF X M0 (ocI r) M' (ocN r 5 5) (ocN r 56 56)) M0 M 12 [(0, .ref v0), (2, vI v2), (3, vI v3), (4, vI v4), (5, vI v5), (6, .ref v6), (7, .ref v7), (8, vI v8)] 224 [] := by
  unfold B_X1_table_224 at h
  refine z_iload (pc := 224) C 7 rfl dX1_table_224 ?_
  refine z_aload_n (pc := 226) C 0 rfl dX1_table_226 ?_
  refine gX1_120 (pc := 227) C rfl (Or.inl hv0) rfl dX1_table_227 ?_
  refine z_ic_ge (pc := 230) C dX1_table_230 (tgt := 445) (by decide) (fun c83 => ?_) (fun c83 => ?_)
  · have h := itt c83 h
    refine z_iconst (pc := 445) C dX1_table_445 ?_
    refine z_istore (pc := 446) C (lv' := [(0, .ref v0), (2, vI v2), (3, vI v3), (4, vI v4), (5, vI v5), (6, .ref v6), (7, .ref v7), (8, vI 0)]) (by decide) rfl dX1_table_446 ?_
    exact z_lv [0, 6, 7] rfl <| cL_X1_table_448 C FU v0 v7 0 M _ _ hv0 hv7 h hR
  · have h := itf c83 h
    refine z_aload_n (pc := 233) C 0 rfl dX1_table_233 ?_
    refine gX1_121 (pc := 234) C rfl hv0 dX1_table_234 ?_
    refine z_iload (pc := 237) C 7 rfl dX1_table_237 ?_
    obtain ⟨c88, h⟩ := ifn h
    obtain ⟨q89, e90, h⟩ := bRs h
    refine z_aaO (pc := 239) (k := 1) (j := 21) C 121 rfl (by decide) (by decide) (by decide) rfl rfl (by decide) (by decide) rfl hv0 c88 rfl (by decide) e90 dX1_table_239 (fun k91 => ?_)
    refine z_astore (pc := 240) C (lv' := [(0, .ref v0), (2, vI v2), (3, vI v3), (4, vI v4), (5, vI v5), (6, .ref v6), (7, .ref v7), (8, vI v8), (9, .ref q89)]) (by decide) rfl dX1_table_240 ?_
    refine z_aload (pc := 242) C 8 rfl dX1_table_242 ?_
    obtain ⟨q92, e93, h⟩ := bRs h
    refine gX1_901 (pc := 244) C rfl (Or.inl k91) e93 dX1_table_244 (fun k94 => ?_)
    refine z_aload (pc := 247) C 5 rfl dX1_table_247 ?_
    refine z_ac_ne (pc := 249) C dX1_table_249 (tgt := 439) (by decide) (fun c95 => ?_) (fun c95 => ?_)
    · have h := itf c95 h
      refine z_iinc (pc := 439) C (lv' := [(0, .ref v0), (2, vI v2), (3, vI v3), (4, vI v4), (5, vI v5), (6, .ref v6), (7, .ref v7), (8, vI (v8 + 1)), (9, .ref q89)]) 7 rfl (by decide) rfl dX1_table_439 ?_
      refine z_goto (pc := 442) C dX1_table_442 (tgt := 224) (by decide) ?_
      exact z_lv [0, 1, 2, 3, 4, 5, 6, 7] rfl <| hk224 v0 v2 v3 v4 v5 v6 v7 (v8 + 1) M _ _ hv0 hv6 hv7 h hR
    · have h := itt c95 h
      refine z_aload (pc := 252) C 5 rfl dX1_table_252 ?_
      refine z_aload (pc := 254) C 8 rfl dX1_table_254 ?_
      refine gX1_902 (pc := 256) C rfl k91 dX1_table_256 ?_
      refine z_ia (k := 9) (j := 2) 902 rfl (by decide) (by decide) (by decide) rfl rfl rfl k91 (fun k96 => ?_)
      obtain ⟨r97, e98, h⟩ := bRs h
      refine cX1_405 (pc := 259) (st := []) (st1 := [vI r97]) C rfl (rm := { frames := 2, cells := 0, slots := 0, locals := 52 }) (ct_X1_countBroken C.2.1 v6 (q89 + 1) M _ hv6 k96.1 e98) ⟨by decide, by decide, Nat.le_trans (ocN_le (show 5 ≤ 5 from by decide) (show 5 ≤ 5 from by decide)) hR.1, Nat.le_trans (ocN_le (show 56 ≤ 56 from by decide) (show 56 ≤ 56 from by decide)) hR.2⟩ rfl (Nat.le_of_ble_eq_true rfl) dX1_table_259 (c2 := 5) (s2 := 56) rfl rfl (fun _ => ?_)
      refine z_if_gt (pc := 262) C dX1_table_262 (tgt := 439) (by decide) (fun c99 => ?_) (fun c99 => ?_)
      · have h := itt c99 h
        refine z_iinc (pc := 439) C (lv' := [(0, .ref v0), (2, vI v2), (3, vI v3), (4, vI v4), (5, vI v5), (6, .ref v6), (7, .ref v7), (8, vI (v8 + 1)), (9, .ref q89)]) 7 rfl (by decide) rfl dX1_table_439 ?_
        refine z_goto (pc := 442) C dX1_table_442 (tgt := 224) (by decide) ?_
        exact z_lv [0, 1, 2, 3, 4, 5, 6, 7] rfl <| hk224 v0 v2 v3 v4 v5 v6 v7 (v8 + 1) M _ _ hv0 hv6 hv7 h hR
      · have h := itf c99 h
        refine z_iload (pc := 265) C 4 rfl dX1_table_265 ?_
        refine z_iconst (pc := 267) C dX1_table_267 ?_
        refine z_ic_eq (pc := 268) C dX1_table_268 (tgt := 302) (by decide) (fun c100 => ?_) (fun c100 => ?_)
        · have h := itt c100 h
          exact cB_X1_table_302 C hk224 v0 v2 v3 v4 v5 v6 v7 v8 q89 M _ _ hv0 hv6 hv7 k91 h hR
        · have h := itf c100 h
          refine z_aload_n (pc := 271) C 0 rfl dX1_table_271 ?_
          refine gX1_126 (pc := 272) C rfl hv0 dX1_table_272 ?_
          refine z_iload (pc := 275) C 4 rfl dX1_table_275 ?_
          obtain ⟨c109, h⟩ := ifn h
          obtain ⟨q110, e111, h⟩ := bRs h
          refine z_aaO (pc := 277) (k := 1) (j := 26) C 126 rfl (by decide) (by decide) (by decide) rfl rfl (by decide) (by decide) rfl hv0 c109 rfl (by decide) e111 dX1_table_277 (fun k112 => ?_)
          refine gX1_1000 (pc := 278) C rfl k112 dX1_table_278 ?_
          refine z_aload_n (pc := 281) C 0 rfl dX1_table_281 ?_
          refine z_aload (pc := 282) C 8 rfl dX1_table_282 ?_
          obtain ⟨q113, e114, h⟩ := bRs h
          refine gX1_900 (pc := 284) C rfl (Or.inl k91) e114 dX1_table_284 (fun k115 => ?_)
          refine gX1_802 (pc := 287) C rfl (Or.inl k115) rfl dX1_table_287 ?_
          refine z_ldc (pc := 290) C (x := 2147483647) q645 (by decide +kernel) dX1_table_290 ?_
          obtain ⟨r116, e117, h⟩ := bRs h
          refine cX1_203 (pc := 292) (st := [.ref (q110 + 1)]) (st1 := [vI r116, .ref (q110 + 1)]) C rfl (rm := { frames := 1, cells := 0, slots := 0, locals := 24 }) (ct_X1_lastOf C.2.1 v0 (m_i M 802 q113 0) 2147483647 M _ hv0 e117) ⟨by decide, by decide, Nat.le_trans (ocN_le (show 5 ≤ 5 from by decide) (show 5 ≤ 5 from by decide)) hR.1, Nat.le_trans (ocN_le (show 56 ≤ 56 from by decide) (show 56 ≤ 56 from by decide)) hR.2⟩ (Or.inl hv0) rfl (Nat.le_of_ble_eq_true rfl) dX1_table_292 (c2 := 5) (s2 := 56) rfl rfl (fun _ => ?_)
          obtain ⟨c118, h⟩ := ifn h
          refine z_zaO (pc := 295) (k := 10) (j := 0) C 1000 rfl (by decide) (by decide) (by decide) rfl rfl rfl rfl k112 c118 rfl dX1_table_295 ?_
          refine z_if_ne (pc := 296) C dX1_table_296 (tgt := 302) (by decide) (fun c119 => ?_) (fun c119 => ?_)
          · have h := itf c119 h
            exact cB_X1_table_302 C hk224 v0 v2 v3 v4 v5 v6 v7 v8 q89 M _ _ hv0 hv6 hv7 k91 h hR
          · have h := itt c119 h
            refine z_goto (pc := 299) C dX1_table_299 (tgt := 439) (by decide) ?_
            refine z_iinc (pc := 439) C (lv' := [(0, .ref v0), (2, vI v2), (3, vI v3), (4, vI v4), (5, vI v5), (6, .ref v6), (7, .ref v7), (8, vI (v8 + 1)), (9, .ref q89)]) 7 rfl (by decide) rfl dX1_table_439 ?_
            refine z_goto (pc := 442) C dX1_table_442 (tgt := 224) (by decide) ?_
            exact z_lv [0, 1, 2, 3, 4, 5, 6, 7] rfl <| hk224 v0 v2 v3 v4 v5 v6 v7 (v8 + 1) M _ _ hv0 hv6 hv7 h hR
theorem cL_X1_table_224 {X : x_Ctx} {M0 : Mem} (C : x_CC X 8 139 yX1_table cX1_table 12 (some .int) [])  : ∀ (n : Nat) (v0 : Nat) (v2 : Int) (v3 : Int) (v4 : Int) (v5 : Int) (v6 : Nat) (v7 : Nat) (v8 : Int) (M : Mem) (r : Int ⊕ Nat) (M' : Mem) (hv0 : m_kd M v0 = 1) (hv6 : m_kd M v6 = 2) (hv7 : m_kd M v7 = 11) (h : L_X1_table_224  n v0 v2 v3 v4 v5 v6 v7 v8 M = some (r, M')) (hR : ocN r 5 5 ≤ (XR X).cells ∧ ocN r 56 56 ≤ (XR X).slots), x_Z X 5 56 (x_QF X M0 (ocI r) M' (ocN r 5 5) (ocN r 56 56)) M0 M 12 [(0, .ref v0), (2, vI v2), (3, vI v3), (4, vI v4), (5, vI v5), (6, .ref v6), (7, .ref v7), (8, vI v8)] 224 [] := by
  intro n
  induction n with
  | zero => intro v0 v2 v3 v4 v5 v6 v7 v8 M r M' hv0 hv6 hv7 h hR; cases h
  | succ n ih => intro v0 v2 v3 v4 v5 v6 v7 v8 M r M' hv0 hv6 hv7 h hR; exact cB_X1_table_224 C (fun v0 v2 v3 v4 v5 v6 v7 v8 M r M' hv0 hv6 hv7 h hR => ih v0 v2 v3 v4 v5 v6 v7 v8 M r M' hv0 hv6 hv7 h hR) v0 v2 v3 v4 v5 v6 v7 v8 M r M' hv0 hv6 hv7 h hR
theorem cB_X1_table_175 {X : x_Ctx} {M0 : Mem} (C : x_CC X 8 139 yX1_table cX1_table 12 (some .int) [])  (v0 : Nat) (v2 : Int) (v3 : Int) (v4 : Int) (v5 : Int) (v6 : Nat) (s0 : Int) (M : Mem) (r : Int ⊕ Nat) (M' : Mem) (hv0 : m_kd M v0 = 1) (hv6 : m_kd M v6 = 2) (h : B_X1_table_175  v0 v2 v3 v4 v5 v6 s0 M = some (r, M')) (hR : ocN r 5 5 ≤ (XR X).cells ∧ ocN r 56 56 ≤ (XR X).slots) : x_Z X 0 0 (x_QF X M0 (ocI r) M' (ocN r 5 5) (ocN r 56 56)) M0 M 12 [(0, .ref v0), (2, vI v2), (3, vI v3), (4, vI v4), (5, vI v5), (6, .ref v6)] 175 [vI s0] := by
  unfold B_X1_table_175 at h
  rcases bTs h with ⟨x67, e65, er⟩ | ⟨r63, M64, e65, h⟩
  · subst er; exact tX1_176 (pc := 175) C rfl (rm := { frames := 6, cells := 1, slots := 6, locals := 90 }) (ct_X1_room C.2.1 s0 M _ _  e65) ⟨by decide, by decide, Nat.le_trans (show 1 ≤ 5 from by decide) hR.1, Nat.le_trans (show 6 ≤ 56 from by decide) hR.2⟩ (Nat.le_of_ble_eq_true rfl) dX1_table_175 (by decide) (show 1 ≤ 5 from by decide) (show 6 ≤ 56 from by decide)
  refine cX1_176 (pc := 175) (st := []) (st1 := []) C rfl (rm := { frames := 6, cells := 0, slots := 0, locals := 90 }) (ct_X1_room C.2.1 s0 M _ _  e65) ⟨by decide, by decide, Nat.zero_le _, Nat.zero_le _⟩ rfl (Nat.le_of_ble_eq_true rfl) dX1_table_175 (c2 := 0) (s2 := 0) rfl rfl (fun x66 => ?_)
  have k68 := x66 _ 1 (by decide) (Or.inl (by decide)) hv0
  have k69 := x66 _ 2 (by decide) (Or.inl (by decide)) hv6
  refine nX1_11 (pc := 178) C rfl (a := m_sz M64) (Nat.le_trans (ocN_le (show 1 ≤ 5 from by decide) (show 1 ≤ 5 from by decide)) hR.1) (Nat.le_trans (ocN_le (show 8 ≤ 56 from by decide) (show 8 ≤ 56 from by decide)) hR.2) dX1_table_178 (c2 := 1) (s2 := 8) rfl rfl rfl (fun k70 x71 => ?_)
  have k72 := x71.k k68 (by decide)
  have k73 := x71.k k69 (by decide)
  refine z_dup (pc := 181) C rfl dX1_table_181 ?_
  refine z_aload (pc := 182) C 5 rfl dX1_table_182 ?_
  refine gX1_204 (pc := 184) C rfl k73 dX1_table_184 ?_
  refine z_iload_n (pc := 187) C 1 rfl dX1_table_187 ?_
  obtain ⟨c74, h⟩ := ifn h
  refine z_iaO (pc := 188) (k := 2) (j := 4) C 204 rfl (by decide) (by decide) (by decide) rfl rfl rfl rfl k73 c74 (x := m_i M64 204 v6 (ixn v2)) (m_i_nw.trans rfl) dX1_table_188 ?_
  refine z_aload (pc := 189) C 5 rfl dX1_table_189 ?_
  refine gX1_203 (pc := 191) C rfl k73 dX1_table_191 ?_
  refine z_iload_n (pc := 194) C 1 rfl dX1_table_194 ?_
  refine z_iaO (pc := 195) (k := 2) (j := 3) C 203 rfl (by decide) (by decide) (by decide) rfl rfl rfl rfl k73 c74 (x := m_i M64 203 v6 (ixn v2)) (m_i_nw.trans rfl) dX1_table_195 ?_
  refine z_isub (pc := 196) C dX1_table_196 ?_
  refine z_iconst (pc := 197) C dX1_table_197 ?_
  refine z_iadd (pc := 198) C dX1_table_198 ?_
  refine z_aload (pc := 199) C 5 rfl dX1_table_199 ?_
  refine gX1_204 (pc := 201) C rfl k73 dX1_table_201 ?_
  refine z_iload_n (pc := 204) C 2 rfl dX1_table_204 ?_
  obtain ⟨c75, h⟩ := ifn h
  refine z_iaO (pc := 205) (k := 2) (j := 4) C 204 rfl (by decide) (by decide) (by decide) rfl rfl rfl rfl k73 c75 (x := m_i M64 204 v6 (ixn v3)) (m_i_nw.trans rfl) dX1_table_205 ?_
  refine z_aload (pc := 206) C 5 rfl dX1_table_206 ?_
  refine gX1_203 (pc := 208) C rfl k73 dX1_table_208 ?_
  refine z_iload_n (pc := 211) C 2 rfl dX1_table_211 ?_
  refine z_iaO (pc := 212) (k := 2) (j := 3) C 203 rfl (by decide) (by decide) (by decide) rfl rfl rfl rfl k73 c75 (x := m_i M64 203 v6 (ixn v3)) (m_i_nw.trans rfl) dX1_table_212 ?_
  refine z_isub (pc := 213) C dX1_table_213 ?_
  refine z_iconst (pc := 214) C dX1_table_214 ?_
  refine z_iadd (pc := 215) C dX1_table_215 ?_
  obtain ⟨r76, M77, e78, h⟩ := bNs h
  refine cX1_485 (pc := 216) (st := [.ref (m_sz M64)]) C rfl (rm := { frames := 1, cells := 4, slots := 48, locals := 24 }) (ct_X11_init C.2.1 (m_sz M64) (((m_i M64 204 v6 (ixn v2)) - (m_i M64 203 v6 (ixn v2))) + 1) (((m_i M64 204 v6 (ixn v3)) - (m_i M64 203 v6 (ixn v3))) + 1) (m_nw M64 111) _ _ k70 e78) ⟨by decide, by decide, Nat.le_trans (ocN_le (show 5 ≤ 5 from by decide) (show 5 ≤ 5 from by decide)) hR.1, Nat.le_trans (ocN_le (show 56 ≤ 56 from by decide) (show 56 ≤ 56 from by decide)) hR.2⟩ (Nat.le_of_ble_eq_true rfl) dX1_table_216 (c2 := 5) (s2 := 56) rfl rfl (fun x79 => ?_)
  obtain ⟨c80, h⟩ := ifn h
  have k81 := x79 _ 1 (by decide) (Or.inl (by decide)) k72
  have k82 := x79 _ 2 (by decide) (Or.inl (by decide)) k73
  refine z_astore (pc := 219) C (lv' := [(0, .ref v0), (2, vI v2), (3, vI v3), (4, vI v4), (5, vI v5), (6, .ref v6), (7, .ref (m_sz M64))]) (by decide) rfl dX1_table_219 ?_
  refine z_iconst (pc := 221) C dX1_table_221 ?_
  refine z_istore (pc := 222) C (lv' := [(0, .ref v0), (2, vI v2), (3, vI v3), (4, vI v4), (5, vI v5), (6, .ref v6), (7, .ref (m_sz M64)), (8, vI 0)]) (by decide) rfl dX1_table_222 ?_
  exact cL_X1_table_224 C FU v0 v2 v3 v4 v5 v6 (m_sz M64) 0 M77 _ _ k81 k82 c80 h hR
theorem cB_X1_table_158 {X : x_Ctx} {M0 : Mem} (C : x_CC X 8 139 yX1_table cX1_table 12 (some .int) [])  (v0 : Nat) (v2 : Int) (v3 : Int) (v4 : Int) (v5 : Int) (v6 : Nat) (s0 : Int) (M : Mem) (r : Int ⊕ Nat) (M' : Mem) (hv0 : m_kd M v0 = 1) (hv6 : m_kd M v6 = 2) (h : B_X1_table_158  v0 v2 v3 v4 v5 v6 s0 M = some (r, M')) (hR : ocN r 5 5 ≤ (XR X).cells ∧ ocN r 56 56 ≤ (XR X).slots) : x_Z X 0 0 (x_QF X M0 (ocI r) M' (ocN r 5 5) (ocN r 56 56)) M0 M 12 [(0, .ref v0), (2, vI v2), (3, vI v3), (4, vI v4), (5, vI v5), (6, .ref v6)] 158 [vI s0] := by
  unfold B_X1_table_158 at h
  rcases bTs h with ⟨x59, e57, er⟩ | ⟨r55, M56, e57, h⟩
  · subst er; exact tX1_164 (pc := 158) C rfl (rm := { frames := 6, cells := 1, slots := 6, locals := 90 }) (ct_X1_need C.2.1 s0 M _ _  e57) ⟨by decide, by decide, Nat.le_trans (show 1 ≤ 5 from by decide) hR.1, Nat.le_trans (show 6 ≤ 56 from by decide) hR.2⟩ (Nat.le_of_ble_eq_true rfl) dX1_table_158 (by decide) (show 1 ≤ 5 from by decide) (show 6 ≤ 56 from by decide)
  refine cX1_164 (pc := 158) (st := []) (st1 := []) C rfl (rm := { frames := 6, cells := 0, slots := 0, locals := 90 }) (ct_X1_need C.2.1 s0 M _ _  e57) ⟨by decide, by decide, Nat.zero_le _, Nat.zero_le _⟩ rfl (Nat.le_of_ble_eq_true rfl) dX1_table_158 (c2 := 0) (s2 := 0) rfl rfl (fun x58 => ?_)
  have k60 := x58 _ 1 (by decide) (Or.inl (by decide)) hv0
  have k61 := x58 _ 2 (by decide) (Or.inl (by decide)) hv6
  refine z_aload_n (pc := 161) C 0 rfl dX1_table_161 ?_
  refine gX1_134 (pc := 162) C rfl (Or.inl k60) rfl dX1_table_162 ?_
  refine z_bipush (pc := 165) C (by decide +kernel) dX1_table_165 ?_
  refine z_ic_ge (pc := 167) C dX1_table_167 (tgt := 174) (by decide) (fun c62 => ?_) (fun c62 => ?_)
  · have h := itt c62 h
    refine z_iconst (pc := 174) C dX1_table_174 ?_
    exact cB_X1_table_175 C v0 v2 v3 v4 v5 v6 0 M56 _ _ k60 k61 h hR
  · have h := itf c62 h
    refine z_iconst (pc := 170) C dX1_table_170 ?_
    refine z_goto (pc := 171) C dX1_table_171 (tgt := 175) (by decide) ?_
    exact cB_X1_table_175 C v0 v2 v3 v4 v5 v6 1 M56 _ _ k60 k61 h hR
theorem cB_X1_table_157 {X : x_Ctx} {M0 : Mem} (C : x_CC X 8 139 yX1_table cX1_table 12 (some .int) [])  (v0 : Nat) (v2 : Int) (v3 : Int) (v4 : Int) (v5 : Int) (v6 : Nat) (M : Mem) (r : Int ⊕ Nat) (M' : Mem) (hv0 : m_kd M v0 = 1) (hv6 : m_kd M v6 = 2) (h : B_X1_table_157  v0 v2 v3 v4 v5 v6 M = some (r, M')) (hR : ocN r 5 5 ≤ (XR X).cells ∧ ocN r 56 56 ≤ (XR X).slots) : x_Z X 0 0 (x_QF X M0 (ocI r) M' (ocN r 5 5) (ocN r 56 56)) M0 M 12 [(0, .ref v0), (2, vI v2), (3, vI v3), (4, vI v4), (5, vI v5), (6, .ref v6)] 157 [] := by
  unfold B_X1_table_157 at h
  refine z_iconst (pc := 157) C dX1_table_157 ?_
  exact cB_X1_table_158 C v0 v2 v3 v4 v5 v6 0 M _ _ hv0 hv6 h hR
theorem cB_X1_table_112 {X : x_Ctx} {M0 : Mem} (C : x_CC X 8 139 yX1_table cX1_table 12 (some .int) [])  (v0 : Nat) (v2 : Int) (v3 : Int) (v4 : Int) (v5 : Int) (v6 : Nat) (s0 : Int) (M : Mem) (r : Int ⊕ Nat) (M' : Mem) (hv0 : m_kd M v0 = 1) (hv6 : m_kd M v6 = 2) (h : B_X1_table_112  v0 v2 v3 v4 v5 v6 s0 M = some (r, M')) (hR : ocN r 5 5 ≤ (XR X).cells ∧ ocN r 56 56 ≤ (XR X).slots) : x_Z X 0 0 (x_QF X M0 (ocI r) M' (ocN r 5 5) (ocN r 56 56)) M0 M 12 [(0, .ref v0), (2, vI v2), (3, vI v3), (4, vI v4), (5, vI v5), (6, .ref v6)] 112 [vI s0] := by
  unfold B_X1_table_112 at h
  rcases bTs h with ⟨x50, e48, er⟩ | ⟨r46, M47, e48, h⟩
  · subst er; exact tX1_164 (pc := 112) C rfl (rm := { frames := 6, cells := 1, slots := 6, locals := 90 }) (ct_X1_need C.2.1 s0 M _ _  e48) ⟨by decide, by decide, Nat.le_trans (show 1 ≤ 5 from by decide) hR.1, Nat.le_trans (show 6 ≤ 56 from by decide) hR.2⟩ (Nat.le_of_ble_eq_true rfl) dX1_table_112 (by decide) (show 1 ≤ 5 from by decide) (show 6 ≤ 56 from by decide)
  refine cX1_164 (pc := 112) (st := []) (st1 := []) C rfl (rm := { frames := 6, cells := 0, slots := 0, locals := 90 }) (ct_X1_need C.2.1 s0 M _ _  e48) ⟨by decide, by decide, Nat.zero_le _, Nat.zero_le _⟩ rfl (Nat.le_of_ble_eq_true rfl) dX1_table_112 (c2 := 0) (s2 := 0) rfl rfl (fun x49 => ?_)
  have k51 := x49 _ 1 (by decide) (Or.inl (by decide)) hv0
  have k52 := x49 _ 2 (by decide) (Or.inl (by decide)) hv6
  refine z_aload (pc := 115) C 5 rfl dX1_table_115 ?_
  refine gX1_204 (pc := 117) C rfl k52 dX1_table_117 ?_
  refine z_iload_n (pc := 120) C 1 rfl dX1_table_120 ?_
  obtain ⟨c53, h⟩ := ifn h
  refine z_iaO (pc := 121) (k := 2) (j := 4) C 204 rfl (by decide) (by decide) (by decide) rfl rfl rfl rfl k52 c53 rfl dX1_table_121 ?_
  refine z_aload (pc := 122) C 5 rfl dX1_table_122 ?_
  refine gX1_203 (pc := 124) C rfl k52 dX1_table_124 ?_
  refine z_iload_n (pc := 127) C 1 rfl dX1_table_127 ?_
  refine z_iaO (pc := 128) (k := 2) (j := 3) C 203 rfl (by decide) (by decide) (by decide) rfl rfl rfl rfl k52 c53 rfl dX1_table_128 ?_
  refine z_isub (pc := 129) C dX1_table_129 ?_
  refine z_iconst (pc := 130) C dX1_table_130 ?_
  refine z_ic_ge (pc := 131) C dX1_table_131 (tgt := 157) (by decide) (fun c54 => ?_) (fun c54 => ?_)
  · have h := itt c54 h
    exact cB_X1_table_157 C v0 v2 v3 v4 v5 v6 M47 _ _ k51 k52 h hR
  · have h := itf c54 h
    refine z_aload (pc := 134) C 5 rfl dX1_table_134 ?_
    refine gX1_204 (pc := 136) C rfl k52 dX1_table_136 ?_
    refine z_iload_n (pc := 139) C 2 rfl dX1_table_139 ?_
    obtain ⟨c120, h⟩ := ifn h
    refine z_iaO (pc := 140) (k := 2) (j := 4) C 204 rfl (by decide) (by decide) (by decide) rfl rfl rfl rfl k52 c120 rfl dX1_table_140 ?_
    refine z_aload (pc := 141) C 5 rfl dX1_table_141 ?_
    refine gX1_203 (pc := 143) C rfl k52 dX1_table_143 ?_
    refine z_iload_n (pc := 146) C 2 rfl dX1_table_146 ?_
    refine z_iaO (pc := 147) (k := 2) (j := 3) C 203 rfl (by decide) (by decide) (by decide) rfl rfl rfl rfl k52 c120 rfl dX1_table_147 ?_
    refine z_isub (pc := 148) C dX1_table_148 ?_
    refine z_iconst (pc := 149) C dX1_table_149 ?_
    refine z_ic_ge (pc := 150) C dX1_table_150 (tgt := 157) (by decide) (fun c121 => ?_) (fun c121 => ?_)
    · have h := itt c121 h
      exact cB_X1_table_157 C v0 v2 v3 v4 v5 v6 M47 _ _ k51 k52 h hR
    · have h := itf c121 h
      refine z_iconst (pc := 153) C dX1_table_153 ?_
      refine z_goto (pc := 154) C dX1_table_154 (tgt := 158) (by decide) ?_
      exact cB_X1_table_158 C v0 v2 v3 v4 v5 v6 1 M47 _ _ k51 k52 h hR
theorem cB_X1_table_111 {X : x_Ctx} {M0 : Mem} (C : x_CC X 8 139 yX1_table cX1_table 12 (some .int) [])  (v0 : Nat) (v2 : Int) (v3 : Int) (v4 : Int) (v5 : Int) (v6 : Nat) (M : Mem) (r : Int ⊕ Nat) (M' : Mem) (hv0 : m_kd M v0 = 1) (hv6 : m_kd M v6 = 2) (h : B_X1_table_111  v0 v2 v3 v4 v5 v6 M = some (r, M')) (hR : ocN r 5 5 ≤ (XR X).cells ∧ ocN r 56 56 ≤ (XR X).slots) : x_Z X 0 0 (x_QF X M0 (ocI r) M' (ocN r 5 5) (ocN r 56 56)) M0 M 12 [(0, .ref v0), (2, vI v2), (3, vI v3), (4, vI v4), (5, vI v5), (6, .ref v6)] 111 [] := by
  unfold B_X1_table_111 at h
  refine z_iconst (pc := 111) C dX1_table_111 ?_
  exact cB_X1_table_112 C v0 v2 v3 v4 v5 v6 0 M _ _ hv0 hv6 h hR
theorem cB_X1_table_107 {X : x_Ctx} {M0 : Mem} (C : x_CC X 8 139 yX1_table cX1_table 12 (some .int) [])  (v0 : Nat) (v2 : Int) (v3 : Int) (v4 : Int) (v5 : Int) (v6 : Nat) (M : Mem) (r : Int ⊕ Nat) (M' : Mem) (hv0 : m_kd M v0 = 1) (hv6 : m_kd M v6 = 2) (h : B_X1_table_107  v0 v2 v3 v4 v5 v6 M = some (r, M')) (hR : ocN r 5 5 ≤ (XR X).cells ∧ ocN r 56 56 ≤ (XR X).slots) : x_Z X 0 0 (x_QF X M0 (ocI r) M' (ocN r 5 5) (ocN r 56 56)) M0 M 12 [(0, .ref v0), (2, vI v2), (3, vI v3), (4, vI v4), (5, vI v5), (6, .ref v6)] 107 [] := by
  unfold B_X1_table_107 at h
  refine z_iconst (pc := 107) C dX1_table_107 ?_
  refine z_goto (pc := 108) C dX1_table_108 (tgt := 112) (by decide) ?_
  exact cB_X1_table_112 C v0 v2 v3 v4 v5 v6 1 M _ _ hv0 hv6 h hR
theorem cB_X1_table_63 {X : x_Ctx} {M0 : Mem} (C : x_CC X 8 139 yX1_table cX1_table 12 (some .int) [])  (v0 : Nat) (v2 : Int) (v3 : Int) (v4 : Int) (v5 : Int) (v6 : Nat) (s0 : Int) (M : Mem) (r : Int ⊕ Nat) (M' : Mem) (hv0 : m_kd M v0 = 1) (hv6 : m_kd M v6 = 2) (h : B_X1_table_63  v0 v2 v3 v4 v5 v6 s0 M = some (r, M')) (hR : ocN r 5 5 ≤ (XR X).cells ∧ ocN r 56 56 ≤ (XR X).slots) : x_Z X 0 0 (x_QF X M0 (ocI r) M' (ocN r 5 5) (ocN r 56 56)) M0 M 12 [(0, .ref v0), (2, vI v2), (3, vI v3), (4, vI v4), (5, vI v5), (6, .ref v6)] 63 [vI s0] := by
  unfold B_X1_table_63 at h
  rcases bTs h with ⟨x40, e38, er⟩ | ⟨r36, M37, e38, h⟩
  · subst er; exact tX1_171 (pc := 63) C rfl (rm := { frames := 6, cells := 1, slots := 6, locals := 90 }) (ct_X1_inside C.2.1 s0 M _ _  e38) ⟨by decide, by decide, Nat.le_trans (show 1 ≤ 5 from by decide) hR.1, Nat.le_trans (show 6 ≤ 56 from by decide) hR.2⟩ (Nat.le_of_ble_eq_true rfl) dX1_table_63 (by decide) (show 1 ≤ 5 from by decide) (show 6 ≤ 56 from by decide)
  refine cX1_171 (pc := 63) (st := []) (st1 := []) C rfl (rm := { frames := 6, cells := 0, slots := 0, locals := 90 }) (ct_X1_inside C.2.1 s0 M _ _  e38) ⟨by decide, by decide, Nat.zero_le _, Nat.zero_le _⟩ rfl (Nat.le_of_ble_eq_true rfl) dX1_table_63 (c2 := 0) (s2 := 0) rfl rfl (fun x39 => ?_)
  have k41 := x39 _ 1 (by decide) (Or.inl (by decide)) hv0
  have k42 := x39 _ 2 (by decide) (Or.inl (by decide)) hv6
  refine z_aload (pc := 66) C 5 rfl dX1_table_66 ?_
  refine z_iload_n (pc := 68) C 1 rfl dX1_table_68 ?_
  obtain ⟨r43, e44, h⟩ := bRs h
  refine cX1_374 (pc := 69) (st := []) (st1 := [vI r43]) C rfl (rm := { frames := 1, cells := 0, slots := 0, locals := 24 }) (ct_X2_isAsk C.2.1 v6 v2 M37 _ k42 e44) ⟨by decide, by decide, Nat.zero_le _, Nat.zero_le _⟩ (Or.inl k42) rfl (Nat.le_of_ble_eq_true rfl) dX1_table_69 (c2 := 0) (s2 := 0) rfl rfl (fun _ => ?_)
  refine z_if_eq (pc := 72) C dX1_table_72 (tgt := 111) (by decide) (fun c45 => ?_) (fun c45 => ?_)
  · have h := itt c45 h
    exact cB_X1_table_111 C v0 v2 v3 v4 v5 v6 M37 _ _ k41 k42 h hR
  · have h := itf c45 h
    refine z_aload (pc := 75) C 5 rfl dX1_table_75 ?_
    refine z_iload_n (pc := 77) C 2 rfl dX1_table_77 ?_
    obtain ⟨r122, e123, h⟩ := bRs h
    refine cX1_374 (pc := 78) (st := []) (st1 := [vI r122]) C rfl (rm := { frames := 1, cells := 0, slots := 0, locals := 24 }) (ct_X2_isAsk C.2.1 v6 v3 M37 _ k42 e123) ⟨by decide, by decide, Nat.zero_le _, Nat.zero_le _⟩ (Or.inl k42) rfl (Nat.le_of_ble_eq_true rfl) dX1_table_78 (c2 := 0) (s2 := 0) rfl rfl (fun _ => ?_)
    refine z_if_eq (pc := 81) C dX1_table_81 (tgt := 111) (by decide) (fun c124 => ?_) (fun c124 => ?_)
    · have h := itt c124 h
      exact cB_X1_table_111 C v0 v2 v3 v4 v5 v6 M37 _ _ k41 k42 h hR
    · have h := itf c124 h
      refine z_iload_n (pc := 84) C 1 rfl dX1_table_84 ?_
      refine z_iload_n (pc := 85) C 2 rfl dX1_table_85 ?_
      refine z_ic_eq (pc := 86) C dX1_table_86 (tgt := 111) (by decide) (fun c125 => ?_) (fun c125 => ?_)
      · have h := itt c125 h
        exact cB_X1_table_111 C v0 v2 v3 v4 v5 v6 M37 _ _ k41 k42 h hR
      · have h := itf c125 h
        refine z_iload (pc := 89) C 3 rfl dX1_table_89 ?_
        refine z_iconst (pc := 91) C dX1_table_91 ?_
        refine z_ic_eq (pc := 92) C dX1_table_92 (tgt := 107) (by decide) (fun c126 => ?_) (fun c126 => ?_)
        · have h := itt c126 h
          exact cB_X1_table_107 C v0 v2 v3 v4 v5 v6 M37 _ _ k41 k42 h hR
        · have h := itf c126 h
          refine z_aload (pc := 95) C 5 rfl dX1_table_95 ?_
          refine gX1_202 (pc := 97) C rfl k42 dX1_table_97 ?_
          refine z_iload (pc := 100) C 3 rfl dX1_table_100 ?_
          obtain ⟨c127, h⟩ := ifn h
          refine z_iaO (pc := 102) (k := 2) (j := 2) C 202 rfl (by decide) (by decide) (by decide) rfl rfl rfl rfl k42 c127 rfl dX1_table_102 ?_
          refine z_iconst (pc := 103) C dX1_table_103 ?_
          refine z_ic_gt (pc := 104) C dX1_table_104 (tgt := 111) (by decide) (fun c128 => ?_) (fun c128 => ?_)
          · have h := itt c128 h
            exact cB_X1_table_111 C v0 v2 v3 v4 v5 v6 M37 _ _ k41 k42 h hR
          · have h := itf c128 h
            exact cB_X1_table_107 C v0 v2 v3 v4 v5 v6 M37 _ _ k41 k42 h hR
theorem cB_X1_table_62 {X : x_Ctx} {M0 : Mem} (C : x_CC X 8 139 yX1_table cX1_table 12 (some .int) [])  (v0 : Nat) (v2 : Int) (v3 : Int) (v4 : Int) (v5 : Int) (v6 : Nat) (M : Mem) (r : Int ⊕ Nat) (M' : Mem) (hv0 : m_kd M v0 = 1) (hv6 : m_kd M v6 = 2) (h : B_X1_table_62  v0 v2 v3 v4 v5 v6 M = some (r, M')) (hR : ocN r 5 5 ≤ (XR X).cells ∧ ocN r 56 56 ≤ (XR X).slots) : x_Z X 0 0 (x_QF X M0 (ocI r) M' (ocN r 5 5) (ocN r 56 56)) M0 M 12 [(0, .ref v0), (2, vI v2), (3, vI v3), (4, vI v4), (5, vI v5), (6, .ref v6)] 62 [] := by
  unfold B_X1_table_62 at h
  refine z_iconst (pc := 62) C dX1_table_62 ?_
  exact cB_X1_table_63 C v0 v2 v3 v4 v5 v6 0 M _ _ hv0 hv6 h hR
theorem ct_X1_table {l : Launch} {S0 : State} {D : va_G} {cA : Nat → ClassId} (hG : x_G l S0 D cA) (v0 : Nat) (v1 : Int) (v2 : Int) (v3 : Int) (v4 : Int) (v5 : Int) (M : Mem) (r : Int ⊕ Nat) (M' : Mem) (hv0 : m_kd M v0 = 1) (h : d_X1_table v0 v1 v2 v3 v4 v5 M = some (r, M')) : x_Me l S0 D cA yX1_table cX1_table 12 (some .int) [] ({ frames := 8, cells := (ocN r 5 5), slots := (ocN r 56 56), locals := 139 }) [.ref v0, vI v1, vI v2, vI v3, vI v4, vI v5] M (ocI r) M' := by
  refine x_begin (F := 8) (Lo := 139) (mc := (ocN r 5 5)) (ms := (ocN r 56 56)) hG (Nat.le_of_ble_eq_true rfl) (lv := [(0, .ref v0), (1, vI v1), (2, vI v2), (3, vI v3), (4, vI v4), (5, vI v5)]) rfl rfl rfl rfl rfl (fun X e1 e2 e3 e4 e5 C => ?_)
  have hR : _ ∧ _ := ⟨Nat.le_of_eq (congrArg Room.cells e5).symm, Nat.le_of_eq (congrArg Room.slots e5).symm⟩
  unfold d_X1_table at h
  refine z_aload_n (pc := 0) C 0 rfl dX1_table_0 ?_
  refine z_iload_n (pc := 1) C 1 rfl dX1_table_1 ?_
  rcases bTs h with ⟨x17, e15, er⟩ | ⟨r13, M14, e15, h⟩
  · subst er; exact tX1_235 (pc := 2) C rfl (rm := { frames := 7, cells := 1, slots := 6, locals := 114 }) (ct_X1_formOf C.2.1 v0 v1 M _ _ hv0 e15) ⟨by decide, by decide, Nat.le_trans (show 1 ≤ 5 from by decide) hR.1, Nat.le_trans (show 6 ≤ 56 from by decide) hR.2⟩ (Or.inl hv0) (Nat.le_of_ble_eq_true rfl) dX1_table_2 (by decide) (show 1 ≤ 5 from by decide) (show 6 ≤ 56 from by decide)
  refine cX1_235 (pc := 2) (st := []) (st1 := [.ref r13]) C rfl (rm := { frames := 7, cells := 0, slots := 0, locals := 114 }) (ct_X1_formOf C.2.1 v0 v1 M _ _ hv0 e15) ⟨by decide, by decide, Nat.zero_le _, Nat.zero_le _⟩ (Or.inl hv0) rfl (Nat.le_of_ble_eq_true rfl) dX1_table_2 (c2 := 0) (s2 := 0) rfl rfl (fun x16 => ?_)
  have k18 := x16 _ 1 (by decide) (Or.inl (by decide)) hv0
  obtain ⟨c19, h⟩ := ifn h
  refine z_astore (pc := 5) C (lv' := [(0, .ref v0), (1, vI v1), (2, vI v2), (3, vI v3), (4, vI v4), (5, vI v5), (6, .ref r13)]) (by decide) rfl dX1_table_5 ?_
  refine z_aload (pc := 7) C 6 rfl dX1_table_7 ?_
  refine z_iload_n (pc := 9) C 2 rfl dX1_table_9 ?_
  rcases bTs h with ⟨x24, e22, er⟩ | ⟨r20, M21, e22, h⟩
  · subst er; exact tX1_239 (pc := 10) C rfl (rm := { frames := 7, cells := 1, slots := 6, locals := 114 }) (ct_X1_statementIn C.2.1 r13 v2 M14 _ _ c19 e22) ⟨by decide, by decide, Nat.le_trans (show 1 ≤ 5 from by decide) hR.1, Nat.le_trans (show 6 ≤ 56 from by decide) hR.2⟩ (Nat.le_of_ble_eq_true rfl) dX1_table_10 (by decide) (show 1 ≤ 5 from by decide) (show 6 ≤ 56 from by decide)
  refine cX1_239 (pc := 10) (st := []) (st1 := []) C rfl (rm := { frames := 7, cells := 0, slots := 0, locals := 114 }) (ct_X1_statementIn C.2.1 r13 v2 M14 _ _ c19 e22) ⟨by decide, by decide, Nat.zero_le _, Nat.zero_le _⟩ rfl (Nat.le_of_ble_eq_true rfl) dX1_table_10 (c2 := 0) (s2 := 0) rfl rfl (fun x23 => ?_)
  have k25 := x23 _ 1 (by decide) (Or.inl (by decide)) k18
  have k26 := x23 _ 2 (by decide) (Or.inl (by decide)) c19
  refine z_aload (pc := 13) C 6 rfl dX1_table_13 ?_
  refine z_iload_n (pc := 15) C 3 rfl dX1_table_15 ?_
  rcases bTs h with ⟨x31, e29, er⟩ | ⟨r27, M28, e29, h⟩
  · subst er; exact tX1_239 (pc := 16) C rfl (rm := { frames := 7, cells := 1, slots := 6, locals := 114 }) (ct_X1_statementIn C.2.1 r13 v3 M21 _ _ k26 e29) ⟨by decide, by decide, Nat.le_trans (show 1 ≤ 5 from by decide) hR.1, Nat.le_trans (show 6 ≤ 56 from by decide) hR.2⟩ (Nat.le_of_ble_eq_true rfl) dX1_table_16 (by decide) (show 1 ≤ 5 from by decide) (show 6 ≤ 56 from by decide)
  refine cX1_239 (pc := 16) (st := []) (st1 := []) C rfl (rm := { frames := 7, cells := 0, slots := 0, locals := 114 }) (ct_X1_statementIn C.2.1 r13 v3 M21 _ _ k26 e29) ⟨by decide, by decide, Nat.zero_le _, Nat.zero_le _⟩ rfl (Nat.le_of_ble_eq_true rfl) dX1_table_16 (c2 := 0) (s2 := 0) rfl rfl (fun x30 => ?_)
  have k32 := x30 _ 1 (by decide) (Or.inl (by decide)) k25
  have k33 := x30 _ 2 (by decide) (Or.inl (by decide)) k26
  refine z_iload (pc := 19) C 4 rfl dX1_table_19 ?_
  refine z_i2l (pc := 21) C dX1_table_21 ?_
  refine z_ldc2 (pc := 22) C (x := -1) q1108 (by decide +kernel) dX1_table_22 ?_
  refine z_aload (pc := 25) C 6 rfl dX1_table_25 ?_
  refine gX1_200 (pc := 27) C rfl (Or.inl k33) rfl dX1_table_27 ?_
  refine z_iconst (pc := 30) C dX1_table_30 ?_
  refine z_isub (pc := 31) C dX1_table_31 ?_
  refine z_i2l (pc := 32) C dX1_table_32 ?_
  refine cX1_159 (pc := 33) (st := []) (st1 := [vI (d_X1_isIn (w32 v4) (-1) (w32 ((m_i M28 200 r13 0) - 1)))]) C rfl (rm := { frames := 1, cells := 0, slots := 0, locals := 24 }) (ct_X1_isIn C.2.1 (w32 v4) (-1) (w32 ((m_i M28 200 r13 0) - 1)) M28 _  rfl) ⟨by decide, by decide, Nat.zero_le _, Nat.zero_le _⟩ rfl (Nat.le_of_ble_eq_true rfl) dX1_table_33 (c2 := 0) (s2 := 0) rfl rfl (fun _ => ?_)
  refine z_if_eq (pc := 36) C dX1_table_36 (tgt := 62) (by decide) (fun c35 => ?_) (fun c35 => ?_)
  · have h := itt c35 h
    exact z_lv [0, 2, 3, 4, 5, 6] rfl <| cB_X1_table_62 C v0 v2 v3 v4 v5 r13 M28 _ _ k32 k33 h hR
  · have h := itf c35 h
    refine z_iload (pc := 39) C 5 rfl dX1_table_39 ?_
    refine z_i2l (pc := 41) C dX1_table_41 ?_
    refine z_ldc2 (pc := 42) C (x := -1) q1108 (by decide +kernel) dX1_table_42 ?_
    refine z_aload_n (pc := 45) C 0 rfl dX1_table_45 ?_
    refine gX1_125 (pc := 46) C rfl (Or.inl k32) rfl dX1_table_46 ?_
    refine z_iconst (pc := 49) C dX1_table_49 ?_
    refine z_isub (pc := 50) C dX1_table_50 ?_
    refine z_i2l (pc := 51) C dX1_table_51 ?_
    refine cX1_159 (pc := 52) (st := []) (st1 := [vI (d_X1_isIn (w32 v5) (-1) (w32 ((m_i M28 125 v0 0) - 1)))]) C rfl (rm := { frames := 1, cells := 0, slots := 0, locals := 24 }) (ct_X1_isIn C.2.1 (w32 v5) (-1) (w32 ((m_i M28 125 v0 0) - 1)) M28 _  rfl) ⟨by decide, by decide, Nat.zero_le _, Nat.zero_le _⟩ rfl (Nat.le_of_ble_eq_true rfl) dX1_table_52 (c2 := 0) (s2 := 0) rfl rfl (fun _ => ?_)
    refine z_if_eq (pc := 55) C dX1_table_55 (tgt := 62) (by decide) (fun c130 => ?_) (fun c130 => ?_)
    · have h := itt c130 h
      exact z_lv [0, 2, 3, 4, 5, 6] rfl <| cB_X1_table_62 C v0 v2 v3 v4 v5 r13 M28 _ _ k32 k33 h hR
    · have h := itf c130 h
      refine z_iconst (pc := 58) C dX1_table_58 ?_
      refine z_goto (pc := 59) C dX1_table_59 (tgt := 63) (by decide) ?_
      exact z_lv [0, 2, 3, 4, 5, 6] rfl <| cB_X1_table_63 C v0 v2 v3 v4 v5 r13 1 M28 _ _ k32 k33 h hR
def d_X0_table (v0 : Nat) (v1 : Int) (v2 : Int) (v3 : Int) (v4 : Int) (v5 : Int) (v6 : Nat) (M : Mem) : Option (Int × Mem) :=
  bC (d_X1_table v0 v1 v2 v3 v4 v5 M) (fun r1 M3 =>
    some (0, (m_si M3 9000 v6 (ixn 0) (w32 r1)))) (fun q2 M3 =>
    if m_kd M3 q2 = 115 then
      some (1, M3)
    else
      if m_kd M3 q2 = 113 then
        some (2, M3)
      else
        if m_kd M3 q2 = 114 then
          some (3, M3)
        else
          none)
theorem ct_X0_table {l : Launch} {S0 : State} {D : va_G} {cA : Nat → ClassId} (hG : x_G l S0 D cA) (v0 : Nat) (v1 : Int) (v2 : Int) (v3 : Int) (v4 : Int) (v5 : Int) (v6 : Nat) (M : Mem) (r : Int) (M' : Mem) (hv0 : m_kd M v0 = 1) (hv6 : m_kd M v6 = 19000) (h : d_X0_table v0 v1 v2 v3 v4 v5 v6 M = some (r, M')) : x_Me l S0 D cA yX0_table cX0_table 8 (some .int) [(0, 16, 19, 25), (0, 16, 23, 13), (0, 16, 27, 19)] ({ frames := 9, cells := 5, slots := 56, locals := 174 }) [.ref v0, vI v1, vI v2, vI v3, vI v4, vI v5, .ref v6] M (.returned (some (vI r))) M' := by
  refine x_begin (F := 9) (Lo := 174) (mc := 5) (ms := 56) hG (Nat.le_of_ble_eq_true rfl) (lv := [(0, .ref v0), (1, vI v1), (2, vI v2), (3, vI v3), (4, vI v4), (5, vI v5), (6, .ref v6)]) rfl rfl rfl rfl rfl (fun X e1 e2 e3 e4 e5 C => ?_)
  have hR : _ ∧ _ := ⟨Nat.le_of_eq (congrArg Room.cells e5).symm, Nat.le_of_eq (congrArg Room.slots e5).symm⟩
  unfold d_X0_table at h
  refine z_aload (pc := 0) C 6 rfl dX0_table_0 ?_
  refine z_iconst (pc := 2) C dX0_table_2 ?_
  refine z_aload_n (pc := 3) C 0 rfl dX0_table_3 ?_
  refine z_iload_n (pc := 4) C 1 rfl dX0_table_4 ?_
  refine z_iload_n (pc := 5) C 2 rfl dX0_table_5 ?_
  refine z_iload_n (pc := 6) C 3 rfl dX0_table_6 ?_
  refine z_iload (pc := 7) C 4 rfl dX0_table_7 ?_
  refine z_iload (pc := 9) C 5 rfl dX0_table_9 ?_
  rcases bCs h with ⟨r1, M3, e4, h⟩ | ⟨q2, M3, e4, h⟩
  · refine cX0_107 (pc := 11) (st := [vI 0, .ref v6]) (st1 := [vI r1, vI 0, .ref v6]) C rfl (rm := { frames := 8, cells := 5, slots := 56, locals := 139 }) (ct_X1_table C.2.1 v0 v1 v2 v3 v4 v5 M _ _ hv0 e4) ⟨by decide, by decide, Nat.le_trans (show 5 ≤ 5 from by decide) hR.1, Nat.le_trans (show 56 ≤ 56 from by decide) hR.2⟩ (Or.inl hv0) rfl (Nat.le_of_ble_eq_true rfl) dX0_table_11 (c2 := 5) (s2 := 56) rfl rfl (fun x5 => ?_)
    have k6 := x5 _ 19000 (by decide) (Or.inr (by decide)) hv6
    refine z_i2l (pc := 14) C dX0_table_14 ?_
    refine z_lsw (pc := 15) C k6 (by decide +kernel) dX0_table_15 ?_
    refine z_goto (pc := 16) C dX0_table_16 (tgt := 31) (by decide) ?_
    refine z_iconst (pc := 31) C dX0_table_31 ?_
    cases h
    exact z_iret (pc := 32) C rfl (show 5 ≤ 5 from by decide) (show 56 ≤ 56 from by decide) dX0_table_32
  · by_cases c7 : m_kd M3 q2 = 115
    · have h := itt c7 h
      refine kX0_107 (pc := 11) (st := [vI 0, .ref v6]) C rfl (rm := { frames := 8, cells := 5, slots := 56, locals := 139 }) (r := q2) (ct_X1_table C.2.1 v0 v1 v2 v3 v4 v5 M _ _ hv0 e4) ⟨by decide, by decide, Nat.le_trans (show 5 ≤ 5 from by decide) hR.1, Nat.le_trans (show 56 ≤ 56 from by decide) hR.2⟩ (Or.inl hv0) (Nat.le_of_ble_eq_true rfl) dX0_table_11 (e := 15) (hpc := 19) (by decide) (Or.inr c7) (Or.inr ⟨by decide, by decide, 15, by decide, q560, Or.inl ⟨rfl, rfl⟩⟩) (c2 := 5) (s2 := 56) rfl rfl (fun x8 => ?_)
      refine z_astore (pc := 19) C (lv' := [(0, .ref v0), (1, vI v1), (2, vI v2), (3, vI v3), (4, vI v4), (5, vI v5), (6, .ref v6), (7, .ref q2)]) (by decide) rfl dX0_table_19 ?_
      refine z_iconst (pc := 21) C dX0_table_21 ?_
      cases h
      exact z_iret (pc := 22) C rfl (show 5 ≤ 5 from by decide) (show 56 ≤ 56 from by decide) dX0_table_22
    · have h := itf c7 h
      by_cases c9 : m_kd M3 q2 = 113
      · have h := itt c9 h
        refine kX0_107 (pc := 11) (st := [vI 0, .ref v6]) C rfl (rm := { frames := 8, cells := 5, slots := 56, locals := 139 }) (r := q2) (ct_X1_table C.2.1 v0 v1 v2 v3 v4 v5 M _ _ hv0 e4) ⟨by decide, by decide, Nat.le_trans (show 5 ≤ 5 from by decide) hR.1, Nat.le_trans (show 56 ≤ 56 from by decide) hR.2⟩ (Or.inl hv0) (Nat.le_of_ble_eq_true rfl) dX0_table_11 (e := 13) (hpc := 23) (by decide) (Or.inr c9) (Or.inr ⟨by decide, by decide, 15, by decide, q560, Or.inr ⟨by decide, Or.inr ⟨by decide, by decide, 13, by decide, q447, Or.inl ⟨rfl, rfl⟩⟩⟩⟩) (c2 := 5) (s2 := 56) rfl rfl (fun x10 => ?_)
        refine z_astore (pc := 23) C (lv' := [(0, .ref v0), (1, vI v1), (2, vI v2), (3, vI v3), (4, vI v4), (5, vI v5), (6, .ref v6), (7, .ref q2)]) (by decide) rfl dX0_table_23 ?_
        refine z_iconst (pc := 25) C dX0_table_25 ?_
        cases h
        exact z_iret (pc := 26) C rfl (show 5 ≤ 5 from by decide) (show 56 ≤ 56 from by decide) dX0_table_26
      · have h := itf c9 h
        by_cases c11 : m_kd M3 q2 = 114
        · have h := itt c11 h
          refine kX0_107 (pc := 11) (st := [vI 0, .ref v6]) C rfl (rm := { frames := 8, cells := 5, slots := 56, locals := 139 }) (r := q2) (ct_X1_table C.2.1 v0 v1 v2 v3 v4 v5 M _ _ hv0 e4) ⟨by decide, by decide, Nat.le_trans (show 5 ≤ 5 from by decide) hR.1, Nat.le_trans (show 56 ≤ 56 from by decide) hR.2⟩ (Or.inl hv0) (Nat.le_of_ble_eq_true rfl) dX0_table_11 (e := 14) (hpc := 27) (by decide) (Or.inr c11) (Or.inr ⟨by decide, by decide, 15, by decide, q560, Or.inr ⟨by decide, Or.inr ⟨by decide, by decide, 13, by decide, q447, Or.inr ⟨by decide, Or.inr ⟨by decide, by decide, 14, by decide, q533, Or.inl ⟨rfl, rfl⟩⟩⟩⟩⟩⟩) (c2 := 5) (s2 := 56) rfl rfl (fun x12 => ?_)
          refine z_astore (pc := 27) C (lv' := [(0, .ref v0), (1, vI v1), (2, vI v2), (3, vI v3), (4, vI v4), (5, vI v5), (6, .ref v6), (7, .ref q2)]) (by decide) rfl dX0_table_27 ?_
          refine z_iconst (pc := 29) C dX0_table_29 ?_
          cases h
          exact z_iret (pc := 30) C rfl (show 5 ≤ 5 from by decide) (show 56 ≤ 56 from by decide) dX0_table_30
        · have h := itf c11 h
          cases h
def d_X1_tableOf (v0 : Nat) (v1 : Int) (M : Mem) : Option ((Nat ⊕ Nat) × Mem) :=
  bT (d_X1_inside (d_X1_isIn (w32 v1) 0 (w32 ((m_i M 134 v0 0) - 1))) M) fun r5 M6 => 
  if inb v1 12 then 
  bR (m_r M6 135 v0 (ixn v1)) fun q12 => 
  some (.inl q12, M6) else none
theorem ct_X1_tableOf {l : Launch} {S0 : State} {D : va_G} {cA : Nat → ClassId} (hG : x_G l S0 D cA) (v0 : Nat) (v1 : Int) (M : Mem) (r : Nat ⊕ Nat) (M' : Mem) (hv0 : m_kd M v0 = 1) (h : d_X1_tableOf v0 v1 M = some (r, M')) : x_Me l S0 D cA yX1_tableOf cX1_tableOf 2 (some (.object "CensusOffice$Table")) [] ({ frames := 7, cells := (ocN r 0 1), slots := (ocN r 0 6), locals := 114 }) [.ref v0, vI v1] M (ocR r) M' := by
  refine x_begin (F := 7) (Lo := 114) (mc := (ocN r 0 1)) (ms := (ocN r 0 6)) hG (Nat.le_of_ble_eq_true rfl) (lv := [(0, .ref v0), (1, vI v1)]) rfl rfl rfl rfl rfl (fun X e1 e2 e3 e4 e5 C => ?_)
  have hR : _ ∧ _ := ⟨Nat.le_of_eq (congrArg Room.cells e5).symm, Nat.le_of_eq (congrArg Room.slots e5).symm⟩
  unfold d_X1_tableOf at h
  refine z_iload_n (pc := 0) C 1 rfl dX1_tableOf_0 ?_
  refine z_i2l (pc := 1) C dX1_tableOf_1 ?_
  refine z_lconst (pc := 2) C (x := 0) (by decide +kernel) dX1_tableOf_2 ?_
  refine z_aload_n (pc := 3) C 0 rfl dX1_tableOf_3 ?_
  refine gX1_134 (pc := 4) C rfl (Or.inl hv0) rfl dX1_tableOf_4 ?_
  refine z_iconst (pc := 7) C dX1_tableOf_7 ?_
  refine z_isub (pc := 8) C dX1_tableOf_8 ?_
  refine z_i2l (pc := 9) C dX1_tableOf_9 ?_
  refine cX1_159 (pc := 10) (st := []) (st1 := [vI (d_X1_isIn (w32 v1) 0 (w32 ((m_i M 134 v0 0) - 1)))]) C rfl (rm := { frames := 1, cells := 0, slots := 0, locals := 24 }) (ct_X1_isIn C.2.1 (w32 v1) 0 (w32 ((m_i M 134 v0 0) - 1)) M _  rfl) ⟨by decide, by decide, Nat.zero_le _, Nat.zero_le _⟩ rfl (Nat.le_of_ble_eq_true rfl) dX1_tableOf_10 (c2 := 0) (s2 := 0) rfl rfl (fun _ => ?_)
  rcases bTs h with ⟨x9, e7, er⟩ | ⟨r5, M6, e7, h⟩
  · subst er; exact tX1_171 (pc := 13) C rfl (rm := { frames := 6, cells := 1, slots := 6, locals := 90 }) (ct_X1_inside C.2.1 (d_X1_isIn (w32 v1) 0 (w32 ((m_i M 134 v0 0) - 1))) M _ _  e7) ⟨by decide, by decide, Nat.le_trans (show 1 ≤ 1 from by decide) hR.1, Nat.le_trans (show 6 ≤ 6 from by decide) hR.2⟩ (Nat.le_of_ble_eq_true rfl) dX1_tableOf_13 (by decide) (show 1 ≤ 1 from by decide) (show 6 ≤ 6 from by decide)
  refine cX1_171 (pc := 13) (st := []) (st1 := []) C rfl (rm := { frames := 6, cells := 0, slots := 0, locals := 90 }) (ct_X1_inside C.2.1 (d_X1_isIn (w32 v1) 0 (w32 ((m_i M 134 v0 0) - 1))) M _ _  e7) ⟨by decide, by decide, Nat.zero_le _, Nat.zero_le _⟩ rfl (Nat.le_of_ble_eq_true rfl) dX1_tableOf_13 (c2 := 0) (s2 := 0) rfl rfl (fun x8 => ?_)
  have k10 := x8 _ 1 (by decide) (Or.inl (by decide)) hv0
  refine z_aload_n (pc := 16) C 0 rfl dX1_tableOf_16 ?_
  refine gX1_135 (pc := 17) C rfl k10 dX1_tableOf_17 ?_
  refine z_iload_n (pc := 20) C 1 rfl dX1_tableOf_20 ?_
  obtain ⟨c11, h⟩ := ifn h
  obtain ⟨q12, e13, h⟩ := bRs h
  refine z_aaO (pc := 21) (k := 1) (j := 35) C 135 rfl (by decide) (by decide) (by decide) rfl rfl (by decide) (by decide) rfl k10 c11 rfl (by decide) e13 dX1_tableOf_21 (fun k14 => ?_)
  cases h
  exact z_aret (pc := 22) C rfl (show 0 ≤ 0 from by decide) (show 0 ≤ 0 from by decide) dX1_tableOf_22
def B_X11_has_18  (v0 : Nat) (v1 : Int) (v3 : Int) (M : Mem) : Option Int :=
  if w32 v3 = w32 (m_i M 1101 v0 0) then
    some 1
  else
    if ¬ w32 (m_i M 1101 v0 0) = 0 then 
    if w32 (r32 v1 (m_i M 1101 v0 0)) = w32 v3 then
      some 1
    else
      some 0 else none
def d_X11_has (v0 : Nat) (v1 : Int) (v2 : Int) (v3 : Int) (M : Mem) : Option Int :=
  if w32 v2 = w32 (m_i M 1100 v0 0) then
    B_X11_has_18 v0 v1 v3 M
  else
    if ¬ w32 (m_i M 1101 v0 0) = 0 then 
    if w32 (d32 v1 (m_i M 1101 v0 0)) = w32 v2 then
      B_X11_has_18 v0 v1 v3 M
    else
      some 0 else none
theorem cB_X11_has_18 {X : x_Ctx} {M0 : Mem} (C : x_CC X 1 24 yX11_has cX11_has 4 (some .boolean) [])  (v0 : Nat) (v1 : Int) (v3 : Int) (M : Mem) (r : Int) (hv0 : m_kd M v0 = 11) (h : B_X11_has_18  v0 v1 v3 M = some r)  : x_Z X 0 0 (x_QF X M0 (.returned (some (vI r))) M 0 0) M0 M 4 [(0, .ref v0), (1, vI v1), (3, vI v3)] 18 [] := by
  unfold B_X11_has_18 at h
  refine z_iload_n (pc := 18) C 2 rfl dX11_has_18 ?_
  refine z_aload_n (pc := 19) C 0 rfl dX11_has_19 ?_
  refine gX11_1101 (pc := 20) C rfl (Or.inl hv0) rfl dX11_has_20 ?_
  refine z_ic_eq (pc := 23) C dX11_has_23 (tgt := 36) (by decide) (fun c2 => ?_) (fun c2 => ?_)
  · have h := itt c2 h
    refine z_iconst (pc := 36) C dX11_has_36 ?_
    refine z_goto (pc := 37) C dX11_has_37 (tgt := 41) (by decide) ?_
    cases h
    exact z_zret (pc := 41) C rfl (Or.inr rfl) (show 0 ≤ 0 from by decide) (show 0 ≤ 0 from by decide) dX11_has_41
  · have h := itf c2 h
    refine z_iload_n (pc := 26) C 1 rfl dX11_has_26 ?_
    refine z_aload_n (pc := 27) C 0 rfl dX11_has_27 ?_
    refine gX11_1101 (pc := 28) C rfl (Or.inl hv0) rfl dX11_has_28 ?_
    obtain ⟨c3, h⟩ := ifn h
    refine z_irem (pc := 31) C c3 dX11_has_31 ?_
    refine z_iload_n (pc := 32) C 2 rfl dX11_has_32 ?_
    refine z_ic_ne (pc := 33) C dX11_has_33 (tgt := 40) (by decide) (fun c4 => ?_) (fun c4 => ?_)
    · have h := itf c4 h
      refine z_iconst (pc := 40) C dX11_has_40 ?_
      cases h
      exact z_zret (pc := 41) C rfl (Or.inl rfl) (show 0 ≤ 0 from by decide) (show 0 ≤ 0 from by decide) dX11_has_41
    · have h := itt c4 h
      refine z_iconst (pc := 36) C dX11_has_36 ?_
      refine z_goto (pc := 37) C dX11_has_37 (tgt := 41) (by decide) ?_
      cases h
      exact z_zret (pc := 41) C rfl (Or.inr rfl) (show 0 ≤ 0 from by decide) (show 0 ≤ 0 from by decide) dX11_has_41
theorem ct_X11_has {l : Launch} {S0 : State} {D : va_G} {cA : Nat → ClassId} (hG : x_G l S0 D cA) (v0 : Nat) (v1 : Int) (v2 : Int) (v3 : Int) (M : Mem) (r : Int) (hv0 : m_kd M v0 = 11) (h : d_X11_has v0 v1 v2 v3 M = some r) : x_Me l S0 D cA yX11_has cX11_has 4 (some .boolean) [] ({ frames := 1, cells := 0, slots := 0, locals := 24 }) [.ref v0, vI v1, vI v2, vI v3] M (.returned (some (vI r))) M := by
  refine x_begin (F := 1) (Lo := 24) (mc := 0) (ms := 0) hG (Nat.le_of_ble_eq_true rfl) (lv := [(0, .ref v0), (1, vI v1), (2, vI v2), (3, vI v3)]) rfl rfl rfl rfl rfl (fun X e1 e2 e3 e4 e5 C => ?_)
  unfold d_X11_has at h
  refine z_iload_n (pc := 0) C 2 rfl dX11_has_0 ?_
  refine z_aload_n (pc := 1) C 0 rfl dX11_has_1 ?_
  refine gX11_1100 (pc := 2) C rfl (Or.inl hv0) rfl dX11_has_2 ?_
  refine z_ic_eq (pc := 5) C dX11_has_5 (tgt := 18) (by decide) (fun c1 => ?_) (fun c1 => ?_)
  · have h := itt c1 h
    exact z_lv [0, 1, 3] rfl <| cB_X11_has_18 C v0 v1 v3 M _ hv0 h
  · have h := itf c1 h
    refine z_iload_n (pc := 8) C 1 rfl dX11_has_8 ?_
    refine z_aload_n (pc := 9) C 0 rfl dX11_has_9 ?_
    refine gX11_1101 (pc := 10) C rfl (Or.inl hv0) rfl dX11_has_10 ?_
    obtain ⟨c5, h⟩ := ifn h
    refine z_idiv (pc := 13) C c5 dX11_has_13 ?_
    refine z_iload_n (pc := 14) C 2 rfl dX11_has_14 ?_
    refine z_ic_ne (pc := 15) C dX11_has_15 (tgt := 40) (by decide) (fun c6 => ?_) (fun c6 => ?_)
    · have h := itf c6 h
      refine z_iconst (pc := 40) C dX11_has_40 ?_
      cases h
      exact z_zret (pc := 41) C rfl (Or.inl rfl) (show 0 ≤ 0 from by decide) (show 0 ≤ 0 from by decide) dX11_has_41
    · have h := itt c6 h
      exact z_lv [0, 1, 3] rfl <| cB_X11_has_18 C v0 v1 v3 M _ hv0 h
def B_X11_told_6 (k6 : Nat → Nat → Int → Int → Int → Int → Int → Mem → Option Int) (v0 : Nat) (v1 : Nat) (v2 : Int) (v3 : Int) (v4 : Int) (v5 : Int) (v6 : Int) (M : Mem) : Option Int :=
  if w32 (d_X11_cells v0 M) ≤ w32 v6 then
    some v5
  else
    bR (d_X11_has v0 v6 v2 v3 M) fun r3 => 
    if w32 r3 = 0 then
      k6 v0 v1 v2 v3 v4 v5 (v6 + 1) M
    else
      if w32 v4 = 0 then
        if inb v6 (p_n M v1) then 
        k6 v0 v1 v2 v3 v4 (v5 + (p_i M v1 (ixn v6))) (v6 + 1) M else none
      else
        if inb v6 (p_n M v1) then 
        k6 v0 v1 v2 v3 v4 (nx32 v5 (p_i M v1 (ixn v6))) (v6 + 1) M else none
def L_X11_told_6  : Nat → Nat → Nat → Int → Int → Int → Int → Int → Mem → Option Int
  | 0, _, _, _, _, _, _, _, _ => none
  | n + 1, v0, v1, v2, v3, v4, v5, v6, M => B_X11_told_6 (L_X11_told_6  n) v0 v1 v2 v3 v4 v5 v6 M
def d_X11_told (v0 : Nat) (v1 : Nat) (v2 : Int) (v3 : Int) (v4 : Int) (M : Mem) : Option Int :=
  L_X11_told_6 FU v0 v1 v2 v3 v4 0 0 M
theorem cB_X11_told_6 {X : x_Ctx} {M0 : Mem} (C : x_CC X 2 51 yX11_told cX11_told 7 (some .int) []) {k6 : Nat → Nat → Int → Int → Int → Int → Int → Mem → Option Int} (hk6 : ∀ (v0 : Nat) (v1 : Nat) (v2 : Int) (v3 : Int) (v4 : Int) (v5 : Int) (v6 : Int) (M : Mem) (r : Int), m_kd M v0 = 11 → x_IA M v1 → k6 v0 v1 v2 v3 v4 v5 v6 M = some r → x_Z X 0 0 (x_QF X M0 (.returned (some (vI r))) M 0 0) M0 M 7 [(0, .ref v0), (1, .ref v1), (2, vI v2), (3, vI v3), (4, vI v4), (5, vI v5), (6, vI v6)] 6 []) (v0 : Nat) (v1 : Nat) (v2 : Int) (v3 : Int) (v4 : Int) (v5 : Int) (v6 : Int) (M : Mem) (r : Int) (hv0 : m_kd M v0 = 11) (hv1 : x_IA M v1) (h : B_X11_told_6 k6 v0 v1 v2 v3 v4 v5 v6 M = some r)  : x_Z X 0 0 (x_QF X M0 (.returned (some (vI r))) M 0 0) M0 M 7 [(0, .ref v0), (1, .ref v1), (2, vI v2), (3, vI v3), (4, vI v4), (5, vI v5), (6, vI v6)] 6 [] := by
  unfold B_X11_told_6 at h
  refine z_iload (pc := 6) C 6 rfl dX11_told_6 ?_
  refine z_aload_n (pc := 8) C 0 rfl dX11_told_8 ?_
  refine cX11_31 (pc := 9) (st := [vI v6]) (st1 := [vI (d_X11_cells v0 M), vI v6]) C rfl (rm := { frames := 1, cells := 0, slots := 0, locals := 24 }) (ct_X11_cells C.2.1 v0 M _ hv0 rfl) ⟨by decide, by decide, Nat.zero_le _, Nat.zero_le _⟩ (Or.inl hv0) rfl (Nat.le_of_ble_eq_true rfl) dX11_told_9 (c2 := 0) (s2 := 0) rfl rfl (fun _ => ?_)
  refine z_ic_ge (pc := 12) C dX11_told_12 (tgt := 58) (by decide) (fun c2 => ?_) (fun c2 => ?_)
  · have h := itt c2 h
    refine z_iload (pc := 58) C 5 rfl dX11_told_58 ?_
    cases h
    exact z_iret (pc := 60) C rfl (show 0 ≤ 0 from by decide) (show 0 ≤ 0 from by decide) dX11_told_60
  · have h := itf c2 h
    refine z_aload_n (pc := 15) C 0 rfl dX11_told_15 ?_
    refine z_iload (pc := 16) C 6 rfl dX11_told_16 ?_
    refine z_iload_n (pc := 18) C 2 rfl dX11_told_18 ?_
    refine z_iload_n (pc := 19) C 3 rfl dX11_told_19 ?_
    obtain ⟨r3, e4, h⟩ := bRs h
    refine cX11_35 (pc := 20) (st := []) (st1 := [vI r3]) C rfl (rm := { frames := 1, cells := 0, slots := 0, locals := 24 }) (ct_X11_has C.2.1 v0 v6 v2 v3 M _ hv0 e4) ⟨by decide, by decide, Nat.zero_le _, Nat.zero_le _⟩ (Or.inl hv0) rfl (Nat.le_of_ble_eq_true rfl) dX11_told_20 (c2 := 0) (s2 := 0) rfl rfl (fun _ => ?_)
    refine z_if_eq (pc := 23) C dX11_told_23 (tgt := 52) (by decide) (fun c5 => ?_) (fun c5 => ?_)
    · have h := itt c5 h
      refine z_iinc (pc := 52) C (lv' := [(0, .ref v0), (1, .ref v1), (2, vI v2), (3, vI v3), (4, vI v4), (5, vI v5), (6, vI (v6 + 1))]) 6 rfl (by decide) rfl dX11_told_52 ?_
      refine z_goto (pc := 55) C dX11_told_55 (tgt := 6) (by decide) ?_
      exact hk6 v0 v1 v2 v3 v4 v5 (v6 + 1) M _ hv0 hv1 h
    · have h := itf c5 h
      refine z_iload (pc := 26) C 4 rfl dX11_told_26 ?_
      refine z_if_eq (pc := 28) C dX11_told_28 (tgt := 43) (by decide) (fun c6 => ?_) (fun c6 => ?_)
      · have h := itt c6 h
        refine z_iload (pc := 43) C 5 rfl dX11_told_43 ?_
        refine z_aload_n (pc := 45) C 1 rfl dX11_told_45 ?_
        refine z_iload (pc := 46) C 6 rfl dX11_told_46 ?_
        obtain ⟨c7, h⟩ := ifn h
        refine z_iaP (pc := 48) C hv1 c7 dX11_told_48 ?_
        refine z_iadd (pc := 49) C dX11_told_49 ?_
        refine z_istore (pc := 50) C (lv' := [(0, .ref v0), (1, .ref v1), (2, vI v2), (3, vI v3), (4, vI v4), (5, vI (v5 + (p_i M v1 (ixn v6)))), (6, vI v6)]) (by decide) rfl dX11_told_50 ?_
        refine z_iinc (pc := 52) C (lv' := [(0, .ref v0), (1, .ref v1), (2, vI v2), (3, vI v3), (4, vI v4), (5, vI (v5 + (p_i M v1 (ixn v6)))), (6, vI (v6 + 1))]) 6 rfl (by decide) rfl dX11_told_52 ?_
        refine z_goto (pc := 55) C dX11_told_55 (tgt := 6) (by decide) ?_
        exact hk6 v0 v1 v2 v3 v4 (v5 + (p_i M v1 (ixn v6))) (v6 + 1) M _ hv0 hv1 h
      · have h := itf c6 h
        refine z_iload (pc := 31) C 5 rfl dX11_told_31 ?_
        refine z_aload_n (pc := 33) C 1 rfl dX11_told_33 ?_
        refine z_iload (pc := 34) C 6 rfl dX11_told_34 ?_
        obtain ⟨c8, h⟩ := ifn h
        refine z_iaP (pc := 36) C hv1 c8 dX11_told_36 ?_
        refine z_max (pc := 37) C q1347 q1321 q128 q1322 (by decide) (by decide) (Nat.zero_le _) (Nat.zero_le _) (Nat.le_of_ble_eq_true rfl) dX11_told_37 ?_
        refine z_goto (pc := 40) C dX11_told_40 (tgt := 50) (by decide) ?_
        refine z_istore (pc := 50) C (lv' := [(0, .ref v0), (1, .ref v1), (2, vI v2), (3, vI v3), (4, vI v4), (5, vI (nx32 v5 (p_i M v1 (ixn v6)))), (6, vI v6)]) (by decide) rfl dX11_told_50 ?_
        refine z_iinc (pc := 52) C (lv' := [(0, .ref v0), (1, .ref v1), (2, vI v2), (3, vI v3), (4, vI v4), (5, vI (nx32 v5 (p_i M v1 (ixn v6)))), (6, vI (v6 + 1))]) 6 rfl (by decide) rfl dX11_told_52 ?_
        refine z_goto (pc := 55) C dX11_told_55 (tgt := 6) (by decide) ?_
        exact hk6 v0 v1 v2 v3 v4 (nx32 v5 (p_i M v1 (ixn v6))) (v6 + 1) M _ hv0 hv1 h
theorem cL_X11_told_6 {X : x_Ctx} {M0 : Mem} (C : x_CC X 2 51 yX11_told cX11_told 7 (some .int) [])  : ∀ (n : Nat) (v0 : Nat) (v1 : Nat) (v2 : Int) (v3 : Int) (v4 : Int) (v5 : Int) (v6 : Int) (M : Mem) (r : Int) (hv0 : m_kd M v0 = 11) (hv1 : x_IA M v1) (h : L_X11_told_6  n v0 v1 v2 v3 v4 v5 v6 M = some r) , x_Z X 0 0 (x_QF X M0 (.returned (some (vI r))) M 0 0) M0 M 7 [(0, .ref v0), (1, .ref v1), (2, vI v2), (3, vI v3), (4, vI v4), (5, vI v5), (6, vI v6)] 6 [] := by
  intro n
  induction n with
  | zero => intro v0 v1 v2 v3 v4 v5 v6 M r hv0 hv1 h ; cases h
  | succ n ih => intro v0 v1 v2 v3 v4 v5 v6 M r hv0 hv1 h ; exact cB_X11_told_6 C (fun v0 v1 v2 v3 v4 v5 v6 M r hv0 hv1 h  => ih v0 v1 v2 v3 v4 v5 v6 M r hv0 hv1 h ) v0 v1 v2 v3 v4 v5 v6 M r hv0 hv1 h 
theorem ct_X11_told {l : Launch} {S0 : State} {D : va_G} {cA : Nat → ClassId} (hG : x_G l S0 D cA) (v0 : Nat) (v1 : Nat) (v2 : Int) (v3 : Int) (v4 : Int) (M : Mem) (r : Int) (hv0 : m_kd M v0 = 11) (hv1 : x_IA M v1) (h : d_X11_told v0 v1 v2 v3 v4 M = some r) : x_Me l S0 D cA yX11_told cX11_told 7 (some .int) [] ({ frames := 2, cells := 0, slots := 0, locals := 51 }) [.ref v0, .ref v1, vI v2, vI v3, vI v4] M (.returned (some (vI r))) M := by
  refine x_begin (F := 2) (Lo := 51) (mc := 0) (ms := 0) hG (Nat.le_of_ble_eq_true rfl) (lv := [(0, .ref v0), (1, .ref v1), (2, vI v2), (3, vI v3), (4, vI v4)]) rfl rfl rfl rfl rfl (fun X e1 e2 e3 e4 e5 C => ?_)
  unfold d_X11_told at h
  refine z_iconst (pc := 0) C dX11_told_0 ?_
  refine z_istore (pc := 1) C (lv' := [(0, .ref v0), (1, .ref v1), (2, vI v2), (3, vI v3), (4, vI v4), (5, vI 0)]) (by decide) rfl dX11_told_1 ?_
  refine z_iconst (pc := 3) C dX11_told_3 ?_
  refine z_istore (pc := 4) C (lv' := [(0, .ref v0), (1, .ref v1), (2, vI v2), (3, vI v3), (4, vI v4), (5, vI 0), (6, vI 0)]) (by decide) rfl dX11_told_4 ?_
  exact cL_X11_told_6 C FU v0 v1 v2 v3 v4 0 0 M _ hv0 hv1 h
def B_X1_cell_106  (v2 : Int) (v3 : Int) (v4 : Int) (s0 : Nat) (s1 : Nat) (M : Mem) : Option ((Int ⊕ Nat) × Mem) :=
  if w32 v4 = w32 2 then
    bR (d_X11_told s0 s1 v2 v3 1 M) fun r28 => 
    some (.inl r28, M)
  else
    bR (d_X11_told s0 s1 v2 v3 0 M) fun r26 => 
    some (.inl r26, M)
def B_X1_cell_42  (v2 : Int) (v3 : Int) (v4 : Int) (v5 : Nat) (s0 : Int) (M : Mem) : Option ((Int ⊕ Nat) × Mem) :=
  bT (d_X1_inside s0 M) fun r9 M10 => 
  bT (d_X1_need (d_X1_isIn (w32 v4) 0 3) M10) fun r16 M17 => 
  if w32 v4 = 0 then
    B_X1_cell_106 v2 v3 v4 v5 (v5 + 1) M17
  else
    if w32 v4 = w32 1 then
      B_X1_cell_106 v2 v3 v4 v5 (v5 + 2) M17
    else
      if w32 v4 = w32 2 then
        B_X1_cell_106 v2 v3 v4 v5 (v5 + 3) M17
      else
        B_X1_cell_106 v2 v3 v4 v5 (v5 + 4) M17
def B_X1_cell_41  (v2 : Int) (v3 : Int) (v4 : Int) (v5 : Nat) (M : Mem) : Option ((Int ⊕ Nat) × Mem) :=
  B_X1_cell_42 v2 v3 v4 v5 0 M
def d_X1_cell (v0 : Nat) (v1 : Int) (v2 : Int) (v3 : Int) (v4 : Int) (M : Mem) : Option ((Int ⊕ Nat) × Mem) :=
  bT (d_X1_tableOf v0 v1 M) fun r1 M2 => 
  if m_kd M2 r1 = 11 then 
  if w32 (d_X1_isIn (w32 v2) 0 (w32 (m_i M2 1100 r1 0))) = 0 then
    B_X1_cell_41 v2 v3 v4 r1 M2
  else
    if w32 (d_X1_isIn (w32 v3) 0 (w32 (m_i M2 1101 r1 0))) = 0 then
      B_X1_cell_41 v2 v3 v4 r1 M2
    else
      B_X1_cell_42 v2 v3 v4 r1 1 M2 else none
theorem cB_X1_cell_106 {X : x_Ctx} {M0 : Mem} (C : x_CC X 8 139 yX1_cell cX1_cell 6 (some .int) [])  (v2 : Int) (v3 : Int) (v4 : Int) (s0 : Nat) (s1 : Nat) (M : Mem) (r : Int ⊕ Nat) (M' : Mem) (hs0 : m_kd M s0 = 11) (hs1 : x_IA M s1) (h : B_X1_cell_106  v2 v3 v4 s0 s1 M = some (r, M')) (hR : ocN r 0 1 ≤ (XR X).cells ∧ ocN r 0 6 ≤ (XR X).slots) : x_Z X 0 0 (x_QF X M0 (ocI r) M' (ocN r 0 1) (ocN r 0 6)) M0 M 6 [(2, vI v2), (3, vI v3), (4, vI v4)] 106 [.ref s1, .ref s0] := by
  unfold B_X1_cell_106 at h
  refine z_iload_n (pc := 106) C 0 rfl dX1_cell_106 ?_
  refine z_iload_n (pc := 107) C 1 rfl dX1_cell_107 ?_
  refine z_iload (pc := 108) C 2 rfl dX1_cell_108 ?_
  refine z_iconst (pc := 110) C dX1_cell_110 ?_
  refine z_ic_ne (pc := 111) C dX1_cell_111 (tgt := 118) (by decide) (fun c25 => ?_) (fun c25 => ?_)
  · have h := itf c25 h
    refine z_iconst (pc := 118) C dX1_cell_118 ?_
    obtain ⟨r26, e27, h⟩ := bRs h
    refine cX1_516 (pc := 119) (st := []) (st1 := [vI r26]) C rfl (rm := { frames := 2, cells := 0, slots := 0, locals := 51 }) (ct_X11_told C.2.1 s0 s1 v2 v3 0 M _ hs0 hs1 e27) ⟨by decide, by decide, Nat.zero_le _, Nat.zero_le _⟩ (Or.inl hs0) rfl (Nat.le_of_ble_eq_true rfl) dX1_cell_119 (c2 := 0) (s2 := 0) rfl rfl (fun _ => ?_)
    cases h
    exact z_iret (pc := 122) C rfl (show 0 ≤ 0 from by decide) (show 0 ≤ 0 from by decide) dX1_cell_122
  · have h := itt c25 h
    refine z_iconst (pc := 114) C dX1_cell_114 ?_
    refine z_goto (pc := 115) C dX1_cell_115 (tgt := 119) (by decide) ?_
    obtain ⟨r28, e29, h⟩ := bRs h
    refine cX1_516 (pc := 119) (st := []) (st1 := [vI r28]) C rfl (rm := { frames := 2, cells := 0, slots := 0, locals := 51 }) (ct_X11_told C.2.1 s0 s1 v2 v3 1 M _ hs0 hs1 e29) ⟨by decide, by decide, Nat.zero_le _, Nat.zero_le _⟩ (Or.inl hs0) rfl (Nat.le_of_ble_eq_true rfl) dX1_cell_119 (c2 := 0) (s2 := 0) rfl rfl (fun _ => ?_)
    cases h
    exact z_iret (pc := 122) C rfl (show 0 ≤ 0 from by decide) (show 0 ≤ 0 from by decide) dX1_cell_122
theorem cB_X1_cell_42 {X : x_Ctx} {M0 : Mem} (C : x_CC X 8 139 yX1_cell cX1_cell 6 (some .int) [])  (v2 : Int) (v3 : Int) (v4 : Int) (v5 : Nat) (s0 : Int) (M : Mem) (r : Int ⊕ Nat) (M' : Mem) (hv5 : m_kd M v5 = 11) (h : B_X1_cell_42  v2 v3 v4 v5 s0 M = some (r, M')) (hR : ocN r 0 1 ≤ (XR X).cells ∧ ocN r 0 6 ≤ (XR X).slots) : x_Z X 0 0 (x_QF X M0 (ocI r) M' (ocN r 0 1) (ocN r 0 6)) M0 M 6 [(2, vI v2), (3, vI v3), (4, vI v4), (5, .ref v5)] 42 [vI s0] := by
  unfold B_X1_cell_42 at h
  rcases bTs h with ⟨x13, e11, er⟩ | ⟨r9, M10, e11, h⟩
  · subst er; exact tX1_171 (pc := 42) C rfl (rm := { frames := 6, cells := 1, slots := 6, locals := 90 }) (ct_X1_inside C.2.1 s0 M _ _  e11) ⟨by decide, by decide, Nat.le_trans (show 1 ≤ 1 from by decide) hR.1, Nat.le_trans (show 6 ≤ 6 from by decide) hR.2⟩ (Nat.le_of_ble_eq_true rfl) dX1_cell_42 (by decide) (show 1 ≤ 1 from by decide) (show 6 ≤ 6 from by decide)
  refine cX1_171 (pc := 42) (st := []) (st1 := []) C rfl (rm := { frames := 6, cells := 0, slots := 0, locals := 90 }) (ct_X1_inside C.2.1 s0 M _ _  e11) ⟨by decide, by decide, Nat.zero_le _, Nat.zero_le _⟩ rfl (Nat.le_of_ble_eq_true rfl) dX1_cell_42 (c2 := 0) (s2 := 0) rfl rfl (fun x12 => ?_)
  have k14 := x12 _ 11 (by decide) (Or.inl (by decide)) hv5
  refine z_iload (pc := 45) C 2 rfl dX1_cell_45 ?_
  refine z_i2l (pc := 47) C dX1_cell_47 ?_
  refine z_lconst (pc := 48) C (x := 0) (by decide +kernel) dX1_cell_48 ?_
  refine z_ldc2 (pc := 49) C (x := 3) q914 (by decide +kernel) dX1_cell_49 ?_
  refine cX1_159 (pc := 52) (st := []) (st1 := [vI (d_X1_isIn (w32 v4) 0 3)]) C rfl (rm := { frames := 1, cells := 0, slots := 0, locals := 24 }) (ct_X1_isIn C.2.1 (w32 v4) 0 3 M10 _  rfl) ⟨by decide, by decide, Nat.zero_le _, Nat.zero_le _⟩ rfl (Nat.le_of_ble_eq_true rfl) dX1_cell_52 (c2 := 0) (s2 := 0) rfl rfl (fun _ => ?_)
  rcases bTs h with ⟨x20, e18, er⟩ | ⟨r16, M17, e18, h⟩
  · subst er; exact tX1_164 (pc := 55) C rfl (rm := { frames := 6, cells := 1, slots := 6, locals := 90 }) (ct_X1_need C.2.1 (d_X1_isIn (w32 v4) 0 3) M10 _ _  e18) ⟨by decide, by decide, Nat.le_trans (show 1 ≤ 1 from by decide) hR.1, Nat.le_trans (show 6 ≤ 6 from by decide) hR.2⟩ (Nat.le_of_ble_eq_true rfl) dX1_cell_55 (by decide) (show 1 ≤ 1 from by decide) (show 6 ≤ 6 from by decide)
  refine cX1_164 (pc := 55) (st := []) (st1 := []) C rfl (rm := { frames := 6, cells := 0, slots := 0, locals := 90 }) (ct_X1_need C.2.1 (d_X1_isIn (w32 v4) 0 3) M10 _ _  e18) ⟨by decide, by decide, Nat.zero_le _, Nat.zero_le _⟩ rfl (Nat.le_of_ble_eq_true rfl) dX1_cell_55 (c2 := 0) (s2 := 0) rfl rfl (fun x19 => ?_)
  have k21 := x19 _ 11 (by decide) (Or.inl (by decide)) k14
  refine z_aload (pc := 58) C 3 rfl dX1_cell_58 ?_
  refine z_iload (pc := 60) C 2 rfl dX1_cell_60 ?_
  refine z_if_ne (pc := 62) C dX1_cell_62 (tgt := 73) (by decide) (fun c22 => ?_) (fun c22 => ?_)
  · have h := itf c22 h
    refine z_iload (pc := 73) C 2 rfl dX1_cell_73 ?_
    refine z_iconst (pc := 75) C dX1_cell_75 ?_
    refine z_ic_ne (pc := 76) C dX1_cell_76 (tgt := 87) (by decide) (fun c23 => ?_) (fun c23 => ?_)
    · have h := itf c23 h
      refine z_iload (pc := 87) C 2 rfl dX1_cell_87 ?_
      refine z_iconst (pc := 89) C dX1_cell_89 ?_
      refine z_ic_ne (pc := 90) C dX1_cell_90 (tgt := 101) (by decide) (fun c24 => ?_) (fun c24 => ?_)
      · have h := itf c24 h
        refine z_aload (pc := 101) C 3 rfl dX1_cell_101 ?_
        refine gX1_1105 (pc := 103) C rfl k21 dX1_cell_103 ?_
        refine z_ia (k := 11) (j := 5) 1105 rfl (by decide) (by decide) (by decide) rfl rfl rfl k21 (fun k30 => ?_)
        exact z_lv [0, 1, 2] rfl <| cB_X1_cell_106 C v2 v3 v4 v5 (v5 + 4) M17 _ _ k21 k30.1 h hR
      · have h := itt c24 h
        refine z_aload (pc := 93) C 3 rfl dX1_cell_93 ?_
        refine gX1_1104 (pc := 95) C rfl k21 dX1_cell_95 ?_
        refine z_goto (pc := 98) C dX1_cell_98 (tgt := 106) (by decide) ?_
        refine z_ia (k := 11) (j := 4) 1104 rfl (by decide) (by decide) (by decide) rfl rfl rfl k21 (fun k31 => ?_)
        exact z_lv [0, 1, 2] rfl <| cB_X1_cell_106 C v2 v3 v4 v5 (v5 + 3) M17 _ _ k21 k31.1 h hR
    · have h := itt c23 h
      refine z_aload (pc := 79) C 3 rfl dX1_cell_79 ?_
      refine gX1_1103 (pc := 81) C rfl k21 dX1_cell_81 ?_
      refine z_goto (pc := 84) C dX1_cell_84 (tgt := 106) (by decide) ?_
      refine z_ia (k := 11) (j := 3) 1103 rfl (by decide) (by decide) (by decide) rfl rfl rfl k21 (fun k32 => ?_)
      exact z_lv [0, 1, 2] rfl <| cB_X1_cell_106 C v2 v3 v4 v5 (v5 + 2) M17 _ _ k21 k32.1 h hR
  · have h := itt c22 h
    refine z_aload (pc := 65) C 3 rfl dX1_cell_65 ?_
    refine gX1_1102 (pc := 67) C rfl k21 dX1_cell_67 ?_
    refine z_goto (pc := 70) C dX1_cell_70 (tgt := 106) (by decide) ?_
    refine z_ia (k := 11) (j := 2) 1102 rfl (by decide) (by decide) (by decide) rfl rfl rfl k21 (fun k33 => ?_)
    exact z_lv [0, 1, 2] rfl <| cB_X1_cell_106 C v2 v3 v4 v5 (v5 + 1) M17 _ _ k21 k33.1 h hR
theorem cB_X1_cell_41 {X : x_Ctx} {M0 : Mem} (C : x_CC X 8 139 yX1_cell cX1_cell 6 (some .int) [])  (v2 : Int) (v3 : Int) (v4 : Int) (v5 : Nat) (M : Mem) (r : Int ⊕ Nat) (M' : Mem) (hv5 : m_kd M v5 = 11) (h : B_X1_cell_41  v2 v3 v4 v5 M = some (r, M')) (hR : ocN r 0 1 ≤ (XR X).cells ∧ ocN r 0 6 ≤ (XR X).slots) : x_Z X 0 0 (x_QF X M0 (ocI r) M' (ocN r 0 1) (ocN r 0 6)) M0 M 6 [(2, vI v2), (3, vI v3), (4, vI v4), (5, .ref v5)] 41 [] := by
  unfold B_X1_cell_41 at h
  refine z_iconst (pc := 41) C dX1_cell_41 ?_
  exact cB_X1_cell_42 C v2 v3 v4 v5 0 M _ _ hv5 h hR
theorem ct_X1_cell {l : Launch} {S0 : State} {D : va_G} {cA : Nat → ClassId} (hG : x_G l S0 D cA) (v0 : Nat) (v1 : Int) (v2 : Int) (v3 : Int) (v4 : Int) (M : Mem) (r : Int ⊕ Nat) (M' : Mem) (hv0 : m_kd M v0 = 1) (h : d_X1_cell v0 v1 v2 v3 v4 M = some (r, M')) : x_Me l S0 D cA yX1_cell cX1_cell 6 (some .int) [] ({ frames := 8, cells := (ocN r 0 1), slots := (ocN r 0 6), locals := 139 }) [.ref v0, vI v1, vI v2, vI v3, vI v4] M (ocI r) M' := by
  refine x_begin (F := 8) (Lo := 139) (mc := (ocN r 0 1)) (ms := (ocN r 0 6)) hG (Nat.le_of_ble_eq_true rfl) (lv := [(0, .ref v0), (1, vI v1), (2, vI v2), (3, vI v3), (4, vI v4)]) rfl rfl rfl rfl rfl (fun X e1 e2 e3 e4 e5 C => ?_)
  have hR : _ ∧ _ := ⟨Nat.le_of_eq (congrArg Room.cells e5).symm, Nat.le_of_eq (congrArg Room.slots e5).symm⟩
  unfold d_X1_cell at h
  refine z_aload_n (pc := 0) C 0 rfl dX1_cell_0 ?_
  refine z_iload_n (pc := 1) C 1 rfl dX1_cell_1 ?_
  rcases bTs h with ⟨x5, e3, er⟩ | ⟨r1, M2, e3, h⟩
  · subst er; exact tX1_509 (pc := 2) C rfl (rm := { frames := 7, cells := 1, slots := 6, locals := 114 }) (ct_X1_tableOf C.2.1 v0 v1 M _ _ hv0 e3) ⟨by decide, by decide, Nat.le_trans (show 1 ≤ 1 from by decide) hR.1, Nat.le_trans (show 6 ≤ 6 from by decide) hR.2⟩ (Or.inl hv0) (Nat.le_of_ble_eq_true rfl) dX1_cell_2 (by decide) (show 1 ≤ 1 from by decide) (show 6 ≤ 6 from by decide)
  refine cX1_509 (pc := 2) (st := []) (st1 := [.ref r1]) C rfl (rm := { frames := 7, cells := 0, slots := 0, locals := 114 }) (ct_X1_tableOf C.2.1 v0 v1 M _ _ hv0 e3) ⟨by decide, by decide, Nat.zero_le _, Nat.zero_le _⟩ (Or.inl hv0) rfl (Nat.le_of_ble_eq_true rfl) dX1_cell_2 (c2 := 0) (s2 := 0) rfl rfl (fun x4 => ?_)
  obtain ⟨c6, h⟩ := ifn h
  refine z_astore (pc := 5) C (lv' := [(0, .ref v0), (1, vI v1), (2, vI v2), (3, vI v3), (4, vI v4), (5, .ref r1)]) (by decide) rfl dX1_cell_5 ?_
  refine z_iload_n (pc := 7) C 2 rfl dX1_cell_7 ?_
  refine z_i2l (pc := 8) C dX1_cell_8 ?_
  refine z_lconst (pc := 9) C (x := 0) (by decide +kernel) dX1_cell_9 ?_
  refine z_aload (pc := 10) C 5 rfl dX1_cell_10 ?_
  refine gX1_1100 (pc := 12) C rfl (Or.inl c6) rfl dX1_cell_12 ?_
  refine z_i2l (pc := 15) C dX1_cell_15 ?_
  refine cX1_159 (pc := 16) (st := []) (st1 := [vI (d_X1_isIn (w32 v2) 0 (w32 (m_i M2 1100 r1 0)))]) C rfl (rm := { frames := 1, cells := 0, slots := 0, locals := 24 }) (ct_X1_isIn C.2.1 (w32 v2) 0 (w32 (m_i M2 1100 r1 0)) M2 _  rfl) ⟨by decide, by decide, Nat.zero_le _, Nat.zero_le _⟩ rfl (Nat.le_of_ble_eq_true rfl) dX1_cell_16 (c2 := 0) (s2 := 0) rfl rfl (fun _ => ?_)
  refine z_if_eq (pc := 19) C dX1_cell_19 (tgt := 41) (by decide) (fun c8 => ?_) (fun c8 => ?_)
  · have h := itt c8 h
    exact z_lv [2, 3, 4, 5] rfl <| cB_X1_cell_41 C v2 v3 v4 r1 M2 _ _ c6 h hR
  · have h := itf c8 h
    refine z_iload_n (pc := 22) C 3 rfl dX1_cell_22 ?_
    refine z_i2l (pc := 23) C dX1_cell_23 ?_
    refine z_lconst (pc := 24) C (x := 0) (by decide +kernel) dX1_cell_24 ?_
    refine z_aload (pc := 25) C 5 rfl dX1_cell_25 ?_
    refine gX1_1101 (pc := 27) C rfl (Or.inl c6) rfl dX1_cell_27 ?_
    refine z_i2l (pc := 30) C dX1_cell_30 ?_
    refine cX1_159 (pc := 31) (st := []) (st1 := [vI (d_X1_isIn (w32 v3) 0 (w32 (m_i M2 1101 r1 0)))]) C rfl (rm := { frames := 1, cells := 0, slots := 0, locals := 24 }) (ct_X1_isIn C.2.1 (w32 v3) 0 (w32 (m_i M2 1101 r1 0)) M2 _  rfl) ⟨by decide, by decide, Nat.zero_le _, Nat.zero_le _⟩ rfl (Nat.le_of_ble_eq_true rfl) dX1_cell_31 (c2 := 0) (s2 := 0) rfl rfl (fun _ => ?_)
    refine z_if_eq (pc := 34) C dX1_cell_34 (tgt := 41) (by decide) (fun c35 => ?_) (fun c35 => ?_)
    · have h := itt c35 h
      exact z_lv [2, 3, 4, 5] rfl <| cB_X1_cell_41 C v2 v3 v4 r1 M2 _ _ c6 h hR
    · have h := itf c35 h
      refine z_iconst (pc := 37) C dX1_cell_37 ?_
      refine z_goto (pc := 38) C dX1_cell_38 (tgt := 42) (by decide) ?_
      exact z_lv [2, 3, 4, 5] rfl <| cB_X1_cell_42 C v2 v3 v4 r1 1 M2 _ _ c6 h hR
def d_X0_cell (v0 : Nat) (v1 : Int) (v2 : Int) (v3 : Int) (v4 : Int) (v5 : Nat) (M : Mem) : Option (Int × Mem) :=
  bC (d_X1_cell v0 v1 v2 v3 v4 M) (fun r1 M3 =>
    some (0, (m_si M3 9000 v5 (ixn 0) (w32 r1)))) (fun q2 M3 =>
    if m_kd M3 q2 = 115 then
      some (1, M3)
    else
      if m_kd M3 q2 = 113 then
        some (2, M3)
      else
        none)
theorem ct_X0_cell {l : Launch} {S0 : State} {D : va_G} {cA : Nat → ClassId} (hG : x_G l S0 D cA) (v0 : Nat) (v1 : Int) (v2 : Int) (v3 : Int) (v4 : Int) (v5 : Nat) (M : Mem) (r : Int) (M' : Mem) (hv0 : m_kd M v0 = 1) (hv5 : m_kd M v5 = 19000) (h : d_X0_cell v0 v1 v2 v3 v4 v5 M = some (r, M')) : x_Me l S0 D cA yX0_cell cX0_cell 7 (some .int) [(0, 14, 17, 25), (0, 14, 21, 13)] ({ frames := 9, cells := 1, slots := 6, locals := 168 }) [.ref v0, vI v1, vI v2, vI v3, vI v4, .ref v5] M (.returned (some (vI r))) M' := by
  refine x_begin (F := 9) (Lo := 168) (mc := 1) (ms := 6) hG (Nat.le_of_ble_eq_true rfl) (lv := [(0, .ref v0), (1, vI v1), (2, vI v2), (3, vI v3), (4, vI v4), (5, .ref v5)]) rfl rfl rfl rfl rfl (fun X e1 e2 e3 e4 e5 C => ?_)
  have hR : _ ∧ _ := ⟨Nat.le_of_eq (congrArg Room.cells e5).symm, Nat.le_of_eq (congrArg Room.slots e5).symm⟩
  unfold d_X0_cell at h
  refine z_aload (pc := 0) C 5 rfl dX0_cell_0 ?_
  refine z_iconst (pc := 2) C dX0_cell_2 ?_
  refine z_aload_n (pc := 3) C 0 rfl dX0_cell_3 ?_
  refine z_iload_n (pc := 4) C 1 rfl dX0_cell_4 ?_
  refine z_iload_n (pc := 5) C 2 rfl dX0_cell_5 ?_
  refine z_iload_n (pc := 6) C 3 rfl dX0_cell_6 ?_
  refine z_iload (pc := 7) C 4 rfl dX0_cell_7 ?_
  rcases bCs h with ⟨r1, M3, e4, h⟩ | ⟨q2, M3, e4, h⟩
  · refine cX0_110 (pc := 9) (st := [vI 0, .ref v5]) (st1 := [vI r1, vI 0, .ref v5]) C rfl (rm := { frames := 8, cells := 0, slots := 0, locals := 139 }) (ct_X1_cell C.2.1 v0 v1 v2 v3 v4 M _ _ hv0 e4) ⟨by decide, by decide, Nat.zero_le _, Nat.zero_le _⟩ (Or.inl hv0) rfl (Nat.le_of_ble_eq_true rfl) dX0_cell_9 (c2 := 0) (s2 := 0) rfl rfl (fun x5 => ?_)
    have k6 := x5 _ 19000 (by decide) (Or.inr (by decide)) hv5
    refine z_i2l (pc := 12) C dX0_cell_12 ?_
    refine z_lsw (pc := 13) C k6 (by decide +kernel) dX0_cell_13 ?_
    refine z_goto (pc := 14) C dX0_cell_14 (tgt := 25) (by decide) ?_
    refine z_iconst (pc := 25) C dX0_cell_25 ?_
    cases h
    exact z_iret (pc := 26) C rfl (show 0 ≤ 1 from by decide) (show 0 ≤ 6 from by decide) dX0_cell_26
  · by_cases c7 : m_kd M3 q2 = 115
    · have h := itt c7 h
      refine kX0_110 (pc := 9) (st := [vI 0, .ref v5]) C rfl (rm := { frames := 8, cells := 1, slots := 6, locals := 139 }) (r := q2) (ct_X1_cell C.2.1 v0 v1 v2 v3 v4 M _ _ hv0 e4) ⟨by decide, by decide, Nat.le_trans (show 1 ≤ 1 from by decide) hR.1, Nat.le_trans (show 6 ≤ 6 from by decide) hR.2⟩ (Or.inl hv0) (Nat.le_of_ble_eq_true rfl) dX0_cell_9 (e := 15) (hpc := 17) (by decide) (Or.inr c7) (Or.inr ⟨by decide, by decide, 15, by decide, q560, Or.inl ⟨rfl, rfl⟩⟩) (c2 := 1) (s2 := 6) rfl rfl (fun x8 => ?_)
      refine z_astore (pc := 17) C (lv' := [(0, .ref v0), (1, vI v1), (2, vI v2), (3, vI v3), (4, vI v4), (5, .ref v5), (6, .ref q2)]) (by decide) rfl dX0_cell_17 ?_
      refine z_iconst (pc := 19) C dX0_cell_19 ?_
      cases h
      exact z_iret (pc := 20) C rfl (show 1 ≤ 1 from by decide) (show 6 ≤ 6 from by decide) dX0_cell_20
    · have h := itf c7 h
      by_cases c9 : m_kd M3 q2 = 113
      · have h := itt c9 h
        refine kX0_110 (pc := 9) (st := [vI 0, .ref v5]) C rfl (rm := { frames := 8, cells := 1, slots := 6, locals := 139 }) (r := q2) (ct_X1_cell C.2.1 v0 v1 v2 v3 v4 M _ _ hv0 e4) ⟨by decide, by decide, Nat.le_trans (show 1 ≤ 1 from by decide) hR.1, Nat.le_trans (show 6 ≤ 6 from by decide) hR.2⟩ (Or.inl hv0) (Nat.le_of_ble_eq_true rfl) dX0_cell_9 (e := 13) (hpc := 21) (by decide) (Or.inr c9) (Or.inr ⟨by decide, by decide, 15, by decide, q560, Or.inr ⟨by decide, Or.inr ⟨by decide, by decide, 13, by decide, q447, Or.inl ⟨rfl, rfl⟩⟩⟩⟩) (c2 := 1) (s2 := 6) rfl rfl (fun x10 => ?_)
        refine z_astore (pc := 21) C (lv' := [(0, .ref v0), (1, vI v1), (2, vI v2), (3, vI v3), (4, vI v4), (5, .ref v5), (6, .ref q2)]) (by decide) rfl dX0_cell_21 ?_
        refine z_iconst (pc := 23) C dX0_cell_23 ?_
        cases h
        exact z_iret (pc := 24) C rfl (show 1 ≤ 1 from by decide) (show 6 ≤ 6 from by decide) dX0_cell_24
      · have h := itf c9 h
        cases h
def B_X4_clear_2 (k2 : Nat → Int → Mem → Option (Int × Mem)) (v0 : Nat) (v1 : Int) (M : Mem) : Option (Int × Mem) :=
  if w32 144 ≤ w32 v1 then
    some (0, M)
  else
    if inb v1 144 then 
    k2 v0 (v1 + 1) (m_si M 400 v0 (ixn v1) 0) else none
def L_X4_clear_2  : Nat → Nat → Int → Mem → Option (Int × Mem)
  | 0, _, _, _ => none
  | n + 1, v0, v1, M => B_X4_clear_2 (L_X4_clear_2  n) v0 v1 M
def d_X4_clear (v0 : Nat) (M : Mem) : Option (Int × Mem) :=
  L_X4_clear_2 FU v0 0 M
theorem cB_X4_clear_2 {X : x_Ctx} {M0 : Mem} (C : x_CC X 1 24 yX4_clear cX4_clear 2 none []) {k2 : Nat → Int → Mem → Option (Int × Mem)} (hk2 : ∀ (v0 : Nat) (v1 : Int) (M : Mem) (r : Int) (M' : Mem), m_kd M v0 = 4 → k2 v0 v1 M = some (r, M') → x_Z X 0 0 (x_QF X M0 (.returned none) M' 0 0) M0 M 2 [(0, .ref v0), (1, vI v1)] 2 []) (v0 : Nat) (v1 : Int) (M : Mem) (r : Int) (M' : Mem) (hv0 : m_kd M v0 = 4) (h : B_X4_clear_2 k2 v0 v1 M = some (r, M'))  : x_Z X 0 0 (x_QF X M0 (.returned none) M' 0 0) M0 M 2 [(0, .ref v0), (1, vI v1)] 2 [] := by
  unfold B_X4_clear_2 at h
  refine z_iload_n (pc := 2) C 1 rfl dX4_clear_2 ?_
  refine z_aload_n (pc := 3) C 0 rfl dX4_clear_3 ?_
  refine gX4_400 (pc := 4) C rfl hv0 dX4_clear_4 ?_
  refine z_alO (pc := 7) (k := 4) (j := 0) C 400 rfl (by decide) (by decide) (by decide) rfl rfl (by decide) rfl hv0 dX4_clear_7 ?_
  refine z_ic_ge (pc := 8) C dX4_clear_8 (tgt := 24) (by decide) (fun c1 => ?_) (fun c1 => ?_)
  · have h := itt c1 h
    cases h
    exact z_vret (pc := 24) C rfl (show 0 ≤ 0 from by decide) (show 0 ≤ 0 from by decide) dX4_clear_24
  · have h := itf c1 h
    refine z_aload_n (pc := 11) C 0 rfl dX4_clear_11 ?_
    refine gX4_400 (pc := 12) C rfl hv0 dX4_clear_12 ?_
    refine z_iload_n (pc := 15) C 1 rfl dX4_clear_15 ?_
    refine z_iconst (pc := 16) C dX4_clear_16 ?_
    obtain ⟨c2, h⟩ := ifn h
    refine z_isO (pc := 17) (k := 4) (j := 0) C 400 rfl (by decide) (by decide) (by decide) rfl rfl rfl rfl hv0 c2 dX4_clear_17 ?_
    refine z_iinc (pc := 18) C (lv' := [(0, .ref v0), (1, vI (v1 + 1))]) 1 rfl (by decide) rfl dX4_clear_18 ?_
    refine z_goto (pc := 21) C dX4_clear_21 (tgt := 2) (by decide) ?_
    exact hk2 v0 (v1 + 1) (m_si M 400 v0 (ixn v1) 0) _ _ hv0 h
theorem cL_X4_clear_2 {X : x_Ctx} {M0 : Mem} (C : x_CC X 1 24 yX4_clear cX4_clear 2 none [])  : ∀ (n : Nat) (v0 : Nat) (v1 : Int) (M : Mem) (r : Int) (M' : Mem) (hv0 : m_kd M v0 = 4) (h : L_X4_clear_2  n v0 v1 M = some (r, M')) , x_Z X 0 0 (x_QF X M0 (.returned none) M' 0 0) M0 M 2 [(0, .ref v0), (1, vI v1)] 2 [] := by
  intro n
  induction n with
  | zero => intro v0 v1 M r M' hv0 h ; cases h
  | succ n ih => intro v0 v1 M r M' hv0 h ; exact cB_X4_clear_2 C (fun v0 v1 M r M' hv0 h  => ih v0 v1 M r M' hv0 h ) v0 v1 M r M' hv0 h 
theorem ct_X4_clear {l : Launch} {S0 : State} {D : va_G} {cA : Nat → ClassId} (hG : x_G l S0 D cA) (v0 : Nat) (M : Mem) (r : Int) (M' : Mem) (hv0 : m_kd M v0 = 4) (h : d_X4_clear v0 M = some (r, M')) : x_Me l S0 D cA yX4_clear cX4_clear 2 none [] ({ frames := 1, cells := 0, slots := 0, locals := 24 }) [.ref v0] M (.returned none) M' := by
  refine x_begin (F := 1) (Lo := 24) (mc := 0) (ms := 0) hG (Nat.le_of_ble_eq_true rfl) (lv := [(0, .ref v0)]) rfl rfl rfl rfl rfl (fun X e1 e2 e3 e4 e5 C => ?_)
  unfold d_X4_clear at h
  refine z_iconst (pc := 0) C dX4_clear_0 ?_
  refine z_istore_n (pc := 1) C (lv' := [(0, .ref v0), (1, vI 0)]) (by decide) rfl dX4_clear_1 ?_
  exact cL_X4_clear_2 C FU v0 0 M _ _ hv0 h
def d_X4_let (v0 : Nat) (v1 : Int) (v2 : Int) (v3 : Int) (M : Mem) : Option (Int × Mem) :=
  if inb ((12 * v1) + v2) 144 then 
  some (0, (m_si M 400 v0 (ixn ((12 * v1) + v2)) ((m_i M 400 v0 (ixn ((12 * v1) + v2))) + v3))) else none
theorem ct_X4_let {l : Launch} {S0 : State} {D : va_G} {cA : Nat → ClassId} (hG : x_G l S0 D cA) (v0 : Nat) (v1 : Int) (v2 : Int) (v3 : Int) (M : Mem) (r : Int) (M' : Mem) (hv0 : m_kd M v0 = 4) (h : d_X4_let v0 v1 v2 v3 M = some (r, M')) : x_Me l S0 D cA yX4_let cX4_let 4 none [] ({ frames := 1, cells := 0, slots := 0, locals := 24 }) [.ref v0, vI v1, vI v2, vI v3] M (.returned none) M' := by
  refine x_begin (F := 1) (Lo := 24) (mc := 0) (ms := 0) hG (Nat.le_of_ble_eq_true rfl) (lv := [(0, .ref v0), (1, vI v1), (2, vI v2), (3, vI v3)]) rfl rfl rfl rfl rfl (fun X e1 e2 e3 e4 e5 C => ?_)
  unfold d_X4_let at h
  refine z_aload_n (pc := 0) C 0 rfl dX4_let_0 ?_
  refine gX4_400 (pc := 1) C rfl hv0 dX4_let_1 ?_
  refine z_bipush (pc := 4) C (by decide +kernel) dX4_let_4 ?_
  refine z_iload_n (pc := 6) C 1 rfl dX4_let_6 ?_
  refine z_imul (pc := 7) C dX4_let_7 ?_
  refine z_iload_n (pc := 8) C 2 rfl dX4_let_8 ?_
  refine z_iadd (pc := 9) C dX4_let_9 ?_
  refine z_dup2 (pc := 10) C rfl rfl dX4_let_10 ?_
  obtain ⟨c1, h⟩ := ifn h
  refine z_iaO (pc := 11) (k := 4) (j := 0) C 400 rfl (by decide) (by decide) (by decide) rfl rfl rfl rfl hv0 c1 rfl dX4_let_11 ?_
  refine z_iload_n (pc := 12) C 3 rfl dX4_let_12 ?_
  refine z_iadd (pc := 13) C dX4_let_13 ?_
  refine z_isO (pc := 14) (k := 4) (j := 0) C 400 rfl (by decide) (by decide) (by decide) rfl rfl rfl rfl hv0 c1 dX4_let_14 ?_
  cases h
  exact z_vret (pc := 15) C rfl (show 0 ≤ 0 from by decide) (show 0 ≤ 0 from by decide) dX4_let_15
def B_X4_reach_137  (v0 : Nat) (v2 : Int) (M : Mem) : Option (Int × Mem) :=
  if inb v2 12 then 
  if w32 (m_i M 401 v0 (ixn v2)) = w32 (-1) then
    some (0, M)
  else
    some (1, M) else none
def B_X4_reach_68 (k40 : Nat → Int → Int → Int → Mem → Option (Int × Mem)) (k68 : Nat → Int → Int → Int → Int → Int → Mem → Option (Int × Mem)) (v0 : Nat) (v2 : Int) (v3 : Int) (v4 : Int) (v5 : Int) (v6 : Int) (M : Mem) : Option (Int × Mem) :=
  if w32 12 ≤ w32 v6 then
    k40 v0 v2 v3 (v4 + 1) M
  else
    if inb v6 12 then 
    if w32 (m_i M 401 v0 (ixn v6)) = w32 (-1) then
      if inb ((12 * v5) + v6) 144 then 
      if 0 < w32 (m_i M 400 v0 (ixn ((12 * v5) + v6))) then
        if inb v3 12 then 
        k68 v0 v2 (v3 + 1) v4 v5 (v6 + 1) (m_si (m_si M 401 v0 (ixn v6) v5) 402 v0 (ixn v3) v6) else none
      else
        k68 v0 v2 v3 v4 v5 (v6 + 1) M else none
    else
      k68 v0 v2 v3 v4 v5 (v6 + 1) M else none
def L_X4_reach_68 (k40 : Nat → Int → Int → Int → Mem → Option (Int × Mem)) : Nat → Nat → Int → Int → Int → Int → Int → Mem → Option (Int × Mem)
  | 0, _, _, _, _, _, _, _ => none
  | n + 1, v0, v2, v3, v4, v5, v6, M => B_X4_reach_68 k40 (L_X4_reach_68 k40 n) v0 v2 v3 v4 v5 v6 M
def B_X4_reach_40 (k40 : Nat → Int → Int → Int → Mem → Option (Int × Mem)) (v0 : Nat) (v2 : Int) (v3 : Int) (v4 : Int) (M : Mem) : Option (Int × Mem) :=
  if w32 v3 ≤ w32 v4 then
    B_X4_reach_137 v0 v2 M
  else
    if inb v2 12 then 
    if w32 (m_i M 401 v0 (ixn v2)) = w32 (-1) then
      if inb v4 12 then 
      L_X4_reach_68 k40 FU v0 v2 v3 v4 (m_i M 402 v0 (ixn v4)) 0 M else none
    else
      B_X4_reach_137 v0 v2 M else none
def L_X4_reach_40  : Nat → Nat → Int → Int → Int → Mem → Option (Int × Mem)
  | 0, _, _, _, _, _ => none
  | n + 1, v0, v2, v3, v4, M => B_X4_reach_40 (L_X4_reach_40  n) v0 v2 v3 v4 M
def B_X4_reach_2 (k2 : Nat → Int → Int → Int → Mem → Option (Int × Mem)) (v0 : Nat) (v1 : Int) (v2 : Int) (v3 : Int) (M : Mem) : Option (Int × Mem) :=
  if w32 12 ≤ w32 v3 then
    if inb v1 12 then 
    L_X4_reach_40 FU v0 v2 1 0 (m_si (m_si M 401 v0 (ixn v1) v1) 402 v0 (ixn 0) v1) else none
  else
    if inb v3 12 then 
    k2 v0 v1 v2 (v3 + 1) (m_si M 401 v0 (ixn v3) (-1)) else none
def L_X4_reach_2  : Nat → Nat → Int → Int → Int → Mem → Option (Int × Mem)
  | 0, _, _, _, _, _ => none
  | n + 1, v0, v1, v2, v3, M => B_X4_reach_2 (L_X4_reach_2  n) v0 v1 v2 v3 M
def d_X4_reach (v0 : Nat) (v1 : Int) (v2 : Int) (M : Mem) : Option (Int × Mem) :=
  L_X4_reach_2 FU v0 v1 v2 0 M
theorem cB_X4_reach_137 {X : x_Ctx} {M0 : Mem} (C : x_CC X 1 24 yX4_reach cX4_reach 7 (some .boolean) [])  (v0 : Nat) (v2 : Int) (M : Mem) (r : Int) (M' : Mem) (hv0 : m_kd M v0 = 4) (h : B_X4_reach_137  v0 v2 M = some (r, M'))  : x_Z X 0 0 (x_QF X M0 (.returned (some (vI r))) M' 0 0) M0 M 7 [(0, .ref v0), (2, vI v2)] 137 [] := by
  unfold B_X4_reach_137 at h
  refine z_aload_n (pc := 137) C 0 rfl dX4_reach_137 ?_
  refine gX4_401 (pc := 138) C rfl hv0 dX4_reach_138 ?_
  refine z_iload_n (pc := 141) C 1 rfl dX4_reach_141 ?_
  obtain ⟨c4, h⟩ := ifn h
  refine z_iaO (pc := 142) (k := 4) (j := 1) C 401 rfl (by decide) (by decide) (by decide) rfl rfl rfl rfl hv0 c4 rfl dX4_reach_142 ?_
  refine z_iconst (pc := 143) C dX4_reach_143 ?_
  refine z_ic_eq (pc := 144) C dX4_reach_144 (tgt := 151) (by decide) (fun c5 => ?_) (fun c5 => ?_)
  · have h := itt c5 h
    refine z_iconst (pc := 151) C dX4_reach_151 ?_
    cases h
    exact z_zret (pc := 152) C rfl (Or.inl rfl) (show 0 ≤ 0 from by decide) (show 0 ≤ 0 from by decide) dX4_reach_152
  · have h := itf c5 h
    refine z_iconst (pc := 147) C dX4_reach_147 ?_
    refine z_goto (pc := 148) C dX4_reach_148 (tgt := 152) (by decide) ?_
    cases h
    exact z_zret (pc := 152) C rfl (Or.inr rfl) (show 0 ≤ 0 from by decide) (show 0 ≤ 0 from by decide) dX4_reach_152
theorem cB_X4_reach_68 {X : x_Ctx} {M0 : Mem} (C : x_CC X 1 24 yX4_reach cX4_reach 7 (some .boolean) []) {k40 : Nat → Int → Int → Int → Mem → Option (Int × Mem)} (hk40 : ∀ (v0 : Nat) (v2 : Int) (v3 : Int) (v4 : Int) (M : Mem) (r : Int) (M' : Mem), m_kd M v0 = 4 → k40 v0 v2 v3 v4 M = some (r, M') → x_Z X 0 0 (x_QF X M0 (.returned (some (vI r))) M' 0 0) M0 M 7 [(0, .ref v0), (2, vI v2), (3, vI v3), (4, vI v4)] 40 []) {k68 : Nat → Int → Int → Int → Int → Int → Mem → Option (Int × Mem)} (hk68 : ∀ (v0 : Nat) (v2 : Int) (v3 : Int) (v4 : Int) (v5 : Int) (v6 : Int) (M : Mem) (r : Int) (M' : Mem), m_kd M v0 = 4 → k68 v0 v2 v3 v4 v5 v6 M = some (r, M') → x_Z X 0 0 (x_QF X M0 (.returned (some (vI r))) M' 0 0) M0 M 7 [(0, .ref v0), (2, vI v2), (3, vI v3), (4, vI v4), (5, vI v5), (6, vI v6)] 68 []) (v0 : Nat) (v2 : Int) (v3 : Int) (v4 : Int) (v5 : Int) (v6 : Int) (M : Mem) (r : Int) (M' : Mem) (hv0 : m_kd M v0 = 4) (h : B_X4_reach_68 k40 k68 v0 v2 v3 v4 v5 v6 M = some (r, M'))  : x_Z X 0 0 (x_QF X M0 (.returned (some (vI r))) M' 0 0) M0 M 7 [(0, .ref v0), (2, vI v2), (3, vI v3), (4, vI v4), (5, vI v5), (6, vI v6)] 68 [] := by
  unfold B_X4_reach_68 at h
  refine z_iload (pc := 68) C 5 rfl dX4_reach_68 ?_
  refine z_bipush (pc := 70) C (by decide +kernel) dX4_reach_70 ?_
  refine z_ic_ge (pc := 72) C dX4_reach_72 (tgt := 131) (by decide) (fun c9 => ?_) (fun c9 => ?_)
  · have h := itt c9 h
    refine z_iinc (pc := 131) C (lv' := [(0, .ref v0), (2, vI v2), (3, vI v3), (4, vI (v4 + 1)), (5, vI v5), (6, vI v6)]) 3 rfl (by decide) rfl dX4_reach_131 ?_
    refine z_goto (pc := 134) C dX4_reach_134 (tgt := 40) (by decide) ?_
    exact z_lv [0, 1, 2, 3] rfl <| hk40 v0 v2 v3 (v4 + 1) M _ _ hv0 h
  · have h := itf c9 h
    refine z_aload_n (pc := 75) C 0 rfl dX4_reach_75 ?_
    refine gX4_401 (pc := 76) C rfl hv0 dX4_reach_76 ?_
    refine z_iload (pc := 79) C 5 rfl dX4_reach_79 ?_
    obtain ⟨c10, h⟩ := ifn h
    refine z_iaO (pc := 81) (k := 4) (j := 1) C 401 rfl (by decide) (by decide) (by decide) rfl rfl rfl rfl hv0 c10 rfl dX4_reach_81 ?_
    refine z_iconst (pc := 82) C dX4_reach_82 ?_
    refine z_ic_ne (pc := 83) C dX4_reach_83 (tgt := 125) (by decide) (fun c11 => ?_) (fun c11 => ?_)
    · have h := itf c11 h
      refine z_iinc (pc := 125) C (lv' := [(0, .ref v0), (2, vI v2), (3, vI v3), (4, vI v4), (5, vI v5), (6, vI (v6 + 1))]) 5 rfl (by decide) rfl dX4_reach_125 ?_
      refine z_goto (pc := 128) C dX4_reach_128 (tgt := 68) (by decide) ?_
      exact hk68 v0 v2 v3 v4 v5 (v6 + 1) M _ _ hv0 h
    · have h := itt c11 h
      refine z_aload_n (pc := 86) C 0 rfl dX4_reach_86 ?_
      refine gX4_400 (pc := 87) C rfl hv0 dX4_reach_87 ?_
      refine z_bipush (pc := 90) C (by decide +kernel) dX4_reach_90 ?_
      refine z_iload (pc := 92) C 4 rfl dX4_reach_92 ?_
      refine z_imul (pc := 94) C dX4_reach_94 ?_
      refine z_iload (pc := 95) C 5 rfl dX4_reach_95 ?_
      refine z_iadd (pc := 97) C dX4_reach_97 ?_
      obtain ⟨c12, h⟩ := ifn h
      refine z_iaO (pc := 98) (k := 4) (j := 0) C 400 rfl (by decide) (by decide) (by decide) rfl rfl rfl rfl hv0 c12 rfl dX4_reach_98 ?_
      refine z_if_gt (pc := 99) C dX4_reach_99 (tgt := 105) (by decide) (fun c13 => ?_) (fun c13 => ?_)
      · have h := itt c13 h
        refine z_aload_n (pc := 105) C 0 rfl dX4_reach_105 ?_
        refine gX4_401 (pc := 106) C rfl hv0 dX4_reach_106 ?_
        refine z_iload (pc := 109) C 5 rfl dX4_reach_109 ?_
        refine z_iload (pc := 111) C 4 rfl dX4_reach_111 ?_
        refine z_isO (pc := 113) (k := 4) (j := 1) C 401 rfl (by decide) (by decide) (by decide) rfl rfl rfl rfl hv0 c10 dX4_reach_113 ?_
        refine z_aload_n (pc := 114) C 0 rfl dX4_reach_114 ?_
        refine gX4_402 (pc := 115) C rfl hv0 dX4_reach_115 ?_
        refine z_iload_n (pc := 118) C 2 rfl dX4_reach_118 ?_
        refine z_iinc (pc := 119) C (lv' := [(0, .ref v0), (2, vI v2), (3, vI (v3 + 1)), (4, vI v4), (5, vI v5), (6, vI v6)]) 2 rfl (by decide) rfl dX4_reach_119 ?_
        refine z_iload (pc := 122) C 5 rfl dX4_reach_122 ?_
        obtain ⟨c14, h⟩ := ifn h
        refine z_isO (pc := 124) (k := 4) (j := 2) C 402 rfl (by decide) (by decide) (by decide) rfl rfl rfl rfl hv0 c14 dX4_reach_124 ?_
        refine z_iinc (pc := 125) C (lv' := [(0, .ref v0), (2, vI v2), (3, vI (v3 + 1)), (4, vI v4), (5, vI v5), (6, vI (v6 + 1))]) 5 rfl (by decide) rfl dX4_reach_125 ?_
        refine z_goto (pc := 128) C dX4_reach_128 (tgt := 68) (by decide) ?_
        exact hk68 v0 v2 (v3 + 1) v4 v5 (v6 + 1) (m_si (m_si M 401 v0 (ixn v6) v5) 402 v0 (ixn v3) v6) _ _ hv0 h
      · have h := itf c13 h
        refine z_goto (pc := 102) C dX4_reach_102 (tgt := 125) (by decide) ?_
        refine z_iinc (pc := 125) C (lv' := [(0, .ref v0), (2, vI v2), (3, vI v3), (4, vI v4), (5, vI v5), (6, vI (v6 + 1))]) 5 rfl (by decide) rfl dX4_reach_125 ?_
        refine z_goto (pc := 128) C dX4_reach_128 (tgt := 68) (by decide) ?_
        exact hk68 v0 v2 v3 v4 v5 (v6 + 1) M _ _ hv0 h
theorem cL_X4_reach_68 {X : x_Ctx} {M0 : Mem} (C : x_CC X 1 24 yX4_reach cX4_reach 7 (some .boolean) []) {k40 : Nat → Int → Int → Int → Mem → Option (Int × Mem)} (hk40 : ∀ (v0 : Nat) (v2 : Int) (v3 : Int) (v4 : Int) (M : Mem) (r : Int) (M' : Mem), m_kd M v0 = 4 → k40 v0 v2 v3 v4 M = some (r, M') → x_Z X 0 0 (x_QF X M0 (.returned (some (vI r))) M' 0 0) M0 M 7 [(0, .ref v0), (2, vI v2), (3, vI v3), (4, vI v4)] 40 []) : ∀ (n : Nat) (v0 : Nat) (v2 : Int) (v3 : Int) (v4 : Int) (v5 : Int) (v6 : Int) (M : Mem) (r : Int) (M' : Mem) (hv0 : m_kd M v0 = 4) (h : L_X4_reach_68 k40 n v0 v2 v3 v4 v5 v6 M = some (r, M')) , x_Z X 0 0 (x_QF X M0 (.returned (some (vI r))) M' 0 0) M0 M 7 [(0, .ref v0), (2, vI v2), (3, vI v3), (4, vI v4), (5, vI v5), (6, vI v6)] 68 [] := by
  intro n
  induction n with
  | zero => intro v0 v2 v3 v4 v5 v6 M r M' hv0 h ; cases h
  | succ n ih => intro v0 v2 v3 v4 v5 v6 M r M' hv0 h ; exact cB_X4_reach_68 C hk40 (fun v0 v2 v3 v4 v5 v6 M r M' hv0 h  => ih v0 v2 v3 v4 v5 v6 M r M' hv0 h ) v0 v2 v3 v4 v5 v6 M r M' hv0 h 
theorem cB_X4_reach_40 {X : x_Ctx} {M0 : Mem} (C : x_CC X 1 24 yX4_reach cX4_reach 7 (some .boolean) []) {k40 : Nat → Int → Int → Int → Mem → Option (Int × Mem)} (hk40 : ∀ (v0 : Nat) (v2 : Int) (v3 : Int) (v4 : Int) (M : Mem) (r : Int) (M' : Mem), m_kd M v0 = 4 → k40 v0 v2 v3 v4 M = some (r, M') → x_Z X 0 0 (x_QF X M0 (.returned (some (vI r))) M' 0 0) M0 M 7 [(0, .ref v0), (2, vI v2), (3, vI v3), (4, vI v4)] 40 []) (v0 : Nat) (v2 : Int) (v3 : Int) (v4 : Int) (M : Mem) (r : Int) (M' : Mem) (hv0 : m_kd M v0 = 4) (h : B_X4_reach_40 k40 v0 v2 v3 v4 M = some (r, M'))  : x_Z X 0 0 (x_QF X M0 (.returned (some (vI r))) M' 0 0) M0 M 7 [(0, .ref v0), (2, vI v2), (3, vI v3), (4, vI v4)] 40 [] := by
  unfold B_X4_reach_40 at h
  refine z_iload (pc := 40) C 3 rfl dX4_reach_40 ?_
  refine z_iload_n (pc := 42) C 2 rfl dX4_reach_42 ?_
  refine z_ic_ge (pc := 43) C dX4_reach_43 (tgt := 137) (by decide) (fun c3 => ?_) (fun c3 => ?_)
  · have h := itt c3 h
    exact z_lv [0, 1] rfl <| cB_X4_reach_137 C v0 v2 M _ _ hv0 h
  · have h := itf c3 h
    refine z_aload_n (pc := 46) C 0 rfl dX4_reach_46 ?_
    refine gX4_401 (pc := 47) C rfl hv0 dX4_reach_47 ?_
    refine z_iload_n (pc := 50) C 1 rfl dX4_reach_50 ?_
    obtain ⟨c6, h⟩ := ifn h
    refine z_iaO (pc := 51) (k := 4) (j := 1) C 401 rfl (by decide) (by decide) (by decide) rfl rfl rfl rfl hv0 c6 rfl dX4_reach_51 ?_
    refine z_iconst (pc := 52) C dX4_reach_52 ?_
    refine z_ic_ne (pc := 53) C dX4_reach_53 (tgt := 137) (by decide) (fun c7 => ?_) (fun c7 => ?_)
    · have h := itf c7 h
      exact z_lv [0, 1] rfl <| cB_X4_reach_137 C v0 v2 M _ _ hv0 h
    · have h := itt c7 h
      refine z_aload_n (pc := 56) C 0 rfl dX4_reach_56 ?_
      refine gX4_402 (pc := 57) C rfl hv0 dX4_reach_57 ?_
      refine z_iload (pc := 60) C 3 rfl dX4_reach_60 ?_
      obtain ⟨c8, h⟩ := ifn h
      refine z_iaO (pc := 62) (k := 4) (j := 2) C 402 rfl (by decide) (by decide) (by decide) rfl rfl rfl rfl hv0 c8 rfl dX4_reach_62 ?_
      refine z_istore (pc := 63) C (lv' := [(0, .ref v0), (2, vI v2), (3, vI v3), (4, vI v4), (5, vI (m_i M 402 v0 (ixn v4)))]) (by decide) rfl dX4_reach_63 ?_
      refine z_iconst (pc := 65) C dX4_reach_65 ?_
      refine z_istore (pc := 66) C (lv' := [(0, .ref v0), (2, vI v2), (3, vI v3), (4, vI v4), (5, vI (m_i M 402 v0 (ixn v4))), (6, vI 0)]) (by decide) rfl dX4_reach_66 ?_
      exact cL_X4_reach_68 C hk40 FU v0 v2 v3 v4 (m_i M 402 v0 (ixn v4)) 0 M _ _ hv0 h
theorem cL_X4_reach_40 {X : x_Ctx} {M0 : Mem} (C : x_CC X 1 24 yX4_reach cX4_reach 7 (some .boolean) [])  : ∀ (n : Nat) (v0 : Nat) (v2 : Int) (v3 : Int) (v4 : Int) (M : Mem) (r : Int) (M' : Mem) (hv0 : m_kd M v0 = 4) (h : L_X4_reach_40  n v0 v2 v3 v4 M = some (r, M')) , x_Z X 0 0 (x_QF X M0 (.returned (some (vI r))) M' 0 0) M0 M 7 [(0, .ref v0), (2, vI v2), (3, vI v3), (4, vI v4)] 40 [] := by
  intro n
  induction n with
  | zero => intro v0 v2 v3 v4 M r M' hv0 h ; cases h
  | succ n ih => intro v0 v2 v3 v4 M r M' hv0 h ; exact cB_X4_reach_40 C (fun v0 v2 v3 v4 M r M' hv0 h  => ih v0 v2 v3 v4 M r M' hv0 h ) v0 v2 v3 v4 M r M' hv0 h 
theorem cB_X4_reach_2 {X : x_Ctx} {M0 : Mem} (C : x_CC X 1 24 yX4_reach cX4_reach 7 (some .boolean) []) {k2 : Nat → Int → Int → Int → Mem → Option (Int × Mem)} (hk2 : ∀ (v0 : Nat) (v1 : Int) (v2 : Int) (v3 : Int) (M : Mem) (r : Int) (M' : Mem), m_kd M v0 = 4 → k2 v0 v1 v2 v3 M = some (r, M') → x_Z X 0 0 (x_QF X M0 (.returned (some (vI r))) M' 0 0) M0 M 7 [(0, .ref v0), (1, vI v1), (2, vI v2), (3, vI v3)] 2 []) (v0 : Nat) (v1 : Int) (v2 : Int) (v3 : Int) (M : Mem) (r : Int) (M' : Mem) (hv0 : m_kd M v0 = 4) (h : B_X4_reach_2 k2 v0 v1 v2 v3 M = some (r, M'))  : x_Z X 0 0 (x_QF X M0 (.returned (some (vI r))) M' 0 0) M0 M 7 [(0, .ref v0), (1, vI v1), (2, vI v2), (3, vI v3)] 2 [] := by
  unfold B_X4_reach_2 at h
  refine z_iload_n (pc := 2) C 3 rfl dX4_reach_2 ?_
  refine z_bipush (pc := 3) C (by decide +kernel) dX4_reach_3 ?_
  refine z_ic_ge (pc := 5) C dX4_reach_5 (tgt := 21) (by decide) (fun c1 => ?_) (fun c1 => ?_)
  · have h := itt c1 h
    refine z_aload_n (pc := 21) C 0 rfl dX4_reach_21 ?_
    refine gX4_401 (pc := 22) C rfl hv0 dX4_reach_22 ?_
    refine z_iload_n (pc := 25) C 1 rfl dX4_reach_25 ?_
    refine z_iload_n (pc := 26) C 1 rfl dX4_reach_26 ?_
    obtain ⟨c2, h⟩ := ifn h
    refine z_isO (pc := 27) (k := 4) (j := 1) C 401 rfl (by decide) (by decide) (by decide) rfl rfl rfl rfl hv0 c2 dX4_reach_27 ?_
    refine z_aload_n (pc := 28) C 0 rfl dX4_reach_28 ?_
    refine gX4_402 (pc := 29) C rfl hv0 dX4_reach_29 ?_
    refine z_iconst (pc := 32) C dX4_reach_32 ?_
    refine z_iload_n (pc := 33) C 1 rfl dX4_reach_33 ?_
    refine z_isO (pc := 34) (k := 4) (j := 2) C 402 rfl (by decide) (by decide) (by decide) rfl rfl rfl rfl hv0 (by decide +kernel) dX4_reach_34 ?_
    refine z_iconst (pc := 35) C dX4_reach_35 ?_
    refine z_istore_n (pc := 36) C (lv' := [(0, .ref v0), (1, vI v1), (2, vI v2), (3, vI 1)]) (by decide) rfl dX4_reach_36 ?_
    refine z_iconst (pc := 37) C dX4_reach_37 ?_
    refine z_istore (pc := 38) C (lv' := [(0, .ref v0), (1, vI v1), (2, vI v2), (3, vI 1), (4, vI 0)]) (by decide) rfl dX4_reach_38 ?_
    exact z_lv [0, 2, 3, 4] rfl <| cL_X4_reach_40 C FU v0 v2 1 0 (m_si (m_si M 401 v0 (ixn v1) v1) 402 v0 (ixn 0) v1) _ _ hv0 h
  · have h := itf c1 h
    refine z_aload_n (pc := 8) C 0 rfl dX4_reach_8 ?_
    refine gX4_401 (pc := 9) C rfl hv0 dX4_reach_9 ?_
    refine z_iload_n (pc := 12) C 3 rfl dX4_reach_12 ?_
    refine z_iconst (pc := 13) C dX4_reach_13 ?_
    obtain ⟨c15, h⟩ := ifn h
    refine z_isO (pc := 14) (k := 4) (j := 1) C 401 rfl (by decide) (by decide) (by decide) rfl rfl rfl rfl hv0 c15 dX4_reach_14 ?_
    refine z_iinc (pc := 15) C (lv' := [(0, .ref v0), (1, vI v1), (2, vI v2), (3, vI (v3 + 1))]) 3 rfl (by decide) rfl dX4_reach_15 ?_
    refine z_goto (pc := 18) C dX4_reach_18 (tgt := 2) (by decide) ?_
    exact hk2 v0 v1 v2 (v3 + 1) (m_si M 401 v0 (ixn v3) (-1)) _ _ hv0 h
theorem cL_X4_reach_2 {X : x_Ctx} {M0 : Mem} (C : x_CC X 1 24 yX4_reach cX4_reach 7 (some .boolean) [])  : ∀ (n : Nat) (v0 : Nat) (v1 : Int) (v2 : Int) (v3 : Int) (M : Mem) (r : Int) (M' : Mem) (hv0 : m_kd M v0 = 4) (h : L_X4_reach_2  n v0 v1 v2 v3 M = some (r, M')) , x_Z X 0 0 (x_QF X M0 (.returned (some (vI r))) M' 0 0) M0 M 7 [(0, .ref v0), (1, vI v1), (2, vI v2), (3, vI v3)] 2 [] := by
  intro n
  induction n with
  | zero => intro v0 v1 v2 v3 M r M' hv0 h ; cases h
  | succ n ih => intro v0 v1 v2 v3 M r M' hv0 h ; exact cB_X4_reach_2 C (fun v0 v1 v2 v3 M r M' hv0 h  => ih v0 v1 v2 v3 M r M' hv0 h ) v0 v1 v2 v3 M r M' hv0 h 
theorem ct_X4_reach {l : Launch} {S0 : State} {D : va_G} {cA : Nat → ClassId} (hG : x_G l S0 D cA) (v0 : Nat) (v1 : Int) (v2 : Int) (M : Mem) (r : Int) (M' : Mem) (hv0 : m_kd M v0 = 4) (h : d_X4_reach v0 v1 v2 M = some (r, M')) : x_Me l S0 D cA yX4_reach cX4_reach 7 (some .boolean) [] ({ frames := 1, cells := 0, slots := 0, locals := 24 }) [.ref v0, vI v1, vI v2] M (.returned (some (vI r))) M' := by
  refine x_begin (F := 1) (Lo := 24) (mc := 0) (ms := 0) hG (Nat.le_of_ble_eq_true rfl) (lv := [(0, .ref v0), (1, vI v1), (2, vI v2)]) rfl rfl rfl rfl rfl (fun X e1 e2 e3 e4 e5 C => ?_)
  unfold d_X4_reach at h
  refine z_iconst (pc := 0) C dX4_reach_0 ?_
  refine z_istore_n (pc := 1) C (lv' := [(0, .ref v0), (1, vI v1), (2, vI v2), (3, vI 0)]) (by decide) rfl dX4_reach_1 ?_
  exact cL_X4_reach_2 C FU v0 v1 v2 0 M _ _ hv0 h
