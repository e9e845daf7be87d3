set_option maxRecDepth 100000
def d_X0_given (v0 : Nat) (v1 : Int) (v2 : Int) (v3 : Int) (v4 : Nat) (M : Mem) : Option (Int × Mem) :=
  bC (d_X1_given v0 v1 v2 v3 M) (fun r1 M3 =>
    some (0, (m_si M3 9000 v4 (ixn 0) (w32 r1)))) (fun q2 M3 =>
    if m_kd M3 q2 = 115 then
      some (1, M3)
    else
      none)
theorem ct_X0_given {l : Launch} {S0 : State} {D : va_G} {cA : Nat → ClassId} (hG : x_G l S0 D cA) (v0 : Nat) (v1 : Int) (v2 : Int) (v3 : Int) (v4 : Nat) (M : Mem) (r : Int) (M' : Mem) (hv0 : m_kd M v0 = 1) (hv4 : m_kd M v4 = 19000) (h : d_X0_given v0 v1 v2 v3 v4 M = some (r, M')) : x_Me l S0 D cA yX0_given cX0_given 6 (some .int) [(0, 12, 15, 25)] ({ frames := 9, cells := 1, slots := 6, locals := 167 }) [.ref v0, vI v1, vI v2, vI v3, .ref v4] M (.returned (some (vI r))) M' := by
  refine x_begin (F := 9) (Lo := 167) (mc := 1) (ms := 6) hG (Nat.le_of_ble_eq_true rfl) (lv := [(0, .ref v0), (1, vI v1), (2, vI v2), (3, vI v3), (4, .ref v4)]) rfl rfl rfl rfl rfl (fun X e1 e2 e3 e4 e5 C => ?_)
  have hR : _ ∧ _ := ⟨Nat.le_of_eq (congrArg Room.cells e5).symm, Nat.le_of_eq (congrArg Room.slots e5).symm⟩
  unfold d_X0_given at h
  refine z_aload (pc := 0) C 4 rfl dX0_given_0 ?_
  refine z_iconst (pc := 2) C dX0_given_2 ?_
  refine z_aload_n (pc := 3) C 0 rfl dX0_given_3 ?_
  refine z_iload_n (pc := 4) C 1 rfl dX0_given_4 ?_
  refine z_iload_n (pc := 5) C 2 rfl dX0_given_5 ?_
  refine z_iload_n (pc := 6) C 3 rfl dX0_given_6 ?_
  rcases bCs h with ⟨r1, M3, e4, h⟩ | ⟨q2, M3, e4, h⟩
  · refine cX0_65 (pc := 7) (st := [vI 0, .ref v4]) (st1 := [vI r1, vI 0, .ref v4]) C rfl (rm := { frames := 8, cells := 0, slots := 0, locals := 139 }) (ct_X1_given C.2.1 v0 v1 v2 v3 M _ _ hv0 e4) ⟨by decide, by decide, Nat.zero_le _, Nat.zero_le _⟩ (Or.inl hv0) rfl (Nat.le_of_ble_eq_true rfl) dX0_given_7 (c2 := 0) (s2 := 0) rfl rfl (fun x5 => ?_)
    have k6 := x5 _ 19000 (by decide) (Or.inr (by decide)) hv4
    refine z_i2l (pc := 10) C dX0_given_10 ?_
    refine z_lsw (pc := 11) C k6 (by decide +kernel) dX0_given_11 ?_
    refine z_goto (pc := 12) C dX0_given_12 (tgt := 19) (by decide) ?_
    refine z_iconst (pc := 19) C dX0_given_19 ?_
    cases h
    exact z_iret (pc := 20) C rfl (show 0 ≤ 1 from by decide) (show 0 ≤ 6 from by decide) dX0_given_20
  · by_cases c7 : m_kd M3 q2 = 115
    · have h := itt c7 h
      refine kX0_65 (pc := 7) (st := [vI 0, .ref v4]) C rfl (rm := { frames := 8, cells := 1, slots := 6, locals := 139 }) (r := q2) (ct_X1_given C.2.1 v0 v1 v2 v3 M _ _ hv0 e4) ⟨by decide, by decide, Nat.le_trans (show 1 ≤ 1 from by decide) hR.1, Nat.le_trans (show 6 ≤ 6 from by decide) hR.2⟩ (Or.inl hv0) (Nat.le_of_ble_eq_true rfl) dX0_given_7 (e := 15) (hpc := 15) (by decide) (Or.inr c7) (Or.inr ⟨by decide, by decide, 15, by decide, q560, Or.inl ⟨rfl, rfl⟩⟩) (c2 := 1) (s2 := 6) rfl rfl (fun x8 => ?_)
      refine z_astore (pc := 15) C (lv' := [(0, .ref v0), (1, vI v1), (2, vI v2), (3, vI v3), (4, .ref v4), (5, .ref q2)]) (by decide) rfl dX0_given_15 ?_
      refine z_iconst (pc := 17) C dX0_given_17 ?_
      cases h
      exact z_iret (pc := 18) C rfl (show 1 ≤ 1 from by decide) (show 6 ≤ 6 from by decide) dX0_given_18
    · have h := itf c7 h
      cases h
def B_X9_init_35 (k35 : Nat → Nat → Int → Mem → Option (Int × Mem)) (v0 : Nat) (v1 : Nat) (v2 : Int) (M : Mem) : Option (Int × Mem) :=
  if w32 20 ≤ w32 v2 then
    some (0, M)
  else
    if inb v2 20 then 
    k35 v0 v1 (v2 + 1) (m_si M 902 v0 (ixn v2) (m_i M 807 v1 (ixn v2))) else none
def L_X9_init_35  : Nat → Nat → Nat → Int → Mem → Option (Int × Mem)
  | 0, _, _, _, _ => none
  | n + 1, v0, v1, v2, M => B_X9_init_35 (L_X9_init_35  n) v0 v1 v2 M
def d_X9_init (v0 : Nat) (v1 : Nat) (M : Mem) : Option (Int × Mem) :=
  if m_sz M + 0 = v0 + 1 then 
  if x_whole (m_nw (m_nw M 10902) 10903) v0 9 = true then 
  bR (m_r M 800 v1 0) fun q15 => 
  L_X9_init_35 FU v0 v1 0 (m_sr (m_sr (m_se (m_nw (m_nw M 10902) 10903) v0 9) 900 v0 0 (some v1)) 901 v0 0 (some q15)) else none else none
theorem cB_X9_init_35 {X : x_Ctx} {M0 : Mem} (C : x_CC X 1 24 yX9_init cX9_init 3 none []) {k35 : Nat → Nat → Int → Mem → Option (Int × Mem)} (hk35 : ∀ (v0 : Nat) (v1 : Nat) (v2 : Int) (M : Mem) (r : Int) (M' : Mem), m_kd M v0 = 9 → m_kd M v1 = 8 → k35 v0 v1 v2 M = some (r, M') → 2 ≤ (XR X).cells ∧ 40 ≤ (XR X).slots → x_Z X 2 40 (x_QF X M0 (.returned none) M' 2 40) M0 M 3 [(0, .ref v0), (1, .ref v1), (2, vI v2)] 35 []) (v0 : Nat) (v1 : Nat) (v2 : Int) (M : Mem) (r : Int) (M' : Mem) (hv0 : m_kd M v0 = 9) (hv1 : m_kd M v1 = 8) (h : B_X9_init_35 k35 v0 v1 v2 M = some (r, M')) (hR : 2 ≤ (XR X).cells ∧ 40 ≤ (XR X).slots) : x_Z X 2 40 (x_QF X M0 (.returned none) M' 2 40) M0 M 3 [(0, .ref v0), (1, .ref v1), (2, vI v2)] 35 [] := by
  unfold B_X9_init_35 at h
  refine z_iload_n (pc := 35) C 2 rfl dX9_init_35 ?_
  refine z_bipush (pc := 36) C (by decide +kernel) dX9_init_36 ?_
  refine z_ic_ge (pc := 38) C dX9_init_38 (tgt := 59) (by decide) (fun c18 => ?_) (fun c18 => ?_)
  · have h := itt c18 h
    cases h
    exact z_vret (pc := 59) C rfl (show 2 ≤ 2 from by decide) (show 40 ≤ 40 from by decide) dX9_init_59
  · have h := itf c18 h
    refine z_aload_n (pc := 41) C 0 rfl dX9_init_41 ?_
    refine gX9_902 (pc := 42) C rfl hv0 dX9_init_42 ?_
    refine z_iload_n (pc := 45) C 2 rfl dX9_init_45 ?_
    refine z_aload_n (pc := 46) C 1 rfl dX9_init_46 ?_
    refine gX9_807 (pc := 47) C rfl hv1 dX9_init_47 ?_
    refine z_iload_n (pc := 50) C 2 rfl dX9_init_50 ?_
    obtain ⟨c19, h⟩ := ifn h
    refine z_iaO (pc := 51) (k := 8) (j := 7) C 807 rfl (by decide) (by decide) (by decide) rfl rfl rfl rfl hv1 c19 rfl dX9_init_51 ?_
    refine z_isO (pc := 52) (k := 9) (j := 2) C 902 rfl (by decide) (by decide) (by decide) rfl rfl rfl rfl hv0 c19 dX9_init_52 ?_
    refine z_iinc (pc := 53) C (lv' := [(0, .ref v0), (1, .ref v1), (2, vI (v2 + 1))]) 2 rfl (by decide) rfl dX9_init_53 ?_
    refine z_goto (pc := 56) C dX9_init_56 (tgt := 35) (by decide) ?_
    exact hk35 v0 v1 (v2 + 1) (m_si M 902 v0 (ixn v2) (m_i M 807 v1 (ixn v2))) _ _ hv0 hv1 h hR
theorem cL_X9_init_35 {X : x_Ctx} {M0 : Mem} (C : x_CC X 1 24 yX9_init cX9_init 3 none [])  : ∀ (n : Nat) (v0 : Nat) (v1 : Nat) (v2 : Int) (M : Mem) (r : Int) (M' : Mem) (hv0 : m_kd M v0 = 9) (hv1 : m_kd M v1 = 8) (h : L_X9_init_35  n v0 v1 v2 M = some (r, M')) (hR : 2 ≤ (XR X).cells ∧ 40 ≤ (XR X).slots), x_Z X 2 40 (x_QF X M0 (.returned none) M' 2 40) M0 M 3 [(0, .ref v0), (1, .ref v1), (2, vI v2)] 35 [] := by
  intro n
  induction n with
  | zero => intro v0 v1 v2 M r M' hv0 hv1 h hR; cases h
  | succ n ih => intro v0 v1 v2 M r M' hv0 hv1 h hR; exact cB_X9_init_35 C (fun v0 v1 v2 M r M' hv0 hv1 h hR => ih v0 v1 v2 M r M' hv0 hv1 h hR) v0 v1 v2 M r M' hv0 hv1 h hR
theorem ct_X9_init {l : Launch} {S0 : State} {D : va_G} {cA : Nat → ClassId} (hG : x_G l S0 D cA) (v0 : Nat) (v1 : Nat) (M : Mem) (r : Int) (M' : Mem) (hv0 : m_kd M v0 = 109) (hv1 : m_kd M v1 = 8) (h : d_X9_init v0 v1 M = some (r, M')) : x_Me l S0 D cA yX9_init cX9_init 3 none [] ({ frames := 1, cells := 2, slots := 40, locals := 24 }) [.ref v0, .ref v1] M (.returned none) M' := by
  refine x_begin (F := 1) (Lo := 24) (mc := 2) (ms := 40) hG (Nat.le_of_ble_eq_true rfl) (lv := [(0, .ref v0), (1, .ref v1)]) rfl rfl rfl rfl rfl (fun X e1 e2 e3 e4 e5 C => ?_)
  have hR : _ ∧ _ := ⟨Nat.le_of_eq (congrArg Room.cells e5).symm, Nat.le_of_eq (congrArg Room.slots e5).symm⟩
  unfold d_X9_init at h
  refine z_aload_n (pc := 0) C 0 rfl dX9_init_0 ?_
  refine z_obj (pc := 1) C q1065 q139 q140 (by decide) (by decide) (by decide) dX9_init_1 ?_
  refine z_aload_n (pc := 4) C 0 rfl dX9_init_4 ?_
  refine z_bipush (pc := 5) C (by decide +kernel) dX9_init_5 ?_
  obtain ⟨c4, h⟩ := ifn h
  refine aX9_902 (pc := 7) C rfl rfl hv0 (show m_sz M + 0 = v0 + 1 from by have := c4; omega) (Nat.le_trans (show 1 ≤ 2 from by decide) hR.1) (Nat.le_trans (show 20 ≤ 40 from by decide) hR.2) dX9_init_7 dX9_init_9 (c2 := 1) (s2 := 20) rfl rfl (fun x5 => ?_)
  have k6 := x5.k hv0 (by decide)
  have k7 := x5.k hv1 (by decide)
  refine z_aload_n (pc := 12) C 0 rfl dX9_init_12 ?_
  refine z_bipush (pc := 13) C (by decide +kernel) dX9_init_13 ?_
  refine aX9_903 (pc := 15) C rfl rfl k6 (show m_sz M + 1 = v0 + 2 from by have := c4; omega) (Nat.le_trans (show 2 ≤ 2 from by decide) hR.1) (Nat.le_trans (show 40 ≤ 40 from by decide) hR.2) dX9_init_15 dX9_init_17 (c2 := 2) (s2 := 40) rfl rfl (fun x8 => ?_)
  have k9 := x8.k k6 (by decide)
  have k10 := x8.k k7 (by decide)
  obtain ⟨c11, h⟩ := ifn h
  refine z_sealW (k := 9) v0 k9 (by decide) (by decide) c11 (fun k12 x13 => ?_)
  have k14 := x13 _ _ k10 (by decide)
  refine z_aload_n (pc := 20) C 0 rfl dX9_init_20 ?_
  refine z_aload_n (pc := 21) C 1 rfl dX9_init_21 ?_
  refine pX9_900 (pc := 22) C rfl rfl (Or.inl k12) (x_rkk (k := 8) k14 (by unfold x_rk; decide)) dX9_init_22 ?_
  refine z_aload_n (pc := 25) C 0 rfl dX9_init_25 ?_
  refine z_aload_n (pc := 26) C 1 rfl dX9_init_26 ?_
  obtain ⟨q15, e16, h⟩ := bRs h
  refine gX9_800 (pc := 27) C rfl (Or.inl k14) e16 dX9_init_27 (fun k17 => ?_)
  refine pX9_901 (pc := 30) C rfl rfl (Or.inl k12) (x_rkk (k := 2) k17 (by unfold x_rk; decide)) dX9_init_30 ?_
  refine z_iconst (pc := 33) C dX9_init_33 ?_
  refine z_istore_n (pc := 34) C (lv' := [(0, .ref v0), (1, .ref v1), (2, vI 0)]) (by decide) rfl dX9_init_34 ?_
  exact cL_X9_init_35 C FU v0 v1 0 (m_sr (m_sr (m_se (m_nw (m_nw M 10902) 10903) v0 9) 900 v0 0 (some v1)) 901 v0 0 (some q15)) _ _ k12 k14 h hR
def B_X1_close_25  (v0 : Nat) (v2 : Nat) (s0 : Int) (M : Mem) : Option ((Int ⊕ Nat) × Mem) :=
  bT (d_X1_may s0 M) fun r9 M10 => 
  bN (d_X9_init (m_sz M10) v2 (m_nw (m_si M10 809 v2 0 1) 109)) fun r21 M22 => 
  if m_kd M22 (m_sz M10) = 9 then 
  if inb (m_i M10 120 v0 0) 60 then 
  some (.inl (m_i M22 120 v0 0), (m_si (m_sr M22 121 v0 (ixn (m_i M10 120 v0 0)) (some (m_sz M10))) 120 v0 0 ((m_i M22 120 v0 0) + 1))) else none else none
def B_X1_close_24  (v0 : Nat) (v2 : Nat) (M : Mem) : Option ((Int ⊕ Nat) × Mem) :=
  B_X1_close_25 v0 v2 0 M
def d_X1_close (v0 : Nat) (v1 : Int) (M : Mem) : Option ((Int ⊕ Nat) × Mem) :=
  bT (d_X1_sessionOf v0 v1 M) fun r1 M2 => 
  if m_kd M2 r1 = 8 then 
  if w32 (m_i M2 809 r1 0) = 0 then
    bR (d_X1_isAtEnd r1 M2) fun r29 => 
    if w32 r29 = 0 then
      B_X1_close_24 v0 r1 M2
    else
      B_X1_close_25 v0 r1 1 M2
  else
    B_X1_close_24 v0 r1 M2 else none
theorem cB_X1_close_25 {X : x_Ctx} {M0 : Mem} (C : x_CC X 8 139 yX1_close cX1_close 3 (some .int) [])  (v0 : Nat) (v2 : Nat) (s0 : Int) (M : Mem) (r : Int ⊕ Nat) (M' : Mem) (hv0 : m_kd M v0 = 1) (hv2 : m_kd M v2 = 8) (h : B_X1_close_25  v0 v2 s0 M = some (r, M')) (hR : ocN r 3 3 ≤ (XR X).cells ∧ ocN r 44 44 ≤ (XR X).slots) : x_Z X 0 0 (x_QF X M0 (ocI r) M' (ocN r 3 3) (ocN r 44 44)) M0 M 3 [(0, .ref v0), (2, .ref v2)] 25 [vI s0] := by
  unfold B_X1_close_25 at h
  rcases bTs h with ⟨x13, e11, er⟩ | ⟨r9, M10, e11, h⟩
  · subst er; exact tX1_190 (pc := 25) C rfl (rm := { frames := 6, cells := 1, slots := 6, locals := 90 }) (ct_X1_may C.2.1 s0 M _ _  e11) ⟨by decide, by decide, Nat.le_trans (show 1 ≤ 3 from by decide) hR.1, Nat.le_trans (show 6 ≤ 44 from by decide) hR.2⟩ (Nat.le_of_ble_eq_true rfl) dX1_close_25 (by decide) (show 1 ≤ 3 from by decide) (show 6 ≤ 44 from by decide)
  refine cX1_190 (pc := 25) (st := []) (st1 := []) C rfl (rm := { frames := 6, cells := 0, slots := 0, locals := 90 }) (ct_X1_may C.2.1 s0 M _ _  e11) ⟨by decide, by decide, Nat.zero_le _, Nat.zero_le _⟩ rfl (Nat.le_of_ble_eq_true rfl) dX1_close_25 (c2 := 0) (s2 := 0) rfl rfl (fun x12 => ?_)
  have k14 := x12 _ 1 (by decide) (Or.inl (by decide)) hv0
  have k15 := x12 _ 8 (by decide) (Or.inl (by decide)) hv2
  refine z_aload_n (pc := 28) C 1 rfl dX1_close_28 ?_
  refine z_iconst (pc := 29) C dX1_close_29 ?_
  refine pX1_809 (pc := 30) C rfl (Or.inl k15) (Or.inr rfl) dX1_close_30 ?_
  refine z_aload_n (pc := 33) C 0 rfl dX1_close_33 ?_
  refine gX1_121 (pc := 34) C rfl k14 dX1_close_34 ?_
  refine z_aload_n (pc := 37) C 0 rfl dX1_close_37 ?_
  refine gX1_120 (pc := 38) C rfl (Or.inl k14) (x := m_i M10 120 v0 0) ((m_i_ne (by decide)).trans rfl) dX1_close_38 ?_
  refine nX1_9 (pc := 41) C rfl (a := m_sz M10) (Nat.le_trans (ocN_le (show 1 ≤ 3 from by decide) (show 1 ≤ 3 from by decide)) hR.1) (Nat.le_trans (ocN_le (show 4 ≤ 44 from by decide) (show 4 ≤ 44 from by decide)) hR.2) dX1_close_41 (c2 := 1) (s2 := 4) rfl rfl rfl (fun k16 x17 => ?_)
  have k18 := x17.k k14 (by decide)
  have k19 := x17.k k14 (by decide)
  have k20 := x17.k k15 (by decide)
  refine z_dup (pc := 44) C rfl dX1_close_44 ?_
  refine z_aload_n (pc := 45) C 1 rfl dX1_close_45 ?_
  obtain ⟨r21, M22, e23, h⟩ := bNs h
  refine cX1_363 (pc := 46) (st := [.ref (m_sz M10), vI (m_i M10 120 v0 0), .ref (v0 + 25)]) C rfl (rm := { frames := 1, cells := 2, slots := 40, locals := 24 }) (ct_X9_init C.2.1 (m_sz M10) v2 (m_nw (m_si M10 809 v2 0 1) 109) _ _ k16 k20 e23) ⟨by decide, by decide, Nat.le_trans (ocN_le (show 3 ≤ 3 from by decide) (show 3 ≤ 3 from by decide)) hR.1, Nat.le_trans (ocN_le (show 44 ≤ 44 from by decide) (show 44 ≤ 44 from by decide)) hR.2⟩ (Nat.le_of_ble_eq_true rfl) dX1_close_46 (c2 := 3) (s2 := 44) rfl rfl (fun x24 => ?_)
  have k25 := x24 _ 1 (by decide) (Or.inl (by decide)) k18
  obtain ⟨c26, h⟩ := ifn h
  have k27 := x24 _ 1 (by decide) (Or.inl (by decide)) k19
  obtain ⟨c28, h⟩ := ifn h
  refine z_asO (pc := 49) (k := 1) (j := 21) C 121 rfl (by decide) (by decide) (by decide) rfl rfl rfl (by decide) rfl (by decide) (by decide) (by decide) rfl k25 c28 c26 (by unfold x_rk; decide) dX1_close_49 ?_
  refine z_aload_n (pc := 50) C 0 rfl dX1_close_50 ?_
  refine z_dup (pc := 51) C rfl dX1_close_51 ?_
  refine gX1_120 (pc := 52) C rfl (Or.inl k27) (x := m_i M22 120 v0 0) (m_i_sr.trans rfl) dX1_close_52 ?_
  refine z_dupx1 (pc := 55) C rfl rfl dX1_close_55 ?_
  refine z_iconst (pc := 56) C dX1_close_56 ?_
  refine z_iadd (pc := 57) C dX1_close_57 ?_
  refine pX1_120 (pc := 58) C rfl (Or.inl k27) dX1_close_58 ?_
  cases h
  exact z_iret (pc := 61) C rfl (show 3 ≤ 3 from by decide) (show 44 ≤ 44 from by decide) dX1_close_61
theorem cB_X1_close_24 {X : x_Ctx} {M0 : Mem} (C : x_CC X 8 139 yX1_close cX1_close 3 (some .int) [])  (v0 : Nat) (v2 : Nat) (M : Mem) (r : Int ⊕ Nat) (M' : Mem) (hv0 : m_kd M v0 = 1) (hv2 : m_kd M v2 = 8) (h : B_X1_close_24  v0 v2 M = some (r, M')) (hR : ocN r 3 3 ≤ (XR X).cells ∧ ocN r 44 44 ≤ (XR X).slots) : x_Z X 0 0 (x_QF X M0 (ocI r) M' (ocN r 3 3) (ocN r 44 44)) M0 M 3 [(0, .ref v0), (2, .ref v2)] 24 [] := by
  unfold B_X1_close_24 at h
  refine z_iconst (pc := 24) C dX1_close_24 ?_
  exact cB_X1_close_25 C v0 v2 0 M _ _ hv0 hv2 h hR
theorem ct_X1_close {l : Launch} {S0 : State} {D : va_G} {cA : Nat → ClassId} (hG : x_G l S0 D cA) (v0 : Nat) (v1 : Int) (M : Mem) (r : Int ⊕ Nat) (M' : Mem) (hv0 : m_kd M v0 = 1) (h : d_X1_close v0 v1 M = some (r, M')) : x_Me l S0 D cA yX1_close cX1_close 3 (some .int) [] ({ frames := 8, cells := (ocN r 3 3), slots := (ocN r 44 44), locals := 139 }) [.ref v0, vI v1] M (ocI r) M' := by
  refine x_begin (F := 8) (Lo := 139) (mc := (ocN r 3 3)) (ms := (ocN r 44 44)) hG (Nat.le_of_ble_eq_true rfl) (lv := [(0, .ref v0), (1, vI v1)]) rfl rfl rfl rfl rfl (fun X e1 e2 e3 e4 e5 C => ?_)
  have hR : _ ∧ _ := ⟨Nat.le_of_eq (congrArg Room.cells e5).symm, Nat.le_of_eq (congrArg Room.slots e5).symm⟩
  unfold d_X1_close at h
  refine z_aload_n (pc := 0) C 0 rfl dX1_close_0 ?_
  refine z_iload_n (pc := 1) C 1 rfl dX1_close_1 ?_
  rcases bTs h with ⟨x5, e3, er⟩ | ⟨r1, M2, e3, h⟩
  · subst er; exact tX1_322 (pc := 2) C rfl (rm := { frames := 7, cells := 1, slots := 6, locals := 114 }) (ct_X1_sessionOf C.2.1 v0 v1 M _ _ hv0 e3) ⟨by decide, by decide, Nat.le_trans (show 1 ≤ 3 from by decide) hR.1, Nat.le_trans (show 6 ≤ 44 from by decide) hR.2⟩ (Or.inl hv0) (Nat.le_of_ble_eq_true rfl) dX1_close_2 (by decide) (show 1 ≤ 3 from by decide) (show 6 ≤ 44 from by decide)
  refine cX1_322 (pc := 2) (st := []) (st1 := [.ref r1]) C rfl (rm := { frames := 7, cells := 0, slots := 0, locals := 114 }) (ct_X1_sessionOf C.2.1 v0 v1 M _ _ hv0 e3) ⟨by decide, by decide, Nat.zero_le _, Nat.zero_le _⟩ (Or.inl hv0) rfl (Nat.le_of_ble_eq_true rfl) dX1_close_2 (c2 := 0) (s2 := 0) rfl rfl (fun x4 => ?_)
  have k6 := x4 _ 1 (by decide) (Or.inl (by decide)) hv0
  obtain ⟨c7, h⟩ := ifn h
  refine z_astore_n (pc := 5) C (lv' := [(0, .ref v0), (1, vI v1), (2, .ref r1)]) (by decide) rfl dX1_close_5 ?_
  refine z_aload_n (pc := 6) C 2 rfl dX1_close_6 ?_
  refine gX1_809 (pc := 7) C rfl (Or.inl c7) rfl dX1_close_7 ?_
  refine z_if_ne (pc := 10) C dX1_close_10 (tgt := 24) (by decide) (fun c8 => ?_) (fun c8 => ?_)
  · have h := itf c8 h
    exact z_lv [0, 2] rfl <| cB_X1_close_24 C v0 r1 M2 _ _ k6 c7 h hR
  · have h := itt c8 h
    refine z_aload_n (pc := 13) C 2 rfl dX1_close_13 ?_
    obtain ⟨r29, e30, h⟩ := bRs h
    refine cX1_326 (pc := 14) (st := []) (st1 := [vI r29]) C rfl (rm := { frames := 1, cells := 0, slots := 0, locals := 24 }) (ct_X1_isAtEnd C.2.1 r1 M2 _ c7 e30) ⟨by decide, by decide, Nat.zero_le _, Nat.zero_le _⟩ rfl (Nat.le_of_ble_eq_true rfl) dX1_close_14 (c2 := 0) (s2 := 0) rfl rfl (fun _ => ?_)
    refine z_if_eq (pc := 17) C dX1_close_17 (tgt := 24) (by decide) (fun c31 => ?_) (fun c31 => ?_)
    · have h := itt c31 h
      exact z_lv [0, 2] rfl <| cB_X1_close_24 C v0 r1 M2 _ _ k6 c7 h hR
    · have h := itf c31 h
      refine z_iconst (pc := 20) C dX1_close_20 ?_
      refine z_goto (pc := 21) C dX1_close_21 (tgt := 25) (by decide) ?_
      exact z_lv [0, 2] rfl <| cB_X1_close_25 C v0 r1 1 M2 _ _ k6 c7 h hR
def d_X0_close (v0 : Nat) (v1 : Int) (v2 : Nat) (M : Mem) : Option (Int × Mem) :=
  bC (d_X1_close v0 v1 M) (fun r1 M3 =>
    some (0, (m_si M3 9000 v2 (ixn 0) (w32 r1)))) (fun q2 M3 =>
    if m_kd M3 q2 = 115 then
      some (1, M3)
    else
      if m_kd M3 q2 = 116 then
        some (2, M3)
      else
        none)
theorem ct_X0_close {l : Launch} {S0 : State} {D : va_G} {cA : Nat → ClassId} (hG : x_G l S0 D cA) (v0 : Nat) (v1 : Int) (v2 : Nat) (M : Mem) (r : Int) (M' : Mem) (hv0 : m_kd M v0 = 1) (hv2 : m_kd M v2 = 19000) (h : d_X0_close v0 v1 v2 M = some (r, M')) : x_Me l S0 D cA yX0_close cX0_close 4 (some .int) [(0, 9, 12, 25), (0, 9, 15, 27)] ({ frames := 9, cells := 3, slots := 44, locals := 165 }) [.ref v0, vI v1, .ref v2] M (.returned (some (vI r))) M' := by
  refine x_begin (F := 9) (Lo := 165) (mc := 3) (ms := 44) hG (Nat.le_of_ble_eq_true rfl) (lv := [(0, .ref v0), (1, vI v1), (2, .ref v2)]) rfl rfl rfl rfl rfl (fun X e1 e2 e3 e4 e5 C => ?_)
  have hR : _ ∧ _ := ⟨Nat.le_of_eq (congrArg Room.cells e5).symm, Nat.le_of_eq (congrArg Room.slots e5).symm⟩
  unfold d_X0_close at h
  refine z_aload_n (pc := 0) C 2 rfl dX0_close_0 ?_
  refine z_iconst (pc := 1) C dX0_close_1 ?_
  refine z_aload_n (pc := 2) C 0 rfl dX0_close_2 ?_
  refine z_iload_n (pc := 3) C 1 rfl dX0_close_3 ?_
  rcases bCs h with ⟨r1, M3, e4, h⟩ | ⟨q2, M3, e4, h⟩
  · refine cX0_69 (pc := 4) (st := [vI 0, .ref v2]) (st1 := [vI r1, vI 0, .ref v2]) C rfl (rm := { frames := 8, cells := 3, slots := 44, locals := 139 }) (ct_X1_close C.2.1 v0 v1 M _ _ hv0 e4) ⟨by decide, by decide, Nat.le_trans (show 3 ≤ 3 from by decide) hR.1, Nat.le_trans (show 44 ≤ 44 from by decide) hR.2⟩ (Or.inl hv0) rfl (Nat.le_of_ble_eq_true rfl) dX0_close_4 (c2 := 3) (s2 := 44) rfl rfl (fun x5 => ?_)
    have k6 := x5 _ 19000 (by decide) (Or.inr (by decide)) hv2
    refine z_i2l (pc := 7) C dX0_close_7 ?_
    refine z_lsw (pc := 8) C k6 (by decide +kernel) dX0_close_8 ?_
    refine z_goto (pc := 9) C dX0_close_9 (tgt := 18) (by decide) ?_
    refine z_iconst (pc := 18) C dX0_close_18 ?_
    cases h
    exact z_iret (pc := 19) C rfl (show 3 ≤ 3 from by decide) (show 44 ≤ 44 from by decide) dX0_close_19
  · by_cases c7 : m_kd M3 q2 = 115
    · have h := itt c7 h
      refine kX0_69 (pc := 4) (st := [vI 0, .ref v2]) C rfl (rm := { frames := 8, cells := 3, slots := 44, locals := 139 }) (r := q2) (ct_X1_close C.2.1 v0 v1 M _ _ hv0 e4) ⟨by decide, by decide, Nat.le_trans (show 3 ≤ 3 from by decide) hR.1, Nat.le_trans (show 44 ≤ 44 from by decide) hR.2⟩ (Or.inl hv0) (Nat.le_of_ble_eq_true rfl) dX0_close_4 (e := 15) (hpc := 12) (by decide) (Or.inr c7) (Or.inr ⟨by decide, by decide, 15, by decide, q560, Or.inl ⟨rfl, rfl⟩⟩) (c2 := 3) (s2 := 44) rfl rfl (fun x8 => ?_)
      refine z_astore_n (pc := 12) C (lv' := [(0, .ref v0), (1, vI v1), (2, .ref v2), (3, .ref q2)]) (by decide) rfl dX0_close_12 ?_
      refine z_iconst (pc := 13) C dX0_close_13 ?_
      cases h
      exact z_iret (pc := 14) C rfl (show 3 ≤ 3 from by decide) (show 44 ≤ 44 from by decide) dX0_close_14
    · have h := itf c7 h
      by_cases c9 : m_kd M3 q2 = 116
      · have h := itt c9 h
        refine kX0_69 (pc := 4) (st := [vI 0, .ref v2]) C rfl (rm := { frames := 8, cells := 3, slots := 44, locals := 139 }) (r := q2) (ct_X1_close C.2.1 v0 v1 M _ _ hv0 e4) ⟨by decide, by decide, Nat.le_trans (show 3 ≤ 3 from by decide) hR.1, Nat.le_trans (show 44 ≤ 44 from by decide) hR.2⟩ (Or.inl hv0) (Nat.le_of_ble_eq_true rfl) dX0_close_4 (e := 16) (hpc := 15) (by decide) (Or.inr c9) (Or.inr ⟨by decide, by decide, 15, by decide, q560, Or.inr ⟨by decide, Or.inr ⟨by decide, by decide, 16, by decide, q584, Or.inl ⟨rfl, rfl⟩⟩⟩⟩) (c2 := 3) (s2 := 44) rfl rfl (fun x10 => ?_)
        refine z_astore_n (pc := 15) C (lv' := [(0, .ref v0), (1, vI v1), (2, .ref v2), (3, .ref q2)]) (by decide) rfl dX0_close_15 ?_
        refine z_iconst (pc := 16) C dX0_close_16 ?_
        cases h
        exact z_iret (pc := 17) C rfl (show 3 ≤ 3 from by decide) (show 44 ≤ 44 from by decide) dX0_close_17
      · have h := itf c9 h
        cases h
def d_X1_recordOf (v0 : Nat) (v1 : Int) (M : Mem) : Option ((Nat ⊕ Nat) × Mem) :=
  bT (d_X1_inside (d_X1_isIn (w32 v1) 0 (w32 ((m_i M 120 v0 0) - 1))) M) fun r5 M6 => 
  if inb v1 60 then 
  bR (m_r M6 121 v0 (ixn v1)) fun q12 => 
  some (.inl q12, M6) else none
theorem ct_X1_recordOf {l : Launch} {S0 : State} {D : va_G} {cA : Nat → ClassId} (hG : x_G l S0 D cA) (v0 : Nat) (v1 : Int) (M : Mem) (r : Nat ⊕ Nat) (M' : Mem) (hv0 : m_kd M v0 = 1) (h : d_X1_recordOf v0 v1 M = some (r, M')) : x_Me l S0 D cA yX1_recordOf cX1_recordOf 2 (some (.object "CensusOffice$Record")) [] ({ frames := 7, cells := (ocN r 0 1), slots := (ocN r 0 6), locals := 114 }) [.ref v0, vI v1] M (ocR r) M' := by
  refine x_begin (F := 7) (Lo := 114) (mc := (ocN r 0 1)) (ms := (ocN r 0 6)) hG (Nat.le_of_ble_eq_true rfl) (lv := [(0, .ref v0), (1, vI v1)]) rfl rfl rfl rfl rfl (fun X e1 e2 e3 e4 e5 C => ?_)
  have hR : _ ∧ _ := ⟨Nat.le_of_eq (congrArg Room.cells e5).symm, Nat.le_of_eq (congrArg Room.slots e5).symm⟩
  unfold d_X1_recordOf at h
  refine z_iload_n (pc := 0) C 1 rfl dX1_recordOf_0 ?_
  refine z_i2l (pc := 1) C dX1_recordOf_1 ?_
  refine z_lconst (pc := 2) C (x := 0) (by decide +kernel) dX1_recordOf_2 ?_
  refine z_aload_n (pc := 3) C 0 rfl dX1_recordOf_3 ?_
  refine gX1_120 (pc := 4) C rfl (Or.inl hv0) rfl dX1_recordOf_4 ?_
  refine z_iconst (pc := 7) C dX1_recordOf_7 ?_
  refine z_isub (pc := 8) C dX1_recordOf_8 ?_
  refine z_i2l (pc := 9) C dX1_recordOf_9 ?_
  refine cX1_159 (pc := 10) (st := []) (st1 := [vI (d_X1_isIn (w32 v1) 0 (w32 ((m_i M 120 v0 0) - 1)))]) C rfl (rm := { frames := 1, cells := 0, slots := 0, locals := 24 }) (ct_X1_isIn C.2.1 (w32 v1) 0 (w32 ((m_i M 120 v0 0) - 1)) M _  rfl) ⟨by decide, by decide, Nat.zero_le _, Nat.zero_le _⟩ rfl (Nat.le_of_ble_eq_true rfl) dX1_recordOf_10 (c2 := 0) (s2 := 0) rfl rfl (fun _ => ?_)
  rcases bTs h with ⟨x9, e7, er⟩ | ⟨r5, M6, e7, h⟩
  · subst er; exact tX1_171 (pc := 13) C rfl (rm := { frames := 6, cells := 1, slots := 6, locals := 90 }) (ct_X1_inside C.2.1 (d_X1_isIn (w32 v1) 0 (w32 ((m_i M 120 v0 0) - 1))) M _ _  e7) ⟨by decide, by decide, Nat.le_trans (show 1 ≤ 1 from by decide) hR.1, Nat.le_trans (show 6 ≤ 6 from by decide) hR.2⟩ (Nat.le_of_ble_eq_true rfl) dX1_recordOf_13 (by decide) (show 1 ≤ 1 from by decide) (show 6 ≤ 6 from by decide)
  refine cX1_171 (pc := 13) (st := []) (st1 := []) C rfl (rm := { frames := 6, cells := 0, slots := 0, locals := 90 }) (ct_X1_inside C.2.1 (d_X1_isIn (w32 v1) 0 (w32 ((m_i M 120 v0 0) - 1))) M _ _  e7) ⟨by decide, by decide, Nat.zero_le _, Nat.zero_le _⟩ rfl (Nat.le_of_ble_eq_true rfl) dX1_recordOf_13 (c2 := 0) (s2 := 0) rfl rfl (fun x8 => ?_)
  have k10 := x8 _ 1 (by decide) (Or.inl (by decide)) hv0
  refine z_aload_n (pc := 16) C 0 rfl dX1_recordOf_16 ?_
  refine gX1_121 (pc := 17) C rfl k10 dX1_recordOf_17 ?_
  refine z_iload_n (pc := 20) C 1 rfl dX1_recordOf_20 ?_
  obtain ⟨c11, h⟩ := ifn h
  obtain ⟨q12, e13, h⟩ := bRs h
  refine z_aaO (pc := 21) (k := 1) (j := 21) C 121 rfl (by decide) (by decide) (by decide) rfl rfl (by decide) (by decide) rfl k10 c11 rfl (by decide) e13 dX1_recordOf_21 (fun k14 => ?_)
  cases h
  exact z_aret (pc := 22) C rfl (show 0 ≤ 0 from by decide) (show 0 ≤ 0 from by decide) dX1_recordOf_22
def d_X1_item (v0 : Nat) (v1 : Int) (v2 : Int) (M : Mem) : Option ((Int ⊕ Nat) × Mem) :=
  bT (d_X1_recordOf v0 v1 M) fun r4 M5 => 
  if m_kd M5 r4 = 9 then 
  bR (m_r M5 901 r4 0) fun q10 => 
  bT (d_X1_statementIn q10 v2 M5) fun r13 M14 => 
  if inb v2 20 then 
  some (.inl (m_i M14 902 r4 (ixn v2)), M14) else none else none
theorem ct_X1_item {l : Launch} {S0 : State} {D : va_G} {cA : Nat → ClassId} (hG : x_G l S0 D cA) (v0 : Nat) (v1 : Int) (v2 : Int) (M : Mem) (r : Int ⊕ Nat) (M' : Mem) (hv0 : m_kd M v0 = 1) (h : d_X1_item v0 v1 v2 M = some (r, M')) : x_Me l S0 D cA yX1_item cX1_item 4 (some .int) [] ({ frames := 8, cells := (ocN r 0 1), slots := (ocN r 0 6), locals := 139 }) [.ref v0, vI v1, vI v2] M (ocI r) M' := by
  refine x_begin (F := 8) (Lo := 139) (mc := (ocN r 0 1)) (ms := (ocN r 0 6)) hG (Nat.le_of_ble_eq_true rfl) (lv := [(0, .ref v0), (1, vI v1), (2, vI v2)]) rfl rfl rfl rfl rfl (fun X e1 e2 e3 e4 e5 C => ?_)
  have hR : _ ∧ _ := ⟨Nat.le_of_eq (congrArg Room.cells e5).symm, Nat.le_of_eq (congrArg Room.slots e5).symm⟩
  unfold d_X1_item at h
  refine z_aload_n (pc := 0) C 0 rfl dX1_item_0 ?_
  refine z_iload_n (pc := 1) C 1 rfl dX1_item_1 ?_
  rcases bTs h with ⟨x8, e6, er⟩ | ⟨r4, M5, e6, h⟩
  · subst er; exact tX1_365 (pc := 2) C rfl (rm := { frames := 7, cells := 1, slots := 6, locals := 114 }) (ct_X1_recordOf C.2.1 v0 v1 M _ _ hv0 e6) ⟨by decide, by decide, Nat.le_trans (show 1 ≤ 1 from by decide) hR.1, Nat.le_trans (show 6 ≤ 6 from by decide) hR.2⟩ (Or.inl hv0) (Nat.le_of_ble_eq_true rfl) dX1_item_2 (by decide) (show 1 ≤ 1 from by decide) (show 6 ≤ 6 from by decide)
  refine cX1_365 (pc := 2) (st := []) (st1 := [.ref r4]) C rfl (rm := { frames := 7, cells := 0, slots := 0, locals := 114 }) (ct_X1_recordOf C.2.1 v0 v1 M _ _ hv0 e6) ⟨by decide, by decide, Nat.zero_le _, Nat.zero_le _⟩ (Or.inl hv0) rfl (Nat.le_of_ble_eq_true rfl) dX1_item_2 (c2 := 0) (s2 := 0) rfl rfl (fun x7 => ?_)
  obtain ⟨c9, h⟩ := ifn h
  refine z_astore_n (pc := 5) C (lv' := [(0, .ref v0), (1, vI v1), (2, vI v2), (3, .ref r4)]) (by decide) rfl dX1_item_5 ?_
  refine z_aload_n (pc := 6) C 3 rfl dX1_item_6 ?_
  obtain ⟨q10, e11, h⟩ := bRs h
  refine gX1_901 (pc := 7) C rfl (Or.inl c9) e11 dX1_item_7 (fun k12 => ?_)
  refine z_iload_n (pc := 10) C 2 rfl dX1_item_10 ?_
  rcases bTs h with ⟨x17, e15, er⟩ | ⟨r13, M14, e15, h⟩
  · subst er; exact tX1_239 (pc := 11) C rfl (rm := { frames := 7, cells := 1, slots := 6, locals := 114 }) (ct_X1_statementIn C.2.1 q10 v2 M5 _ _ k12 e15) ⟨by decide, by decide, Nat.le_trans (show 1 ≤ 1 from by decide) hR.1, Nat.le_trans (show 6 ≤ 6 from by decide) hR.2⟩ (Nat.le_of_ble_eq_true rfl) dX1_item_11 (by decide) (show 1 ≤ 1 from by decide) (show 6 ≤ 6 from by decide)
  refine cX1_239 (pc := 11) (st := []) (st1 := []) C rfl (rm := { frames := 7, cells := 0, slots := 0, locals := 114 }) (ct_X1_statementIn C.2.1 q10 v2 M5 _ _ k12 e15) ⟨by decide, by decide, Nat.zero_le _, Nat.zero_le _⟩ rfl (Nat.le_of_ble_eq_true rfl) dX1_item_11 (c2 := 0) (s2 := 0) rfl rfl (fun x16 => ?_)
  have k18 := x16 _ 9 (by decide) (Or.inl (by decide)) c9
  refine z_aload_n (pc := 14) C 3 rfl dX1_item_14 ?_
  refine gX1_902 (pc := 15) C rfl k18 dX1_item_15 ?_
  refine z_iload_n (pc := 18) C 2 rfl dX1_item_18 ?_
  obtain ⟨c19, h⟩ := ifn h
  refine z_iaO (pc := 19) (k := 9) (j := 2) C 902 rfl (by decide) (by decide) (by decide) rfl rfl rfl rfl k18 c19 rfl dX1_item_19 ?_
  cases h
  exact z_iret (pc := 20) C rfl (show 0 ≤ 0 from by decide) (show 0 ≤ 0 from by decide) dX1_item_20
def d_X0_item (v0 : Nat) (v1 : Int) (v2 : Int) (v3 : Nat) (M : Mem) : Option (Int × Mem) :=
  bC (d_X1_item v0 v1 v2 M) (fun r1 M3 =>
    some (0, (m_si M3 9000 v3 (ixn 0) (w32 r1)))) (fun q2 M3 =>
    if m_kd M3 q2 = 115 then
      some (1, M3)
    else
      none)
theorem ct_X0_item {l : Launch} {S0 : State} {D : va_G} {cA : Nat → ClassId} (hG : x_G l S0 D cA) (v0 : Nat) (v1 : Int) (v2 : Int) (v3 : Nat) (M : Mem) (r : Int) (M' : Mem) (hv0 : m_kd M v0 = 1) (hv3 : m_kd M v3 = 19000) (h : d_X0_item v0 v1 v2 v3 M = some (r, M')) : x_Me l S0 D cA yX0_item cX0_item 5 (some .int) [(0, 10, 13, 25)] ({ frames := 9, cells := 1, slots := 6, locals := 166 }) [.ref v0, vI v1, vI v2, .ref v3] M (.returned (some (vI r))) M' := by
  refine x_begin (F := 9) (Lo := 166) (mc := 1) (ms := 6) hG (Nat.le_of_ble_eq_true rfl) (lv := [(0, .ref v0), (1, vI v1), (2, vI v2), (3, .ref v3)]) rfl rfl rfl rfl rfl (fun X e1 e2 e3 e4 e5 C => ?_)
  have hR : _ ∧ _ := ⟨Nat.le_of_eq (congrArg Room.cells e5).symm, Nat.le_of_eq (congrArg Room.slots e5).symm⟩
  unfold d_X0_item at h
  refine z_aload_n (pc := 0) C 3 rfl dX0_item_0 ?_
  refine z_iconst (pc := 1) C dX0_item_1 ?_
  refine z_aload_n (pc := 2) C 0 rfl dX0_item_2 ?_
  refine z_iload_n (pc := 3) C 1 rfl dX0_item_3 ?_
  refine z_iload_n (pc := 4) C 2 rfl dX0_item_4 ?_
  rcases bCs h with ⟨r1, M3, e4, h⟩ | ⟨q2, M3, e4, h⟩
  · refine cX0_72 (pc := 5) (st := [vI 0, .ref v3]) (st1 := [vI r1, vI 0, .ref v3]) C rfl (rm := { frames := 8, cells := 0, slots := 0, locals := 139 }) (ct_X1_item C.2.1 v0 v1 v2 M _ _ hv0 e4) ⟨by decide, by decide, Nat.zero_le _, Nat.zero_le _⟩ (Or.inl hv0) rfl (Nat.le_of_ble_eq_true rfl) dX0_item_5 (c2 := 0) (s2 := 0) rfl rfl (fun x5 => ?_)
    have k6 := x5 _ 19000 (by decide) (Or.inr (by decide)) hv3
    refine z_i2l (pc := 8) C dX0_item_8 ?_
    refine z_lsw (pc := 9) C k6 (by decide +kernel) dX0_item_9 ?_
    refine z_goto (pc := 10) C dX0_item_10 (tgt := 17) (by decide) ?_
    refine z_iconst (pc := 17) C dX0_item_17 ?_
    cases h
    exact z_iret (pc := 18) C rfl (show 0 ≤ 1 from by decide) (show 0 ≤ 6 from by decide) dX0_item_18
  · by_cases c7 : m_kd M3 q2 = 115
    · have h := itt c7 h
      refine kX0_72 (pc := 5) (st := [vI 0, .ref v3]) C rfl (rm := { frames := 8, cells := 1, slots := 6, locals := 139 }) (r := q2) (ct_X1_item C.2.1 v0 v1 v2 M _ _ hv0 e4) ⟨by decide, by decide, Nat.le_trans (show 1 ≤ 1 from by decide) hR.1, Nat.le_trans (show 6 ≤ 6 from by decide) hR.2⟩ (Or.inl hv0) (Nat.le_of_ble_eq_true rfl) dX0_item_5 (e := 15) (hpc := 13) (by decide) (Or.inr c7) (Or.inr ⟨by decide, by decide, 15, by decide, q560, Or.inl ⟨rfl, rfl⟩⟩) (c2 := 1) (s2 := 6) rfl rfl (fun x8 => ?_)
      refine z_astore (pc := 13) C (lv' := [(0, .ref v0), (1, vI v1), (2, vI v2), (3, .ref v3), (4, .ref q2)]) (by decide) rfl dX0_item_13 ?_
      refine z_iconst (pc := 15) C dX0_item_15 ?_
      cases h
      exact z_iret (pc := 16) C rfl (show 1 ≤ 1 from by decide) (show 6 ≤ 6 from by decide) dX0_item_16
    · have h := itf c7 h
      cases h
def d_X1_mark (v0 : Nat) (v1 : Int) (v2 : Int) (M : Mem) : Option ((Int ⊕ Nat) × Mem) :=
  bT (d_X1_recordOf v0 v1 M) fun r4 M5 => 
  if m_kd M5 r4 = 9 then 
  bR (m_r M5 901 r4 0) fun q10 => 
  bT (d_X1_statementIn q10 v2 M5) fun r13 M14 => 
  if inb v2 20 then 
  some (.inl (m_i M14 903 r4 (ixn v2)), M14) else none else none
theorem ct_X1_mark {l : Launch} {S0 : State} {D : va_G} {cA : Nat → ClassId} (hG : x_G l S0 D cA) (v0 : Nat) (v1 : Int) (v2 : Int) (M : Mem) (r : Int ⊕ Nat) (M' : Mem) (hv0 : m_kd M v0 = 1) (h : d_X1_mark v0 v1 v2 M = some (r, M')) : x_Me l S0 D cA yX1_mark cX1_mark 4 (some .int) [] ({ frames := 8, cells := (ocN r 0 1), slots := (ocN r 0 6), locals := 139 }) [.ref v0, vI v1, vI v2] M (ocI r) M' := by
  refine x_begin (F := 8) (Lo := 139) (mc := (ocN r 0 1)) (ms := (ocN r 0 6)) hG (Nat.le_of_ble_eq_true rfl) (lv := [(0, .ref v0), (1, vI v1), (2, vI v2)]) rfl rfl rfl rfl rfl (fun X e1 e2 e3 e4 e5 C => ?_)
  have hR : _ ∧ _ := ⟨Nat.le_of_eq (congrArg Room.cells e5).symm, Nat.le_of_eq (congrArg Room.slots e5).symm⟩
  unfold d_X1_mark at h
  refine z_aload_n (pc := 0) C 0 rfl dX1_mark_0 ?_
  refine z_iload_n (pc := 1) C 1 rfl dX1_mark_1 ?_
  rcases bTs h with ⟨x8, e6, er⟩ | ⟨r4, M5, e6, h⟩
  · subst er; exact tX1_365 (pc := 2) C rfl (rm := { frames := 7, cells := 1, slots := 6, locals := 114 }) (ct_X1_recordOf C.2.1 v0 v1 M _ _ hv0 e6) ⟨by decide, by decide, Nat.le_trans (show 1 ≤ 1 from by decide) hR.1, Nat.le_trans (show 6 ≤ 6 from by decide) hR.2⟩ (Or.inl hv0) (Nat.le_of_ble_eq_true rfl) dX1_mark_2 (by decide) (show 1 ≤ 1 from by decide) (show 6 ≤ 6 from by decide)
  refine cX1_365 (pc := 2) (st := []) (st1 := [.ref r4]) C rfl (rm := { frames := 7, cells := 0, slots := 0, locals := 114 }) (ct_X1_recordOf C.2.1 v0 v1 M _ _ hv0 e6) ⟨by decide, by decide, Nat.zero_le _, Nat.zero_le _⟩ (Or.inl hv0) rfl (Nat.le_of_ble_eq_true rfl) dX1_mark_2 (c2 := 0) (s2 := 0) rfl rfl (fun x7 => ?_)
  obtain ⟨c9, h⟩ := ifn h
  refine z_astore_n (pc := 5) C (lv' := [(0, .ref v0), (1, vI v1), (2, vI v2), (3, .ref r4)]) (by decide) rfl dX1_mark_5 ?_
  refine z_aload_n (pc := 6) C 3 rfl dX1_mark_6 ?_
  obtain ⟨q10, e11, h⟩ := bRs h
  refine gX1_901 (pc := 7) C rfl (Or.inl c9) e11 dX1_mark_7 (fun k12 => ?_)
  refine z_iload_n (pc := 10) C 2 rfl dX1_mark_10 ?_
  rcases bTs h with ⟨x17, e15, er⟩ | ⟨r13, M14, e15, h⟩
  · subst er; exact tX1_239 (pc := 11) C rfl (rm := { frames := 7, cells := 1, slots := 6, locals := 114 }) (ct_X1_statementIn C.2.1 q10 v2 M5 _ _ k12 e15) ⟨by decide, by decide, Nat.le_trans (show 1 ≤ 1 from by decide) hR.1, Nat.le_trans (show 6 ≤ 6 from by decide) hR.2⟩ (Nat.le_of_ble_eq_true rfl) dX1_mark_11 (by decide) (show 1 ≤ 1 from by decide) (show 6 ≤ 6 from by decide)
  refine cX1_239 (pc := 11) (st := []) (st1 := []) C rfl (rm := { frames := 7, cells := 0, slots := 0, locals := 114 }) (ct_X1_statementIn C.2.1 q10 v2 M5 _ _ k12 e15) ⟨by decide, by decide, Nat.zero_le _, Nat.zero_le _⟩ rfl (Nat.le_of_ble_eq_true rfl) dX1_mark_11 (c2 := 0) (s2 := 0) rfl rfl (fun x16 => ?_)
  have k18 := x16 _ 9 (by decide) (Or.inl (by decide)) c9
  refine z_aload_n (pc := 14) C 3 rfl dX1_mark_14 ?_
  refine gX1_903 (pc := 15) C rfl k18 dX1_mark_15 ?_
  refine z_iload_n (pc := 18) C 2 rfl dX1_mark_18 ?_
  obtain ⟨c19, h⟩ := ifn h
  refine z_iaO (pc := 19) (k := 9) (j := 3) C 903 rfl (by decide) (by decide) (by decide) rfl rfl rfl rfl k18 c19 rfl dX1_mark_19 ?_
  cases h
  exact z_iret (pc := 20) C rfl (show 0 ≤ 0 from by decide) (show 0 ≤ 0 from by decide) dX1_mark_20
def d_X0_mark (v0 : Nat) (v1 : Int) (v2 : Int) (v3 : Nat) (M : Mem) : Option (Int × Mem) :=
  bC (d_X1_mark v0 v1 v2 M) (fun r1 M3 =>
    some (0, (m_si M3 9000 v3 (ixn 0) (w32 r1)))) (fun q2 M3 =>
    if m_kd M3 q2 = 115 then
      some (1, M3)
    else
      none)
theorem ct_X0_mark {l : Launch} {S0 : State} {D : va_G} {cA : Nat → ClassId} (hG : x_G l S0 D cA) (v0 : Nat) (v1 : Int) (v2 : Int) (v3 : Nat) (M : Mem) (r : Int) (M' : Mem) (hv0 : m_kd M v0 = 1) (hv3 : m_kd M v3 = 19000) (h : d_X0_mark v0 v1 v2 v3 M = some (r, M')) : x_Me l S0 D cA yX0_mark cX0_mark 5 (some .int) [(0, 10, 13, 25)] ({ frames := 9, cells := 1, slots := 6, locals := 166 }) [.ref v0, vI v1, vI v2, .ref v3] M (.returned (some (vI r))) M' := by
  refine x_begin (F := 9) (Lo := 166) (mc := 1) (ms := 6) hG (Nat.le_of_ble_eq_true rfl) (lv := [(0, .ref v0), (1, vI v1), (2, vI v2), (3, .ref v3)]) rfl rfl rfl rfl rfl (fun X e1 e2 e3 e4 e5 C => ?_)
  have hR : _ ∧ _ := ⟨Nat.le_of_eq (congrArg Room.cells e5).symm, Nat.le_of_eq (congrArg Room.slots e5).symm⟩
  unfold d_X0_mark at h
  refine z_aload_n (pc := 0) C 3 rfl dX0_mark_0 ?_
  refine z_iconst (pc := 1) C dX0_mark_1 ?_
  refine z_aload_n (pc := 2) C 0 rfl dX0_mark_2 ?_
  refine z_iload_n (pc := 3) C 1 rfl dX0_mark_3 ?_
  refine z_iload_n (pc := 4) C 2 rfl dX0_mark_4 ?_
  rcases bCs h with ⟨r1, M3, e4, h⟩ | ⟨q2, M3, e4, h⟩
  · refine cX0_75 (pc := 5) (st := [vI 0, .ref v3]) (st1 := [vI r1, vI 0, .ref v3]) C rfl (rm := { frames := 8, cells := 0, slots := 0, locals := 139 }) (ct_X1_mark C.2.1 v0 v1 v2 M _ _ hv0 e4) ⟨by decide, by decide, Nat.zero_le _, Nat.zero_le _⟩ (Or.inl hv0) rfl (Nat.le_of_ble_eq_true rfl) dX0_mark_5 (c2 := 0) (s2 := 0) rfl rfl (fun x5 => ?_)
    have k6 := x5 _ 19000 (by decide) (Or.inr (by decide)) hv3
    refine z_i2l (pc := 8) C dX0_mark_8 ?_
    refine z_lsw (pc := 9) C k6 (by decide +kernel) dX0_mark_9 ?_
    refine z_goto (pc := 10) C dX0_mark_10 (tgt := 17) (by decide) ?_
    refine z_iconst (pc := 17) C dX0_mark_17 ?_
    cases h
    exact z_iret (pc := 18) C rfl (show 0 ≤ 1 from by decide) (show 0 ≤ 6 from by decide) dX0_mark_18
  · by_cases c7 : m_kd M3 q2 = 115
    · have h := itt c7 h
      refine kX0_75 (pc := 5) (st := [vI 0, .ref v3]) C rfl (rm := { frames := 8, cells := 1, slots := 6, locals := 139 }) (r := q2) (ct_X1_mark C.2.1 v0 v1 v2 M _ _ hv0 e4) ⟨by decide, by decide, Nat.le_trans (show 1 ≤ 1 from by decide) hR.1, Nat.le_trans (show 6 ≤ 6 from by decide) hR.2⟩ (Or.inl hv0) (Nat.le_of_ble_eq_true rfl) dX0_mark_5 (e := 15) (hpc := 13) (by decide) (Or.inr c7) (Or.inr ⟨by decide, by decide, 15, by decide, q560, Or.inl ⟨rfl, rfl⟩⟩) (c2 := 1) (s2 := 6) rfl rfl (fun x8 => ?_)
      refine z_astore (pc := 13) C (lv' := [(0, .ref v0), (1, vI v1), (2, vI v2), (3, .ref v3), (4, .ref q2)]) (by decide) rfl dX0_mark_13 ?_
      refine z_iconst (pc := 15) C dX0_mark_15 ?_
      cases h
      exact z_iret (pc := 16) C rfl (show 1 ≤ 1 from by decide) (show 6 ≤ 6 from by decide) dX0_mark_16
    · have h := itf c7 h
      cases h
def d_X2_isAsk (v0 : Nat) (v1 : Int) (M : Mem) : Option Int :=
  if inb v1 20 then 
  if w32 (m_i M 202 v0 (ixn v1)) = 0 then
    some 1
  else
    some 0 else none
theorem ct_X2_isAsk {l : Launch} {S0 : State} {D : va_G} {cA : Nat → ClassId} (hG : x_G l S0 D cA) (v0 : Nat) (v1 : Int) (M : Mem) (r : Int) (hv0 : m_kd M v0 = 2) (h : d_X2_isAsk v0 v1 M = some r) : x_Me l S0 D cA yX2_isAsk cX2_isAsk 2 (some .boolean) [] ({ frames := 1, cells := 0, slots := 0, locals := 24 }) [.ref v0, vI v1] M (.returned (some (vI r))) M := by
  refine x_begin (F := 1) (Lo := 24) (mc := 0) (ms := 0) hG (Nat.le_of_ble_eq_true rfl) (lv := [(0, .ref v0), (1, vI v1)]) rfl rfl rfl rfl rfl (fun X e1 e2 e3 e4 e5 C => ?_)
  unfold d_X2_isAsk at h
  refine z_aload_n (pc := 0) C 0 rfl dX2_isAsk_0 ?_
  refine gX2_202 (pc := 1) C rfl hv0 dX2_isAsk_1 ?_
  refine z_iload_n (pc := 4) C 1 rfl dX2_isAsk_4 ?_
  obtain ⟨c1, h⟩ := ifn h
  refine z_iaO (pc := 5) (k := 2) (j := 2) C 202 rfl (by decide) (by decide) (by decide) rfl rfl rfl rfl hv0 c1 rfl dX2_isAsk_5 ?_
  refine z_if_ne (pc := 6) C dX2_isAsk_6 (tgt := 13) (by decide) (fun c2 => ?_) (fun c2 => ?_)
  · have h := itf c2 h
    refine z_iconst (pc := 13) C dX2_isAsk_13 ?_
    cases h
    exact z_zret (pc := 14) C rfl (Or.inl rfl) (show 0 ≤ 0 from by decide) (show 0 ≤ 0 from by decide) dX2_isAsk_14
  · have h := itt c2 h
    refine z_iconst (pc := 9) C dX2_isAsk_9 ?_
    refine z_goto (pc := 10) C dX2_isAsk_10 (tgt := 14) (by decide) ?_
    cases h
    exact z_zret (pc := 14) C rfl (Or.inr rfl) (show 0 ≤ 0 from by decide) (show 0 ≤ 0 from by decide) dX2_isAsk_14
def d_X1_askIn (v0 : Nat) (v1 : Int) (M : Mem) : Option ((Int ⊕ Nat) × Mem) :=
  if w32 v1 = w32 (-1) then
    bT (d_X1_need 1 M) fun r2 M3 => 
    some (.inl 0, M3)
  else
    bR (d_X2_isAsk v0 v1 M) fun r7 => 
    if w32 r7 = 0 then
      bT (d_X1_need 0 M) fun r10 M11 => 
      some (.inl 0, M11)
    else
      bT (d_X1_need 1 M) fun r15 M16 => 
      some (.inl 0, M16)
theorem ct_X1_askIn {l : Launch} {S0 : State} {D : va_G} {cA : Nat → ClassId} (hG : x_G l S0 D cA) (v0 : Nat) (v1 : Int) (M : Mem) (r : Int ⊕ Nat) (M' : Mem) (hv0 : m_kd M v0 = 2) (h : d_X1_askIn v0 v1 M = some (r, M')) : x_Me l S0 D cA yX1_askIn cX1_askIn 2 none [] ({ frames := 7, cells := (ocN r 0 1), slots := (ocN r 0 6), locals := 114 }) [.ref v0, vI v1] M (ocV r) M' := by
  refine x_begin (F := 7) (Lo := 114) (mc := (ocN r 0 1)) (ms := (ocN r 0 6)) hG (Nat.le_of_ble_eq_true rfl) (lv := [(0, .ref v0), (1, vI v1)]) rfl rfl rfl rfl rfl (fun X e1 e2 e3 e4 e5 C => ?_)
  have hR : _ ∧ _ := ⟨Nat.le_of_eq (congrArg Room.cells e5).symm, Nat.le_of_eq (congrArg Room.slots e5).symm⟩
  unfold d_X1_askIn at h
  refine z_iload_n (pc := 0) C 1 rfl dX1_askIn_0 ?_
  refine z_iconst (pc := 1) C dX1_askIn_1 ?_
  refine z_ic_eq (pc := 2) C dX1_askIn_2 (tgt := 13) (by decide) (fun c1 => ?_) (fun c1 => ?_)
  · have h := itt c1 h
    refine z_iconst (pc := 13) C dX1_askIn_13 ?_
    refine z_goto (pc := 14) C dX1_askIn_14 (tgt := 18) (by decide) ?_
    rcases bTs h with ⟨x6, e4, er⟩ | ⟨r2, M3, e4, h⟩
    · subst er; exact tX1_164 (pc := 18) C rfl (rm := { frames := 6, cells := 1, slots := 6, locals := 90 }) (ct_X1_need C.2.1 1 M _ _  e4) ⟨by decide, by decide, Nat.le_trans (show 1 ≤ 1 from by decide) hR.1, Nat.le_trans (show 6 ≤ 6 from by decide) hR.2⟩ (Nat.le_of_ble_eq_true rfl) dX1_askIn_18 (by decide) (show 1 ≤ 1 from by decide) (show 6 ≤ 6 from by decide)
    refine cX1_164 (pc := 18) (st := []) (st1 := []) C rfl (rm := { frames := 6, cells := 0, slots := 0, locals := 90 }) (ct_X1_need C.2.1 1 M _ _  e4) ⟨by decide, by decide, Nat.zero_le _, Nat.zero_le _⟩ rfl (Nat.le_of_ble_eq_true rfl) dX1_askIn_18 (c2 := 0) (s2 := 0) rfl rfl (fun x5 => ?_)
    cases h
    exact z_vret (pc := 21) C rfl (show 0 ≤ 0 from by decide) (show 0 ≤ 0 from by decide) dX1_askIn_21
  · have h := itf c1 h
    refine z_aload_n (pc := 5) C 0 rfl dX1_askIn_5 ?_
    refine z_iload_n (pc := 6) C 1 rfl dX1_askIn_6 ?_
    obtain ⟨r7, e8, h⟩ := bRs h
    refine cX1_374 (pc := 7) (st := []) (st1 := [vI r7]) C rfl (rm := { frames := 1, cells := 0, slots := 0, locals := 24 }) (ct_X2_isAsk C.2.1 v0 v1 M _ hv0 e8) ⟨by decide, by decide, Nat.zero_le _, Nat.zero_le _⟩ (Or.inl hv0) rfl (Nat.le_of_ble_eq_true rfl) dX1_askIn_7 (c2 := 0) (s2 := 0) rfl rfl (fun _ => ?_)
    refine z_if_eq (pc := 10) C dX1_askIn_10 (tgt := 17) (by decide) (fun c9 => ?_) (fun c9 => ?_)
    · have h := itt c9 h
      refine z_iconst (pc := 17) C dX1_askIn_17 ?_
      rcases bTs h with ⟨x14, e12, er⟩ | ⟨r10, M11, e12, h⟩
      · subst er; exact tX1_164 (pc := 18) C rfl (rm := { frames := 6, cells := 1, slots := 6, locals := 90 }) (ct_X1_need C.2.1 0 M _ _  e12) ⟨by decide, by decide, Nat.le_trans (show 1 ≤ 1 from by decide) hR.1, Nat.le_trans (show 6 ≤ 6 from by decide) hR.2⟩ (Nat.le_of_ble_eq_true rfl) dX1_askIn_18 (by decide) (show 1 ≤ 1 from by decide) (show 6 ≤ 6 from by decide)
      refine cX1_164 (pc := 18) (st := []) (st1 := []) C rfl (rm := { frames := 6, cells := 0, slots := 0, locals := 90 }) (ct_X1_need C.2.1 0 M _ _  e12) ⟨by decide, by decide, Nat.zero_le _, Nat.zero_le _⟩ rfl (Nat.le_of_ble_eq_true rfl) dX1_askIn_18 (c2 := 0) (s2 := 0) rfl rfl (fun x13 => ?_)
      cases h
      exact z_vret (pc := 21) C rfl (show 0 ≤ 0 from by decide) (show 0 ≤ 0 from by decide) dX1_askIn_21
    · have h := itf c9 h
      refine z_iconst (pc := 13) C dX1_askIn_13 ?_
      refine z_goto (pc := 14) C dX1_askIn_14 (tgt := 18) (by decide) ?_
      rcases bTs h with ⟨x19, e17, er⟩ | ⟨r15, M16, e17, h⟩
      · subst er; exact tX1_164 (pc := 18) C rfl (rm := { frames := 6, cells := 1, slots := 6, locals := 90 }) (ct_X1_need C.2.1 1 M _ _  e17) ⟨by decide, by decide, Nat.le_trans (show 1 ≤ 1 from by decide) hR.1, Nat.le_trans (show 6 ≤ 6 from by decide) hR.2⟩ (Nat.le_of_ble_eq_true rfl) dX1_askIn_18 (by decide) (show 1 ≤ 1 from by decide) (show 6 ≤ 6 from by decide)
      refine cX1_164 (pc := 18) (st := []) (st1 := []) C rfl (rm := { frames := 6, cells := 0, slots := 0, locals := 90 }) (ct_X1_need C.2.1 1 M _ _  e17) ⟨by decide, by decide, Nat.zero_le _, Nat.zero_le _⟩ rfl (Nat.le_of_ble_eq_true rfl) dX1_askIn_18 (c2 := 0) (s2 := 0) rfl rfl (fun x18 => ?_)
      cases h
      exact z_vret (pc := 21) C rfl (show 0 ≤ 0 from by decide) (show 0 ≤ 0 from by decide) dX1_askIn_21
def B_X1_rule_108  (v2 : Int) (v3 : Int) (v4 : Int) (v5 : Nat) (s0 : Int) (M : Mem) : Option ((Int ⊕ Nat) × Mem) :=
  bT (d_X1_room s0 M) fun r35 M36 => 
  if inb (m_i M36 212 v5 0) 16 then 
  some (.inl (m_i M36 212 v5 0), (m_si (m_si (m_si (m_si M36 213 v5 (ixn (m_i M36 212 v5 0)) v2) 214 v5 (ixn (m_i M36 212 v5 0)) v3) 215 v5 (ixn (m_i M36 212 v5 0)) v4) 212 v5 0 ((m_i M36 212 v5 0) + 1))) else none
def B_X1_rule_90  (v2 : Int) (v3 : Int) (v4 : Int) (v5 : Nat) (s0 : Int) (M : Mem) : Option ((Int ⊕ Nat) × Mem) :=
  bT (d_X1_need s0 M) fun r28 M29 => 
  if w32 16 ≤ w32 (m_i M29 212 v5 0) then
    B_X1_rule_108 v2 v3 v4 v5 0 M29
  else
    B_X1_rule_108 v2 v3 v4 v5 1 M29
def B_X1_rule_89  (v2 : Int) (v3 : Int) (v4 : Int) (v5 : Nat) (M : Mem) : Option ((Int ⊕ Nat) × Mem) :=
  B_X1_rule_90 v2 v3 v4 v5 0 M
def B_X1_rule_50  (v2 : Int) (v3 : Int) (v4 : Int) (v5 : Nat) (s0 : Int) (M : Mem) : Option ((Int ⊕ Nat) × Mem) :=
  bT (d_X1_inside s0 M) fun r9 M10 => 
  bT (d_X1_askIn v5 v2 M10) fun r15 M16 => 
  bT (d_X1_askIn v5 v3 M16) fun r21 M22 => 
  if w32 v2 = w32 v3 then
    B_X1_rule_89 v2 v3 v4 v5 M22
  else
    if w32 (d_X1_isIn (w32 v4) (-2000000) 2000000) = 0 then
      B_X1_rule_89 v2 v3 v4 v5 M22
    else
      B_X1_rule_90 v2 v3 v4 v5 1 M22
def B_X1_rule_49  (v2 : Int) (v3 : Int) (v4 : Int) (v5 : Nat) (M : Mem) : Option ((Int ⊕ Nat) × Mem) :=
  B_X1_rule_50 v2 v3 v4 v5 0 M
def d_X1_rule (v0 : Nat) (v1 : Int) (v2 : Int) (v3 : Int) (v4 : Int) (M : Mem) : Option ((Int ⊕ Nat) × Mem) :=
  bT (d_X1_formOf v0 v1 M) fun r1 M2 => 
  if m_kd M2 r1 = 2 then 
  if w32 (d_X1_isIn (w32 v2) (-1) (w32 ((m_i M2 200 r1 0) - 1))) = 0 then
    B_X1_rule_49 v2 v3 v4 r1 M2
  else
    if w32 (d_X1_isIn (w32 v3) (-1) (w32 ((m_i M2 200 r1 0) - 1))) = 0 then
      B_X1_rule_49 v2 v3 v4 r1 M2
    else
      B_X1_rule_50 v2 v3 v4 r1 1 M2 else none
theorem cB_X1_rule_108 {X : x_Ctx} {M0 : Mem} (C : x_CC X 8 139 yX1_rule cX1_rule 6 (some .int) [])  (v2 : Int) (v3 : Int) (v4 : Int) (v5 : Nat) (s0 : Int) (M : Mem) (r : Int ⊕ Nat) (M' : Mem) (hv5 : m_kd M v5 = 2) (h : B_X1_rule_108  v2 v3 v4 v5 s0 M = some (r, M')) (hR : ocN r 0 1 ≤ (XR X).cells ∧ ocN r 0 6 ≤ (XR X).slots) : x_Z X 0 0 (x_QF X M0 (ocI r) M' (ocN r 0 1) (ocN r 0 6)) M0 M 6 [(2, vI v2), (3, vI v3), (4, vI v4), (5, .ref v5)] 108 [vI s0] := by
  unfold B_X1_rule_108 at h
  rcases bTs h with ⟨x39, e37, er⟩ | ⟨r35, M36, e37, h⟩
  · subst er; exact tX1_176 (pc := 108) C rfl (rm := { frames := 6, cells := 1, slots := 6, locals := 90 }) (ct_X1_room C.2.1 s0 M _ _  e37) ⟨by decide, by decide, Nat.le_trans (show 1 ≤ 1 from by decide) hR.1, Nat.le_trans (show 6 ≤ 6 from by decide) hR.2⟩ (Nat.le_of_ble_eq_true rfl) dX1_rule_108 (by decide) (show 1 ≤ 1 from by decide) (show 6 ≤ 6 from by decide)
  refine cX1_176 (pc := 108) (st := []) (st1 := []) C rfl (rm := { frames := 6, cells := 0, slots := 0, locals := 90 }) (ct_X1_room C.2.1 s0 M _ _  e37) ⟨by decide, by decide, Nat.zero_le _, Nat.zero_le _⟩ rfl (Nat.le_of_ble_eq_true rfl) dX1_rule_108 (c2 := 0) (s2 := 0) rfl rfl (fun x38 => ?_)
  have k40 := x38 _ 2 (by decide) (Or.inl (by decide)) hv5
  refine z_aload (pc := 111) C 3 rfl dX1_rule_111 ?_
  refine gX1_213 (pc := 113) C rfl k40 dX1_rule_113 ?_
  refine z_aload (pc := 116) C 3 rfl dX1_rule_116 ?_
  refine gX1_212 (pc := 118) C rfl (Or.inl k40) rfl dX1_rule_118 ?_
  refine z_iload_n (pc := 121) C 0 rfl dX1_rule_121 ?_
  obtain ⟨c41, h⟩ := ifn h
  refine z_isO (pc := 122) (k := 2) (j := 13) C 213 rfl (by decide) (by decide) (by decide) rfl rfl rfl rfl k40 c41 dX1_rule_122 ?_
  refine z_aload (pc := 123) C 3 rfl dX1_rule_123 ?_
  refine gX1_214 (pc := 125) C rfl k40 dX1_rule_125 ?_
  refine z_aload (pc := 128) C 3 rfl dX1_rule_128 ?_
  refine gX1_212 (pc := 130) C rfl (Or.inl k40) (x := m_i M36 212 v5 0) ((m_i_ne (by decide)).trans rfl) dX1_rule_130 ?_
  refine z_iload_n (pc := 133) C 1 rfl dX1_rule_133 ?_
  refine z_isO (pc := 134) (k := 2) (j := 14) C 214 rfl (by decide) (by decide) (by decide) rfl rfl rfl rfl k40 c41 dX1_rule_134 ?_
  refine z_aload (pc := 135) C 3 rfl dX1_rule_135 ?_
  refine gX1_215 (pc := 137) C rfl k40 dX1_rule_137 ?_
  refine z_aload (pc := 140) C 3 rfl dX1_rule_140 ?_
  refine gX1_212 (pc := 142) C rfl (Or.inl k40) (x := m_i M36 212 v5 0) ((m_i_ne (by decide)).trans ((m_i_ne (by decide)).trans rfl)) dX1_rule_142 ?_
  refine z_iload (pc := 145) C 2 rfl dX1_rule_145 ?_
  refine z_isO (pc := 147) (k := 2) (j := 15) C 215 rfl (by decide) (by decide) (by decide) rfl rfl rfl rfl k40 c41 dX1_rule_147 ?_
  refine z_aload (pc := 148) C 3 rfl dX1_rule_148 ?_
  refine z_dup (pc := 150) C rfl dX1_rule_150 ?_
  refine gX1_212 (pc := 151) C rfl (Or.inl k40) (x := m_i M36 212 v5 0) ((m_i_ne (by decide)).trans ((m_i_ne (by decide)).trans ((m_i_ne (by decide)).trans rfl))) dX1_rule_151 ?_
  refine z_dupx1 (pc := 154) C rfl rfl dX1_rule_154 ?_
  refine z_iconst (pc := 155) C dX1_rule_155 ?_
  refine z_iadd (pc := 156) C dX1_rule_156 ?_
  refine pX1_212 (pc := 157) C rfl (Or.inl k40) dX1_rule_157 ?_
  cases h
  exact z_iret (pc := 160) C rfl (show 0 ≤ 0 from by decide) (show 0 ≤ 0 from by decide) dX1_rule_160
theorem cB_X1_rule_90 {X : x_Ctx} {M0 : Mem} (C : x_CC X 8 139 yX1_rule cX1_rule 6 (some .int) [])  (v2 : Int) (v3 : Int) (v4 : Int) (v5 : Nat) (s0 : Int) (M : Mem) (r : Int ⊕ Nat) (M' : Mem) (hv5 : m_kd M v5 = 2) (h : B_X1_rule_90  v2 v3 v4 v5 s0 M = some (r, M')) (hR : ocN r 0 1 ≤ (XR X).cells ∧ ocN r 0 6 ≤ (XR X).slots) : x_Z X 0 0 (x_QF X M0 (ocI r) M' (ocN r 0 1) (ocN r 0 6)) M0 M 6 [(2, vI v2), (3, vI v3), (4, vI v4), (5, .ref v5)] 90 [vI s0] := by
  unfold B_X1_rule_90 at h
  rcases bTs h with ⟨x32, e30, er⟩ | ⟨r28, M29, e30, h⟩
  · subst er; exact tX1_164 (pc := 90) C rfl (rm := { frames := 6, cells := 1, slots := 6, locals := 90 }) (ct_X1_need C.2.1 s0 M _ _  e30) ⟨by decide, by decide, Nat.le_trans (show 1 ≤ 1 from by decide) hR.1, Nat.le_trans (show 6 ≤ 6 from by decide) hR.2⟩ (Nat.le_of_ble_eq_true rfl) dX1_rule_90 (by decide) (show 1 ≤ 1 from by decide) (show 6 ≤ 6 from by decide)
  refine cX1_164 (pc := 90) (st := []) (st1 := []) C rfl (rm := { frames := 6, cells := 0, slots := 0, locals := 90 }) (ct_X1_need C.2.1 s0 M _ _  e30) ⟨by decide, by decide, Nat.zero_le _, Nat.zero_le _⟩ rfl (Nat.le_of_ble_eq_true rfl) dX1_rule_90 (c2 := 0) (s2 := 0) rfl rfl (fun x31 => ?_)
  have k33 := x31 _ 2 (by decide) (Or.inl (by decide)) hv5
  refine z_aload (pc := 93) C 3 rfl dX1_rule_93 ?_
  refine gX1_212 (pc := 95) C rfl (Or.inl k33) rfl dX1_rule_95 ?_
  refine z_bipush (pc := 98) C (by decide +kernel) dX1_rule_98 ?_
  refine z_ic_ge (pc := 100) C dX1_rule_100 (tgt := 107) (by decide) (fun c34 => ?_) (fun c34 => ?_)
  · have h := itt c34 h
    refine z_iconst (pc := 107) C dX1_rule_107 ?_
    exact cB_X1_rule_108 C v2 v3 v4 v5 0 M29 _ _ k33 h hR
  · have h := itf c34 h
    refine z_iconst (pc := 103) C dX1_rule_103 ?_
    refine z_goto (pc := 104) C dX1_rule_104 (tgt := 108) (by decide) ?_
    exact cB_X1_rule_108 C v2 v3 v4 v5 1 M29 _ _ k33 h hR
theorem cB_X1_rule_89 {X : x_Ctx} {M0 : Mem} (C : x_CC X 8 139 yX1_rule cX1_rule 6 (some .int) [])  (v2 : Int) (v3 : Int) (v4 : Int) (v5 : Nat) (M : Mem) (r : Int ⊕ Nat) (M' : Mem) (hv5 : m_kd M v5 = 2) (h : B_X1_rule_89  v2 v3 v4 v5 M = some (r, M')) (hR : ocN r 0 1 ≤ (XR X).cells ∧ ocN r 0 6 ≤ (XR X).slots) : x_Z X 0 0 (x_QF X M0 (ocI r) M' (ocN r 0 1) (ocN r 0 6)) M0 M 6 [(2, vI v2), (3, vI v3), (4, vI v4), (5, .ref v5)] 89 [] := by
  unfold B_X1_rule_89 at h
  refine z_iconst (pc := 89) C dX1_rule_89 ?_
  exact cB_X1_rule_90 C v2 v3 v4 v5 0 M _ _ hv5 h hR
theorem cB_X1_rule_50 {X : x_Ctx} {M0 : Mem} (C : x_CC X 8 139 yX1_rule cX1_rule 6 (some .int) [])  (v2 : Int) (v3 : Int) (v4 : Int) (v5 : Nat) (s0 : Int) (M : Mem) (r : Int ⊕ Nat) (M' : Mem) (hv5 : m_kd M v5 = 2) (h : B_X1_rule_50  v2 v3 v4 v5 s0 M = some (r, M')) (hR : ocN r 0 1 ≤ (XR X).cells ∧ ocN r 0 6 ≤ (XR X).slots) : x_Z X 0 0 (x_QF X M0 (ocI r) M' (ocN r 0 1) (ocN r 0 6)) M0 M 6 [(2, vI v2), (3, vI v3), (4, vI v4), (5, .ref v5)] 50 [vI s0] := by
  unfold B_X1_rule_50 at h
  rcases bTs h with ⟨x13, e11, er⟩ | ⟨r9, M10, e11, h⟩
  · subst er; exact tX1_171 (pc := 50) C rfl (rm := { frames := 6, cells := 1, slots := 6, locals := 90 }) (ct_X1_inside C.2.1 s0 M _ _  e11) ⟨by decide, by decide, Nat.le_trans (show 1 ≤ 1 from by decide) hR.1, Nat.le_trans (show 6 ≤ 6 from by decide) hR.2⟩ (Nat.le_of_ble_eq_true rfl) dX1_rule_50 (by decide) (show 1 ≤ 1 from by decide) (show 6 ≤ 6 from by decide)
  refine cX1_171 (pc := 50) (st := []) (st1 := []) C rfl (rm := { frames := 6, cells := 0, slots := 0, locals := 90 }) (ct_X1_inside C.2.1 s0 M _ _  e11) ⟨by decide, by decide, Nat.zero_le _, Nat.zero_le _⟩ rfl (Nat.le_of_ble_eq_true rfl) dX1_rule_50 (c2 := 0) (s2 := 0) rfl rfl (fun x12 => ?_)
  have k14 := x12 _ 2 (by decide) (Or.inl (by decide)) hv5
  refine z_aload (pc := 53) C 3 rfl dX1_rule_53 ?_
  refine z_iload_n (pc := 55) C 0 rfl dX1_rule_55 ?_
  rcases bTs h with ⟨x19, e17, er⟩ | ⟨r15, M16, e17, h⟩
  · subst er; exact tX1_380 (pc := 56) C rfl (rm := { frames := 7, cells := 1, slots := 6, locals := 114 }) (ct_X1_askIn C.2.1 v5 v2 M10 _ _ k14 e17) ⟨by decide, by decide, Nat.le_trans (show 1 ≤ 1 from by decide) hR.1, Nat.le_trans (show 6 ≤ 6 from by decide) hR.2⟩ (Nat.le_of_ble_eq_true rfl) dX1_rule_56 (by decide) (show 1 ≤ 1 from by decide) (show 6 ≤ 6 from by decide)
  refine cX1_380 (pc := 56) (st := []) (st1 := []) C rfl (rm := { frames := 7, cells := 0, slots := 0, locals := 114 }) (ct_X1_askIn C.2.1 v5 v2 M10 _ _ k14 e17) ⟨by decide, by decide, Nat.zero_le _, Nat.zero_le _⟩ rfl (Nat.le_of_ble_eq_true rfl) dX1_rule_56 (c2 := 0) (s2 := 0) rfl rfl (fun x18 => ?_)
  have k20 := x18 _ 2 (by decide) (Or.inl (by decide)) k14
  refine z_aload (pc := 59) C 3 rfl dX1_rule_59 ?_
  refine z_iload_n (pc := 61) C 1 rfl dX1_rule_61 ?_
  rcases bTs h with ⟨x25, e23, er⟩ | ⟨r21, M22, e23, h⟩
  · subst er; exact tX1_380 (pc := 62) C rfl (rm := { frames := 7, cells := 1, slots := 6, locals := 114 }) (ct_X1_askIn C.2.1 v5 v3 M16 _ _ k20 e23) ⟨by decide, by decide, Nat.le_trans (show 1 ≤ 1 from by decide) hR.1, Nat.le_trans (show 6 ≤ 6 from by decide) hR.2⟩ (Nat.le_of_ble_eq_true rfl) dX1_rule_62 (by decide) (show 1 ≤ 1 from by decide) (show 6 ≤ 6 from by decide)
  refine cX1_380 (pc := 62) (st := []) (st1 := []) C rfl (rm := { frames := 7, cells := 0, slots := 0, locals := 114 }) (ct_X1_askIn C.2.1 v5 v3 M16 _ _ k20 e23) ⟨by decide, by decide, Nat.zero_le _, Nat.zero_le _⟩ rfl (Nat.le_of_ble_eq_true rfl) dX1_rule_62 (c2 := 0) (s2 := 0) rfl rfl (fun x24 => ?_)
  have k26 := x24 _ 2 (by decide) (Or.inl (by decide)) k20
  refine z_iload_n (pc := 65) C 0 rfl dX1_rule_65 ?_
  refine z_iload_n (pc := 66) C 1 rfl dX1_rule_66 ?_
  refine z_ic_eq (pc := 67) C dX1_rule_67 (tgt := 89) (by decide) (fun c27 => ?_) (fun c27 => ?_)
  · have h := itt c27 h
    exact cB_X1_rule_89 C v2 v3 v4 v5 M22 _ _ k26 h hR
  · have h := itf c27 h
    refine z_iload (pc := 70) C 2 rfl dX1_rule_70 ?_
    refine z_i2l (pc := 72) C dX1_rule_72 ?_
    refine z_ldc2 (pc := 73) C (x := -2000000) q1116 (by decide +kernel) dX1_rule_73 ?_
    refine z_ldc2 (pc := 76) C (x := 2000000) q1117 (by decide +kernel) dX1_rule_76 ?_
    refine cX1_159 (pc := 79) (st := []) (st1 := [vI (d_X1_isIn (w32 v4) (-2000000) 2000000)]) C rfl (rm := { frames := 1, cells := 0, slots := 0, locals := 24 }) (ct_X1_isIn C.2.1 (w32 v4) (-2000000) 2000000 M22 _  rfl) ⟨by decide, by decide, Nat.zero_le _, Nat.zero_le _⟩ rfl (Nat.le_of_ble_eq_true rfl) dX1_rule_79 (c2 := 0) (s2 := 0) rfl rfl (fun _ => ?_)
    refine z_if_eq (pc := 82) C dX1_rule_82 (tgt := 89) (by decide) (fun c43 => ?_) (fun c43 => ?_)
    · have h := itt c43 h
      exact cB_X1_rule_89 C v2 v3 v4 v5 M22 _ _ k26 h hR
    · have h := itf c43 h
      refine z_iconst (pc := 85) C dX1_rule_85 ?_
      refine z_goto (pc := 86) C dX1_rule_86 (tgt := 90) (by decide) ?_
      exact cB_X1_rule_90 C v2 v3 v4 v5 1 M22 _ _ k26 h hR
theorem cB_X1_rule_49 {X : x_Ctx} {M0 : Mem} (C : x_CC X 8 139 yX1_rule cX1_rule 6 (some .int) [])  (v2 : Int) (v3 : Int) (v4 : Int) (v5 : Nat) (M : Mem) (r : Int ⊕ Nat) (M' : Mem) (hv5 : m_kd M v5 = 2) (h : B_X1_rule_49  v2 v3 v4 v5 M = some (r, M')) (hR : ocN r 0 1 ≤ (XR X).cells ∧ ocN r 0 6 ≤ (XR X).slots) : x_Z X 0 0 (x_QF X M0 (ocI r) M' (ocN r 0 1) (ocN r 0 6)) M0 M 6 [(2, vI v2), (3, vI v3), (4, vI v4), (5, .ref v5)] 49 [] := by
  unfold B_X1_rule_49 at h
  refine z_iconst (pc := 49) C dX1_rule_49 ?_
  exact cB_X1_rule_50 C v2 v3 v4 v5 0 M _ _ hv5 h hR
theorem ct_X1_rule {l : Launch} {S0 : State} {D : va_G} {cA : Nat → ClassId} (hG : x_G l S0 D cA) (v0 : Nat) (v1 : Int) (v2 : Int) (v3 : Int) (v4 : Int) (M : Mem) (r : Int ⊕ Nat) (M' : Mem) (hv0 : m_kd M v0 = 1) (h : d_X1_rule v0 v1 v2 v3 v4 M = some (r, M')) : x_Me l S0 D cA yX1_rule cX1_rule 6 (some .int) [] ({ frames := 8, cells := (ocN r 0 1), slots := (ocN r 0 6), locals := 139 }) [.ref v0, vI v1, vI v2, vI v3, vI v4] M (ocI r) M' := by
  refine x_begin (F := 8) (Lo := 139) (mc := (ocN r 0 1)) (ms := (ocN r 0 6)) hG (Nat.le_of_ble_eq_true rfl) (lv := [(0, .ref v0), (1, vI v1), (2, vI v2), (3, vI v3), (4, vI v4)]) rfl rfl rfl rfl rfl (fun X e1 e2 e3 e4 e5 C => ?_)
  have hR : _ ∧ _ := ⟨Nat.le_of_eq (congrArg Room.cells e5).symm, Nat.le_of_eq (congrArg Room.slots e5).symm⟩
  unfold d_X1_rule at h
  refine z_aload_n (pc := 0) C 0 rfl dX1_rule_0 ?_
  refine z_iload_n (pc := 1) C 1 rfl dX1_rule_1 ?_
  rcases bTs h with ⟨x5, e3, er⟩ | ⟨r1, M2, e3, h⟩
  · subst er; exact tX1_235 (pc := 2) C rfl (rm := { frames := 7, cells := 1, slots := 6, locals := 114 }) (ct_X1_formOf C.2.1 v0 v1 M _ _ hv0 e3) ⟨by decide, by decide, Nat.le_trans (show 1 ≤ 1 from by decide) hR.1, Nat.le_trans (show 6 ≤ 6 from by decide) hR.2⟩ (Or.inl hv0) (Nat.le_of_ble_eq_true rfl) dX1_rule_2 (by decide) (show 1 ≤ 1 from by decide) (show 6 ≤ 6 from by decide)
  refine cX1_235 (pc := 2) (st := []) (st1 := [.ref r1]) C rfl (rm := { frames := 7, cells := 0, slots := 0, locals := 114 }) (ct_X1_formOf C.2.1 v0 v1 M _ _ hv0 e3) ⟨by decide, by decide, Nat.zero_le _, Nat.zero_le _⟩ (Or.inl hv0) rfl (Nat.le_of_ble_eq_true rfl) dX1_rule_2 (c2 := 0) (s2 := 0) rfl rfl (fun x4 => ?_)
  obtain ⟨c6, h⟩ := ifn h
  refine z_astore (pc := 5) C (lv' := [(0, .ref v0), (1, vI v1), (2, vI v2), (3, vI v3), (4, vI v4), (5, .ref r1)]) (by decide) rfl dX1_rule_5 ?_
  refine z_iload_n (pc := 7) C 2 rfl dX1_rule_7 ?_
  refine z_i2l (pc := 8) C dX1_rule_8 ?_
  refine z_ldc2 (pc := 9) C (x := -1) q1108 (by decide +kernel) dX1_rule_9 ?_
  refine z_aload (pc := 12) C 5 rfl dX1_rule_12 ?_
  refine gX1_200 (pc := 14) C rfl (Or.inl c6) rfl dX1_rule_14 ?_
  refine z_iconst (pc := 17) C dX1_rule_17 ?_
  refine z_isub (pc := 18) C dX1_rule_18 ?_
  refine z_i2l (pc := 19) C dX1_rule_19 ?_
  refine cX1_159 (pc := 20) (st := []) (st1 := [vI (d_X1_isIn (w32 v2) (-1) (w32 ((m_i M2 200 r1 0) - 1)))]) C rfl (rm := { frames := 1, cells := 0, slots := 0, locals := 24 }) (ct_X1_isIn C.2.1 (w32 v2) (-1) (w32 ((m_i M2 200 r1 0) - 1)) M2 _  rfl) ⟨by decide, by decide, Nat.zero_le _, Nat.zero_le _⟩ rfl (Nat.le_of_ble_eq_true rfl) dX1_rule_20 (c2 := 0) (s2 := 0) rfl rfl (fun _ => ?_)
  refine z_if_eq (pc := 23) C dX1_rule_23 (tgt := 49) (by decide) (fun c8 => ?_) (fun c8 => ?_)
  · have h := itt c8 h
    exact z_lv [2, 3, 4, 5] rfl <| cB_X1_rule_49 C v2 v3 v4 r1 M2 _ _ c6 h hR
  · have h := itf c8 h
    refine z_iload_n (pc := 26) C 3 rfl dX1_rule_26 ?_
    refine z_i2l (pc := 27) C dX1_rule_27 ?_
    refine z_ldc2 (pc := 28) C (x := -1) q1108 (by decide +kernel) dX1_rule_28 ?_
    refine z_aload (pc := 31) C 5 rfl dX1_rule_31 ?_
    refine gX1_200 (pc := 33) C rfl (Or.inl c6) rfl dX1_rule_33 ?_
    refine z_iconst (pc := 36) C dX1_rule_36 ?_
    refine z_isub (pc := 37) C dX1_rule_37 ?_
    refine z_i2l (pc := 38) C dX1_rule_38 ?_
    refine cX1_159 (pc := 39) (st := []) (st1 := [vI (d_X1_isIn (w32 v3) (-1) (w32 ((m_i M2 200 r1 0) - 1)))]) C rfl (rm := { frames := 1, cells := 0, slots := 0, locals := 24 }) (ct_X1_isIn C.2.1 (w32 v3) (-1) (w32 ((m_i M2 200 r1 0) - 1)) M2 _  rfl) ⟨by decide, by decide, Nat.zero_le _, Nat.zero_le _⟩ rfl (Nat.le_of_ble_eq_true rfl) dX1_rule_39 (c2 := 0) (s2 := 0) rfl rfl (fun _ => ?_)
    refine z_if_eq (pc := 42) C dX1_rule_42 (tgt := 49) (by decide) (fun c45 => ?_) (fun c45 => ?_)
    · have h := itt c45 h
      exact z_lv [2, 3, 4, 5] rfl <| cB_X1_rule_49 C v2 v3 v4 r1 M2 _ _ c6 h hR
    · have h := itf c45 h
      refine z_iconst (pc := 45) C dX1_rule_45 ?_
      refine z_goto (pc := 46) C dX1_rule_46 (tgt := 50) (by decide) ?_
      exact z_lv [2, 3, 4, 5] rfl <| cB_X1_rule_50 C v2 v3 v4 r1 1 M2 _ _ c6 h hR
def d_X0_rule (v0 : Nat) (v1 : Int) (v2 : Int) (v3 : Int) (v4 : Int) (v5 : Nat) (M : Mem) : Option (Int × Mem) :=
  bC (d_X1_rule v0 v1 v2 v3 v4 M) (fun r1 M3 =>
    some (0, (m_si M3 9000 v5 (ixn 0) (w32 r1)))) (fun q2 M3 =>
    if m_kd M3 q2 = 115 then
      some (1, M3)
    else
      if m_kd M3 q2 = 113 then
        some (2, M3)
      else
        if m_kd M3 q2 = 114 then
          some (3, M3)
        else
          none)
theorem ct_X0_rule {l : Launch} {S0 : State} {D : va_G} {cA : Nat → ClassId} (hG : x_G l S0 D cA) (v0 : Nat) (v1 : Int) (v2 : Int) (v3 : Int) (v4 : Int) (v5 : Nat) (M : Mem) (r : Int) (M' : Mem) (hv0 : m_kd M v0 = 1) (hv5 : m_kd M v5 = 19000) (h : d_X0_rule v0 v1 v2 v3 v4 v5 M = some (r, M')) : x_Me l S0 D cA yX0_rule cX0_rule 7 (some .int) [(0, 14, 17, 25), (0, 14, 21, 13), (0, 14, 25, 19)] ({ frames := 9, cells := 1, slots := 6, locals := 168 }) [.ref v0, vI v1, vI v2, vI v3, vI v4, .ref v5] M (.returned (some (vI r))) M' := by
  refine x_begin (F := 9) (Lo := 168) (mc := 1) (ms := 6) hG (Nat.le_of_ble_eq_true rfl) (lv := [(0, .ref v0), (1, vI v1), (2, vI v2), (3, vI v3), (4, vI v4), (5, .ref v5)]) rfl rfl rfl rfl rfl (fun X e1 e2 e3 e4 e5 C => ?_)
  have hR : _ ∧ _ := ⟨Nat.le_of_eq (congrArg Room.cells e5).symm, Nat.le_of_eq (congrArg Room.slots e5).symm⟩
  unfold d_X0_rule at h
  refine z_aload (pc := 0) C 5 rfl dX0_rule_0 ?_
  refine z_iconst (pc := 2) C dX0_rule_2 ?_
  refine z_aload_n (pc := 3) C 0 rfl dX0_rule_3 ?_
  refine z_iload_n (pc := 4) C 1 rfl dX0_rule_4 ?_
  refine z_iload_n (pc := 5) C 2 rfl dX0_rule_5 ?_
  refine z_iload_n (pc := 6) C 3 rfl dX0_rule_6 ?_
  refine z_iload (pc := 7) C 4 rfl dX0_rule_7 ?_
  rcases bCs h with ⟨r1, M3, e4, h⟩ | ⟨q2, M3, e4, h⟩
  · refine cX0_78 (pc := 9) (st := [vI 0, .ref v5]) (st1 := [vI r1, vI 0, .ref v5]) C rfl (rm := { frames := 8, cells := 0, slots := 0, locals := 139 }) (ct_X1_rule C.2.1 v0 v1 v2 v3 v4 M _ _ hv0 e4) ⟨by decide, by decide, Nat.zero_le _, Nat.zero_le _⟩ (Or.inl hv0) rfl (Nat.le_of_ble_eq_true rfl) dX0_rule_9 (c2 := 0) (s2 := 0) rfl rfl (fun x5 => ?_)
    have k6 := x5 _ 19000 (by decide) (Or.inr (by decide)) hv5
    refine z_i2l (pc := 12) C dX0_rule_12 ?_
    refine z_lsw (pc := 13) C k6 (by decide +kernel) dX0_rule_13 ?_
    refine z_goto (pc := 14) C dX0_rule_14 (tgt := 29) (by decide) ?_
    refine z_iconst (pc := 29) C dX0_rule_29 ?_
    cases h
    exact z_iret (pc := 30) C rfl (show 0 ≤ 1 from by decide) (show 0 ≤ 6 from by decide) dX0_rule_30
  · by_cases c7 : m_kd M3 q2 = 115
    · have h := itt c7 h
      refine kX0_78 (pc := 9) (st := [vI 0, .ref v5]) C rfl (rm := { frames := 8, cells := 1, slots := 6, locals := 139 }) (r := q2) (ct_X1_rule C.2.1 v0 v1 v2 v3 v4 M _ _ hv0 e4) ⟨by decide, by decide, Nat.le_trans (show 1 ≤ 1 from by decide) hR.1, Nat.le_trans (show 6 ≤ 6 from by decide) hR.2⟩ (Or.inl hv0) (Nat.le_of_ble_eq_true rfl) dX0_rule_9 (e := 15) (hpc := 17) (by decide) (Or.inr c7) (Or.inr ⟨by decide, by decide, 15, by decide, q560, Or.inl ⟨rfl, rfl⟩⟩) (c2 := 1) (s2 := 6) rfl rfl (fun x8 => ?_)
      refine z_astore (pc := 17) C (lv' := [(0, .ref v0), (1, vI v1), (2, vI v2), (3, vI v3), (4, vI v4), (5, .ref v5), (6, .ref q2)]) (by decide) rfl dX0_rule_17 ?_
      refine z_iconst (pc := 19) C dX0_rule_19 ?_
      cases h
      exact z_iret (pc := 20) C rfl (show 1 ≤ 1 from by decide) (show 6 ≤ 6 from by decide) dX0_rule_20
    · have h := itf c7 h
      by_cases c9 : m_kd M3 q2 = 113
      · have h := itt c9 h
        refine kX0_78 (pc := 9) (st := [vI 0, .ref v5]) C rfl (rm := { frames := 8, cells := 1, slots := 6, locals := 139 }) (r := q2) (ct_X1_rule C.2.1 v0 v1 v2 v3 v4 M _ _ hv0 e4) ⟨by decide, by decide, Nat.le_trans (show 1 ≤ 1 from by decide) hR.1, Nat.le_trans (show 6 ≤ 6 from by decide) hR.2⟩ (Or.inl hv0) (Nat.le_of_ble_eq_true rfl) dX0_rule_9 (e := 13) (hpc := 21) (by decide) (Or.inr c9) (Or.inr ⟨by decide, by decide, 15, by decide, q560, Or.inr ⟨by decide, Or.inr ⟨by decide, by decide, 13, by decide, q447, Or.inl ⟨rfl, rfl⟩⟩⟩⟩) (c2 := 1) (s2 := 6) rfl rfl (fun x10 => ?_)
        refine z_astore (pc := 21) C (lv' := [(0, .ref v0), (1, vI v1), (2, vI v2), (3, vI v3), (4, vI v4), (5, .ref v5), (6, .ref q2)]) (by decide) rfl dX0_rule_21 ?_
        refine z_iconst (pc := 23) C dX0_rule_23 ?_
        cases h
        exact z_iret (pc := 24) C rfl (show 1 ≤ 1 from by decide) (show 6 ≤ 6 from by decide) dX0_rule_24
      · have h := itf c9 h
        by_cases c11 : m_kd M3 q2 = 114
        · have h := itt c11 h
          refine kX0_78 (pc := 9) (st := [vI 0, .ref v5]) C rfl (rm := { frames := 8, cells := 1, slots := 6, locals := 139 }) (r := q2) (ct_X1_rule C.2.1 v0 v1 v2 v3 v4 M _ _ hv0 e4) ⟨by decide, by decide, Nat.le_trans (show 1 ≤ 1 from by decide) hR.1, Nat.le_trans (show 6 ≤ 6 from by decide) hR.2⟩ (Or.inl hv0) (Nat.le_of_ble_eq_true rfl) dX0_rule_9 (e := 14) (hpc := 25) (by decide) (Or.inr c11) (Or.inr ⟨by decide, by decide, 15, by decide, q560, Or.inr ⟨by decide, Or.inr ⟨by decide, by decide, 13, by decide, q447, Or.inr ⟨by decide, Or.inr ⟨by decide, by decide, 14, by decide, q533, Or.inl ⟨rfl, rfl⟩⟩⟩⟩⟩⟩) (c2 := 1) (s2 := 6) rfl rfl (fun x12 => ?_)
          refine z_astore (pc := 25) C (lv' := [(0, .ref v0), (1, vI v1), (2, vI v2), (3, vI v3), (4, vI v4), (5, .ref v5), (6, .ref q2)]) (by decide) rfl dX0_rule_25 ?_
          refine z_iconst (pc := 27) C dX0_rule_27 ?_
          cases h
          exact z_iret (pc := 28) C rfl (show 1 ≤ 1 from by decide) (show 6 ≤ 6 from by decide) dX0_rule_28
        · have h := itf c11 h
          cases h
def B_X1_cost_39  (v2 : Int) (v3 : Int) (v4 : Nat) (s0 : Int) (M : Mem) : Option ((Int ⊕ Nat) × Mem) :=
  bT (d_X1_need s0 M) fun r16 M17 => 
  if inb v2 20 then 
  some (.inl (m_i M17 205 v4 (ixn v2)), (m_si M17 205 v4 (ixn v2) v3)) else none
def B_X1_cost_38  (v2 : Int) (v3 : Int) (v4 : Nat) (M : Mem) : Option ((Int ⊕ Nat) × Mem) :=
  B_X1_cost_39 v2 v3 v4 0 M
def d_X1_cost (v0 : Nat) (v1 : Int) (v2 : Int) (v3 : Int) (M : Mem) : Option ((Int ⊕ Nat) × Mem) :=
  bT (d_X1_formOf v0 v1 M) fun r1 M2 => 
  if m_kd M2 r1 = 2 then 
  bT (d_X1_statementIn r1 v2 M2) fun r7 M8 => 
  bR (d_X2_isAsk r1 v2 M8) fun r13 => 
  if w32 r13 = 0 then
    B_X1_cost_38 v2 v3 r1 M8
  else
    if w32 (d_X1_isIn (w32 v3) 1 100) = 0 then
      B_X1_cost_38 v2 v3 r1 M8
    else
      B_X1_cost_39 v2 v3 r1 1 M8 else none
theorem cB_X1_cost_39 {X : x_Ctx} {M0 : Mem} (C : x_CC X 8 139 yX1_cost cX1_cost 6 (some .int) [])  (v2 : Int) (v3 : Int) (v4 : Nat) (s0 : Int) (M : Mem) (r : Int ⊕ Nat) (M' : Mem) (hv4 : m_kd M v4 = 2) (h : B_X1_cost_39  v2 v3 v4 s0 M = some (r, M')) (hR : ocN r 0 1 ≤ (XR X).cells ∧ ocN r 0 6 ≤ (XR X).slots) : x_Z X 0 0 (x_QF X M0 (ocI r) M' (ocN r 0 1) (ocN r 0 6)) M0 M 6 [(2, vI v2), (3, vI v3), (4, .ref v4)] 39 [vI s0] := by
  unfold B_X1_cost_39 at h
  rcases bTs h with ⟨x20, e18, er⟩ | ⟨r16, M17, e18, h⟩
  · subst er; exact tX1_164 (pc := 39) C rfl (rm := { frames := 6, cells := 1, slots := 6, locals := 90 }) (ct_X1_need C.2.1 s0 M _ _  e18) ⟨by decide, by decide, Nat.le_trans (show 1 ≤ 1 from by decide) hR.1, Nat.le_trans (show 6 ≤ 6 from by decide) hR.2⟩ (Nat.le_of_ble_eq_true rfl) dX1_cost_39 (by decide) (show 1 ≤ 1 from by decide) (show 6 ≤ 6 from by decide)
  refine cX1_164 (pc := 39) (st := []) (st1 := []) C rfl (rm := { frames := 6, cells := 0, slots := 0, locals := 90 }) (ct_X1_need C.2.1 s0 M _ _  e18) ⟨by decide, by decide, Nat.zero_le _, Nat.zero_le _⟩ rfl (Nat.le_of_ble_eq_true rfl) dX1_cost_39 (c2 := 0) (s2 := 0) rfl rfl (fun x19 => ?_)
  have k21 := x19 _ 2 (by decide) (Or.inl (by decide)) hv4
  refine z_aload (pc := 42) C 2 rfl dX1_cost_42 ?_
  refine gX1_205 (pc := 44) C rfl k21 dX1_cost_44 ?_
  refine z_iload_n (pc := 47) C 0 rfl dX1_cost_47 ?_
  obtain ⟨c22, h⟩ := ifn h
  refine z_iaO (pc := 48) (k := 2) (j := 5) C 205 rfl (by decide) (by decide) (by decide) rfl rfl rfl rfl k21 c22 rfl dX1_cost_48 ?_
  refine z_istore (pc := 49) C (lv' := [(2, vI v2), (3, vI v3), (4, .ref v4), (5, vI (m_i M17 205 v4 (ixn v2)))]) (by decide) rfl dX1_cost_49 ?_
  refine z_aload (pc := 51) C 2 rfl dX1_cost_51 ?_
  refine gX1_205 (pc := 53) C rfl k21 dX1_cost_53 ?_
  refine z_iload_n (pc := 56) C 0 rfl dX1_cost_56 ?_
  refine z_iload_n (pc := 57) C 1 rfl dX1_cost_57 ?_
  refine z_isO (pc := 58) (k := 2) (j := 5) C 205 rfl (by decide) (by decide) (by decide) rfl rfl rfl rfl k21 c22 dX1_cost_58 ?_
  refine z_iload (pc := 59) C 3 rfl dX1_cost_59 ?_
  cases h
  exact z_iret (pc := 61) C rfl (show 0 ≤ 0 from by decide) (show 0 ≤ 0 from by decide) dX1_cost_61
theorem cB_X1_cost_38 {X : x_Ctx} {M0 : Mem} (C : x_CC X 8 139 yX1_cost cX1_cost 6 (some .int) [])  (v2 : Int) (v3 : Int) (v4 : Nat) (M : Mem) (r : Int ⊕ Nat) (M' : Mem) (hv4 : m_kd M v4 = 2) (h : B_X1_cost_38  v2 v3 v4 M = some (r, M')) (hR : ocN r 0 1 ≤ (XR X).cells ∧ ocN r 0 6 ≤ (XR X).slots) : x_Z X 0 0 (x_QF X M0 (ocI r) M' (ocN r 0 1) (ocN r 0 6)) M0 M 6 [(2, vI v2), (3, vI v3), (4, .ref v4)] 38 [] := by
  unfold B_X1_cost_38 at h
  refine z_iconst (pc := 38) C dX1_cost_38 ?_
  exact cB_X1_cost_39 C v2 v3 v4 0 M _ _ hv4 h hR
theorem ct_X1_cost {l : Launch} {S0 : State} {D : va_G} {cA : Nat → ClassId} (hG : x_G l S0 D cA) (v0 : Nat) (v1 : Int) (v2 : Int) (v3 : Int) (M : Mem) (r : Int ⊕ Nat) (M' : Mem) (hv0 : m_kd M v0 = 1) (h : d_X1_cost v0 v1 v2 v3 M = some (r, M')) : x_Me l S0 D cA yX1_cost cX1_cost 6 (some .int) [] ({ frames := 8, cells := (ocN r 0 1), slots := (ocN r 0 6), locals := 139 }) [.ref v0, vI v1, vI v2, vI v3] M (ocI r) M' := by
  refine x_begin (F := 8) (Lo := 139) (mc := (ocN r 0 1)) (ms := (ocN r 0 6)) hG (Nat.le_of_ble_eq_true rfl) (lv := [(0, .ref v0), (1, vI v1), (2, vI v2), (3, vI v3)]) rfl rfl rfl rfl rfl (fun X e1 e2 e3 e4 e5 C => ?_)
  have hR : _ ∧ _ := ⟨Nat.le_of_eq (congrArg Room.cells e5).symm, Nat.le_of_eq (congrArg Room.slots e5).symm⟩
  unfold d_X1_cost at h
  refine z_aload_n (pc := 0) C 0 rfl dX1_cost_0 ?_
  refine z_iload_n (pc := 1) C 1 rfl dX1_cost_1 ?_
  rcases bTs h with ⟨x5, e3, er⟩ | ⟨r1, M2, e3, h⟩
  · subst er; exact tX1_235 (pc := 2) C rfl (rm := { frames := 7, cells := 1, slots := 6, locals := 114 }) (ct_X1_formOf C.2.1 v0 v1 M _ _ hv0 e3) ⟨by decide, by decide, Nat.le_trans (show 1 ≤ 1 from by decide) hR.1, Nat.le_trans (show 6 ≤ 6 from by decide) hR.2⟩ (Or.inl hv0) (Nat.le_of_ble_eq_true rfl) dX1_cost_2 (by decide) (show 1 ≤ 1 from by decide) (show 6 ≤ 6 from by decide)
  refine cX1_235 (pc := 2) (st := []) (st1 := [.ref r1]) C rfl (rm := { frames := 7, cells := 0, slots := 0, locals := 114 }) (ct_X1_formOf C.2.1 v0 v1 M _ _ hv0 e3) ⟨by decide, by decide, Nat.zero_le _, Nat.zero_le _⟩ (Or.inl hv0) rfl (Nat.le_of_ble_eq_true rfl) dX1_cost_2 (c2 := 0) (s2 := 0) rfl rfl (fun x4 => ?_)
  obtain ⟨c6, h⟩ := ifn h
  refine z_astore (pc := 5) C (lv' := [(0, .ref v0), (1, vI v1), (2, vI v2), (3, vI v3), (4, .ref r1)]) (by decide) rfl dX1_cost_5 ?_
  refine z_aload (pc := 7) C 4 rfl dX1_cost_7 ?_
  refine z_iload_n (pc := 9) C 2 rfl dX1_cost_9 ?_
  rcases bTs h with ⟨x11, e9, er⟩ | ⟨r7, M8, e9, h⟩
  · subst er; exact tX1_239 (pc := 10) C rfl (rm := { frames := 7, cells := 1, slots := 6, locals := 114 }) (ct_X1_statementIn C.2.1 r1 v2 M2 _ _ c6 e9) ⟨by decide, by decide, Nat.le_trans (show 1 ≤ 1 from by decide) hR.1, Nat.le_trans (show 6 ≤ 6 from by decide) hR.2⟩ (Nat.le_of_ble_eq_true rfl) dX1_cost_10 (by decide) (show 1 ≤ 1 from by decide) (show 6 ≤ 6 from by decide)
  refine cX1_239 (pc := 10) (st := []) (st1 := []) C rfl (rm := { frames := 7, cells := 0, slots := 0, locals := 114 }) (ct_X1_statementIn C.2.1 r1 v2 M2 _ _ c6 e9) ⟨by decide, by decide, Nat.zero_le _, Nat.zero_le _⟩ rfl (Nat.le_of_ble_eq_true rfl) dX1_cost_10 (c2 := 0) (s2 := 0) rfl rfl (fun x10 => ?_)
  have k12 := x10 _ 2 (by decide) (Or.inl (by decide)) c6
  refine z_aload (pc := 13) C 4 rfl dX1_cost_13 ?_
  refine z_iload_n (pc := 15) C 2 rfl dX1_cost_15 ?_
  obtain ⟨r13, e14, h⟩ := bRs h
  refine cX1_374 (pc := 16) (st := []) (st1 := [vI r13]) C rfl (rm := { frames := 1, cells := 0, slots := 0, locals := 24 }) (ct_X2_isAsk C.2.1 r1 v2 M8 _ k12 e14) ⟨by decide, by decide, Nat.zero_le _, Nat.zero_le _⟩ (Or.inl k12) rfl (Nat.le_of_ble_eq_true rfl) dX1_cost_16 (c2 := 0) (s2 := 0) rfl rfl (fun _ => ?_)
  refine z_if_eq (pc := 19) C dX1_cost_19 (tgt := 38) (by decide) (fun c15 => ?_) (fun c15 => ?_)
  · have h := itt c15 h
    exact z_lv [2, 3, 4] rfl <| cB_X1_cost_38 C v2 v3 r1 M8 _ _ k12 h hR
  · have h := itf c15 h
    refine z_iload_n (pc := 22) C 3 rfl dX1_cost_22 ?_
    refine z_i2l (pc := 23) C dX1_cost_23 ?_
    refine z_lconst (pc := 24) C (x := 1) (by decide +kernel) dX1_cost_24 ?_
    refine z_ldc2 (pc := 25) C (x := 100) q1125 (by decide +kernel) dX1_cost_25 ?_
    refine cX1_159 (pc := 28) (st := []) (st1 := [vI (d_X1_isIn (w32 v3) 1 100)]) C rfl (rm := { frames := 1, cells := 0, slots := 0, locals := 24 }) (ct_X1_isIn C.2.1 (w32 v3) 1 100 M8 _  rfl) ⟨by decide, by decide, Nat.zero_le _, Nat.zero_le _⟩ rfl (Nat.le_of_ble_eq_true rfl) dX1_cost_28 (c2 := 0) (s2 := 0) rfl rfl (fun _ => ?_)
    refine z_if_eq (pc := 31) C dX1_cost_31 (tgt := 38) (by decide) (fun c24 => ?_) (fun c24 => ?_)
    · have h := itt c24 h
      exact z_lv [2, 3, 4] rfl <| cB_X1_cost_38 C v2 v3 r1 M8 _ _ k12 h hR
    · have h := itf c24 h
      refine z_iconst (pc := 34) C dX1_cost_34 ?_
      refine z_goto (pc := 35) C dX1_cost_35 (tgt := 39) (by decide) ?_
      exact z_lv [2, 3, 4] rfl <| cB_X1_cost_39 C v2 v3 r1 1 M8 _ _ k12 h hR
def d_X0_cost (v0 : Nat) (v1 : Int) (v2 : Int) (v3 : Int) (v4 : Nat) (M : Mem) : Option (Int × Mem) :=
  bC (d_X1_cost v0 v1 v2 v3 M) (fun r1 M3 =>
    some (0, (m_si M3 9000 v4 (ixn 0) (w32 r1)))) (fun q2 M3 =>
    if m_kd M3 q2 = 115 then
      some (1, M3)
    else
      if m_kd M3 q2 = 113 then
        some (2, M3)
      else
        none)
theorem ct_X0_cost {l : Launch} {S0 : State} {D : va_G} {cA : Nat → ClassId} (hG : x_G l S0 D cA) (v0 : Nat) (v1 : Int) (v2 : Int) (v3 : Int) (v4 : Nat) (M : Mem) (r : Int) (M' : Mem) (hv0 : m_kd M v0 = 1) (hv4 : m_kd M v4 = 19000) (h : d_X0_cost v0 v1 v2 v3 v4 M = some (r, M')) : x_Me l S0 D cA yX0_cost cX0_cost 6 (some .int) [(0, 12, 15, 25), (0, 12, 19, 13)] ({ frames := 9, cells := 1, slots := 6, locals := 168 }) [.ref v0, vI v1, vI v2, vI v3, .ref v4] M (.returned (some (vI r))) M' := by
  refine x_begin (F := 9) (Lo := 168) (mc := 1) (ms := 6) hG (Nat.le_of_ble_eq_true rfl) (lv := [(0, .ref v0), (1, vI v1), (2, vI v2), (3, vI v3), (4, .ref v4)]) rfl rfl rfl rfl rfl (fun X e1 e2 e3 e4 e5 C => ?_)
  have hR : _ ∧ _ := ⟨Nat.le_of_eq (congrArg Room.cells e5).symm, Nat.le_of_eq (congrArg Room.slots e5).symm⟩
  unfold d_X0_cost at h
  refine z_aload (pc := 0) C 4 rfl dX0_cost_0 ?_
  refine z_iconst (pc := 2) C dX0_cost_2 ?_
  refine z_aload_n (pc := 3) C 0 rfl dX0_cost_3 ?_
  refine z_iload_n (pc := 4) C 1 rfl dX0_cost_4 ?_
  refine z_iload_n (pc := 5) C 2 rfl dX0_cost_5 ?_
  refine z_iload_n (pc := 6) C 3 rfl dX0_cost_6 ?_
  rcases bCs h with ⟨r1, M3, e4, h⟩ | ⟨q2, M3, e4, h⟩
  · refine cX0_81 (pc := 7) (st := [vI 0, .ref v4]) (st1 := [vI r1, vI 0, .ref v4]) C rfl (rm := { frames := 8, cells := 0, slots := 0, locals := 139 }) (ct_X1_cost C.2.1 v0 v1 v2 v3 M _ _ hv0 e4) ⟨by decide, by decide, Nat.zero_le _, Nat.zero_le _⟩ (Or.inl hv0) rfl (Nat.le_of_ble_eq_true rfl) dX0_cost_7 (c2 := 0) (s2 := 0) rfl rfl (fun x5 => ?_)
    have k6 := x5 _ 19000 (by decide) (Or.inr (by decide)) hv4
    refine z_i2l (pc := 10) C dX0_cost_10 ?_
    refine z_lsw (pc := 11) C k6 (by decide +kernel) dX0_cost_11 ?_
    refine z_goto (pc := 12) C dX0_cost_12 (tgt := 23) (by decide) ?_
    refine z_iconst (pc := 23) C dX0_cost_23 ?_
    cases h
    exact z_iret (pc := 24) C rfl (show 0 ≤ 1 from by decide) (show 0 ≤ 6 from by decide) dX0_cost_24
  · by_cases c7 : m_kd M3 q2 = 115
    · have h := itt c7 h
      refine kX0_81 (pc := 7) (st := [vI 0, .ref v4]) C rfl (rm := { frames := 8, cells := 1, slots := 6, locals := 139 }) (r := q2) (ct_X1_cost C.2.1 v0 v1 v2 v3 M _ _ hv0 e4) ⟨by decide, by decide, Nat.le_trans (show 1 ≤ 1 from by decide) hR.1, Nat.le_trans (show 6 ≤ 6 from by decide) hR.2⟩ (Or.inl hv0) (Nat.le_of_ble_eq_true rfl) dX0_cost_7 (e := 15) (hpc := 15) (by decide) (Or.inr c7) (Or.inr ⟨by decide, by decide, 15, by decide, q560, Or.inl ⟨rfl, rfl⟩⟩) (c2 := 1) (s2 := 6) rfl rfl (fun x8 => ?_)
      refine z_astore (pc := 15) C (lv' := [(0, .ref v0), (1, vI v1), (2, vI v2), (3, vI v3), (4, .ref v4), (5, .ref q2)]) (by decide) rfl dX0_cost_15 ?_
      refine z_iconst (pc := 17) C dX0_cost_17 ?_
      cases h
      exact z_iret (pc := 18) C rfl (show 1 ≤ 1 from by decide) (show 6 ≤ 6 from by decide) dX0_cost_18
    · have h := itf c7 h
      by_cases c9 : m_kd M3 q2 = 113
      · have h := itt c9 h
        refine kX0_81 (pc := 7) (st := [vI 0, .ref v4]) C rfl (rm := { frames := 8, cells := 1, slots := 6, locals := 139 }) (r := q2) (ct_X1_cost C.2.1 v0 v1 v2 v3 M _ _ hv0 e4) ⟨by decide, by decide, Nat.le_trans (show 1 ≤ 1 from by decide) hR.1, Nat.le_trans (show 6 ≤ 6 from by decide) hR.2⟩ (Or.inl hv0) (Nat.le_of_ble_eq_true rfl) dX0_cost_7 (e := 13) (hpc := 19) (by decide) (Or.inr c9) (Or.inr ⟨by decide, by decide, 15, by decide, q560, Or.inr ⟨by decide, Or.inr ⟨by decide, by decide, 13, by decide, q447, Or.inl ⟨rfl, rfl⟩⟩⟩⟩) (c2 := 1) (s2 := 6) rfl rfl (fun x10 => ?_)
        refine z_astore (pc := 19) C (lv' := [(0, .ref v0), (1, vI v1), (2, vI v2), (3, vI v3), (4, .ref v4), (5, .ref q2)]) (by decide) rfl dX0_cost_19 ?_
        refine z_iconst (pc := 21) C dX0_cost_21 ?_
        cases h
        exact z_iret (pc := 22) C rfl (show 1 ≤ 1 from by decide) (show 6 ≤ 6 from by decide) dX0_cost_22
      · have h := itf c9 h
        cases h
def B_X1_breaks_45  (v0 : Nat) (v1 : Int) (v3 : Int) (s0 : Int) (M : Mem) : Option Int :=
  if w32 v3 = w32 (-2000000) then
    some 0
  else
    if w32 s0 = w32 (-2000000) then
      some 0
    else
      if inb v1 16 then 
      if w32 (v3 - s0) ≤ w32 (m_i M 215 v0 (ixn v1)) then
        some 0
      else
        some 1 else none
def B_X1_breaks_22  (v0 : Nat) (v1 : Int) (v2 : Nat) (s0 : Int) (M : Mem) : Option Int :=
  if inb v1 16 then 
  if w32 (m_i M 214 v0 (ixn v1)) = w32 (-1) then
    B_X1_breaks_45 v0 v1 s0 0 M
  else
    if inb (m_i M 214 v0 (ixn v1)) (p_n M v2) then 
    B_X1_breaks_45 v0 v1 s0 (p_i M v2 (ixn (m_i M 214 v0 (ixn v1)))) M else none else none
def d_X1_breaks (v0 : Nat) (v1 : Int) (v2 : Nat) (M : Mem) : Option Int :=
  if inb v1 16 then 
  if w32 (m_i M 213 v0 (ixn v1)) = w32 (-1) then
    B_X1_breaks_22 v0 v1 v2 0 M
  else
    if inb (m_i M 213 v0 (ixn v1)) (p_n M v2) then 
    B_X1_breaks_22 v0 v1 v2 (p_i M v2 (ixn (m_i M 213 v0 (ixn v1)))) M else none else none
theorem cB_X1_breaks_45 {X : x_Ctx} {M0 : Mem} (C : x_CC X 1 24 yX1_breaks cX1_breaks 5 (some .boolean) [])  (v0 : Nat) (v1 : Int) (v3 : Int) (s0 : Int) (M : Mem) (r : Int) (hv0 : m_kd M v0 = 2) (h : B_X1_breaks_45  v0 v1 v3 s0 M = some r)  : x_Z X 0 0 (x_QF X M0 (.returned (some (vI r))) M 0 0) M0 M 5 [(0, .ref v0), (1, vI v1), (3, vI v3)] 45 [vI s0] := by
  unfold B_X1_breaks_45 at h
  refine z_istore (pc := 45) C (lv' := [(0, .ref v0), (1, vI v1), (3, vI v3), (4, vI s0)]) (by decide) rfl dX1_breaks_45 ?_
  refine z_iload_n (pc := 47) C 2 rfl dX1_breaks_47 ?_
  refine z_ldc (pc := 48) C (x := -2000000) q661 (by decide +kernel) dX1_breaks_48 ?_
  refine z_ic_eq (pc := 50) C dX1_breaks_50 (tgt := 77) (by decide) (fun c7 => ?_) (fun c7 => ?_)
  · have h := itt c7 h
    refine z_iconst (pc := 77) C dX1_breaks_77 ?_
    cases h
    exact z_zret (pc := 78) C rfl (Or.inl rfl) (show 0 ≤ 0 from by decide) (show 0 ≤ 0 from by decide) dX1_breaks_78
  · have h := itf c7 h
    refine z_iload (pc := 53) C 3 rfl dX1_breaks_53 ?_
    refine z_ldc (pc := 55) C (x := -2000000) q661 (by decide +kernel) dX1_breaks_55 ?_
    refine z_ic_eq (pc := 57) C dX1_breaks_57 (tgt := 77) (by decide) (fun c8 => ?_) (fun c8 => ?_)
    · have h := itt c8 h
      refine z_iconst (pc := 77) C dX1_breaks_77 ?_
      cases h
      exact z_zret (pc := 78) C rfl (Or.inl rfl) (show 0 ≤ 0 from by decide) (show 0 ≤ 0 from by decide) dX1_breaks_78
    · have h := itf c8 h
      refine z_iload_n (pc := 60) C 2 rfl dX1_breaks_60 ?_
      refine z_iload (pc := 61) C 3 rfl dX1_breaks_61 ?_
      refine z_isub (pc := 63) C dX1_breaks_63 ?_
      refine z_aload_n (pc := 64) C 0 rfl dX1_breaks_64 ?_
      refine gX1_215 (pc := 65) C rfl hv0 dX1_breaks_65 ?_
      refine z_iload_n (pc := 68) C 1 rfl dX1_breaks_68 ?_
      obtain ⟨c9, h⟩ := ifn h
      refine z_iaO (pc := 69) (k := 2) (j := 15) C 215 rfl (by decide) (by decide) (by decide) rfl rfl rfl rfl hv0 c9 rfl dX1_breaks_69 ?_
      refine z_ic_le (pc := 70) C dX1_breaks_70 (tgt := 77) (by decide) (fun c10 => ?_) (fun c10 => ?_)
      · have h := itt c10 h
        refine z_iconst (pc := 77) C dX1_breaks_77 ?_
        cases h
        exact z_zret (pc := 78) C rfl (Or.inl rfl) (show 0 ≤ 0 from by decide) (show 0 ≤ 0 from by decide) dX1_breaks_78
      · have h := itf c10 h
        refine z_iconst (pc := 73) C dX1_breaks_73 ?_
        refine z_goto (pc := 74) C dX1_breaks_74 (tgt := 78) (by decide) ?_
        cases h
        exact z_zret (pc := 78) C rfl (Or.inr rfl) (show 0 ≤ 0 from by decide) (show 0 ≤ 0 from by decide) dX1_breaks_78
theorem cB_X1_breaks_22 {X : x_Ctx} {M0 : Mem} (C : x_CC X 1 24 yX1_breaks cX1_breaks 5 (some .boolean) [])  (v0 : Nat) (v1 : Int) (v2 : Nat) (s0 : Int) (M : Mem) (r : Int) (hv0 : m_kd M v0 = 2) (hv2 : x_IA M v2) (h : B_X1_breaks_22  v0 v1 v2 s0 M = some r)  : x_Z X 0 0 (x_QF X M0 (.returned (some (vI r))) M 0 0) M0 M 5 [(0, .ref v0), (1, vI v1), (2, .ref v2)] 22 [vI s0] := by
  unfold B_X1_breaks_22 at h
  refine z_istore_n (pc := 22) C (lv' := [(0, .ref v0), (1, vI v1), (2, .ref v2), (3, vI s0)]) (by decide) rfl dX1_breaks_22 ?_
  refine z_aload_n (pc := 23) C 0 rfl dX1_breaks_23 ?_
  refine gX1_214 (pc := 24) C rfl hv0 dX1_breaks_24 ?_
  refine z_iload_n (pc := 27) C 1 rfl dX1_breaks_27 ?_
  obtain ⟨c4, h⟩ := ifn h
  refine z_iaO (pc := 28) (k := 2) (j := 14) C 214 rfl (by decide) (by decide) (by decide) rfl rfl rfl rfl hv0 c4 rfl dX1_breaks_28 ?_
  refine z_iconst (pc := 29) C dX1_breaks_29 ?_
  refine z_ic_ne (pc := 30) C dX1_breaks_30 (tgt := 37) (by decide) (fun c5 => ?_) (fun c5 => ?_)
  · have h := itf c5 h
    refine z_aload_n (pc := 37) C 2 rfl dX1_breaks_37 ?_
    refine z_aload_n (pc := 38) C 0 rfl dX1_breaks_38 ?_
    refine gX1_214 (pc := 39) C rfl hv0 dX1_breaks_39 ?_
    refine z_iload_n (pc := 42) C 1 rfl dX1_breaks_42 ?_
    refine z_iaO (pc := 43) (k := 2) (j := 14) C 214 rfl (by decide) (by decide) (by decide) rfl rfl rfl rfl hv0 c4 rfl dX1_breaks_43 ?_
    obtain ⟨c6, h⟩ := ifn h
    refine z_iaP (pc := 44) C hv2 c6 dX1_breaks_44 ?_
    exact z_lv [0, 1, 3] rfl <| cB_X1_breaks_45 C v0 v1 s0 (p_i M v2 (ixn (m_i M 214 v0 (ixn v1)))) M _ hv0 h
  · have h := itt c5 h
    refine z_iconst (pc := 33) C dX1_breaks_33 ?_
    refine z_goto (pc := 34) C dX1_breaks_34 (tgt := 45) (by decide) ?_
    exact z_lv [0, 1, 3] rfl <| cB_X1_breaks_45 C v0 v1 s0 0 M _ hv0 h
theorem ct_X1_breaks {l : Launch} {S0 : State} {D : va_G} {cA : Nat → ClassId} (hG : x_G l S0 D cA) (v0 : Nat) (v1 : Int) (v2 : Nat) (M : Mem) (r : Int) (hv0 : m_kd M v0 = 2) (hv2 : x_IA M v2) (h : d_X1_breaks v0 v1 v2 M = some r) : x_Me l S0 D cA yX1_breaks cX1_breaks 5 (some .boolean) [] ({ frames := 1, cells := 0, slots := 0, locals := 24 }) [.ref v0, vI v1, .ref v2] M (.returned (some (vI r))) M := by
  refine x_begin (F := 1) (Lo := 24) (mc := 0) (ms := 0) hG (Nat.le_of_ble_eq_true rfl) (lv := [(0, .ref v0), (1, vI v1), (2, .ref v2)]) rfl rfl rfl rfl rfl (fun X e1 e2 e3 e4 e5 C => ?_)
  unfold d_X1_breaks at h
  refine z_aload_n (pc := 0) C 0 rfl dX1_breaks_0 ?_
  refine gX1_213 (pc := 1) C rfl hv0 dX1_breaks_1 ?_
  refine z_iload_n (pc := 4) C 1 rfl dX1_breaks_4 ?_
  obtain ⟨c1, h⟩ := ifn h
  refine z_iaO (pc := 5) (k := 2) (j := 13) C 213 rfl (by decide) (by decide) (by decide) rfl rfl rfl rfl hv0 c1 rfl dX1_breaks_5 ?_
  refine z_iconst (pc := 6) C dX1_breaks_6 ?_
  refine z_ic_ne (pc := 7) C dX1_breaks_7 (tgt := 14) (by decide) (fun c2 => ?_) (fun c2 => ?_)
  · have h := itf c2 h
    refine z_aload_n (pc := 14) C 2 rfl dX1_breaks_14 ?_
    refine z_aload_n (pc := 15) C 0 rfl dX1_breaks_15 ?_
    refine gX1_213 (pc := 16) C rfl hv0 dX1_breaks_16 ?_
    refine z_iload_n (pc := 19) C 1 rfl dX1_breaks_19 ?_
    refine z_iaO (pc := 20) (k := 2) (j := 13) C 213 rfl (by decide) (by decide) (by decide) rfl rfl rfl rfl hv0 c1 rfl dX1_breaks_20 ?_
    obtain ⟨c3, h⟩ := ifn h
    refine z_iaP (pc := 21) C hv2 c3 dX1_breaks_21 ?_
    exact cB_X1_breaks_22 C v0 v1 v2 (p_i M v2 (ixn (m_i M 213 v0 (ixn v1)))) M _ hv0 hv2 h
  · have h := itt c2 h
    refine z_iconst (pc := 10) C dX1_breaks_10 ?_
    refine z_goto (pc := 11) C dX1_breaks_11 (tgt := 22) (by decide) ?_
    exact cB_X1_breaks_22 C v0 v1 v2 0 M _ hv0 hv2 h
def B_X1_countBroken_4 (k4 : Nat → Nat → Int → Int → Mem → Option Int) (v0 : Nat) (v1 : Nat) (v2 : Int) (v3 : Int) (M : Mem) : Option Int :=
  if w32 (m_i M 212 v0 0) ≤ w32 v3 then
    some v2
  else
    bR (d_X1_breaks v0 v3 v1 M) fun r2 => 
    if w32 r2 = 0 then
      k4 v0 v1 (v2 + 0) (v3 + 1) M
    else
      k4 v0 v1 (v2 + 1) (v3 + 1) M
def L_X1_countBroken_4  : Nat → Nat → Nat → Int → Int → Mem → Option Int
  | 0, _, _, _, _, _ => none
  | n + 1, v0, v1, v2, v3, M => B_X1_countBroken_4 (L_X1_countBroken_4  n) v0 v1 v2 v3 M
def d_X1_countBroken (v0 : Nat) (v1 : Nat) (M : Mem) : Option Int :=
  L_X1_countBroken_4 FU v0 v1 0 0 M
theorem cB_X1_countBroken_4 {X : x_Ctx} {M0 : Mem} (C : x_CC X 2 52 yX1_countBroken cX1_countBroken 4 (some .int) []) {k4 : Nat → Nat → Int → Int → Mem → Option Int} (hk4 : ∀ (v0 : Nat) (v1 : Nat) (v2 : Int) (v3 : Int) (M : Mem) (r : Int), m_kd M v0 = 2 → x_IA M v1 → k4 v0 v1 v2 v3 M = some r → x_Z X 0 0 (x_QF X M0 (.returned (some (vI r))) M 0 0) M0 M 4 [(0, .ref v0), (1, .ref v1), (2, vI v2), (3, vI v3)] 4 []) (v0 : Nat) (v1 : Nat) (v2 : Int) (v3 : Int) (M : Mem) (r : Int) (hv0 : m_kd M v0 = 2) (hv1 : x_IA M v1) (h : B_X1_countBroken_4 k4 v0 v1 v2 v3 M = some r)  : x_Z X 0 0 (x_QF X M0 (.returned (some (vI r))) M 0 0) M0 M 4 [(0, .ref v0), (1, .ref v1), (2, vI v2), (3, vI v3)] 4 [] := by
  unfold B_X1_countBroken_4 at h
  refine z_iload_n (pc := 4) C 3 rfl dX1_countBroken_4 ?_
  refine z_aload_n (pc := 5) C 0 rfl dX1_countBroken_5 ?_
  refine gX1_212 (pc := 6) C rfl (Or.inl hv0) rfl dX1_countBroken_6 ?_
  refine z_ic_ge (pc := 9) C dX1_countBroken_9 (tgt := 35) (by decide) (fun c1 => ?_) (fun c1 => ?_)
  · have h := itt c1 h
    refine z_iload_n (pc := 35) C 2 rfl dX1_countBroken_35 ?_
    cases h
    exact z_iret (pc := 36) C rfl (show 0 ≤ 0 from by decide) (show 0 ≤ 0 from by decide) dX1_countBroken_36
  · have h := itf c1 h
    refine z_iload_n (pc := 12) C 2 rfl dX1_countBroken_12 ?_
    refine z_aload_n (pc := 13) C 0 rfl dX1_countBroken_13 ?_
    refine z_iload_n (pc := 14) C 3 rfl dX1_countBroken_14 ?_
    refine z_aload_n (pc := 15) C 1 rfl dX1_countBroken_15 ?_
    obtain ⟨r2, e3, h⟩ := bRs h
    refine cX1_401 (pc := 16) (st := [vI v2]) (st1 := [vI r2, vI v2]) C rfl (rm := { frames := 1, cells := 0, slots := 0, locals := 24 }) (ct_X1_breaks C.2.1 v0 v3 v1 M _ hv0 hv1 e3) ⟨by decide, by decide, Nat.zero_le _, Nat.zero_le _⟩ rfl (Nat.le_of_ble_eq_true rfl) dX1_countBroken_16 (c2 := 0) (s2 := 0) rfl rfl (fun _ => ?_)
    refine z_if_eq (pc := 19) C dX1_countBroken_19 (tgt := 26) (by decide) (fun c4 => ?_) (fun c4 => ?_)
    · have h := itt c4 h
      refine z_iconst (pc := 26) C dX1_countBroken_26 ?_
      refine z_iadd (pc := 27) C dX1_countBroken_27 ?_
      refine z_istore_n (pc := 28) C (lv' := [(0, .ref v0), (1, .ref v1), (2, vI (v2 + 0)), (3, vI v3)]) (by decide) rfl dX1_countBroken_28 ?_
      refine z_iinc (pc := 29) C (lv' := [(0, .ref v0), (1, .ref v1), (2, vI (v2 + 0)), (3, vI (v3 + 1))]) 3 rfl (by decide) rfl dX1_countBroken_29 ?_
      refine z_goto (pc := 32) C dX1_countBroken_32 (tgt := 4) (by decide) ?_
      exact hk4 v0 v1 (v2 + 0) (v3 + 1) M _ hv0 hv1 h
    · have h := itf c4 h
      refine z_iconst (pc := 22) C dX1_countBroken_22 ?_
      refine z_goto (pc := 23) C dX1_countBroken_23 (tgt := 27) (by decide) ?_
      refine z_iadd (pc := 27) C dX1_countBroken_27 ?_
      refine z_istore_n (pc := 28) C (lv' := [(0, .ref v0), (1, .ref v1), (2, vI (v2 + 1)), (3, vI v3)]) (by decide) rfl dX1_countBroken_28 ?_
      refine z_iinc (pc := 29) C (lv' := [(0, .ref v0), (1, .ref v1), (2, vI (v2 + 1)), (3, vI (v3 + 1))]) 3 rfl (by decide) rfl dX1_countBroken_29 ?_
      refine z_goto (pc := 32) C dX1_countBroken_32 (tgt := 4) (by decide) ?_
      exact hk4 v0 v1 (v2 + 1) (v3 + 1) M _ hv0 hv1 h
theorem cL_X1_countBroken_4 {X : x_Ctx} {M0 : Mem} (C : x_CC X 2 52 yX1_countBroken cX1_countBroken 4 (some .int) [])  : ∀ (n : Nat) (v0 : Nat) (v1 : Nat) (v2 : Int) (v3 : Int) (M : Mem) (r : Int) (hv0 : m_kd M v0 = 2) (hv1 : x_IA M v1) (h : L_X1_countBroken_4  n v0 v1 v2 v3 M = some r) , x_Z X 0 0 (x_QF X M0 (.returned (some (vI r))) M 0 0) M0 M 4 [(0, .ref v0), (1, .ref v1), (2, vI v2), (3, vI v3)] 4 [] := by
  intro n
  induction n with
  | zero => intro v0 v1 v2 v3 M r hv0 hv1 h ; cases h
  | succ n ih => intro v0 v1 v2 v3 M r hv0 hv1 h ; exact cB_X1_countBroken_4 C (fun v0 v1 v2 v3 M r hv0 hv1 h  => ih v0 v1 v2 v3 M r hv0 hv1 h ) v0 v1 v2 v3 M r hv0 hv1 h 
theorem ct_X1_countBroken {l : Launch} {S0 : State} {D : va_G} {cA : Nat → ClassId} (hG : x_G l S0 D cA) (v0 : Nat) (v1 : Nat) (M : Mem) (r : Int) (hv0 : m_kd M v0 = 2) (hv1 : x_IA M v1) (h : d_X1_countBroken v0 v1 M = some r) : x_Me l S0 D cA yX1_countBroken cX1_countBroken 4 (some .int) [] ({ frames := 2, cells := 0, slots := 0, locals := 52 }) [.ref v0, .ref v1] M (.returned (some (vI r))) M := by
  refine x_begin (F := 2) (Lo := 52) (mc := 0) (ms := 0) hG (Nat.le_of_ble_eq_true rfl) (lv := [(0, .ref v0), (1, .ref v1)]) rfl rfl rfl rfl rfl (fun X e1 e2 e3 e4 e5 C => ?_)
  unfold d_X1_countBroken at h
  refine z_iconst (pc := 0) C dX1_countBroken_0 ?_
  refine z_istore_n (pc := 1) C (lv' := [(0, .ref v0), (1, .ref v1), (2, vI 0)]) (by decide) rfl dX1_countBroken_1 ?_
  refine z_iconst (pc := 2) C dX1_countBroken_2 ?_
  refine z_istore_n (pc := 3) C (lv' := [(0, .ref v0), (1, .ref v1), (2, vI 0), (3, vI 0)]) (by decide) rfl dX1_countBroken_3 ?_
  exact cL_X1_countBroken_4 C FU v0 v1 0 0 M _ hv0 hv1 h
def B_X1_broken_42 (k42 : Int → Nat → Int → Int → Mem → Option ((Int ⊕ Nat) × Mem)) (v2 : Int) (v3 : Nat) (v4 : Int) (v5 : Int) (M : Mem) : Option ((Int ⊕ Nat) × Mem) :=
  bR (m_r M 901 v3 0) fun q24 => 
  if w32 (m_i M 212 q24 0) ≤ w32 v5 then
    some (.inl (-1), M)
  else
    bR (m_r M 901 v3 0) fun q28 => 
    bR (d_X1_breaks q28 v5 (v3 + 1) M) fun r32 => 
    if w32 r32 = 0 then
      k42 v2 v3 v4 (v5 + 1) M
    else
      if w32 v4 = w32 v2 then
        some (.inl v5, M)
      else
        k42 v2 v3 (v4 + 1) (v5 + 1) M
def L_X1_broken_42  : Nat → Int → Nat → Int → Int → Mem → Option ((Int ⊕ Nat) × Mem)
  | 0, _, _, _, _, _ => none
  | n + 1, v2, v3, v4, v5, M => B_X1_broken_42 (L_X1_broken_42  n) v2 v3 v4 v5 M
def B_X1_broken_16  (v2 : Int) (v3 : Nat) (s0 : Int) (M : Mem) : Option ((Int ⊕ Nat) × Mem) :=
  bT (d_X1_inside s0 M) fun r17 M18 => 
  if w32 v2 = w32 (-1) then
    bR (m_r M18 901 v3 0) fun q36 => 
    bR (d_X1_countBroken q36 (v3 + 1) M18) fun r40 => 
    some (.inl r40, M18)
  else
    L_X1_broken_42 FU v2 v3 0 0 M18
def d_X1_broken (v0 : Nat) (v1 : Int) (v2 : Int) (M : Mem) : Option ((Int ⊕ Nat) × Mem) :=
  bT (d_X1_recordOf v0 v1 M) fun r10 M11 => 
  if m_kd M11 r10 = 9 then 
  if w32 v2 < w32 (-1) then
    B_X1_broken_16 v2 r10 0 M11
  else
    B_X1_broken_16 v2 r10 1 M11 else none
theorem cB_X1_broken_42 {X : x_Ctx} {M0 : Mem} (C : x_CC X 8 139 yX1_broken cX1_broken 6 (some .int) []) {k42 : Int → Nat → Int → Int → Mem → Option ((Int ⊕ Nat) × Mem)} (hk42 : ∀ (v2 : Int) (v3 : Nat) (v4 : Int) (v5 : Int) (M : Mem) (r : Int ⊕ Nat) (M' : Mem), m_kd M v3 = 9 → k42 v2 v3 v4 v5 M = some (r, M') → ocN r 0 1 ≤ (XR X).cells ∧ ocN r 0 6 ≤ (XR X).slots → x_Z X 0 0 (x_QF X M0 (ocI r) M' (ocN r 0 1) (ocN r 0 6)) M0 M 6 [(2, vI v2), (3, .ref v3), (4, vI v4), (5, vI v5)] 42 []) (v2 : Int) (v3 : Nat) (v4 : Int) (v5 : Int) (M : Mem) (r : Int ⊕ Nat) (M' : Mem) (hv3 : m_kd M v3 = 9) (h : B_X1_broken_42 k42 v2 v3 v4 v5 M = some (r, M')) (hR : ocN r 0 1 ≤ (XR X).cells ∧ ocN r 0 6 ≤ (XR X).slots) : x_Z X 0 0 (x_QF X M0 (ocI r) M' (ocN r 0 1) (ocN r 0 6)) M0 M 6 [(2, vI v2), (3, .ref v3), (4, vI v4), (5, vI v5)] 42 [] := by
  unfold B_X1_broken_42 at h
  refine z_iload (pc := 42) C 3 rfl dX1_broken_42 ?_
  refine z_aload_n (pc := 44) C 1 rfl dX1_broken_44 ?_
  obtain ⟨q24, e25, h⟩ := bRs h
  refine gX1_901 (pc := 45) C rfl (Or.inl hv3) e25 dX1_broken_45 (fun k26 => ?_)
  refine gX1_212 (pc := 48) C rfl (Or.inl k26) rfl dX1_broken_48 ?_
  refine z_ic_ge (pc := 51) C dX1_broken_51 (tgt := 91) (by decide) (fun c27 => ?_) (fun c27 => ?_)
  · have h := itt c27 h
    refine z_iconst (pc := 91) C dX1_broken_91 ?_
    cases h
    exact z_iret (pc := 92) C rfl (show 0 ≤ 0 from by decide) (show 0 ≤ 0 from by decide) dX1_broken_92
  · have h := itf c27 h
    refine z_aload_n (pc := 54) C 1 rfl dX1_broken_54 ?_
    obtain ⟨q28, e29, h⟩ := bRs h
    refine gX1_901 (pc := 55) C rfl (Or.inl hv3) e29 dX1_broken_55 (fun k30 => ?_)
    refine z_iload (pc := 58) C 3 rfl dX1_broken_58 ?_
    refine z_aload_n (pc := 60) C 1 rfl dX1_broken_60 ?_
    refine gX1_902 (pc := 61) C rfl hv3 dX1_broken_61 ?_
    refine z_ia (k := 9) (j := 2) 902 rfl (by decide) (by decide) (by decide) rfl rfl rfl hv3 (fun k31 => ?_)
    obtain ⟨r32, e33, h⟩ := bRs h
    refine cX1_401 (pc := 64) (st := []) (st1 := [vI r32]) C rfl (rm := { frames := 1, cells := 0, slots := 0, locals := 24 }) (ct_X1_breaks C.2.1 q28 v5 (v3 + 1) M _ k30 k31.1 e33) ⟨by decide, by decide, Nat.zero_le _, Nat.zero_le _⟩ rfl (Nat.le_of_ble_eq_true rfl) dX1_broken_64 (c2 := 0) (s2 := 0) rfl rfl (fun _ => ?_)
    refine z_if_ne (pc := 67) C dX1_broken_67 (tgt := 73) (by decide) (fun c34 => ?_) (fun c34 => ?_)
    · have h := itf c34 h
      refine z_iload (pc := 73) C 2 rfl dX1_broken_73 ?_
      refine z_iload_n (pc := 75) C 0 rfl dX1_broken_75 ?_
      refine z_ic_ne (pc := 76) C dX1_broken_76 (tgt := 82) (by decide) (fun c35 => ?_) (fun c35 => ?_)
      · have h := itf c35 h
        refine z_iinc (pc := 82) C (lv' := [(2, vI v2), (3, .ref v3), (4, vI (v4 + 1)), (5, vI v5)]) 2 rfl (by decide) rfl dX1_broken_82 ?_
        refine z_iinc (pc := 85) C (lv' := [(2, vI v2), (3, .ref v3), (4, vI (v4 + 1)), (5, vI (v5 + 1))]) 3 rfl (by decide) rfl dX1_broken_85 ?_
        refine z_goto (pc := 88) C dX1_broken_88 (tgt := 42) (by decide) ?_
        exact hk42 v2 v3 (v4 + 1) (v5 + 1) M _ _ hv3 h hR
      · have h := itt c35 h
        refine z_iload (pc := 79) C 3 rfl dX1_broken_79 ?_
        cases h
        exact z_iret (pc := 81) C rfl (show 0 ≤ 0 from by decide) (show 0 ≤ 0 from by decide) dX1_broken_81
    · have h := itt c34 h
      refine z_goto (pc := 70) C dX1_broken_70 (tgt := 85) (by decide) ?_
      refine z_iinc (pc := 85) C (lv' := [(2, vI v2), (3, .ref v3), (4, vI v4), (5, vI (v5 + 1))]) 3 rfl (by decide) rfl dX1_broken_85 ?_
      refine z_goto (pc := 88) C dX1_broken_88 (tgt := 42) (by decide) ?_
      exact hk42 v2 v3 v4 (v5 + 1) M _ _ hv3 h hR
theorem cL_X1_broken_42 {X : x_Ctx} {M0 : Mem} (C : x_CC X 8 139 yX1_broken cX1_broken 6 (some .int) [])  : ∀ (n : Nat) (v2 : Int) (v3 : Nat) (v4 : Int) (v5 : Int) (M : Mem) (r : Int ⊕ Nat) (M' : Mem) (hv3 : m_kd M v3 = 9) (h : L_X1_broken_42  n v2 v3 v4 v5 M = some (r, M')) (hR : ocN r 0 1 ≤ (XR X).cells ∧ ocN r 0 6 ≤ (XR X).slots), x_Z X 0 0 (x_QF X M0 (ocI r) M' (ocN r 0 1) (ocN r 0 6)) M0 M 6 [(2, vI v2), (3, .ref v3), (4, vI v4), (5, vI v5)] 42 [] := by
  intro n
  induction n with
  | zero => intro v2 v3 v4 v5 M r M' hv3 h hR; cases h
  | succ n ih => intro v2 v3 v4 v5 M r M' hv3 h hR; exact cB_X1_broken_42 C (fun v2 v3 v4 v5 M r M' hv3 h hR => ih v2 v3 v4 v5 M r M' hv3 h hR) v2 v3 v4 v5 M r M' hv3 h hR
theorem cB_X1_broken_16 {X : x_Ctx} {M0 : Mem} (C : x_CC X 8 139 yX1_broken cX1_broken 6 (some .int) [])  (v2 : Int) (v3 : Nat) (s0 : Int) (M : Mem) (r : Int ⊕ Nat) (M' : Mem) (hv3 : m_kd M v3 = 9) (h : B_X1_broken_16  v2 v3 s0 M = some (r, M')) (hR : ocN r 0 1 ≤ (XR X).cells ∧ ocN r 0 6 ≤ (XR X).slots) : x_Z X 0 0 (x_QF X M0 (ocI r) M' (ocN r 0 1) (ocN r 0 6)) M0 M 6 [(2, vI v2), (3, .ref v3)] 16 [vI s0] := by
  unfold B_X1_broken_16 at h
  rcases bTs h with ⟨x21, e19, er⟩ | ⟨r17, M18, e19, h⟩
  · subst er; exact tX1_171 (pc := 16) C rfl (rm := { frames := 6, cells := 1, slots := 6, locals := 90 }) (ct_X1_inside C.2.1 s0 M _ _  e19) ⟨by decide, by decide, Nat.le_trans (show 1 ≤ 1 from by decide) hR.1, Nat.le_trans (show 6 ≤ 6 from by decide) hR.2⟩ (Nat.le_of_ble_eq_true rfl) dX1_broken_16 (by decide) (show 1 ≤ 1 from by decide) (show 6 ≤ 6 from by decide)
  refine cX1_171 (pc := 16) (st := []) (st1 := []) C rfl (rm := { frames := 6, cells := 0, slots := 0, locals := 90 }) (ct_X1_inside C.2.1 s0 M _ _  e19) ⟨by decide, by decide, Nat.zero_le _, Nat.zero_le _⟩ rfl (Nat.le_of_ble_eq_true rfl) dX1_broken_16 (c2 := 0) (s2 := 0) rfl rfl (fun x20 => ?_)
  have k22 := x20 _ 9 (by decide) (Or.inl (by decide)) hv3
  refine z_iload_n (pc := 19) C 0 rfl dX1_broken_19 ?_
  refine z_iconst (pc := 20) C dX1_broken_20 ?_
  refine z_ic_ne (pc := 21) C dX1_broken_21 (tgt := 36) (by decide) (fun c23 => ?_) (fun c23 => ?_)
  · have h := itf c23 h
    refine z_iconst (pc := 36) C dX1_broken_36 ?_
    refine z_istore (pc := 37) C (lv' := [(2, vI v2), (3, .ref v3), (4, vI 0)]) (by decide) rfl dX1_broken_37 ?_
    refine z_iconst (pc := 39) C dX1_broken_39 ?_
    refine z_istore (pc := 40) C (lv' := [(2, vI v2), (3, .ref v3), (4, vI 0), (5, vI 0)]) (by decide) rfl dX1_broken_40 ?_
    exact cL_X1_broken_42 C FU v2 v3 0 0 M18 _ _ k22 h hR
  · have h := itt c23 h
    refine z_aload_n (pc := 24) C 1 rfl dX1_broken_24 ?_
    obtain ⟨q36, e37, h⟩ := bRs h
    refine gX1_901 (pc := 25) C rfl (Or.inl k22) e37 dX1_broken_25 (fun k38 => ?_)
    refine z_aload_n (pc := 28) C 1 rfl dX1_broken_28 ?_
    refine gX1_902 (pc := 29) C rfl k22 dX1_broken_29 ?_
    refine z_ia (k := 9) (j := 2) 902 rfl (by decide) (by decide) (by decide) rfl rfl rfl k22 (fun k39 => ?_)
    obtain ⟨r40, e41, h⟩ := bRs h
    refine cX1_405 (pc := 32) (st := []) (st1 := [vI r40]) C rfl (rm := { frames := 2, cells := 0, slots := 0, locals := 52 }) (ct_X1_countBroken C.2.1 q36 (v3 + 1) M18 _ k38 k39.1 e41) ⟨by decide, by decide, Nat.zero_le _, Nat.zero_le _⟩ rfl (Nat.le_of_ble_eq_true rfl) dX1_broken_32 (c2 := 0) (s2 := 0) rfl rfl (fun _ => ?_)
    cases h
    exact z_iret (pc := 35) C rfl (show 0 ≤ 0 from by decide) (show 0 ≤ 0 from by decide) dX1_broken_35
theorem ct_X1_broken {l : Launch} {S0 : State} {D : va_G} {cA : Nat → ClassId} (hG : x_G l S0 D cA) (v0 : Nat) (v1 : Int) (v2 : Int) (M : Mem) (r : Int ⊕ Nat) (M' : Mem) (hv0 : m_kd M v0 = 1) (h : d_X1_broken v0 v1 v2 M = some (r, M')) : x_Me l S0 D cA yX1_broken cX1_broken 6 (some .int) [] ({ frames := 8, cells := (ocN r 0 1), slots := (ocN r 0 6), locals := 139 }) [.ref v0, vI v1, vI v2] M (ocI r) M' := by
  refine x_begin (F := 8) (Lo := 139) (mc := (ocN r 0 1)) (ms := (ocN r 0 6)) hG (Nat.le_of_ble_eq_true rfl) (lv := [(0, .ref v0), (1, vI v1), (2, vI v2)]) rfl rfl rfl rfl rfl (fun X e1 e2 e3 e4 e5 C => ?_)
  have hR : _ ∧ _ := ⟨Nat.le_of_eq (congrArg Room.cells e5).symm, Nat.le_of_eq (congrArg Room.slots e5).symm⟩
  unfold d_X1_broken at h
  refine z_aload_n (pc := 0) C 0 rfl dX1_broken_0 ?_
  refine z_iload_n (pc := 1) C 1 rfl dX1_broken_1 ?_
  rcases bTs h with ⟨x14, e12, er⟩ | ⟨r10, M11, e12, h⟩
  · subst er; exact tX1_365 (pc := 2) C rfl (rm := { frames := 7, cells := 1, slots := 6, locals := 114 }) (ct_X1_recordOf C.2.1 v0 v1 M _ _ hv0 e12) ⟨by decide, by decide, Nat.le_trans (show 1 ≤ 1 from by decide) hR.1, Nat.le_trans (show 6 ≤ 6 from by decide) hR.2⟩ (Or.inl hv0) (Nat.le_of_ble_eq_true rfl) dX1_broken_2 (by decide) (show 1 ≤ 1 from by decide) (show 6 ≤ 6 from by decide)
  refine cX1_365 (pc := 2) (st := []) (st1 := [.ref r10]) C rfl (rm := { frames := 7, cells := 0, slots := 0, locals := 114 }) (ct_X1_recordOf C.2.1 v0 v1 M _ _ hv0 e12) ⟨by decide, by decide, Nat.zero_le _, Nat.zero_le _⟩ (Or.inl hv0) rfl (Nat.le_of_ble_eq_true rfl) dX1_broken_2 (c2 := 0) (s2 := 0) rfl rfl (fun x13 => ?_)
  obtain ⟨c15, h⟩ := ifn h
  refine z_astore_n (pc := 5) C (lv' := [(0, .ref v0), (1, vI v1), (2, vI v2), (3, .ref r10)]) (by decide) rfl dX1_broken_5 ?_
  refine z_iload_n (pc := 6) C 2 rfl dX1_broken_6 ?_
  refine z_iconst (pc := 7) C dX1_broken_7 ?_
  refine z_ic_lt (pc := 8) C dX1_broken_8 (tgt := 15) (by decide) (fun c16 => ?_) (fun c16 => ?_)
  · have h := itt c16 h
    refine z_iconst (pc := 15) C dX1_broken_15 ?_
    exact z_lv [2, 3] rfl <| cB_X1_broken_16 C v2 r10 0 M11 _ _ c15 h hR
  · have h := itf c16 h
    refine z_iconst (pc := 11) C dX1_broken_11 ?_
    refine z_goto (pc := 12) C dX1_broken_12 (tgt := 16) (by decide) ?_
    exact z_lv [2, 3] rfl <| cB_X1_broken_16 C v2 r10 1 M11 _ _ c15 h hR
def d_X0_broken (v0 : Nat) (v1 : Int) (v2 : Int) (v3 : Nat) (M : Mem) : Option (Int × Mem) :=
  bC (d_X1_broken v0 v1 v2 M) (fun r1 M3 =>
    some (0, (m_si M3 9000 v3 (ixn 0) (w32 r1)))) (fun q2 M3 =>
    if m_kd M3 q2 = 115 then
      some (1, M3)
    else
      none)
theorem ct_X0_broken {l : Launch} {S0 : State} {D : va_G} {cA : Nat → ClassId} (hG : x_G l S0 D cA) (v0 : Nat) (v1 : Int) (v2 : Int) (v3 : Nat) (M : Mem) (r : Int) (M' : Mem) (hv0 : m_kd M v0 = 1) (hv3 : m_kd M v3 = 19000) (h : d_X0_broken v0 v1 v2 v3 M = some (r, M')) : x_Me l S0 D cA yX0_broken cX0_broken 5 (some .int) [(0, 10, 13, 25)] ({ frames := 9, cells := 1, slots := 6, locals := 168 }) [.ref v0, vI v1, vI v2, .ref v3] M (.returned (some (vI r))) M' := by
  refine x_begin (F := 9) (Lo := 168) (mc := 1) (ms := 6) hG (Nat.le_of_ble_eq_true rfl) (lv := [(0, .ref v0), (1, vI v1), (2, vI v2), (3, .ref v3)]) rfl rfl rfl rfl rfl (fun X e1 e2 e3 e4 e5 C => ?_)
  have hR : _ ∧ _ := ⟨Nat.le_of_eq (congrArg Room.cells e5).symm, Nat.le_of_eq (congrArg Room.slots e5).symm⟩
  unfold d_X0_broken at h
  refine z_aload_n (pc := 0) C 3 rfl dX0_broken_0 ?_
  refine z_iconst (pc := 1) C dX0_broken_1 ?_
  refine z_aload_n (pc := 2) C 0 rfl dX0_broken_2 ?_
  refine z_iload_n (pc := 3) C 1 rfl dX0_broken_3 ?_
  refine z_iload_n (pc := 4) C 2 rfl dX0_broken_4 ?_
  rcases bCs h with ⟨r1, M3, e4, h⟩ | ⟨q2, M3, e4, h⟩
  · refine cX0_84 (pc := 5) (st := [vI 0, .ref v3]) (st1 := [vI r1, vI 0, .ref v3]) C rfl (rm := { frames := 8, cells := 0, slots := 0, locals := 139 }) (ct_X1_broken C.2.1 v0 v1 v2 M _ _ hv0 e4) ⟨by decide, by decide, Nat.zero_le _, Nat.zero_le _⟩ (Or.inl hv0) rfl (Nat.le_of_ble_eq_true rfl) dX0_broken_5 (c2 := 0) (s2 := 0) rfl rfl (fun x5 => ?_)
    have k6 := x5 _ 19000 (by decide) (Or.inr (by decide)) hv3
    refine z_i2l (pc := 8) C dX0_broken_8 ?_
    refine z_lsw (pc := 9) C k6 (by decide +kernel) dX0_broken_9 ?_
    refine z_goto (pc := 10) C dX0_broken_10 (tgt := 17) (by decide) ?_
    refine z_iconst (pc := 17) C dX0_broken_17 ?_
    cases h
    exact z_iret (pc := 18) C rfl (show 0 ≤ 1 from by decide) (show 0 ≤ 6 from by decide) dX0_broken_18
  · by_cases c7 : m_kd M3 q2 = 115
    · have h := itt c7 h
      refine kX0_84 (pc := 5) (st := [vI 0, .ref v3]) C rfl (rm := { frames := 8, cells := 1, slots := 6, locals := 139 }) (r := q2) (ct_X1_broken C.2.1 v0 v1 v2 M _ _ hv0 e4) ⟨by decide, by decide, Nat.le_trans (show 1 ≤ 1 from by decide) hR.1, Nat.le_trans (show 6 ≤ 6 from by decide) hR.2⟩ (Or.inl hv0) (Nat.le_of_ble_eq_true rfl) dX0_broken_5 (e := 15) (hpc := 13) (by decide) (Or.inr c7) (Or.inr ⟨by decide, by decide, 15, by decide, q560, Or.inl ⟨rfl, rfl⟩⟩) (c2 := 1) (s2 := 6) rfl rfl (fun x8 => ?_)
      refine z_astore (pc := 13) C (lv' := [(0, .ref v0), (1, vI v1), (2, vI v2), (3, .ref v3), (4, .ref q2)]) (by decide) rfl dX0_broken_13 ?_
      refine z_iconst (pc := 15) C dX0_broken_15 ?_
      cases h
      exact z_iret (pc := 16) C rfl (show 1 ≤ 1 from by decide) (show 6 ≤ 6 from by decide) dX0_broken_16
    · have h := itf c7 h
      cases h
def d_X3_arc (v0 : Nat) (v1 : Int) (v2 : Int) (v3 : Int) (v5 : Int) (M : Mem) : Option (Int × Mem) :=
  if inb (m_i M 304 v0 0) 56 then 
  some (0, (m_si (m_si (m_si (m_si (m_si M 301 v0 (ixn (m_i M 304 v0 0)) v1) 300 v0 (ixn (m_i M 304 v0 0)) v2) 302 v0 (ixn (m_i M 304 v0 0)) v3) 303 v0 (ixn (m_i M 304 v0 0)) v5) 304 v0 0 ((m_i M 304 v0 0) + 1))) else none
theorem ct_X3_arc {l : Launch} {S0 : State} {D : va_G} {cA : Nat → ClassId} (hG : x_G l S0 D cA) (v0 : Nat) (v1 : Int) (v2 : Int) (v3 : Int) (v5 : Int) (M : Mem) (r : Int) (M' : Mem) (hv0 : m_kd M v0 = 3) (h : d_X3_arc v0 v1 v2 v3 v5 M = some (r, M')) : x_Me l S0 D cA yX3_arc cX3_arc 6 none [] ({ frames := 1, cells := 0, slots := 0, locals := 24 }) [.ref v0, vI v1, vI v2, vL v3, vI v5] M (.returned none) M' := by
  refine x_begin (F := 1) (Lo := 24) (mc := 0) (ms := 0) hG (Nat.le_of_ble_eq_true rfl) (lv := [(0, .ref v0), (1, vI v1), (2, vI v2), (3, vL v3), (5, vI v5)]) rfl rfl rfl rfl rfl (fun X e1 e2 e3 e4 e5 C => ?_)
  unfold d_X3_arc at h
  refine z_aload_n (pc := 0) C 0 rfl dX3_arc_0 ?_
  refine gX3_301 (pc := 1) C rfl hv0 dX3_arc_1 ?_
  refine z_aload_n (pc := 4) C 0 rfl dX3_arc_4 ?_
  refine gX3_304 (pc := 5) C rfl (Or.inl hv0) rfl dX3_arc_5 ?_
  refine z_iload_n (pc := 8) C 1 rfl dX3_arc_8 ?_
  obtain ⟨c1, h⟩ := ifn h
  refine z_isO (pc := 9) (k := 3) (j := 1) C 301 rfl (by decide) (by decide) (by decide) rfl rfl rfl rfl hv0 c1 dX3_arc_9 ?_
  refine z_aload_n (pc := 10) C 0 rfl dX3_arc_10 ?_
  refine gX3_300 (pc := 11) C rfl hv0 dX3_arc_11 ?_
  refine z_aload_n (pc := 14) C 0 rfl dX3_arc_14 ?_
  refine gX3_304 (pc := 15) C rfl (Or.inl hv0) (x := m_i M 304 v0 0) ((m_i_ne (by decide)).trans rfl) dX3_arc_15 ?_
  refine z_iload_n (pc := 18) C 2 rfl dX3_arc_18 ?_
  refine z_isO (pc := 19) (k := 3) (j := 0) C 300 rfl (by decide) (by decide) (by decide) rfl rfl rfl rfl hv0 c1 dX3_arc_19 ?_
  refine z_aload_n (pc := 20) C 0 rfl dX3_arc_20 ?_
  refine gX3_302 (pc := 21) C rfl hv0 dX3_arc_21 ?_
  refine z_aload_n (pc := 24) C 0 rfl dX3_arc_24 ?_
  refine gX3_304 (pc := 25) C rfl (Or.inl hv0) (x := m_i M 304 v0 0) ((m_i_ne (by decide)).trans ((m_i_ne (by decide)).trans rfl)) dX3_arc_25 ?_
  refine z_lload_n (pc := 28) C 3 rfl dX3_arc_28 ?_
  refine z_lsO (pc := 29) (k := 3) (j := 2) C 302 rfl (by decide) (by decide) (by decide) rfl rfl rfl rfl hv0 c1 dX3_arc_29 ?_
  refine z_aload_n (pc := 30) C 0 rfl dX3_arc_30 ?_
  refine gX3_303 (pc := 31) C rfl hv0 dX3_arc_31 ?_
  refine z_aload_n (pc := 34) C 0 rfl dX3_arc_34 ?_
  refine gX3_304 (pc := 35) C rfl (Or.inl hv0) (x := m_i M 304 v0 0) ((m_i_ne (by decide)).trans ((m_i_ne (by decide)).trans ((m_i_ne (by decide)).trans rfl))) dX3_arc_35 ?_
  refine z_iload (pc := 38) C 4 rfl dX3_arc_38 ?_
  refine z_isO (pc := 40) (k := 3) (j := 3) C 303 rfl (by decide) (by decide) (by decide) rfl rfl rfl rfl hv0 c1 dX3_arc_40 ?_
  refine z_aload_n (pc := 41) C 0 rfl dX3_arc_41 ?_
  refine z_dup (pc := 42) C rfl dX3_arc_42 ?_
  refine gX3_304 (pc := 43) C rfl (Or.inl hv0) (x := m_i M 304 v0 0) ((m_i_ne (by decide)).trans ((m_i_ne (by decide)).trans ((m_i_ne (by decide)).trans ((m_i_ne (by decide)).trans rfl)))) dX3_arc_43 ?_
  refine z_iconst (pc := 46) C dX3_arc_46 ?_
  refine z_iadd (pc := 47) C dX3_arc_47 ?_
  refine pX3_304 (pc := 48) C rfl (Or.inl hv0) dX3_arc_48 ?_
  cases h
  exact z_vret (pc := 51) C rfl (show 0 ≤ 0 from by decide) (show 0 ≤ 0 from by decide) dX3_arc_51
