set_option maxRecDepth 100000
def d_X5_keyOf (v0 : Int) (v1 : Int) : Int :=
  e32 ((e32 ((e32 v0 (v1 * (-1640531527))) * (-2048144789)) (u32 ((e32 v0 (v1 * (-1640531527))) * (-2048144789)) 13)) * (-1028477387)) (u32 ((e32 ((e32 v0 (v1 * (-1640531527))) * (-2048144789)) (u32 ((e32 v0 (v1 * (-1640531527))) * (-2048144789)) 13)) * (-1028477387)) 16)
theorem ct_X5_keyOf {l : Launch} {S0 : State} {D : va_G} {cA : Nat → ClassId} (hG : x_G l S0 D cA) (v0 : Int) (v1 : Int) (M : Mem) (r : Int)  (h : d_X5_keyOf v0 v1 = r) : x_Me l S0 D cA yX5_keyOf cX5_keyOf 3 (some .int) [] ({ frames := 1, cells := 0, slots := 0, locals := 24 }) [vI v0, vI v1] M (.returned (some (vI r))) M := by
  refine x_begin (F := 1) (Lo := 24) (mc := 0) (ms := 0) hG (Nat.le_of_ble_eq_true rfl) (lv := [(0, vI v0), (1, vI v1)]) rfl rfl rfl rfl rfl (fun X e1 e2 e3 e4 e5 C => ?_)
  unfold d_X5_keyOf at h
  refine z_iload_n (pc := 0) C 0 rfl dX5_keyOf_0 ?_
  refine z_iload_n (pc := 1) C 1 rfl dX5_keyOf_1 ?_
  refine z_ldcw (pc := 2) C (x := -1640531527) q2067 (by decide +kernel) dX5_keyOf_2 ?_
  refine z_imul (pc := 5) C dX5_keyOf_5 ?_
  refine z_ixor (pc := 6) C dX5_keyOf_6 ?_
  refine z_istore_n (pc := 7) C (lv' := [(0, vI v0), (1, vI v1), (2, vI (e32 v0 (v1 * (-1640531527))))]) (by decide) rfl dX5_keyOf_7 ?_
  refine z_iload_n (pc := 8) C 2 rfl dX5_keyOf_8 ?_
  refine z_ldcw (pc := 9) C (x := -2048144789) q2068 (by decide +kernel) dX5_keyOf_9 ?_
  refine z_imul (pc := 12) C dX5_keyOf_12 ?_
  refine z_istore_n (pc := 13) C (lv' := [(0, vI v0), (1, vI v1), (2, vI ((e32 v0 (v1 * (-1640531527))) * (-2048144789)))]) (by decide) rfl dX5_keyOf_13 ?_
  refine z_iload_n (pc := 14) C 2 rfl dX5_keyOf_14 ?_
  refine z_iload_n (pc := 15) C 2 rfl dX5_keyOf_15 ?_
  refine z_bipush (pc := 16) C (by decide +kernel) dX5_keyOf_16 ?_
  refine z_iushr (pc := 18) C dX5_keyOf_18 ?_
  refine z_ixor (pc := 19) C dX5_keyOf_19 ?_
  refine z_istore_n (pc := 20) C (lv' := [(0, vI v0), (1, vI v1), (2, vI (e32 ((e32 v0 (v1 * (-1640531527))) * (-2048144789)) (u32 ((e32 v0 (v1 * (-1640531527))) * (-2048144789)) 13)))]) (by decide) rfl dX5_keyOf_20 ?_
  refine z_iload_n (pc := 21) C 2 rfl dX5_keyOf_21 ?_
  refine z_ldcw (pc := 22) C (x := -1028477387) q2069 (by decide +kernel) dX5_keyOf_22 ?_
  refine z_imul (pc := 25) C dX5_keyOf_25 ?_
  refine z_istore_n (pc := 26) C (lv' := [(0, vI v0), (1, vI v1), (2, vI ((e32 ((e32 v0 (v1 * (-1640531527))) * (-2048144789)) (u32 ((e32 v0 (v1 * (-1640531527))) * (-2048144789)) 13)) * (-1028477387)))]) (by decide) rfl dX5_keyOf_26 ?_
  refine z_iload_n (pc := 27) C 2 rfl dX5_keyOf_27 ?_
  refine z_iload_n (pc := 28) C 2 rfl dX5_keyOf_28 ?_
  refine z_bipush (pc := 29) C (by decide +kernel) dX5_keyOf_29 ?_
  refine z_iushr (pc := 31) C dX5_keyOf_31 ?_
  refine z_ixor (pc := 32) C dX5_keyOf_32 ?_
  subst h
  exact z_iret (pc := 33) C rfl (show 0 ≤ 0 from by decide) (show 0 ≤ 0 from by decide) dX5_keyOf_33
def d_X5_isBefore (v0 : Nat) (v1 : Int) (v2 : Int) (v3 : Int) (M : Mem) : Int :=
  if w32 (d_X5_keyOf v1 v2) < w32 (d_X5_keyOf v1 v3) then
    1
  else
    if w32 (d_X5_keyOf v1 v2) = w32 (d_X5_keyOf v1 v3) then
      if w32 v3 ≤ w32 v2 then
        0
      else
        1
    else
      0
theorem ct_X5_isBefore {l : Launch} {S0 : State} {D : va_G} {cA : Nat → ClassId} (hG : x_G l S0 D cA) (v0 : Nat) (v1 : Int) (v2 : Int) (v3 : Int) (M : Mem) (r : Int) (hv0 : m_kd M v0 = 5) (h : d_X5_isBefore v0 v1 v2 v3 M = r) : x_Me l S0 D cA yX5_isBefore cX5_isBefore 6 (some .boolean) [] ({ frames := 2, cells := 0, slots := 0, locals := 50 }) [.ref v0, vI v1, vI v2, vI v3] M (.returned (some (vI r))) M := by
  refine x_begin (F := 2) (Lo := 50) (mc := 0) (ms := 0) hG (Nat.le_of_ble_eq_true rfl) (lv := [(0, .ref v0), (1, vI v1), (2, vI v2), (3, vI v3)]) rfl rfl rfl rfl rfl (fun X e1 e2 e3 e4 e5 C => ?_)
  unfold d_X5_isBefore at h
  refine z_iload_n (pc := 0) C 1 rfl dX5_isBefore_0 ?_
  refine z_iload_n (pc := 1) C 2 rfl dX5_isBefore_1 ?_
  refine cX5_452 (pc := 2) (st := []) (st1 := [vI (d_X5_keyOf v1 v2)]) C rfl (rm := { frames := 1, cells := 0, slots := 0, locals := 24 }) (ct_X5_keyOf C.2.1 v1 v2 M _  rfl) ⟨by decide, by decide, Nat.zero_le _, Nat.zero_le _⟩ rfl (Nat.le_of_ble_eq_true rfl) dX5_isBefore_2 (c2 := 0) (s2 := 0) rfl rfl (fun _ => ?_)
  refine z_istore (pc := 5) C (lv' := [(0, .ref v0), (1, vI v1), (2, vI v2), (3, vI v3), (4, vI (d_X5_keyOf v1 v2))]) (by decide) rfl dX5_isBefore_5 ?_
  refine z_iload_n (pc := 7) C 1 rfl dX5_isBefore_7 ?_
  refine z_iload_n (pc := 8) C 3 rfl dX5_isBefore_8 ?_
  refine cX5_452 (pc := 9) (st := []) (st1 := [vI (d_X5_keyOf v1 v3)]) C rfl (rm := { frames := 1, cells := 0, slots := 0, locals := 24 }) (ct_X5_keyOf C.2.1 v1 v3 M _  rfl) ⟨by decide, by decide, Nat.zero_le _, Nat.zero_le _⟩ rfl (Nat.le_of_ble_eq_true rfl) dX5_isBefore_9 (c2 := 0) (s2 := 0) rfl rfl (fun _ => ?_)
  refine z_istore (pc := 12) C (lv' := [(0, .ref v0), (1, vI v1), (2, vI v2), (3, vI v3), (4, vI (d_X5_keyOf v1 v2)), (5, vI (d_X5_keyOf v1 v3))]) (by decide) rfl dX5_isBefore_12 ?_
  refine z_iload (pc := 14) C 4 rfl dX5_isBefore_14 ?_
  refine z_iload (pc := 16) C 5 rfl dX5_isBefore_16 ?_
  refine z_ic_lt (pc := 18) C dX5_isBefore_18 (tgt := 33) (by decide) (fun c3 => ?_) (fun c3 => ?_)
  · have h := itt c3 h
    refine z_iconst (pc := 33) C dX5_isBefore_33 ?_
    refine z_goto (pc := 34) C dX5_isBefore_34 (tgt := 38) (by decide) ?_
    subst h
    exact z_zret (pc := 38) C rfl (Or.inr rfl) (show 0 ≤ 0 from by decide) (show 0 ≤ 0 from by decide) dX5_isBefore_38
  · have h := itf c3 h
    refine z_iload (pc := 21) C 4 rfl dX5_isBefore_21 ?_
    refine z_iload (pc := 23) C 5 rfl dX5_isBefore_23 ?_
    refine z_ic_ne (pc := 25) C dX5_isBefore_25 (tgt := 37) (by decide) (fun c4 => ?_) (fun c4 => ?_)
    · have h := itf c4 h
      refine z_iconst (pc := 37) C dX5_isBefore_37 ?_
      subst h
      exact z_zret (pc := 38) C rfl (Or.inl rfl) (show 0 ≤ 0 from by decide) (show 0 ≤ 0 from by decide) dX5_isBefore_38
    · have h := itt c4 h
      refine z_iload_n (pc := 28) C 2 rfl dX5_isBefore_28 ?_
      refine z_iload_n (pc := 29) C 3 rfl dX5_isBefore_29 ?_
      refine z_ic_ge (pc := 30) C dX5_isBefore_30 (tgt := 37) (by decide) (fun c5 => ?_) (fun c5 => ?_)
      · have h := itt c5 h
        refine z_iconst (pc := 37) C dX5_isBefore_37 ?_
        subst h
        exact z_zret (pc := 38) C rfl (Or.inl rfl) (show 0 ≤ 0 from by decide) (show 0 ≤ 0 from by decide) dX5_isBefore_38
      · have h := itf c5 h
        refine z_iconst (pc := 33) C dX5_isBefore_33 ?_
        refine z_goto (pc := 34) C dX5_isBefore_34 (tgt := 38) (by decide) ?_
        subst h
        exact z_zret (pc := 38) C rfl (Or.inr rfl) (show 0 ≤ 0 from by decide) (show 0 ≤ 0 from by decide) dX5_isBefore_38
def B_X5_sample_578 (k563 : Nat → Int → Int → Int → Mem → Option (Int × Mem)) (k578 : Nat → Int → Int → Int → Int → Int → Mem → Option (Int × Mem)) (v0 : Nat) (v6 : Int) (v8 : Int) (v10 : Int) (v11 : Int) (v12 : Int) (M : Mem) : Option (Int × Mem) :=
  if w32 (m_i M 502 v0 0) ≤ w32 v12 then
    if inb v10 100 then 
    if w32 (m_i M 568 v0 (ixn v10)) = w32 (-2000000) then
      if inb (v8 + v10) 1200 then 
      k563 v0 v6 v8 (v10 + 1) (m_si M 567 v0 (ixn (v8 + v10)) (bz 0)) else none
    else
      if inb (v8 + v10) 1200 then 
      if w32 (m_i M 565 v0 (ixn (v8 + v10))) ≤ w32 v11 then
        k563 v0 v6 v8 (v10 + 1) (m_si M 567 v0 (ixn (v8 + v10)) (bz 0))
      else
        k563 v0 v6 v8 (v10 + 1) (m_si M 567 v0 (ixn (v8 + v10)) (bz 1)) else none else none
  else
    if inb v10 100 then 
    if w32 (m_i M 568 v0 (ixn v10)) = w32 (-2000000) then
      k578 v0 v6 v8 v10 (v11 + 0) (v12 + 1) M
    else
      if inb v12 100 then 
      if w32 (m_i M 568 v0 (ixn v12)) = w32 (m_i M 568 v0 (ixn v10)) then
        if w32 (d_X5_isBefore v0 v6 v12 v10 M) = 0 then
          k578 v0 v6 v8 v10 (v11 + 0) (v12 + 1) M
        else
          k578 v0 v6 v8 v10 (v11 + 1) (v12 + 1) M
      else
        k578 v0 v6 v8 v10 (v11 + 0) (v12 + 1) M else none else none
def L_X5_sample_578 (k563 : Nat → Int → Int → Int → Mem → Option (Int × Mem)) : Nat → Nat → Int → Int → Int → Int → Int → Mem → Option (Int × Mem)
  | 0, _, _, _, _, _, _, _ => none
  | n + 1, v0, v6, v8, v10, v11, v12, M => B_X5_sample_578 k563 (L_X5_sample_578 k563 n) v0 v6 v8 v10 v11 v12 M
def B_X5_sample_563 (k563 : Nat → Int → Int → Int → Mem → Option (Int × Mem)) (v0 : Nat) (v6 : Int) (v8 : Int) (v10 : Int) (M : Mem) : Option (Int × Mem) :=
  if w32 (m_i M 502 v0 0) ≤ w32 v10 then
    some (((m_i M 564 v0 0) + 1) - 1, (m_si M 564 v0 0 ((m_i M 564 v0 0) + 1)))
  else
    L_X5_sample_578 k563 FU v0 v6 v8 v10 0 0 M
def L_X5_sample_563  : Nat → Nat → Int → Int → Int → Mem → Option (Int × Mem)
  | 0, _, _, _, _, _ => none
  | n + 1, v0, v6, v8, v10, M => B_X5_sample_563 (L_X5_sample_563  n) v0 v6 v8 v10 M
def B_X5_sample_517 (k372 : Nat → Int → Int → Int → Int → Int → Int → Mem → Option (Int × Mem)) (v0 : Nat) (v5 : Int) (v6 : Int) (v7 : Int) (v8 : Int) (v9 : Int) (v10 : Int) (v11 : Int) (M : Mem) : Option (Int × Mem) :=
  if inb (v8 + v10) 1200 then 
  if inb v10 100 then 
  if w32 (m_i M 568 v0 (ixn v10)) = w32 (-2000000) then
    k372 v0 v5 v6 v7 v8 v9 (v10 + 1) (m_si M 565 v0 (ixn (v8 + v10)) ((m_i M 565 v0 (ixn (v8 + v10))) + 0))
  else
    if w32 v9 ≤ w32 v11 then
      k372 v0 v5 v6 v7 v8 v9 (v10 + 1) (m_si M 565 v0 (ixn (v8 + v10)) ((m_i M 565 v0 (ixn (v8 + v10))) + 0))
    else
      k372 v0 v5 v6 v7 v8 v9 (v10 + 1) (m_si M 565 v0 (ixn (v8 + v10)) ((m_i M 565 v0 (ixn (v8 + v10))) + 1)) else none else none
def B_X5_sample_387 (k372 : Nat → Int → Int → Int → Int → Int → Int → Mem → Option (Int × Mem)) (k387 : Nat → Int → Int → Int → Int → Int → Int → Int → Int → Mem → Option (Int × Mem)) (v0 : Nat) (v5 : Int) (v6 : Int) (v7 : Int) (v8 : Int) (v9 : Int) (v10 : Int) (v11 : Int) (v12 : Int) (M : Mem) : Option (Int × Mem) :=
  if w32 (m_i M 502 v0 0) ≤ w32 v12 then
    B_X5_sample_517 k372 v0 v5 v6 v7 v8 v9 v10 v11 M
  else
    if inb v10 100 then 
    if w32 (m_i M 568 v0 (ixn v10)) = w32 (-2000000) then
      B_X5_sample_517 k372 v0 v5 v6 v7 v8 v9 v10 v11 M
    else
      if inb (v8 + v12) 1200 then 
      if ¬ w32 v7 = 0 then 
      if inb (v8 + v10) 1200 then 
      bR (d_X5_isFirst v0 v12 M) fun r42 => 
      if w32 r42 = 0 then
        k387 v0 v5 v6 v7 v8 v9 v10 (v11 + 0) (v12 + 1) M
      else
        if inb v12 100 then 
        if w32 (m_i M 568 v0 (ixn v12)) = w32 (m_i M 568 v0 (ixn v10)) then
          k387 v0 v5 v6 v7 v8 v9 v10 (v11 + 0) (v12 + 1) M
        else
          if w32 (r32 (v5 * (m_i M 566 v0 (ixn (v8 + v10)))) v7) < w32 (r32 (v5 * (m_i M 566 v0 (ixn (v8 + v12)))) v7) then
            k387 v0 v5 v6 v7 v8 v9 v10 (v11 + 1) (v12 + 1) M
          else
            if w32 (r32 (v5 * (m_i M 566 v0 (ixn (v8 + v12)))) v7) = w32 (r32 (v5 * (m_i M 566 v0 (ixn (v8 + v10)))) v7) then
              if w32 (m_i M 568 v0 (ixn v10)) ≤ w32 (m_i M 568 v0 (ixn v12)) then
                k387 v0 v5 v6 v7 v8 v9 v10 (v11 + 0) (v12 + 1) M
              else
                k387 v0 v5 v6 v7 v8 v9 v10 (v11 + 1) (v12 + 1) M
            else
              k387 v0 v5 v6 v7 v8 v9 v10 (v11 + 0) (v12 + 1) M else none else none else none else none else none
def L_X5_sample_387 (k372 : Nat → Int → Int → Int → Int → Int → Int → Mem → Option (Int × Mem)) : Nat → Nat → Int → Int → Int → Int → Int → Int → Int → Int → Mem → Option (Int × Mem)
  | 0, _, _, _, _, _, _, _, _, _, _ => none
  | n + 1, v0, v5, v6, v7, v8, v9, v10, v11, v12, M => B_X5_sample_387 k372 (L_X5_sample_387 k372 n) v0 v5 v6 v7 v8 v9 v10 v11 v12 M
def B_X5_sample_372 (k372 : Nat → Int → Int → Int → Int → Int → Int → Mem → Option (Int × Mem)) (v0 : Nat) (v5 : Int) (v6 : Int) (v7 : Int) (v8 : Int) (v9 : Int) (v10 : Int) (M : Mem) : Option (Int × Mem) :=
  if w32 (m_i M 502 v0 0) ≤ w32 v10 then
    L_X5_sample_563 FU v0 v6 v8 0 M
  else
    L_X5_sample_387 k372 FU v0 v5 v6 v7 v8 v9 v10 0 0 M
def L_X5_sample_372  : Nat → Nat → Int → Int → Int → Int → Int → Int → Mem → Option (Int × Mem)
  | 0, _, _, _, _, _, _, _, _ => none
  | n + 1, v0, v5, v6, v7, v8, v9, v10, M => B_X5_sample_372 (L_X5_sample_372  n) v0 v5 v6 v7 v8 v9 v10 M
def B_X5_sample_323 (k216 : Nat → Int → Int → Int → Int → Int → Int → Mem → Option (Int × Mem)) (v0 : Nat) (v5 : Int) (v6 : Int) (v7 : Int) (v8 : Int) (v9 : Int) (v10 : Int) (s0 : Nat) (s1 : Int) (s2 : Int) (M : Mem) : Option (Int × Mem) :=
  if inb s1 1200 then 
  if inb (v8 + v10) 1200 then 
  bR (d_X5_isFirst v0 v10 (m_si (m_si M 565 s0 (ixn s1) s2) 567 v0 (ixn (v8 + v10)) (bz 0))) fun r56 => 
  if w32 r56 = 0 then
    k216 v0 v5 v6 v7 v8 (v9 - 0) (v10 + 1) (m_si (m_si M 565 s0 (ixn s1) s2) 567 v0 (ixn (v8 + v10)) (bz 0))
  else
    k216 v0 v5 v6 v7 v8 (v9 - (m_i (m_si M 565 s0 (ixn s1) s2) 565 v0 (ixn (v8 + v10)))) (v10 + 1) (m_si (m_si M 565 s0 (ixn s1) s2) 567 v0 (ixn (v8 + v10)) (bz 0)) else none else none
def B_X5_sample_231 (k216 : Nat → Int → Int → Int → Int → Int → Int → Mem → Option (Int × Mem)) (k231 : Nat → Int → Int → Int → Int → Int → Int → Int → Int → Mem → Option (Int × Mem)) (v0 : Nat) (v5 : Int) (v6 : Int) (v7 : Int) (v8 : Int) (v9 : Int) (v10 : Int) (v11 : Int) (v12 : Int) (M : Mem) : Option (Int × Mem) :=
  if w32 (m_i M 502 v0 0) ≤ w32 v12 then
    if inb (v8 + v10) 1200 then 
    if w32 v7 = 0 then
      B_X5_sample_323 k216 v0 v5 v6 v7 v8 v9 v10 v0 (v8 + v10) 0 (m_si M 566 v0 (ixn (v8 + v10)) v11)
    else
      if ¬ w32 v7 = 0 then 
      B_X5_sample_323 k216 v0 v5 v6 v7 v8 v9 v10 v0 (v8 + v10) (d32 (v5 * v11) v7) (m_si M 566 v0 (ixn (v8 + v10)) v11) else none else none
  else
    if inb v10 100 then 
    if w32 (m_i M 568 v0 (ixn v10)) = w32 (-2000000) then
      k231 v0 v5 v6 v7 v8 v9 v10 (v11 + 0) (v12 + 1) M
    else
      if inb v12 100 then 
      if w32 (m_i M 568 v0 (ixn v12)) = w32 (m_i M 568 v0 (ixn v10)) then
        k231 v0 v5 v6 v7 v8 v9 v10 (v11 + 1) (v12 + 1) M
      else
        k231 v0 v5 v6 v7 v8 v9 v10 (v11 + 0) (v12 + 1) M else none else none
def L_X5_sample_231 (k216 : Nat → Int → Int → Int → Int → Int → Int → Mem → Option (Int × Mem)) : Nat → Nat → Int → Int → Int → Int → Int → Int → Int → Int → Mem → Option (Int × Mem)
  | 0, _, _, _, _, _, _, _, _, _, _ => none
  | n + 1, v0, v5, v6, v7, v8, v9, v10, v11, v12, M => B_X5_sample_231 k216 (L_X5_sample_231 k216 n) v0 v5 v6 v7 v8 v9 v10 v11 v12 M
def B_X5_sample_216 (k216 : Nat → Int → Int → Int → Int → Int → Int → Mem → Option (Int × Mem)) (v0 : Nat) (v5 : Int) (v6 : Int) (v7 : Int) (v8 : Int) (v9 : Int) (v10 : Int) (M : Mem) : Option (Int × Mem) :=
  if w32 (m_i M 502 v0 0) ≤ w32 v10 then
    L_X5_sample_372 FU v0 v5 v6 v7 v8 v9 0 M
  else
    L_X5_sample_231 k216 FU v0 v5 v6 v7 v8 v9 v10 0 0 M
def L_X5_sample_216  : Nat → Nat → Int → Int → Int → Int → Int → Int → Mem → Option (Int × Mem)
  | 0, _, _, _, _, _, _, _, _ => none
  | n + 1, v0, v5, v6, v7, v8, v9, v10, M => B_X5_sample_216 (L_X5_sample_216  n) v0 v5 v6 v7 v8 v9 v10 M
def B_X5_sample_138 (k42 : Nat → Int → Int → Int → Int → Int → Int → Int → Int → Mem → Option (Int × Mem)) (v0 : Nat) (v1 : Int) (v2 : Int) (v3 : Int) (v4 : Int) (v5 : Int) (v6 : Int) (v7 : Int) (v8 : Int) (s0 : Nat) (s1 : Int) (s2 : Int) (M : Mem) : Option (Int × Mem) :=
  if inb s1 100 then 
  if inb v8 100 then 
  if w32 (m_i (m_si M 568 s0 (ixn s1) s2) 568 v0 (ixn v8)) = w32 (-2000000) then
    k42 v0 v1 v2 v3 v4 v5 v6 (v7 + 0) (v8 + 1) (m_si M 568 s0 (ixn s1) s2)
  else
    k42 v0 v1 v2 v3 v4 v5 v6 (v7 + 1) (v8 + 1) (m_si M 568 s0 (ixn s1) s2) else none else none
def B_X5_sample_104 (k42 : Nat → Int → Int → Int → Int → Int → Int → Int → Int → Mem → Option (Int × Mem)) (v0 : Nat) (v1 : Int) (v2 : Int) (v3 : Int) (v4 : Int) (v5 : Int) (v6 : Int) (v7 : Int) (v8 : Int) (s0 : Int) (M : Mem) : Option (Int × Mem) :=
  if w32 s0 = 0 then
    B_X5_sample_138 k42 v0 v1 v2 v3 v4 v5 v6 v7 v8 v0 v8 (-2000000) M
  else
    bR (d_X5_valueOf v0 v8 v4 (d_X5_today v0 M) (d_X5_today v0 M) M) fun r83 => 
    B_X5_sample_138 k42 v0 v1 v2 v3 v4 v5 v6 v7 v8 v0 v8 r83 M
def B_X5_sample_103 (k42 : Nat → Int → Int → Int → Int → Int → Int → Int → Int → Mem → Option (Int × Mem)) (v0 : Nat) (v1 : Int) (v2 : Int) (v3 : Int) (v4 : Int) (v5 : Int) (v6 : Int) (v7 : Int) (v8 : Int) (M : Mem) : Option (Int × Mem) :=
  B_X5_sample_104 k42 v0 v1 v2 v3 v4 v5 v6 v7 v8 0 M
def B_X5_sample_42 (k42 : Nat → Int → Int → Int → Int → Int → Int → Int → Int → Mem → Option (Int × Mem)) (v0 : Nat) (v1 : Int) (v2 : Int) (v3 : Int) (v4 : Int) (v5 : Int) (v6 : Int) (v7 : Int) (v8 : Int) (M : Mem) : Option (Int × Mem) :=
  if w32 (m_i M 502 v0 0) ≤ w32 v8 then
    if w32 v5 < 0 then
      bN (d_X5_fail v0 2 M) fun r11 M12 => 
      some (r11, M12)
    else
      if w32 v5 ≤ w32 v7 then
        if w32 (m_i M 564 v0 0) = w32 12 then
          bN (d_X5_fail v0 3 M) fun r63 M64 => 
          some (r63, M64)
        else
          L_X5_sample_216 FU v0 v5 v6 v7 (100 * (m_i M 564 v0 0)) v5 0 M
      else
        bN (d_X5_fail v0 2 M) fun r67 M68 => 
        some (r67, M68)
  else
    bR (d_X5_valueOf v0 v8 v1 (d_X5_today v0 M) (d_X5_today v0 M) M) fun r73 => 
    if inb v8 100 then 
    if w32 (m_i M 503 v0 (ixn v8)) = w32 (-1) then
      if w32 r73 = w32 (-2000000) then
        B_X5_sample_103 k42 v0 v1 v2 v3 v4 v5 v6 v7 v8 M
      else
        if w32 (d_X5_isIn (w32 r73) (w32 v2) (w32 v3)) = 0 then
          B_X5_sample_103 k42 v0 v1 v2 v3 v4 v5 v6 v7 v8 M
        else
          B_X5_sample_104 k42 v0 v1 v2 v3 v4 v5 v6 v7 v8 1 M
    else
      B_X5_sample_103 k42 v0 v1 v2 v3 v4 v5 v6 v7 v8 M else none
def L_X5_sample_42  : Nat → Nat → Int → Int → Int → Int → Int → Int → Int → Int → Mem → Option (Int × Mem)
  | 0, _, _, _, _, _, _, _, _, _, _ => none
  | n + 1, v0, v1, v2, v3, v4, v5, v6, v7, v8, M => B_X5_sample_42 (L_X5_sample_42  n) v0 v1 v2 v3 v4 v5 v6 v7 v8 M
def d_X5_sample (v0 : Nat) (v1 : Int) (v2 : Int) (v3 : Int) (v4 : Int) (v5 : Int) (v6 : Int) (M : Mem) : Option (Int × Mem) :=
  if w32 (d_X5_isIn (w32 v1) 0 5) = 0 then
    bN (d_X5_fail v0 1 (m_si M 500 v0 0 0)) fun r3 M4 => 
    some (r3, M4)
  else
    if w32 (d_X5_isIn (w32 v4) 0 5) = 0 then
      bN (d_X5_fail v0 1 (m_si M 500 v0 0 0)) fun r88 M89 => 
      some (r88, M89)
    else
      L_X5_sample_42 FU v0 v1 v2 v3 v4 v5 v6 0 0 (m_si M 500 v0 0 0)
theorem cB_X5_sample_578 {X : x_Ctx} {M0 : Mem} (C : x_CC X 3 82 yX5_sample cX5_sample 15 (some .int) []) {k563 : Nat → Int → Int → Int → Mem → Option (Int × Mem)} (hk563 : ∀ (v0 : Nat) (v6 : Int) (v8 : Int) (v10 : Int) (M : Mem) (r : Int) (M' : Mem), m_kd M v0 = 5 → k563 v0 v6 v8 v10 M = some (r, M') → x_Z X 0 0 (x_QF X M0 (.returned (some (vI r))) M' 0 0) M0 M 15 [(0, .ref v0), (6, vI v6), (8, vI v8), (10, vI v10)] 563 []) {k578 : Nat → Int → Int → Int → Int → Int → Mem → Option (Int × Mem)} (hk578 : ∀ (v0 : Nat) (v6 : Int) (v8 : Int) (v10 : Int) (v11 : Int) (v12 : Int) (M : Mem) (r : Int) (M' : Mem), m_kd M v0 = 5 → k578 v0 v6 v8 v10 v11 v12 M = some (r, M') → x_Z X 0 0 (x_QF X M0 (.returned (some (vI r))) M' 0 0) M0 M 15 [(0, .ref v0), (6, vI v6), (8, vI v8), (10, vI v10), (11, vI v11), (12, vI v12)] 578 []) (v0 : Nat) (v6 : Int) (v8 : Int) (v10 : Int) (v11 : Int) (v12 : Int) (M : Mem) (r : Int) (M' : Mem) (hv0 : m_kd M v0 = 5) (h : B_X5_sample_578 k563 k578 v0 v6 v8 v10 v11 v12 M = some (r, M'))  : x_Z X 0 0 (x_QF X M0 (.returned (some (vI r))) M' 0 0) M0 M 15 [(0, .ref v0), (6, vI v6), (8, vI v8), (10, vI v10), (11, vI v11), (12, vI v12)] 578 [] := by
  unfold B_X5_sample_578 at h
  refine z_iload (pc := 578) C 5 rfl dX5_sample_578 ?_
  refine z_aload_n (pc := 580) C 0 rfl dX5_sample_580 ?_
  refine gX5_502 (pc := 581) C rfl (Or.inl hv0) rfl dX5_sample_581 ?_
  refine z_ic_ge (pc := 584) C dX5_sample_584 (tgt := 645) (by decide) (fun c20 => ?_) (fun c20 => ?_)
  · have h := itt c20 h
    refine z_aload_n (pc := 645) C 0 rfl dX5_sample_645 ?_
    refine gX5_567 (pc := 646) C rfl hv0 dX5_sample_646 ?_
    refine z_iload (pc := 649) C 2 rfl dX5_sample_649 ?_
    refine z_iload (pc := 651) C 3 rfl dX5_sample_651 ?_
    refine z_iadd (pc := 653) C dX5_sample_653 ?_
    refine z_aload_n (pc := 654) C 0 rfl dX5_sample_654 ?_
    refine gX5_568 (pc := 655) C rfl hv0 dX5_sample_655 ?_
    refine z_iload (pc := 658) C 3 rfl dX5_sample_658 ?_
    obtain ⟨c21, h⟩ := ifn h
    refine z_iaO (pc := 660) (k := 5) (j := 68) C 568 rfl (by decide) (by decide) (by decide) rfl rfl rfl rfl hv0 c21 rfl dX5_sample_660 ?_
    refine z_ldc (pc := 661) C (x := -2000000) q1829 (by decide +kernel) dX5_sample_661 ?_
    refine z_ic_eq (pc := 663) C dX5_sample_663 (tgt := 685) (by decide) (fun c22 => ?_) (fun c22 => ?_)
    · have h := itt c22 h
      refine z_iconst (pc := 685) C dX5_sample_685 ?_
      obtain ⟨c23, h⟩ := ifn h
      refine z_zsO (pc := 686) (k := 5) (j := 67) C 567 rfl (by decide) (by decide) (by decide) rfl rfl rfl rfl hv0 c23 dX5_sample_686 ?_
      refine z_iinc (pc := 687) C (lv' := [(0, .ref v0), (6, vI v6), (8, vI v8), (10, vI (v10 + 1)), (11, vI v11), (12, vI v12)]) 3 rfl (by decide) rfl dX5_sample_687 ?_
      refine z_goto (pc := 690) C dX5_sample_690 (tgt := 563) (by decide) ?_
      exact z_lv [0, 1, 2, 3] rfl <| hk563 v0 v6 v8 (v10 + 1) (m_si M 567 v0 (ixn (v8 + v10)) (bz 0)) _ _ hv0 h
    · have h := itf c22 h
      refine z_iload (pc := 666) C 4 rfl dX5_sample_666 ?_
      refine z_aload_n (pc := 668) C 0 rfl dX5_sample_668 ?_
      refine gX5_565 (pc := 669) C rfl hv0 dX5_sample_669 ?_
      refine z_iload (pc := 672) C 2 rfl dX5_sample_672 ?_
      refine z_iload (pc := 674) C 3 rfl dX5_sample_674 ?_
      refine z_iadd (pc := 676) C dX5_sample_676 ?_
      obtain ⟨c24, h⟩ := ifn h
      refine z_iaO (pc := 677) (k := 5) (j := 65) C 565 rfl (by decide) (by decide) (by decide) rfl rfl rfl rfl hv0 c24 rfl dX5_sample_677 ?_
      refine z_ic_ge (pc := 678) C dX5_sample_678 (tgt := 685) (by decide) (fun c25 => ?_) (fun c25 => ?_)
      · have h := itt c25 h
        refine z_iconst (pc := 685) C dX5_sample_685 ?_
        refine z_zsO (pc := 686) (k := 5) (j := 67) C 567 rfl (by decide) (by decide) (by decide) rfl rfl rfl rfl hv0 c24 dX5_sample_686 ?_
        refine z_iinc (pc := 687) C (lv' := [(0, .ref v0), (6, vI v6), (8, vI v8), (10, vI (v10 + 1)), (11, vI v11), (12, vI v12)]) 3 rfl (by decide) rfl dX5_sample_687 ?_
        refine z_goto (pc := 690) C dX5_sample_690 (tgt := 563) (by decide) ?_
        exact z_lv [0, 1, 2, 3] rfl <| hk563 v0 v6 v8 (v10 + 1) (m_si M 567 v0 (ixn (v8 + v10)) (bz 0)) _ _ hv0 h
      · have h := itf c25 h
        refine z_iconst (pc := 681) C dX5_sample_681 ?_
        refine z_goto (pc := 682) C dX5_sample_682 (tgt := 686) (by decide) ?_
        refine z_zsO (pc := 686) (k := 5) (j := 67) C 567 rfl (by decide) (by decide) (by decide) rfl rfl rfl rfl hv0 c24 dX5_sample_686 ?_
        refine z_iinc (pc := 687) C (lv' := [(0, .ref v0), (6, vI v6), (8, vI v8), (10, vI (v10 + 1)), (11, vI v11), (12, vI v12)]) 3 rfl (by decide) rfl dX5_sample_687 ?_
        refine z_goto (pc := 690) C dX5_sample_690 (tgt := 563) (by decide) ?_
        exact z_lv [0, 1, 2, 3] rfl <| hk563 v0 v6 v8 (v10 + 1) (m_si M 567 v0 (ixn (v8 + v10)) (bz 1)) _ _ hv0 h
  · have h := itf c20 h
    refine z_iload (pc := 587) C 4 rfl dX5_sample_587 ?_
    refine z_aload_n (pc := 589) C 0 rfl dX5_sample_589 ?_
    refine gX5_568 (pc := 590) C rfl hv0 dX5_sample_590 ?_
    refine z_iload (pc := 593) C 3 rfl dX5_sample_593 ?_
    obtain ⟨c26, h⟩ := ifn h
    refine z_iaO (pc := 595) (k := 5) (j := 68) C 568 rfl (by decide) (by decide) (by decide) rfl rfl rfl rfl hv0 c26 rfl dX5_sample_595 ?_
    refine z_ldc (pc := 596) C (x := -2000000) q1829 (by decide +kernel) dX5_sample_596 ?_
    refine z_ic_eq (pc := 598) C dX5_sample_598 (tgt := 635) (by decide) (fun c27 => ?_) (fun c27 => ?_)
    · have h := itt c27 h
      refine z_iconst (pc := 635) C dX5_sample_635 ?_
      refine z_iadd (pc := 636) C dX5_sample_636 ?_
      refine z_istore (pc := 637) C (lv' := [(0, .ref v0), (6, vI v6), (8, vI v8), (10, vI v10), (11, vI (v11 + 0)), (12, vI v12)]) (by decide) rfl dX5_sample_637 ?_
      refine z_iinc (pc := 639) C (lv' := [(0, .ref v0), (6, vI v6), (8, vI v8), (10, vI v10), (11, vI (v11 + 0)), (12, vI (v12 + 1))]) 5 rfl (by decide) rfl dX5_sample_639 ?_
      refine z_goto (pc := 642) C dX5_sample_642 (tgt := 578) (by decide) ?_
      exact hk578 v0 v6 v8 v10 (v11 + 0) (v12 + 1) M _ _ hv0 h
    · have h := itf c27 h
      refine z_aload_n (pc := 601) C 0 rfl dX5_sample_601 ?_
      refine gX5_568 (pc := 602) C rfl hv0 dX5_sample_602 ?_
      refine z_iload (pc := 605) C 5 rfl dX5_sample_605 ?_
      obtain ⟨c28, h⟩ := ifn h
      refine z_iaO (pc := 607) (k := 5) (j := 68) C 568 rfl (by decide) (by decide) (by decide) rfl rfl rfl rfl hv0 c28 rfl dX5_sample_607 ?_
      refine z_aload_n (pc := 608) C 0 rfl dX5_sample_608 ?_
      refine gX5_568 (pc := 609) C rfl hv0 dX5_sample_609 ?_
      refine z_iload (pc := 612) C 3 rfl dX5_sample_612 ?_
      refine z_iaO (pc := 614) (k := 5) (j := 68) C 568 rfl (by decide) (by decide) (by decide) rfl rfl rfl rfl hv0 c26 rfl dX5_sample_614 ?_
      refine z_ic_ne (pc := 615) C dX5_sample_615 (tgt := 635) (by decide) (fun c29 => ?_) (fun c29 => ?_)
      · have h := itf c29 h
        refine z_iconst (pc := 635) C dX5_sample_635 ?_
        refine z_iadd (pc := 636) C dX5_sample_636 ?_
        refine z_istore (pc := 637) C (lv' := [(0, .ref v0), (6, vI v6), (8, vI v8), (10, vI v10), (11, vI (v11 + 0)), (12, vI v12)]) (by decide) rfl dX5_sample_637 ?_
        refine z_iinc (pc := 639) C (lv' := [(0, .ref v0), (6, vI v6), (8, vI v8), (10, vI v10), (11, vI (v11 + 0)), (12, vI (v12 + 1))]) 5 rfl (by decide) rfl dX5_sample_639 ?_
        refine z_goto (pc := 642) C dX5_sample_642 (tgt := 578) (by decide) ?_
        exact hk578 v0 v6 v8 v10 (v11 + 0) (v12 + 1) M _ _ hv0 h
      · have h := itt c29 h
        refine z_aload_n (pc := 618) C 0 rfl dX5_sample_618 ?_
        refine z_iload (pc := 619) C 1 rfl dX5_sample_619 ?_
        refine z_iload (pc := 621) C 5 rfl dX5_sample_621 ?_
        refine z_iload (pc := 623) C 3 rfl dX5_sample_623 ?_
        refine cX5_461 (pc := 625) (st := [vI v11]) (st1 := [vI (d_X5_isBefore v0 v6 v12 v10 M), vI v11]) C rfl (rm := { frames := 2, cells := 0, slots := 0, locals := 50 }) (ct_X5_isBefore C.2.1 v0 v6 v12 v10 M _ hv0 rfl) ⟨by decide, by decide, Nat.zero_le _, Nat.zero_le _⟩ (Or.inl hv0) rfl (Nat.le_of_ble_eq_true rfl) dX5_sample_625 (c2 := 0) (s2 := 0) rfl rfl (fun _ => ?_)
        refine z_if_eq (pc := 628) C dX5_sample_628 (tgt := 635) (by decide) (fun c31 => ?_) (fun c31 => ?_)
        · have h := itt c31 h
          refine z_iconst (pc := 635) C dX5_sample_635 ?_
          refine z_iadd (pc := 636) C dX5_sample_636 ?_
          refine z_istore (pc := 637) C (lv' := [(0, .ref v0), (6, vI v6), (8, vI v8), (10, vI v10), (11, vI (v11 + 0)), (12, vI v12)]) (by decide) rfl dX5_sample_637 ?_
          refine z_iinc (pc := 639) C (lv' := [(0, .ref v0), (6, vI v6), (8, vI v8), (10, vI v10), (11, vI (v11 + 0)), (12, vI (v12 + 1))]) 5 rfl (by decide) rfl dX5_sample_639 ?_
          refine z_goto (pc := 642) C dX5_sample_642 (tgt := 578) (by decide) ?_
          exact hk578 v0 v6 v8 v10 (v11 + 0) (v12 + 1) M _ _ hv0 h
        · have h := itf c31 h
          refine z_iconst (pc := 631) C dX5_sample_631 ?_
          refine z_goto (pc := 632) C dX5_sample_632 (tgt := 636) (by decide) ?_
          refine z_iadd (pc := 636) C dX5_sample_636 ?_
          refine z_istore (pc := 637) C (lv' := [(0, .ref v0), (6, vI v6), (8, vI v8), (10, vI v10), (11, vI (v11 + 1)), (12, vI v12)]) (by decide) rfl dX5_sample_637 ?_
          refine z_iinc (pc := 639) C (lv' := [(0, .ref v0), (6, vI v6), (8, vI v8), (10, vI v10), (11, vI (v11 + 1)), (12, vI (v12 + 1))]) 5 rfl (by decide) rfl dX5_sample_639 ?_
          refine z_goto (pc := 642) C dX5_sample_642 (tgt := 578) (by decide) ?_
          exact hk578 v0 v6 v8 v10 (v11 + 1) (v12 + 1) M _ _ hv0 h
theorem cL_X5_sample_578 {X : x_Ctx} {M0 : Mem} (C : x_CC X 3 82 yX5_sample cX5_sample 15 (some .int) []) {k563 : Nat → Int → Int → Int → Mem → Option (Int × Mem)} (hk563 : ∀ (v0 : Nat) (v6 : Int) (v8 : Int) (v10 : Int) (M : Mem) (r : Int) (M' : Mem), m_kd M v0 = 5 → k563 v0 v6 v8 v10 M = some (r, M') → x_Z X 0 0 (x_QF X M0 (.returned (some (vI r))) M' 0 0) M0 M 15 [(0, .ref v0), (6, vI v6), (8, vI v8), (10, vI v10)] 563 []) : ∀ (n : Nat) (v0 : Nat) (v6 : Int) (v8 : Int) (v10 : Int) (v11 : Int) (v12 : Int) (M : Mem) (r : Int) (M' : Mem) (hv0 : m_kd M v0 = 5) (h : L_X5_sample_578 k563 n v0 v6 v8 v10 v11 v12 M = some (r, M')) , x_Z X 0 0 (x_QF X M0 (.returned (some (vI r))) M' 0 0) M0 M 15 [(0, .ref v0), (6, vI v6), (8, vI v8), (10, vI v10), (11, vI v11), (12, vI v12)] 578 [] := by
  intro n
  induction n with
  | zero => intro v0 v6 v8 v10 v11 v12 M r M' hv0 h ; cases h
  | succ n ih => intro v0 v6 v8 v10 v11 v12 M r M' hv0 h ; exact cB_X5_sample_578 C hk563 (fun v0 v6 v8 v10 v11 v12 M r M' hv0 h  => ih v0 v6 v8 v10 v11 v12 M r M' hv0 h ) v0 v6 v8 v10 v11 v12 M r M' hv0 h 
theorem cB_X5_sample_563 {X : x_Ctx} {M0 : Mem} (C : x_CC X 3 82 yX5_sample cX5_sample 15 (some .int) []) {k563 : Nat → Int → Int → Int → Mem → Option (Int × Mem)} (hk563 : ∀ (v0 : Nat) (v6 : Int) (v8 : Int) (v10 : Int) (M : Mem) (r : Int) (M' : Mem), m_kd M v0 = 5 → k563 v0 v6 v8 v10 M = some (r, M') → x_Z X 0 0 (x_QF X M0 (.returned (some (vI r))) M' 0 0) M0 M 15 [(0, .ref v0), (6, vI v6), (8, vI v8), (10, vI v10)] 563 []) (v0 : Nat) (v6 : Int) (v8 : Int) (v10 : Int) (M : Mem) (r : Int) (M' : Mem) (hv0 : m_kd M v0 = 5) (h : B_X5_sample_563 k563 v0 v6 v8 v10 M = some (r, M'))  : x_Z X 0 0 (x_QF X M0 (.returned (some (vI r))) M' 0 0) M0 M 15 [(0, .ref v0), (6, vI v6), (8, vI v8), (10, vI v10)] 563 [] := by
  unfold B_X5_sample_563 at h
  refine z_iload (pc := 563) C 3 rfl dX5_sample_563 ?_
  refine z_aload_n (pc := 565) C 0 rfl dX5_sample_565 ?_
  refine gX5_502 (pc := 566) C rfl (Or.inl hv0) rfl dX5_sample_566 ?_
  refine z_ic_ge (pc := 569) C dX5_sample_569 (tgt := 693) (by decide) (fun c19 => ?_) (fun c19 => ?_)
  · have h := itt c19 h
    refine z_aload_n (pc := 693) C 0 rfl dX5_sample_693 ?_
    refine z_dup (pc := 694) C rfl dX5_sample_694 ?_
    refine gX5_564 (pc := 695) C rfl (Or.inl hv0) rfl dX5_sample_695 ?_
    refine z_iconst (pc := 698) C dX5_sample_698 ?_
    refine z_iadd (pc := 699) C dX5_sample_699 ?_
    refine pX5_564 (pc := 700) C rfl (Or.inl hv0) dX5_sample_700 ?_
    refine z_aload_n (pc := 703) C 0 rfl dX5_sample_703 ?_
    refine gX5_564 (pc := 704) C rfl (Or.inl hv0) (x := (m_i M 564 v0 0) + 1) (m_i_self _ _ _ _ _) dX5_sample_704 ?_
    refine z_iconst (pc := 707) C dX5_sample_707 ?_
    refine z_isub (pc := 708) C dX5_sample_708 ?_
    cases h
    exact z_iret (pc := 709) C rfl (show 0 ≤ 0 from by decide) (show 0 ≤ 0 from by decide) dX5_sample_709
  · have h := itf c19 h
    refine z_iconst (pc := 572) C dX5_sample_572 ?_
    refine z_istore (pc := 573) C (lv' := [(0, .ref v0), (6, vI v6), (8, vI v8), (10, vI v10), (11, vI 0)]) (by decide) rfl dX5_sample_573 ?_
    refine z_iconst (pc := 575) C dX5_sample_575 ?_
    refine z_istore (pc := 576) C (lv' := [(0, .ref v0), (6, vI v6), (8, vI v8), (10, vI v10), (11, vI 0), (12, vI 0)]) (by decide) rfl dX5_sample_576 ?_
    exact cL_X5_sample_578 C hk563 FU v0 v6 v8 v10 0 0 M _ _ hv0 h
theorem cL_X5_sample_563 {X : x_Ctx} {M0 : Mem} (C : x_CC X 3 82 yX5_sample cX5_sample 15 (some .int) [])  : ∀ (n : Nat) (v0 : Nat) (v6 : Int) (v8 : Int) (v10 : Int) (M : Mem) (r : Int) (M' : Mem) (hv0 : m_kd M v0 = 5) (h : L_X5_sample_563  n v0 v6 v8 v10 M = some (r, M')) , x_Z X 0 0 (x_QF X M0 (.returned (some (vI r))) M' 0 0) M0 M 15 [(0, .ref v0), (6, vI v6), (8, vI v8), (10, vI v10)] 563 [] := by
  intro n
  induction n with
  | zero => intro v0 v6 v8 v10 M r M' hv0 h ; cases h
  | succ n ih => intro v0 v6 v8 v10 M r M' hv0 h ; exact cB_X5_sample_563 C (fun v0 v6 v8 v10 M r M' hv0 h  => ih v0 v6 v8 v10 M r M' hv0 h ) v0 v6 v8 v10 M r M' hv0 h 
theorem cB_X5_sample_517 {X : x_Ctx} {M0 : Mem} (C : x_CC X 3 82 yX5_sample cX5_sample 15 (some .int) []) {k372 : Nat → Int → Int → Int → Int → Int → Int → Mem → Option (Int × Mem)} (hk372 : ∀ (v0 : Nat) (v5 : Int) (v6 : Int) (v7 : Int) (v8 : Int) (v9 : Int) (v10 : Int) (M : Mem) (r : Int) (M' : Mem), m_kd M v0 = 5 → k372 v0 v5 v6 v7 v8 v9 v10 M = some (r, M') → x_Z X 0 0 (x_QF X M0 (.returned (some (vI r))) M' 0 0) M0 M 15 [(0, .ref v0), (5, vI v5), (6, vI v6), (7, vI v7), (8, vI v8), (9, vI v9), (10, vI v10)] 372 []) (v0 : Nat) (v5 : Int) (v6 : Int) (v7 : Int) (v8 : Int) (v9 : Int) (v10 : Int) (v11 : Int) (M : Mem) (r : Int) (M' : Mem) (hv0 : m_kd M v0 = 5) (h : B_X5_sample_517 k372 v0 v5 v6 v7 v8 v9 v10 v11 M = some (r, M'))  : x_Z X 0 0 (x_QF X M0 (.returned (some (vI r))) M' 0 0) M0 M 15 [(0, .ref v0), (5, vI v5), (6, vI v6), (7, vI v7), (8, vI v8), (9, vI v9), (10, vI v10), (11, vI v11)] 517 [] := by
  unfold B_X5_sample_517 at h
  refine z_aload_n (pc := 517) C 0 rfl dX5_sample_517 ?_
  refine gX5_565 (pc := 518) C rfl hv0 dX5_sample_518 ?_
  refine z_iload (pc := 521) C 4 rfl dX5_sample_521 ?_
  refine z_iload (pc := 523) C 6 rfl dX5_sample_523 ?_
  refine z_iadd (pc := 525) C dX5_sample_525 ?_
  refine z_dup2 (pc := 526) C rfl rfl dX5_sample_526 ?_
  obtain ⟨c33, h⟩ := ifn h
  refine z_iaO (pc := 527) (k := 5) (j := 65) C 565 rfl (by decide) (by decide) (by decide) rfl rfl rfl rfl hv0 c33 rfl dX5_sample_527 ?_
  refine z_aload_n (pc := 528) C 0 rfl dX5_sample_528 ?_
  refine gX5_568 (pc := 529) C rfl hv0 dX5_sample_529 ?_
  refine z_iload (pc := 532) C 6 rfl dX5_sample_532 ?_
  obtain ⟨c34, h⟩ := ifn h
  refine z_iaO (pc := 534) (k := 5) (j := 68) C 568 rfl (by decide) (by decide) (by decide) rfl rfl rfl rfl hv0 c34 rfl dX5_sample_534 ?_
  refine z_ldc (pc := 535) C (x := -2000000) q1829 (by decide +kernel) dX5_sample_535 ?_
  refine z_ic_eq (pc := 537) C dX5_sample_537 (tgt := 551) (by decide) (fun c35 => ?_) (fun c35 => ?_)
  · have h := itt c35 h
    refine z_iconst (pc := 551) C dX5_sample_551 ?_
    refine z_iadd (pc := 552) C dX5_sample_552 ?_
    refine z_isO (pc := 553) (k := 5) (j := 65) C 565 rfl (by decide) (by decide) (by decide) rfl rfl rfl rfl hv0 c33 dX5_sample_553 ?_
    refine z_iinc (pc := 554) C (lv' := [(0, .ref v0), (5, vI v5), (6, vI v6), (7, vI v7), (8, vI v8), (9, vI v9), (10, vI (v10 + 1)), (11, vI v11)]) 6 rfl (by decide) rfl dX5_sample_554 ?_
    refine z_goto (pc := 557) C dX5_sample_557 (tgt := 372) (by decide) ?_
    exact z_lv [0, 1, 2, 3, 4, 5, 6] rfl <| hk372 v0 v5 v6 v7 v8 v9 (v10 + 1) (m_si M 565 v0 (ixn (v8 + v10)) ((m_i M 565 v0 (ixn (v8 + v10))) + 0)) _ _ hv0 h
  · have h := itf c35 h
    refine z_iload (pc := 540) C 7 rfl dX5_sample_540 ?_
    refine z_iload (pc := 542) C 5 rfl dX5_sample_542 ?_
    refine z_ic_ge (pc := 544) C dX5_sample_544 (tgt := 551) (by decide) (fun c36 => ?_) (fun c36 => ?_)
    · have h := itt c36 h
      refine z_iconst (pc := 551) C dX5_sample_551 ?_
      refine z_iadd (pc := 552) C dX5_sample_552 ?_
      refine z_isO (pc := 553) (k := 5) (j := 65) C 565 rfl (by decide) (by decide) (by decide) rfl rfl rfl rfl hv0 c33 dX5_sample_553 ?_
      refine z_iinc (pc := 554) C (lv' := [(0, .ref v0), (5, vI v5), (6, vI v6), (7, vI v7), (8, vI v8), (9, vI v9), (10, vI (v10 + 1)), (11, vI v11)]) 6 rfl (by decide) rfl dX5_sample_554 ?_
      refine z_goto (pc := 557) C dX5_sample_557 (tgt := 372) (by decide) ?_
      exact z_lv [0, 1, 2, 3, 4, 5, 6] rfl <| hk372 v0 v5 v6 v7 v8 v9 (v10 + 1) (m_si M 565 v0 (ixn (v8 + v10)) ((m_i M 565 v0 (ixn (v8 + v10))) + 0)) _ _ hv0 h
    · have h := itf c36 h
      refine z_iconst (pc := 547) C dX5_sample_547 ?_
      refine z_goto (pc := 548) C dX5_sample_548 (tgt := 552) (by decide) ?_
      refine z_iadd (pc := 552) C dX5_sample_552 ?_
      refine z_isO (pc := 553) (k := 5) (j := 65) C 565 rfl (by decide) (by decide) (by decide) rfl rfl rfl rfl hv0 c33 dX5_sample_553 ?_
      refine z_iinc (pc := 554) C (lv' := [(0, .ref v0), (5, vI v5), (6, vI v6), (7, vI v7), (8, vI v8), (9, vI v9), (10, vI (v10 + 1)), (11, vI v11)]) 6 rfl (by decide) rfl dX5_sample_554 ?_
      refine z_goto (pc := 557) C dX5_sample_557 (tgt := 372) (by decide) ?_
      exact z_lv [0, 1, 2, 3, 4, 5, 6] rfl <| hk372 v0 v5 v6 v7 v8 v9 (v10 + 1) (m_si M 565 v0 (ixn (v8 + v10)) ((m_i M 565 v0 (ixn (v8 + v10))) + 1)) _ _ hv0 h
theorem cB_X5_sample_387 {X : x_Ctx} {M0 : Mem} (C : x_CC X 3 82 yX5_sample cX5_sample 15 (some .int) []) {k372 : Nat → Int → Int → Int → Int → Int → Int → Mem → Option (Int × Mem)} (hk372 : ∀ (v0 : Nat) (v5 : Int) (v6 : Int) (v7 : Int) (v8 : Int) (v9 : Int) (v10 : Int) (M : Mem) (r : Int) (M' : Mem), m_kd M v0 = 5 → k372 v0 v5 v6 v7 v8 v9 v10 M = some (r, M') → x_Z X 0 0 (x_QF X M0 (.returned (some (vI r))) M' 0 0) M0 M 15 [(0, .ref v0), (5, vI v5), (6, vI v6), (7, vI v7), (8, vI v8), (9, vI v9), (10, vI v10)] 372 []) {k387 : Nat → Int → Int → Int → Int → Int → Int → Int → Int → Mem → Option (Int × Mem)} (hk387 : ∀ (v0 : Nat) (v5 : Int) (v6 : Int) (v7 : Int) (v8 : Int) (v9 : Int) (v10 : Int) (v11 : Int) (v12 : Int) (M : Mem) (r : Int) (M' : Mem), m_kd M v0 = 5 → k387 v0 v5 v6 v7 v8 v9 v10 v11 v12 M = some (r, M') → x_Z X 0 0 (x_QF X M0 (.returned (some (vI r))) M' 0 0) M0 M 15 [(0, .ref v0), (5, vI v5), (6, vI v6), (7, vI v7), (8, vI v8), (9, vI v9), (10, vI v10), (11, vI v11), (12, vI v12)] 387 []) (v0 : Nat) (v5 : Int) (v6 : Int) (v7 : Int) (v8 : Int) (v9 : Int) (v10 : Int) (v11 : Int) (v12 : Int) (M : Mem) (r : Int) (M' : Mem) (hv0 : m_kd M v0 = 5) (h : B_X5_sample_387 k372 k387 v0 v5 v6 v7 v8 v9 v10 v11 v12 M = some (r, M'))  : x_Z X 0 0 (x_QF X M0 (.returned (some (vI r))) M' 0 0) M0 M 15 [(0, .ref v0), (5, vI v5), (6, vI v6), (7, vI v7), (8, vI v8), (9, vI v9), (10, vI v10), (11, vI v11), (12, vI v12)] 387 [] := by
  unfold B_X5_sample_387 at h
  refine z_iload (pc := 387) C 8 rfl dX5_sample_387 ?_
  refine z_aload_n (pc := 389) C 0 rfl dX5_sample_389 ?_
  refine gX5_502 (pc := 390) C rfl (Or.inl hv0) rfl dX5_sample_390 ?_
  refine z_ic_ge (pc := 393) C dX5_sample_393 (tgt := 517) (by decide) (fun c32 => ?_) (fun c32 => ?_)
  · have h := itt c32 h
    exact z_lv [0, 1, 2, 3, 4, 5, 6, 7] rfl <| cB_X5_sample_517 C hk372 v0 v5 v6 v7 v8 v9 v10 v11 M _ _ hv0 h
  · have h := itf c32 h
    refine z_aload_n (pc := 396) C 0 rfl dX5_sample_396 ?_
    refine gX5_568 (pc := 397) C rfl hv0 dX5_sample_397 ?_
    refine z_iload (pc := 400) C 6 rfl dX5_sample_400 ?_
    obtain ⟨c37, h⟩ := ifn h
    refine z_iaO (pc := 402) (k := 5) (j := 68) C 568 rfl (by decide) (by decide) (by decide) rfl rfl rfl rfl hv0 c37 rfl dX5_sample_402 ?_
    refine z_ldc (pc := 403) C (x := -2000000) q1829 (by decide +kernel) dX5_sample_403 ?_
    refine z_ic_eq (pc := 405) C dX5_sample_405 (tgt := 517) (by decide) (fun c38 => ?_) (fun c38 => ?_)
    · have h := itt c38 h
      exact z_lv [0, 1, 2, 3, 4, 5, 6, 7] rfl <| cB_X5_sample_517 C hk372 v0 v5 v6 v7 v8 v9 v10 v11 M _ _ hv0 h
    · have h := itf c38 h
      refine z_iload (pc := 408) C 1 rfl dX5_sample_408 ?_
      refine z_aload_n (pc := 410) C 0 rfl dX5_sample_410 ?_
      refine gX5_566 (pc := 411) C rfl hv0 dX5_sample_411 ?_
      refine z_iload (pc := 414) C 4 rfl dX5_sample_414 ?_
      refine z_iload (pc := 416) C 8 rfl dX5_sample_416 ?_
      refine z_iadd (pc := 418) C dX5_sample_418 ?_
      obtain ⟨c39, h⟩ := ifn h
      refine z_iaO (pc := 419) (k := 5) (j := 66) C 566 rfl (by decide) (by decide) (by decide) rfl rfl rfl rfl hv0 c39 rfl dX5_sample_419 ?_
      refine z_imul (pc := 420) C dX5_sample_420 ?_
      refine z_iload (pc := 421) C 3 rfl dX5_sample_421 ?_
      obtain ⟨c40, h⟩ := ifn h
      refine z_irem (pc := 423) C c40 dX5_sample_423 ?_
      refine z_istore (pc := 424) C (lv' := [(0, .ref v0), (5, vI v5), (6, vI v6), (7, vI v7), (8, vI v8), (9, vI v9), (10, vI v10), (11, vI v11), (12, vI v12), (13, vI (r32 (v5 * (m_i M 566 v0 (ixn (v8 + v12)))) v7))]) (by decide) rfl dX5_sample_424 ?_
      refine z_iload (pc := 426) C 1 rfl dX5_sample_426 ?_
      refine z_aload_n (pc := 428) C 0 rfl dX5_sample_428 ?_
      refine gX5_566 (pc := 429) C rfl hv0 dX5_sample_429 ?_
      refine z_iload (pc := 432) C 4 rfl dX5_sample_432 ?_
      refine z_iload (pc := 434) C 6 rfl dX5_sample_434 ?_
      refine z_iadd (pc := 436) C dX5_sample_436 ?_
      obtain ⟨c41, h⟩ := ifn h
      refine z_iaO (pc := 437) (k := 5) (j := 66) C 566 rfl (by decide) (by decide) (by decide) rfl rfl rfl rfl hv0 c41 rfl dX5_sample_437 ?_
      refine z_imul (pc := 438) C dX5_sample_438 ?_
      refine z_iload (pc := 439) C 3 rfl dX5_sample_439 ?_
      refine z_irem (pc := 441) C c40 dX5_sample_441 ?_
      refine z_istore (pc := 442) C (lv' := [(0, .ref v0), (5, vI v5), (6, vI v6), (7, vI v7), (8, vI v8), (9, vI v9), (10, vI v10), (11, vI v11), (12, vI v12), (13, vI (r32 (v5 * (m_i M 566 v0 (ixn (v8 + v12)))) v7)), (14, vI (r32 (v5 * (m_i M 566 v0 (ixn (v8 + v10)))) v7))]) (by decide) rfl dX5_sample_442 ?_
      refine z_iload (pc := 444) C 7 rfl dX5_sample_444 ?_
      refine z_aload_n (pc := 446) C 0 rfl dX5_sample_446 ?_
      refine z_iload (pc := 447) C 8 rfl dX5_sample_447 ?_
      obtain ⟨r42, e43, h⟩ := bRs h
      refine cX5_458 (pc := 449) (st := [vI v11]) (st1 := [vI r42, vI v11]) C rfl (rm := { frames := 1, cells := 0, slots := 0, locals := 24 }) (ct_X5_isFirst C.2.1 v0 v12 M _ hv0 e43) ⟨by decide, by decide, Nat.zero_le _, Nat.zero_le _⟩ (Or.inl hv0) rfl (Nat.le_of_ble_eq_true rfl) dX5_sample_449 (c2 := 0) (s2 := 0) rfl rfl (fun _ => ?_)
      refine z_if_eq (pc := 452) C dX5_sample_452 (tgt := 507) (by decide) (fun c44 => ?_) (fun c44 => ?_)
      · have h := itt c44 h
        refine z_iconst (pc := 507) C dX5_sample_507 ?_
        refine z_iadd (pc := 508) C dX5_sample_508 ?_
        refine z_istore (pc := 509) C (lv' := [(0, .ref v0), (5, vI v5), (6, vI v6), (7, vI v7), (8, vI v8), (9, vI v9), (10, vI v10), (11, vI (v11 + 0)), (12, vI v12), (13, vI (r32 (v5 * (m_i M 566 v0 (ixn (v8 + v12)))) v7)), (14, vI (r32 (v5 * (m_i M 566 v0 (ixn (v8 + v10)))) v7))]) (by decide) rfl dX5_sample_509 ?_
        refine z_iinc (pc := 511) C (lv' := [(0, .ref v0), (5, vI v5), (6, vI v6), (7, vI v7), (8, vI v8), (9, vI v9), (10, vI v10), (11, vI (v11 + 0)), (12, vI (v12 + 1)), (13, vI (r32 (v5 * (m_i M 566 v0 (ixn (v8 + v12)))) v7)), (14, vI (r32 (v5 * (m_i M 566 v0 (ixn (v8 + v10)))) v7))]) 8 rfl (by decide) rfl dX5_sample_511 ?_
        refine z_goto (pc := 514) C dX5_sample_514 (tgt := 387) (by decide) ?_
        exact z_lv [0, 1, 2, 3, 4, 5, 6, 7, 8] rfl <| hk387 v0 v5 v6 v7 v8 v9 v10 (v11 + 0) (v12 + 1) M _ _ hv0 h
      · have h := itf c44 h
        refine z_aload_n (pc := 455) C 0 rfl dX5_sample_455 ?_
        refine gX5_568 (pc := 456) C rfl hv0 dX5_sample_456 ?_
        refine z_iload (pc := 459) C 8 rfl dX5_sample_459 ?_
        obtain ⟨c45, h⟩ := ifn h
        refine z_iaO (pc := 461) (k := 5) (j := 68) C 568 rfl (by decide) (by decide) (by decide) rfl rfl rfl rfl hv0 c45 rfl dX5_sample_461 ?_
        refine z_aload_n (pc := 462) C 0 rfl dX5_sample_462 ?_
        refine gX5_568 (pc := 463) C rfl hv0 dX5_sample_463 ?_
        refine z_iload (pc := 466) C 6 rfl dX5_sample_466 ?_
        refine z_iaO (pc := 468) (k := 5) (j := 68) C 568 rfl (by decide) (by decide) (by decide) rfl rfl rfl rfl hv0 c37 rfl dX5_sample_468 ?_
        refine z_ic_eq (pc := 469) C dX5_sample_469 (tgt := 507) (by decide) (fun c46 => ?_) (fun c46 => ?_)
        · have h := itt c46 h
          refine z_iconst (pc := 507) C dX5_sample_507 ?_
          refine z_iadd (pc := 508) C dX5_sample_508 ?_
          refine z_istore (pc := 509) C (lv' := [(0, .ref v0), (5, vI v5), (6, vI v6), (7, vI v7), (8, vI v8), (9, vI v9), (10, vI v10), (11, vI (v11 + 0)), (12, vI v12), (13, vI (r32 (v5 * (m_i M 566 v0 (ixn (v8 + v12)))) v7)), (14, vI (r32 (v5 * (m_i M 566 v0 (ixn (v8 + v10)))) v7))]) (by decide) rfl dX5_sample_509 ?_
          refine z_iinc (pc := 511) C (lv' := [(0, .ref v0), (5, vI v5), (6, vI v6), (7, vI v7), (8, vI v8), (9, vI v9), (10, vI v10), (11, vI (v11 + 0)), (12, vI (v12 + 1)), (13, vI (r32 (v5 * (m_i M 566 v0 (ixn (v8 + v12)))) v7)), (14, vI (r32 (v5 * (m_i M 566 v0 (ixn (v8 + v10)))) v7))]) 8 rfl (by decide) rfl dX5_sample_511 ?_
          refine z_goto (pc := 514) C dX5_sample_514 (tgt := 387) (by decide) ?_
          exact z_lv [0, 1, 2, 3, 4, 5, 6, 7, 8] rfl <| hk387 v0 v5 v6 v7 v8 v9 v10 (v11 + 0) (v12 + 1) M _ _ hv0 h
        · have h := itf c46 h
          refine z_iload (pc := 472) C 9 rfl dX5_sample_472 ?_
          refine z_iload (pc := 474) C 10 rfl dX5_sample_474 ?_
          refine z_ic_gt (pc := 476) C dX5_sample_476 (tgt := 503) (by decide) (fun c47 => ?_) (fun c47 => ?_)
          · have h := itt c47 h
            refine z_iconst (pc := 503) C dX5_sample_503 ?_
            refine z_goto (pc := 504) C dX5_sample_504 (tgt := 508) (by decide) ?_
            refine z_iadd (pc := 508) C dX5_sample_508 ?_
            refine z_istore (pc := 509) C (lv' := [(0, .ref v0), (5, vI v5), (6, vI v6), (7, vI v7), (8, vI v8), (9, vI v9), (10, vI v10), (11, vI (v11 + 1)), (12, vI v12), (13, vI (r32 (v5 * (m_i M 566 v0 (ixn (v8 + v12)))) v7)), (14, vI (r32 (v5 * (m_i M 566 v0 (ixn (v8 + v10)))) v7))]) (by decide) rfl dX5_sample_509 ?_
            refine z_iinc (pc := 511) C (lv' := [(0, .ref v0), (5, vI v5), (6, vI v6), (7, vI v7), (8, vI v8), (9, vI v9), (10, vI v10), (11, vI (v11 + 1)), (12, vI (v12 + 1)), (13, vI (r32 (v5 * (m_i M 566 v0 (ixn (v8 + v12)))) v7)), (14, vI (r32 (v5 * (m_i M 566 v0 (ixn (v8 + v10)))) v7))]) 8 rfl (by decide) rfl dX5_sample_511 ?_
            refine z_goto (pc := 514) C dX5_sample_514 (tgt := 387) (by decide) ?_
            exact z_lv [0, 1, 2, 3, 4, 5, 6, 7, 8] rfl <| hk387 v0 v5 v6 v7 v8 v9 v10 (v11 + 1) (v12 + 1) M _ _ hv0 h
          · have h := itf c47 h
            refine z_iload (pc := 479) C 9 rfl dX5_sample_479 ?_
            refine z_iload (pc := 481) C 10 rfl dX5_sample_481 ?_
            refine z_ic_ne (pc := 483) C dX5_sample_483 (tgt := 507) (by decide) (fun c48 => ?_) (fun c48 => ?_)
            · have h := itf c48 h
              refine z_iconst (pc := 507) C dX5_sample_507 ?_
              refine z_iadd (pc := 508) C dX5_sample_508 ?_
              refine z_istore (pc := 509) C (lv' := [(0, .ref v0), (5, vI v5), (6, vI v6), (7, vI v7), (8, vI v8), (9, vI v9), (10, vI v10), (11, vI (v11 + 0)), (12, vI v12), (13, vI (r32 (v5 * (m_i M 566 v0 (ixn (v8 + v12)))) v7)), (14, vI (r32 (v5 * (m_i M 566 v0 (ixn (v8 + v10)))) v7))]) (by decide) rfl dX5_sample_509 ?_
              refine z_iinc (pc := 511) C (lv' := [(0, .ref v0), (5, vI v5), (6, vI v6), (7, vI v7), (8, vI v8), (9, vI v9), (10, vI v10), (11, vI (v11 + 0)), (12, vI (v12 + 1)), (13, vI (r32 (v5 * (m_i M 566 v0 (ixn (v8 + v12)))) v7)), (14, vI (r32 (v5 * (m_i M 566 v0 (ixn (v8 + v10)))) v7))]) 8 rfl (by decide) rfl dX5_sample_511 ?_
              refine z_goto (pc := 514) C dX5_sample_514 (tgt := 387) (by decide) ?_
              exact z_lv [0, 1, 2, 3, 4, 5, 6, 7, 8] rfl <| hk387 v0 v5 v6 v7 v8 v9 v10 (v11 + 0) (v12 + 1) M _ _ hv0 h
            · have h := itt c48 h
              refine z_aload_n (pc := 486) C 0 rfl dX5_sample_486 ?_
              refine gX5_568 (pc := 487) C rfl hv0 dX5_sample_487 ?_
              refine z_iload (pc := 490) C 8 rfl dX5_sample_490 ?_
              refine z_iaO (pc := 492) (k := 5) (j := 68) C 568 rfl (by decide) (by decide) (by decide) rfl rfl rfl rfl hv0 c45 rfl dX5_sample_492 ?_
              refine z_aload_n (pc := 493) C 0 rfl dX5_sample_493 ?_
              refine gX5_568 (pc := 494) C rfl hv0 dX5_sample_494 ?_
              refine z_iload (pc := 497) C 6 rfl dX5_sample_497 ?_
              refine z_iaO (pc := 499) (k := 5) (j := 68) C 568 rfl (by decide) (by decide) (by decide) rfl rfl rfl rfl hv0 c37 rfl dX5_sample_499 ?_
              refine z_ic_ge (pc := 500) C dX5_sample_500 (tgt := 507) (by decide) (fun c49 => ?_) (fun c49 => ?_)
              · have h := itt c49 h
                refine z_iconst (pc := 507) C dX5_sample_507 ?_
                refine z_iadd (pc := 508) C dX5_sample_508 ?_
                refine z_istore (pc := 509) C (lv' := [(0, .ref v0), (5, vI v5), (6, vI v6), (7, vI v7), (8, vI v8), (9, vI v9), (10, vI v10), (11, vI (v11 + 0)), (12, vI v12), (13, vI (r32 (v5 * (m_i M 566 v0 (ixn (v8 + v12)))) v7)), (14, vI (r32 (v5 * (m_i M 566 v0 (ixn (v8 + v10)))) v7))]) (by decide) rfl dX5_sample_509 ?_
                refine z_iinc (pc := 511) C (lv' := [(0, .ref v0), (5, vI v5), (6, vI v6), (7, vI v7), (8, vI v8), (9, vI v9), (10, vI v10), (11, vI (v11 + 0)), (12, vI (v12 + 1)), (13, vI (r32 (v5 * (m_i M 566 v0 (ixn (v8 + v12)))) v7)), (14, vI (r32 (v5 * (m_i M 566 v0 (ixn (v8 + v10)))) v7))]) 8 rfl (by decide) rfl dX5_sample_511 ?_
                refine z_goto (pc := 514) C dX5_sample_514 (tgt := 387) (by decide) ?_
                exact z_lv [0, 1, 2, 3, 4, 5, 6, 7, 8] rfl <| hk387 v0 v5 v6 v7 v8 v9 v10 (v11 + 0) (v12 + 1) M _ _ hv0 h
              · have h := itf c49 h
                refine z_iconst (pc := 503) C dX5_sample_503 ?_
                refine z_goto (pc := 504) C dX5_sample_504 (tgt := 508) (by decide) ?_
                refine z_iadd (pc := 508) C dX5_sample_508 ?_
                refine z_istore (pc := 509) C (lv' := [(0, .ref v0), (5, vI v5), (6, vI v6), (7, vI v7), (8, vI v8), (9, vI v9), (10, vI v10), (11, vI (v11 + 1)), (12, vI v12), (13, vI (r32 (v5 * (m_i M 566 v0 (ixn (v8 + v12)))) v7)), (14, vI (r32 (v5 * (m_i M 566 v0 (ixn (v8 + v10)))) v7))]) (by decide) rfl dX5_sample_509 ?_
                refine z_iinc (pc := 511) C (lv' := [(0, .ref v0), (5, vI v5), (6, vI v6), (7, vI v7), (8, vI v8), (9, vI v9), (10, vI v10), (11, vI (v11 + 1)), (12, vI (v12 + 1)), (13, vI (r32 (v5 * (m_i M 566 v0 (ixn (v8 + v12)))) v7)), (14, vI (r32 (v5 * (m_i M 566 v0 (ixn (v8 + v10)))) v7))]) 8 rfl (by decide) rfl dX5_sample_511 ?_
                refine z_goto (pc := 514) C dX5_sample_514 (tgt := 387) (by decide) ?_
                exact z_lv [0, 1, 2, 3, 4, 5, 6, 7, 8] rfl <| hk387 v0 v5 v6 v7 v8 v9 v10 (v11 + 1) (v12 + 1) M _ _ hv0 h
theorem cL_X5_sample_387 {X : x_Ctx} {M0 : Mem} (C : x_CC X 3 82 yX5_sample cX5_sample 15 (some .int) []) {k372 : Nat → Int → Int → Int → Int → Int → Int → Mem → Option (Int × Mem)} (hk372 : ∀ (v0 : Nat) (v5 : Int) (v6 : Int) (v7 : Int) (v8 : Int) (v9 : Int) (v10 : Int) (M : Mem) (r : Int) (M' : Mem), m_kd M v0 = 5 → k372 v0 v5 v6 v7 v8 v9 v10 M = some (r, M') → x_Z X 0 0 (x_QF X M0 (.returned (some (vI r))) M' 0 0) M0 M 15 [(0, .ref v0), (5, vI v5), (6, vI v6), (7, vI v7), (8, vI v8), (9, vI v9), (10, vI v10)] 372 []) : ∀ (n : Nat) (v0 : Nat) (v5 : Int) (v6 : Int) (v7 : Int) (v8 : Int) (v9 : Int) (v10 : Int) (v11 : Int) (v12 : Int) (M : Mem) (r : Int) (M' : Mem) (hv0 : m_kd M v0 = 5) (h : L_X5_sample_387 k372 n v0 v5 v6 v7 v8 v9 v10 v11 v12 M = some (r, M')) , x_Z X 0 0 (x_QF X M0 (.returned (some (vI r))) M' 0 0) M0 M 15 [(0, .ref v0), (5, vI v5), (6, vI v6), (7, vI v7), (8, vI v8), (9, vI v9), (10, vI v10), (11, vI v11), (12, vI v12)] 387 [] := by
  intro n
  induction n with
  | zero => intro v0 v5 v6 v7 v8 v9 v10 v11 v12 M r M' hv0 h ; cases h
  | succ n ih => intro v0 v5 v6 v7 v8 v9 v10 v11 v12 M r M' hv0 h ; exact cB_X5_sample_387 C hk372 (fun v0 v5 v6 v7 v8 v9 v10 v11 v12 M r M' hv0 h  => ih v0 v5 v6 v7 v8 v9 v10 v11 v12 M r M' hv0 h ) v0 v5 v6 v7 v8 v9 v10 v11 v12 M r M' hv0 h 
theorem cB_X5_sample_372 {X : x_Ctx} {M0 : Mem} (C : x_CC X 3 82 yX5_sample cX5_sample 15 (some .int) []) {k372 : Nat → Int → Int → Int → Int → Int → Int → Mem → Option (Int × Mem)} (hk372 : ∀ (v0 : Nat) (v5 : Int) (v6 : Int) (v7 : Int) (v8 : Int) (v9 : Int) (v10 : Int) (M : Mem) (r : Int) (M' : Mem), m_kd M v0 = 5 → k372 v0 v5 v6 v7 v8 v9 v10 M = some (r, M') → x_Z X 0 0 (x_QF X M0 (.returned (some (vI r))) M' 0 0) M0 M 15 [(0, .ref v0), (5, vI v5), (6, vI v6), (7, vI v7), (8, vI v8), (9, vI v9), (10, vI v10)] 372 []) (v0 : Nat) (v5 : Int) (v6 : Int) (v7 : Int) (v8 : Int) (v9 : Int) (v10 : Int) (M : Mem) (r : Int) (M' : Mem) (hv0 : m_kd M v0 = 5) (h : B_X5_sample_372 k372 v0 v5 v6 v7 v8 v9 v10 M = some (r, M'))  : x_Z X 0 0 (x_QF X M0 (.returned (some (vI r))) M' 0 0) M0 M 15 [(0, .ref v0), (5, vI v5), (6, vI v6), (7, vI v7), (8, vI v8), (9, vI v9), (10, vI v10)] 372 [] := by
  unfold B_X5_sample_372 at h
  refine z_iload (pc := 372) C 6 rfl dX5_sample_372 ?_
  refine z_aload_n (pc := 374) C 0 rfl dX5_sample_374 ?_
  refine gX5_502 (pc := 375) C rfl (Or.inl hv0) rfl dX5_sample_375 ?_
  refine z_ic_ge (pc := 378) C dX5_sample_378 (tgt := 560) (by decide) (fun c18 => ?_) (fun c18 => ?_)
  · have h := itt c18 h
    refine z_iconst (pc := 560) C dX5_sample_560 ?_
    refine z_istore (pc := 561) C (lv' := [(0, .ref v0), (5, vI v5), (6, vI v6), (7, vI v7), (8, vI v8), (9, vI v9), (10, vI 0)]) (by decide) rfl dX5_sample_561 ?_
    exact z_lv [0, 2, 4, 6] rfl <| cL_X5_sample_563 C FU v0 v6 v8 0 M _ _ hv0 h
  · have h := itf c18 h
    refine z_iconst (pc := 381) C dX5_sample_381 ?_
    refine z_istore (pc := 382) C (lv' := [(0, .ref v0), (5, vI v5), (6, vI v6), (7, vI v7), (8, vI v8), (9, vI v9), (10, vI v10), (11, vI 0)]) (by decide) rfl dX5_sample_382 ?_
    refine z_iconst (pc := 384) C dX5_sample_384 ?_
    refine z_istore (pc := 385) C (lv' := [(0, .ref v0), (5, vI v5), (6, vI v6), (7, vI v7), (8, vI v8), (9, vI v9), (10, vI v10), (11, vI 0), (12, vI 0)]) (by decide) rfl dX5_sample_385 ?_
    exact cL_X5_sample_387 C hk372 FU v0 v5 v6 v7 v8 v9 v10 0 0 M _ _ hv0 h
theorem cL_X5_sample_372 {X : x_Ctx} {M0 : Mem} (C : x_CC X 3 82 yX5_sample cX5_sample 15 (some .int) [])  : ∀ (n : Nat) (v0 : Nat) (v5 : Int) (v6 : Int) (v7 : Int) (v8 : Int) (v9 : Int) (v10 : Int) (M : Mem) (r : Int) (M' : Mem) (hv0 : m_kd M v0 = 5) (h : L_X5_sample_372  n v0 v5 v6 v7 v8 v9 v10 M = some (r, M')) , x_Z X 0 0 (x_QF X M0 (.returned (some (vI r))) M' 0 0) M0 M 15 [(0, .ref v0), (5, vI v5), (6, vI v6), (7, vI v7), (8, vI v8), (9, vI v9), (10, vI v10)] 372 [] := by
  intro n
  induction n with
  | zero => intro v0 v5 v6 v7 v8 v9 v10 M r M' hv0 h ; cases h
  | succ n ih => intro v0 v5 v6 v7 v8 v9 v10 M r M' hv0 h ; exact cB_X5_sample_372 C (fun v0 v5 v6 v7 v8 v9 v10 M r M' hv0 h  => ih v0 v5 v6 v7 v8 v9 v10 M r M' hv0 h ) v0 v5 v6 v7 v8 v9 v10 M r M' hv0 h 
theorem cB_X5_sample_323 {X : x_Ctx} {M0 : Mem} (C : x_CC X 3 82 yX5_sample cX5_sample 15 (some .int) []) {k216 : Nat → Int → Int → Int → Int → Int → Int → Mem → Option (Int × Mem)} (hk216 : ∀ (v0 : Nat) (v5 : Int) (v6 : Int) (v7 : Int) (v8 : Int) (v9 : Int) (v10 : Int) (M : Mem) (r : Int) (M' : Mem), m_kd M v0 = 5 → k216 v0 v5 v6 v7 v8 v9 v10 M = some (r, M') → x_Z X 0 0 (x_QF X M0 (.returned (some (vI r))) M' 0 0) M0 M 15 [(0, .ref v0), (5, vI v5), (6, vI v6), (7, vI v7), (8, vI v8), (9, vI v9), (10, vI v10)] 216 []) (v0 : Nat) (v5 : Int) (v6 : Int) (v7 : Int) (v8 : Int) (v9 : Int) (v10 : Int) (s0 : Nat) (s1 : Int) (s2 : Int) (M : Mem) (r : Int) (M' : Mem) (hv0 : m_kd M v0 = 5) (hs0 : m_kd M s0 = 5) (h : B_X5_sample_323 k216 v0 v5 v6 v7 v8 v9 v10 s0 s1 s2 M = some (r, M'))  : x_Z X 0 0 (x_QF X M0 (.returned (some (vI r))) M' 0 0) M0 M 15 [(0, .ref v0), (5, vI v5), (6, vI v6), (7, vI v7), (8, vI v8), (9, vI v9), (10, vI v10)] 323 [vI s2, vI s1, .ref (s0 + 42)] := by
  unfold B_X5_sample_323 at h
  obtain ⟨c54, h⟩ := ifn h
  refine z_isO (pc := 323) (k := 5) (j := 65) C 565 rfl (by decide) (by decide) (by decide) rfl rfl rfl rfl hs0 c54 dX5_sample_323 ?_
  refine z_aload_n (pc := 324) C 0 rfl dX5_sample_324 ?_
  refine gX5_567 (pc := 325) C rfl hv0 dX5_sample_325 ?_
  refine z_iload (pc := 328) C 4 rfl dX5_sample_328 ?_
  refine z_iload (pc := 330) C 6 rfl dX5_sample_330 ?_
  refine z_iadd (pc := 332) C dX5_sample_332 ?_
  refine z_iconst (pc := 333) C dX5_sample_333 ?_
  obtain ⟨c55, h⟩ := ifn h
  refine z_zsO (pc := 334) (k := 5) (j := 67) C 567 rfl (by decide) (by decide) (by decide) rfl rfl rfl rfl hv0 c55 dX5_sample_334 ?_
  refine z_iload (pc := 335) C 5 rfl dX5_sample_335 ?_
  refine z_aload_n (pc := 337) C 0 rfl dX5_sample_337 ?_
  refine z_iload (pc := 338) C 6 rfl dX5_sample_338 ?_
  obtain ⟨r56, e57, h⟩ := bRs h
  refine cX5_458 (pc := 340) (st := [vI v9]) (st1 := [vI r56, vI v9]) C rfl (rm := { frames := 1, cells := 0, slots := 0, locals := 24 }) (ct_X5_isFirst C.2.1 v0 v10 (m_si (m_si M 565 s0 (ixn s1) s2) 567 v0 (ixn (v8 + v10)) (bz 0)) _ hv0 e57) ⟨by decide, by decide, Nat.zero_le _, Nat.zero_le _⟩ (Or.inl hv0) rfl (Nat.le_of_ble_eq_true rfl) dX5_sample_340 (c2 := 0) (s2 := 0) rfl rfl (fun _ => ?_)
  refine z_if_eq (pc := 343) C dX5_sample_343 (tgt := 359) (by decide) (fun c58 => ?_) (fun c58 => ?_)
  · have h := itt c58 h
    refine z_iconst (pc := 359) C dX5_sample_359 ?_
    refine z_isub (pc := 360) C dX5_sample_360 ?_
    refine z_istore (pc := 361) C (lv' := [(0, .ref v0), (5, vI v5), (6, vI v6), (7, vI v7), (8, vI v8), (9, vI (v9 - 0)), (10, vI v10)]) (by decide) rfl dX5_sample_361 ?_
    refine z_iinc (pc := 363) C (lv' := [(0, .ref v0), (5, vI v5), (6, vI v6), (7, vI v7), (8, vI v8), (9, vI (v9 - 0)), (10, vI (v10 + 1))]) 6 rfl (by decide) rfl dX5_sample_363 ?_
    refine z_goto (pc := 366) C dX5_sample_366 (tgt := 216) (by decide) ?_
    exact hk216 v0 v5 v6 v7 v8 (v9 - 0) (v10 + 1) (m_si (m_si M 565 s0 (ixn s1) s2) 567 v0 (ixn (v8 + v10)) (bz 0)) _ _ hv0 h
  · have h := itf c58 h
    refine z_aload_n (pc := 346) C 0 rfl dX5_sample_346 ?_
    refine gX5_565 (pc := 347) C rfl hv0 dX5_sample_347 ?_
    refine z_iload (pc := 350) C 4 rfl dX5_sample_350 ?_
    refine z_iload (pc := 352) C 6 rfl dX5_sample_352 ?_
    refine z_iadd (pc := 354) C dX5_sample_354 ?_
    refine z_iaO (pc := 355) (k := 5) (j := 65) C 565 rfl (by decide) (by decide) (by decide) rfl rfl rfl rfl hv0 c55 (x := m_i (m_si M 565 s0 (ixn s1) s2) 565 v0 (ixn (v8 + v10))) ((m_i_ne (by decide)).trans rfl) dX5_sample_355 ?_
    refine z_goto (pc := 356) C dX5_sample_356 (tgt := 360) (by decide) ?_
    refine z_isub (pc := 360) C dX5_sample_360 ?_
    refine z_istore (pc := 361) C (lv' := [(0, .ref v0), (5, vI v5), (6, vI v6), (7, vI v7), (8, vI v8), (9, vI (v9 - (m_i (m_si M 565 s0 (ixn s1) s2) 565 v0 (ixn (v8 + v10))))), (10, vI v10)]) (by decide) rfl dX5_sample_361 ?_
    refine z_iinc (pc := 363) C (lv' := [(0, .ref v0), (5, vI v5), (6, vI v6), (7, vI v7), (8, vI v8), (9, vI (v9 - (m_i (m_si M 565 s0 (ixn s1) s2) 565 v0 (ixn (v8 + v10))))), (10, vI (v10 + 1))]) 6 rfl (by decide) rfl dX5_sample_363 ?_
    refine z_goto (pc := 366) C dX5_sample_366 (tgt := 216) (by decide) ?_
    exact hk216 v0 v5 v6 v7 v8 (v9 - (m_i (m_si M 565 s0 (ixn s1) s2) 565 v0 (ixn (v8 + v10)))) (v10 + 1) (m_si (m_si M 565 s0 (ixn s1) s2) 567 v0 (ixn (v8 + v10)) (bz 0)) _ _ hv0 h
theorem cB_X5_sample_231 {X : x_Ctx} {M0 : Mem} (C : x_CC X 3 82 yX5_sample cX5_sample 15 (some .int) []) {k216 : Nat → Int → Int → Int → Int → Int → Int → Mem → Option (Int × Mem)} (hk216 : ∀ (v0 : Nat) (v5 : Int) (v6 : Int) (v7 : Int) (v8 : Int) (v9 : Int) (v10 : Int) (M : Mem) (r : Int) (M' : Mem), m_kd M v0 = 5 → k216 v0 v5 v6 v7 v8 v9 v10 M = some (r, M') → x_Z X 0 0 (x_QF X M0 (.returned (some (vI r))) M' 0 0) M0 M 15 [(0, .ref v0), (5, vI v5), (6, vI v6), (7, vI v7), (8, vI v8), (9, vI v9), (10, vI v10)] 216 []) {k231 : Nat → Int → Int → Int → Int → Int → Int → Int → Int → Mem → Option (Int × Mem)} (hk231 : ∀ (v0 : Nat) (v5 : Int) (v6 : Int) (v7 : Int) (v8 : Int) (v9 : Int) (v10 : Int) (v11 : Int) (v12 : Int) (M : Mem) (r : Int) (M' : Mem), m_kd M v0 = 5 → k231 v0 v5 v6 v7 v8 v9 v10 v11 v12 M = some (r, M') → x_Z X 0 0 (x_QF X M0 (.returned (some (vI r))) M' 0 0) M0 M 15 [(0, .ref v0), (5, vI v5), (6, vI v6), (7, vI v7), (8, vI v8), (9, vI v9), (10, vI v10), (11, vI v11), (12, vI v12)] 231 []) (v0 : Nat) (v5 : Int) (v6 : Int) (v7 : Int) (v8 : Int) (v9 : Int) (v10 : Int) (v11 : Int) (v12 : Int) (M : Mem) (r : Int) (M' : Mem) (hv0 : m_kd M v0 = 5) (h : B_X5_sample_231 k216 k231 v0 v5 v6 v7 v8 v9 v10 v11 v12 M = some (r, M'))  : x_Z X 0 0 (x_QF X M0 (.returned (some (vI r))) M' 0 0) M0 M 15 [(0, .ref v0), (5, vI v5), (6, vI v6), (7, vI v7), (8, vI v8), (9, vI v9), (10, vI v10), (11, vI v11), (12, vI v12)] 231 [] := by
  unfold B_X5_sample_231 at h
  refine z_iload (pc := 231) C 8 rfl dX5_sample_231 ?_
  refine z_aload_n (pc := 233) C 0 rfl dX5_sample_233 ?_
  refine gX5_502 (pc := 234) C rfl (Or.inl hv0) rfl dX5_sample_234 ?_
  refine z_ic_ge (pc := 237) C dX5_sample_237 (tgt := 285) (by decide) (fun c50 => ?_) (fun c50 => ?_)
  · have h := itt c50 h
    refine z_aload_n (pc := 285) C 0 rfl dX5_sample_285 ?_
    refine gX5_566 (pc := 286) C rfl hv0 dX5_sample_286 ?_
    refine z_iload (pc := 289) C 4 rfl dX5_sample_289 ?_
    refine z_iload (pc := 291) C 6 rfl dX5_sample_291 ?_
    refine z_iadd (pc := 293) C dX5_sample_293 ?_
    refine z_iload (pc := 294) C 7 rfl dX5_sample_294 ?_
    obtain ⟨c51, h⟩ := ifn h
    refine z_isO (pc := 296) (k := 5) (j := 66) C 566 rfl (by decide) (by decide) (by decide) rfl rfl rfl rfl hv0 c51 dX5_sample_296 ?_
    refine z_aload_n (pc := 297) C 0 rfl dX5_sample_297 ?_
    refine gX5_565 (pc := 298) C rfl hv0 dX5_sample_298 ?_
    refine z_iload (pc := 301) C 4 rfl dX5_sample_301 ?_
    refine z_iload (pc := 303) C 6 rfl dX5_sample_303 ?_
    refine z_iadd (pc := 305) C dX5_sample_305 ?_
    refine z_iload (pc := 306) C 3 rfl dX5_sample_306 ?_
    refine z_if_ne (pc := 308) C dX5_sample_308 (tgt := 315) (by decide) (fun c52 => ?_) (fun c52 => ?_)
    · have h := itf c52 h
      refine z_iload (pc := 315) C 1 rfl dX5_sample_315 ?_
      refine z_iload (pc := 317) C 7 rfl dX5_sample_317 ?_
      refine z_imul (pc := 319) C dX5_sample_319 ?_
      refine z_iload (pc := 320) C 3 rfl dX5_sample_320 ?_
      obtain ⟨c53, h⟩ := ifn h
      refine z_idiv (pc := 322) C c53 dX5_sample_322 ?_
      exact z_lv [0, 1, 2, 3, 4, 5, 6] rfl <| cB_X5_sample_323 C hk216 v0 v5 v6 v7 v8 v9 v10 v0 (v8 + v10) (d32 (v5 * v11) v7) (m_si M 566 v0 (ixn (v8 + v10)) v11) _ _ hv0 hv0 h
    · have h := itt c52 h
      refine z_iconst (pc := 311) C dX5_sample_311 ?_
      refine z_goto (pc := 312) C dX5_sample_312 (tgt := 323) (by decide) ?_
      exact z_lv [0, 1, 2, 3, 4, 5, 6] rfl <| cB_X5_sample_323 C hk216 v0 v5 v6 v7 v8 v9 v10 v0 (v8 + v10) 0 (m_si M 566 v0 (ixn (v8 + v10)) v11) _ _ hv0 hv0 h
  · have h := itf c50 h
    refine z_iload (pc := 240) C 7 rfl dX5_sample_240 ?_
    refine z_aload_n (pc := 242) C 0 rfl dX5_sample_242 ?_
    refine gX5_568 (pc := 243) C rfl hv0 dX5_sample_243 ?_
    refine z_iload (pc := 246) C 6 rfl dX5_sample_246 ?_
    obtain ⟨c59, h⟩ := ifn h
    refine z_iaO (pc := 248) (k := 5) (j := 68) C 568 rfl (by decide) (by decide) (by decide) rfl rfl rfl rfl hv0 c59 rfl dX5_sample_248 ?_
    refine z_ldc (pc := 249) C (x := -2000000) q1829 (by decide +kernel) dX5_sample_249 ?_
    refine z_ic_eq (pc := 251) C dX5_sample_251 (tgt := 275) (by decide) (fun c60 => ?_) (fun c60 => ?_)
    · have h := itt c60 h
      refine z_iconst (pc := 275) C dX5_sample_275 ?_
      refine z_iadd (pc := 276) C dX5_sample_276 ?_
      refine z_istore (pc := 277) C (lv' := [(0, .ref v0), (5, vI v5), (6, vI v6), (7, vI v7), (8, vI v8), (9, vI v9), (10, vI v10), (11, vI (v11 + 0)), (12, vI v12)]) (by decide) rfl dX5_sample_277 ?_
      refine z_iinc (pc := 279) C (lv' := [(0, .ref v0), (5, vI v5), (6, vI v6), (7, vI v7), (8, vI v8), (9, vI v9), (10, vI v10), (11, vI (v11 + 0)), (12, vI (v12 + 1))]) 8 rfl (by decide) rfl dX5_sample_279 ?_
      refine z_goto (pc := 282) C dX5_sample_282 (tgt := 231) (by decide) ?_
      exact hk231 v0 v5 v6 v7 v8 v9 v10 (v11 + 0) (v12 + 1) M _ _ hv0 h
    · have h := itf c60 h
      refine z_aload_n (pc := 254) C 0 rfl dX5_sample_254 ?_
      refine gX5_568 (pc := 255) C rfl hv0 dX5_sample_255 ?_
      refine z_iload (pc := 258) C 8 rfl dX5_sample_258 ?_
      obtain ⟨c61, h⟩ := ifn h
      refine z_iaO (pc := 260) (k := 5) (j := 68) C 568 rfl (by decide) (by decide) (by decide) rfl rfl rfl rfl hv0 c61 rfl dX5_sample_260 ?_
      refine z_aload_n (pc := 261) C 0 rfl dX5_sample_261 ?_
      refine gX5_568 (pc := 262) C rfl hv0 dX5_sample_262 ?_
      refine z_iload (pc := 265) C 6 rfl dX5_sample_265 ?_
      refine z_iaO (pc := 267) (k := 5) (j := 68) C 568 rfl (by decide) (by decide) (by decide) rfl rfl rfl rfl hv0 c59 rfl dX5_sample_267 ?_
      refine z_ic_ne (pc := 268) C dX5_sample_268 (tgt := 275) (by decide) (fun c62 => ?_) (fun c62 => ?_)
      · have h := itf c62 h
        refine z_iconst (pc := 275) C dX5_sample_275 ?_
        refine z_iadd (pc := 276) C dX5_sample_276 ?_
        refine z_istore (pc := 277) C (lv' := [(0, .ref v0), (5, vI v5), (6, vI v6), (7, vI v7), (8, vI v8), (9, vI v9), (10, vI v10), (11, vI (v11 + 0)), (12, vI v12)]) (by decide) rfl dX5_sample_277 ?_
        refine z_iinc (pc := 279) C (lv' := [(0, .ref v0), (5, vI v5), (6, vI v6), (7, vI v7), (8, vI v8), (9, vI v9), (10, vI v10), (11, vI (v11 + 0)), (12, vI (v12 + 1))]) 8 rfl (by decide) rfl dX5_sample_279 ?_
        refine z_goto (pc := 282) C dX5_sample_282 (tgt := 231) (by decide) ?_
        exact hk231 v0 v5 v6 v7 v8 v9 v10 (v11 + 0) (v12 + 1) M _ _ hv0 h
      · have h := itt c62 h
        refine z_iconst (pc := 271) C dX5_sample_271 ?_
        refine z_goto (pc := 272) C dX5_sample_272 (tgt := 276) (by decide) ?_
        refine z_iadd (pc := 276) C dX5_sample_276 ?_
        refine z_istore (pc := 277) C (lv' := [(0, .ref v0), (5, vI v5), (6, vI v6), (7, vI v7), (8, vI v8), (9, vI v9), (10, vI v10), (11, vI (v11 + 1)), (12, vI v12)]) (by decide) rfl dX5_sample_277 ?_
        refine z_iinc (pc := 279) C (lv' := [(0, .ref v0), (5, vI v5), (6, vI v6), (7, vI v7), (8, vI v8), (9, vI v9), (10, vI v10), (11, vI (v11 + 1)), (12, vI (v12 + 1))]) 8 rfl (by decide) rfl dX5_sample_279 ?_
        refine z_goto (pc := 282) C dX5_sample_282 (tgt := 231) (by decide) ?_
        exact hk231 v0 v5 v6 v7 v8 v9 v10 (v11 + 1) (v12 + 1) M _ _ hv0 h
theorem cL_X5_sample_231 {X : x_Ctx} {M0 : Mem} (C : x_CC X 3 82 yX5_sample cX5_sample 15 (some .int) []) {k216 : Nat → Int → Int → Int → Int → Int → Int → Mem → Option (Int × Mem)} (hk216 : ∀ (v0 : Nat) (v5 : Int) (v6 : Int) (v7 : Int) (v8 : Int) (v9 : Int) (v10 : Int) (M : Mem) (r : Int) (M' : Mem), m_kd M v0 = 5 → k216 v0 v5 v6 v7 v8 v9 v10 M = some (r, M') → x_Z X 0 0 (x_QF X M0 (.returned (some (vI r))) M' 0 0) M0 M 15 [(0, .ref v0), (5, vI v5), (6, vI v6), (7, vI v7), (8, vI v8), (9, vI v9), (10, vI v10)] 216 []) : ∀ (n : Nat) (v0 : Nat) (v5 : Int) (v6 : Int) (v7 : Int) (v8 : Int) (v9 : Int) (v10 : Int) (v11 : Int) (v12 : Int) (M : Mem) (r : Int) (M' : Mem) (hv0 : m_kd M v0 = 5) (h : L_X5_sample_231 k216 n v0 v5 v6 v7 v8 v9 v10 v11 v12 M = some (r, M')) , x_Z X 0 0 (x_QF X M0 (.returned (some (vI r))) M' 0 0) M0 M 15 [(0, .ref v0), (5, vI v5), (6, vI v6), (7, vI v7), (8, vI v8), (9, vI v9), (10, vI v10), (11, vI v11), (12, vI v12)] 231 [] := by
  intro n
  induction n with
  | zero => intro v0 v5 v6 v7 v8 v9 v10 v11 v12 M r M' hv0 h ; cases h
  | succ n ih => intro v0 v5 v6 v7 v8 v9 v10 v11 v12 M r M' hv0 h ; exact cB_X5_sample_231 C hk216 (fun v0 v5 v6 v7 v8 v9 v10 v11 v12 M r M' hv0 h  => ih v0 v5 v6 v7 v8 v9 v10 v11 v12 M r M' hv0 h ) v0 v5 v6 v7 v8 v9 v10 v11 v12 M r M' hv0 h 
theorem cB_X5_sample_216 {X : x_Ctx} {M0 : Mem} (C : x_CC X 3 82 yX5_sample cX5_sample 15 (some .int) []) {k216 : Nat → Int → Int → Int → Int → Int → Int → Mem → Option (Int × Mem)} (hk216 : ∀ (v0 : Nat) (v5 : Int) (v6 : Int) (v7 : Int) (v8 : Int) (v9 : Int) (v10 : Int) (M : Mem) (r : Int) (M' : Mem), m_kd M v0 = 5 → k216 v0 v5 v6 v7 v8 v9 v10 M = some (r, M') → x_Z X 0 0 (x_QF X M0 (.returned (some (vI r))) M' 0 0) M0 M 15 [(0, .ref v0), (5, vI v5), (6, vI v6), (7, vI v7), (8, vI v8), (9, vI v9), (10, vI v10)] 216 []) (v0 : Nat) (v5 : Int) (v6 : Int) (v7 : Int) (v8 : Int) (v9 : Int) (v10 : Int) (M : Mem) (r : Int) (M' : Mem) (hv0 : m_kd M v0 = 5) (h : B_X5_sample_216 k216 v0 v5 v6 v7 v8 v9 v10 M = some (r, M'))  : x_Z X 0 0 (x_QF X M0 (.returned (some (vI r))) M' 0 0) M0 M 15 [(0, .ref v0), (5, vI v5), (6, vI v6), (7, vI v7), (8, vI v8), (9, vI v9), (10, vI v10)] 216 [] := by
  unfold B_X5_sample_216 at h
  refine z_iload (pc := 216) C 6 rfl dX5_sample_216 ?_
  refine z_aload_n (pc := 218) C 0 rfl dX5_sample_218 ?_
  refine gX5_502 (pc := 219) C rfl (Or.inl hv0) rfl dX5_sample_219 ?_
  refine z_ic_ge (pc := 222) C dX5_sample_222 (tgt := 369) (by decide) (fun c17 => ?_) (fun c17 => ?_)
  · have h := itt c17 h
    refine z_iconst (pc := 369) C dX5_sample_369 ?_
    refine z_istore (pc := 370) C (lv' := [(0, .ref v0), (5, vI v5), (6, vI v6), (7, vI v7), (8, vI v8), (9, vI v9), (10, vI 0)]) (by decide) rfl dX5_sample_370 ?_
    exact cL_X5_sample_372 C FU v0 v5 v6 v7 v8 v9 0 M _ _ hv0 h
  · have h := itf c17 h
    refine z_iconst (pc := 225) C dX5_sample_225 ?_
    refine z_istore (pc := 226) C (lv' := [(0, .ref v0), (5, vI v5), (6, vI v6), (7, vI v7), (8, vI v8), (9, vI v9), (10, vI v10), (11, vI 0)]) (by decide) rfl dX5_sample_226 ?_
    refine z_iconst (pc := 228) C dX5_sample_228 ?_
    refine z_istore (pc := 229) C (lv' := [(0, .ref v0), (5, vI v5), (6, vI v6), (7, vI v7), (8, vI v8), (9, vI v9), (10, vI v10), (11, vI 0), (12, vI 0)]) (by decide) rfl dX5_sample_229 ?_
    exact cL_X5_sample_231 C hk216 FU v0 v5 v6 v7 v8 v9 v10 0 0 M _ _ hv0 h
theorem cL_X5_sample_216 {X : x_Ctx} {M0 : Mem} (C : x_CC X 3 82 yX5_sample cX5_sample 15 (some .int) [])  : ∀ (n : Nat) (v0 : Nat) (v5 : Int) (v6 : Int) (v7 : Int) (v8 : Int) (v9 : Int) (v10 : Int) (M : Mem) (r : Int) (M' : Mem) (hv0 : m_kd M v0 = 5) (h : L_X5_sample_216  n v0 v5 v6 v7 v8 v9 v10 M = some (r, M')) , x_Z X 0 0 (x_QF X M0 (.returned (some (vI r))) M' 0 0) M0 M 15 [(0, .ref v0), (5, vI v5), (6, vI v6), (7, vI v7), (8, vI v8), (9, vI v9), (10, vI v10)] 216 [] := by
  intro n
  induction n with
  | zero => intro v0 v5 v6 v7 v8 v9 v10 M r M' hv0 h ; cases h
  | succ n ih => intro v0 v5 v6 v7 v8 v9 v10 M r M' hv0 h ; exact cB_X5_sample_216 C (fun v0 v5 v6 v7 v8 v9 v10 M r M' hv0 h  => ih v0 v5 v6 v7 v8 v9 v10 M r M' hv0 h ) v0 v5 v6 v7 v8 v9 v10 M r M' hv0 h 
theorem cB_X5_sample_138 {X : x_Ctx} {M0 : Mem} (C : x_CC X 3 82 yX5_sample cX5_sample 15 (some .int) []) {k42 : Nat → Int → Int → Int → Int → Int → Int → Int → Int → Mem → Option (Int × Mem)} (hk42 : ∀ (v0 : Nat) (v1 : Int) (v2 : Int) (v3 : Int) (v4 : Int) (v5 : Int) (v6 : Int) (v7 : Int) (v8 : Int) (M : Mem) (r : Int) (M' : Mem), m_kd M v0 = 5 → k42 v0 v1 v2 v3 v4 v5 v6 v7 v8 M = some (r, M') → x_Z X 0 0 (x_QF X M0 (.returned (some (vI r))) M' 0 0) M0 M 15 [(0, .ref v0), (1, vI v1), (2, vI v2), (3, vI v3), (4, vI v4), (5, vI v5), (6, vI v6), (7, vI v7), (8, vI v8)] 42 []) (v0 : Nat) (v1 : Int) (v2 : Int) (v3 : Int) (v4 : Int) (v5 : Int) (v6 : Int) (v7 : Int) (v8 : Int) (s0 : Nat) (s1 : Int) (s2 : Int) (M : Mem) (r : Int) (M' : Mem) (hv0 : m_kd M v0 = 5) (hs0 : m_kd M s0 = 5) (h : B_X5_sample_138 k42 v0 v1 v2 v3 v4 v5 v6 v7 v8 s0 s1 s2 M = some (r, M'))  : x_Z X 0 0 (x_QF X M0 (.returned (some (vI r))) M' 0 0) M0 M 15 [(0, .ref v0), (1, vI v1), (2, vI v2), (3, vI v3), (4, vI v4), (5, vI v5), (6, vI v6), (7, vI v7), (8, vI v8)] 138 [vI s2, vI s1, .ref (s0 + 45)] := by
  unfold B_X5_sample_138 at h
  obtain ⟨c78, h⟩ := ifn h
  refine z_isO (pc := 138) (k := 5) (j := 68) C 568 rfl (by decide) (by decide) (by decide) rfl rfl rfl rfl hs0 c78 dX5_sample_138 ?_
  refine z_iload (pc := 139) C 7 rfl dX5_sample_139 ?_
  refine z_aload_n (pc := 141) C 0 rfl dX5_sample_141 ?_
  refine gX5_568 (pc := 142) C rfl hv0 dX5_sample_142 ?_
  refine z_iload (pc := 145) C 8 rfl dX5_sample_145 ?_
  obtain ⟨c79, h⟩ := ifn h
  refine z_iaO (pc := 147) (k := 5) (j := 68) C 568 rfl (by decide) (by decide) (by decide) rfl rfl rfl rfl hv0 c79 rfl dX5_sample_147 ?_
  refine z_ldc (pc := 148) C (x := -2000000) q1829 (by decide +kernel) dX5_sample_148 ?_
  refine z_ic_eq (pc := 150) C dX5_sample_150 (tgt := 157) (by decide) (fun c80 => ?_) (fun c80 => ?_)
  · have h := itt c80 h
    refine z_iconst (pc := 157) C dX5_sample_157 ?_
    refine z_iadd (pc := 158) C dX5_sample_158 ?_
    refine z_istore (pc := 159) C (lv' := [(0, .ref v0), (1, vI v1), (2, vI v2), (3, vI v3), (4, vI v4), (5, vI v5), (6, vI v6), (7, vI (v7 + 0)), (8, vI v8)]) (by decide) rfl dX5_sample_159 ?_
    refine z_iinc (pc := 161) C (lv' := [(0, .ref v0), (1, vI v1), (2, vI v2), (3, vI v3), (4, vI v4), (5, vI v5), (6, vI v6), (7, vI (v7 + 0)), (8, vI (v8 + 1))]) 8 rfl (by decide) rfl dX5_sample_161 ?_
    refine z_goto (pc := 164) C dX5_sample_164 (tgt := 42) (by decide) ?_
    exact hk42 v0 v1 v2 v3 v4 v5 v6 (v7 + 0) (v8 + 1) (m_si M 568 s0 (ixn s1) s2) _ _ hv0 h
  · have h := itf c80 h
    refine z_iconst (pc := 153) C dX5_sample_153 ?_
    refine z_goto (pc := 154) C dX5_sample_154 (tgt := 158) (by decide) ?_
    refine z_iadd (pc := 158) C dX5_sample_158 ?_
    refine z_istore (pc := 159) C (lv' := [(0, .ref v0), (1, vI v1), (2, vI v2), (3, vI v3), (4, vI v4), (5, vI v5), (6, vI v6), (7, vI (v7 + 1)), (8, vI v8)]) (by decide) rfl dX5_sample_159 ?_
    refine z_iinc (pc := 161) C (lv' := [(0, .ref v0), (1, vI v1), (2, vI v2), (3, vI v3), (4, vI v4), (5, vI v5), (6, vI v6), (7, vI (v7 + 1)), (8, vI (v8 + 1))]) 8 rfl (by decide) rfl dX5_sample_161 ?_
    refine z_goto (pc := 164) C dX5_sample_164 (tgt := 42) (by decide) ?_
    exact hk42 v0 v1 v2 v3 v4 v5 v6 (v7 + 1) (v8 + 1) (m_si M 568 s0 (ixn s1) s2) _ _ hv0 h
theorem cB_X5_sample_104 {X : x_Ctx} {M0 : Mem} (C : x_CC X 3 82 yX5_sample cX5_sample 15 (some .int) []) {k42 : Nat → Int → Int → Int → Int → Int → Int → Int → Int → Mem → Option (Int × Mem)} (hk42 : ∀ (v0 : Nat) (v1 : Int) (v2 : Int) (v3 : Int) (v4 : Int) (v5 : Int) (v6 : Int) (v7 : Int) (v8 : Int) (M : Mem) (r : Int) (M' : Mem), m_kd M v0 = 5 → k42 v0 v1 v2 v3 v4 v5 v6 v7 v8 M = some (r, M') → x_Z X 0 0 (x_QF X M0 (.returned (some (vI r))) M' 0 0) M0 M 15 [(0, .ref v0), (1, vI v1), (2, vI v2), (3, vI v3), (4, vI v4), (5, vI v5), (6, vI v6), (7, vI v7), (8, vI v8)] 42 []) (v0 : Nat) (v1 : Int) (v2 : Int) (v3 : Int) (v4 : Int) (v5 : Int) (v6 : Int) (v7 : Int) (v8 : Int) (s0 : Int) (M : Mem) (r : Int) (M' : Mem) (hv0 : m_kd M v0 = 5) (h : B_X5_sample_104 k42 v0 v1 v2 v3 v4 v5 v6 v7 v8 s0 M = some (r, M'))  : x_Z X 0 0 (x_QF X M0 (.returned (some (vI r))) M' 0 0) M0 M 15 [(0, .ref v0), (1, vI v1), (2, vI v2), (3, vI v3), (4, vI v4), (5, vI v5), (6, vI v6), (7, vI v7), (8, vI v8)] 104 [vI s0] := by
  unfold B_X5_sample_104 at h
  refine z_istore (pc := 104) C (lv' := [(0, .ref v0), (1, vI v1), (2, vI v2), (3, vI v3), (4, vI v4), (5, vI v5), (6, vI v6), (7, vI v7), (8, vI v8), (10, vI s0)]) (by decide) rfl dX5_sample_104 ?_
  refine z_aload_n (pc := 106) C 0 rfl dX5_sample_106 ?_
  refine gX5_568 (pc := 107) C rfl hv0 dX5_sample_107 ?_
  refine z_iload (pc := 110) C 8 rfl dX5_sample_110 ?_
  refine z_iload (pc := 112) C 9 rfl dX5_sample_112 ?_
  refine z_if_eq (pc := 114) C dX5_sample_114 (tgt := 136) (by decide) (fun c77 => ?_) (fun c77 => ?_)
  · have h := itt c77 h
    refine z_ldc (pc := 136) C (x := -2000000) q1829 (by decide +kernel) dX5_sample_136 ?_
    exact z_lv [0, 1, 2, 3, 4, 5, 6, 7, 8] rfl <| cB_X5_sample_138 C hk42 v0 v1 v2 v3 v4 v5 v6 v7 v8 v0 v8 (-2000000) M _ _ hv0 hv0 h
  · have h := itf c77 h
    refine z_aload_n (pc := 117) C 0 rfl dX5_sample_117 ?_
    refine z_iload (pc := 118) C 8 rfl dX5_sample_118 ?_
    refine z_iload (pc := 120) C 4 rfl dX5_sample_120 ?_
    refine z_aload_n (pc := 122) C 0 rfl dX5_sample_122 ?_
    refine cX5_233 (pc := 123) (st := [vI v4, vI v8, .ref v0, vI v8, .ref (v0 + 45)]) (st1 := [vI (d_X5_today v0 M), vI v4, vI v8, .ref v0, vI v8, .ref (v0 + 45)]) C rfl (rm := { frames := 1, cells := 0, slots := 0, locals := 24 }) (ct_X5_today C.2.1 v0 M _ hv0 rfl) ⟨by decide, by decide, Nat.zero_le _, Nat.zero_le _⟩ (Or.inl hv0) rfl (Nat.le_of_ble_eq_true rfl) dX5_sample_123 (c2 := 0) (s2 := 0) rfl rfl (fun _ => ?_)
    refine z_aload_n (pc := 126) C 0 rfl dX5_sample_126 ?_
    refine cX5_233 (pc := 127) (st := [vI (d_X5_today v0 M), vI v4, vI v8, .ref v0, vI v8, .ref (v0 + 45)]) (st1 := [vI (d_X5_today v0 M), vI (d_X5_today v0 M), vI v4, vI v8, .ref v0, vI v8, .ref (v0 + 45)]) C rfl (rm := { frames := 1, cells := 0, slots := 0, locals := 24 }) (ct_X5_today C.2.1 v0 M _ hv0 rfl) ⟨by decide, by decide, Nat.zero_le _, Nat.zero_le _⟩ (Or.inl hv0) rfl (Nat.le_of_ble_eq_true rfl) dX5_sample_127 (c2 := 0) (s2 := 0) rfl rfl (fun _ => ?_)
    obtain ⟨r83, e84, h⟩ := bRs h
    refine cX5_245 (pc := 130) (st := [vI v8, .ref (v0 + 45)]) (st1 := [vI r83, vI v8, .ref (v0 + 45)]) C rfl (rm := { frames := 2, cells := 0, slots := 0, locals := 51 }) (ct_X5_valueOf C.2.1 v0 v8 v4 (d_X5_today v0 M) (d_X5_today v0 M) M _ hv0 e84) ⟨by decide, by decide, Nat.zero_le _, Nat.zero_le _⟩ (Or.inl hv0) rfl (Nat.le_of_ble_eq_true rfl) dX5_sample_130 (c2 := 0) (s2 := 0) rfl rfl (fun _ => ?_)
    refine z_goto (pc := 133) C dX5_sample_133 (tgt := 138) (by decide) ?_
    exact z_lv [0, 1, 2, 3, 4, 5, 6, 7, 8] rfl <| cB_X5_sample_138 C hk42 v0 v1 v2 v3 v4 v5 v6 v7 v8 v0 v8 r83 M _ _ hv0 hv0 h
theorem cB_X5_sample_103 {X : x_Ctx} {M0 : Mem} (C : x_CC X 3 82 yX5_sample cX5_sample 15 (some .int) []) {k42 : Nat → Int → Int → Int → Int → Int → Int → Int → Int → Mem → Option (Int × Mem)} (hk42 : ∀ (v0 : Nat) (v1 : Int) (v2 : Int) (v3 : Int) (v4 : Int) (v5 : Int) (v6 : Int) (v7 : Int) (v8 : Int) (M : Mem) (r : Int) (M' : Mem), m_kd M v0 = 5 → k42 v0 v1 v2 v3 v4 v5 v6 v7 v8 M = some (r, M') → x_Z X 0 0 (x_QF X M0 (.returned (some (vI r))) M' 0 0) M0 M 15 [(0, .ref v0), (1, vI v1), (2, vI v2), (3, vI v3), (4, vI v4), (5, vI v5), (6, vI v6), (7, vI v7), (8, vI v8)] 42 []) (v0 : Nat) (v1 : Int) (v2 : Int) (v3 : Int) (v4 : Int) (v5 : Int) (v6 : Int) (v7 : Int) (v8 : Int) (M : Mem) (r : Int) (M' : Mem) (hv0 : m_kd M v0 = 5) (h : B_X5_sample_103 k42 v0 v1 v2 v3 v4 v5 v6 v7 v8 M = some (r, M'))  : x_Z X 0 0 (x_QF X M0 (.returned (some (vI r))) M' 0 0) M0 M 15 [(0, .ref v0), (1, vI v1), (2, vI v2), (3, vI v3), (4, vI v4), (5, vI v5), (6, vI v6), (7, vI v7), (8, vI v8)] 103 [] := by
  unfold B_X5_sample_103 at h
  refine z_iconst (pc := 103) C dX5_sample_103 ?_
  exact cB_X5_sample_104 C hk42 v0 v1 v2 v3 v4 v5 v6 v7 v8 0 M _ _ hv0 h
theorem cB_X5_sample_42 {X : x_Ctx} {M0 : Mem} (C : x_CC X 3 82 yX5_sample cX5_sample 15 (some .int) []) {k42 : Nat → Int → Int → Int → Int → Int → Int → Int → Int → Mem → Option (Int × Mem)} (hk42 : ∀ (v0 : Nat) (v1 : Int) (v2 : Int) (v3 : Int) (v4 : Int) (v5 : Int) (v6 : Int) (v7 : Int) (v8 : Int) (M : Mem) (r : Int) (M' : Mem), m_kd M v0 = 5 → k42 v0 v1 v2 v3 v4 v5 v6 v7 v8 M = some (r, M') → x_Z X 0 0 (x_QF X M0 (.returned (some (vI r))) M' 0 0) M0 M 15 [(0, .ref v0), (1, vI v1), (2, vI v2), (3, vI v3), (4, vI v4), (5, vI v5), (6, vI v6), (7, vI v7), (8, vI v8)] 42 []) (v0 : Nat) (v1 : Int) (v2 : Int) (v3 : Int) (v4 : Int) (v5 : Int) (v6 : Int) (v7 : Int) (v8 : Int) (M : Mem) (r : Int) (M' : Mem) (hv0 : m_kd M v0 = 5) (h : B_X5_sample_42 k42 v0 v1 v2 v3 v4 v5 v6 v7 v8 M = some (r, M'))  : x_Z X 0 0 (x_QF X M0 (.returned (some (vI r))) M' 0 0) M0 M 15 [(0, .ref v0), (1, vI v1), (2, vI v2), (3, vI v3), (4, vI v4), (5, vI v5), (6, vI v6), (7, vI v7), (8, vI v8)] 42 [] := by
  unfold B_X5_sample_42 at h
  refine z_iload (pc := 42) C 8 rfl dX5_sample_42 ?_
  refine z_aload_n (pc := 44) C 0 rfl dX5_sample_44 ?_
  refine gX5_502 (pc := 45) C rfl (Or.inl hv0) rfl dX5_sample_45 ?_
  refine z_ic_ge (pc := 48) C dX5_sample_48 (tgt := 167) (by decide) (fun c9 => ?_) (fun c9 => ?_)
  · have h := itt c9 h
    refine z_iload (pc := 167) C 5 rfl dX5_sample_167 ?_
    refine z_if_lt (pc := 169) C dX5_sample_169 (tgt := 179) (by decide) (fun c10 => ?_) (fun c10 => ?_)
    · have h := itt c10 h
      refine z_aload_n (pc := 179) C 0 rfl dX5_sample_179 ?_
      refine z_iconst (pc := 180) C dX5_sample_180 ?_
      obtain ⟨r11, M12, e13, h⟩ := bNs h
      refine cX5_213 (pc := 181) (st := []) (st1 := [vI r11]) C rfl (rm := { frames := 1, cells := 0, slots := 0, locals := 24 }) (ct_X5_fail C.2.1 v0 2 M _ _ hv0 e13) ⟨by decide, by decide, Nat.zero_le _, Nat.zero_le _⟩ (Or.inl hv0) rfl (Nat.le_of_ble_eq_true rfl) dX5_sample_181 (c2 := 0) (s2 := 0) rfl rfl (fun x14 => ?_)
      cases h
      exact z_iret (pc := 184) C rfl (show 0 ≤ 0 from by decide) (show 0 ≤ 0 from by decide) dX5_sample_184
    · have h := itf c10 h
      refine z_iload (pc := 172) C 5 rfl dX5_sample_172 ?_
      refine z_iload (pc := 174) C 7 rfl dX5_sample_174 ?_
      refine z_ic_le (pc := 176) C dX5_sample_176 (tgt := 185) (by decide) (fun c15 => ?_) (fun c15 => ?_)
      · have h := itt c15 h
        refine z_aload_n (pc := 185) C 0 rfl dX5_sample_185 ?_
        refine gX5_564 (pc := 186) C rfl (Or.inl hv0) rfl dX5_sample_186 ?_
        refine z_bipush (pc := 189) C (by decide +kernel) dX5_sample_189 ?_
        refine z_ic_ne (pc := 191) C dX5_sample_191 (tgt := 200) (by decide) (fun c16 => ?_) (fun c16 => ?_)
        · have h := itf c16 h
          refine z_bipush (pc := 200) C (by decide +kernel) dX5_sample_200 ?_
          refine z_aload_n (pc := 202) C 0 rfl dX5_sample_202 ?_
          refine gX5_564 (pc := 203) C rfl (Or.inl hv0) rfl dX5_sample_203 ?_
          refine z_imul (pc := 206) C dX5_sample_206 ?_
          refine z_istore (pc := 207) C (lv' := [(0, .ref v0), (1, vI v1), (2, vI v2), (3, vI v3), (4, vI v4), (5, vI v5), (6, vI v6), (7, vI v7), (8, vI (100 * (m_i M 564 v0 0)))]) (by decide) rfl dX5_sample_207 ?_
          refine z_iload (pc := 209) C 5 rfl dX5_sample_209 ?_
          refine z_istore (pc := 211) C (lv' := [(0, .ref v0), (1, vI v1), (2, vI v2), (3, vI v3), (4, vI v4), (5, vI v5), (6, vI v6), (7, vI v7), (8, vI (100 * (m_i M 564 v0 0))), (9, vI v5)]) (by decide) rfl dX5_sample_211 ?_
          refine z_iconst (pc := 213) C dX5_sample_213 ?_
          refine z_istore (pc := 214) C (lv' := [(0, .ref v0), (1, vI v1), (2, vI v2), (3, vI v3), (4, vI v4), (5, vI v5), (6, vI v6), (7, vI v7), (8, vI (100 * (m_i M 564 v0 0))), (9, vI v5), (10, vI 0)]) (by decide) rfl dX5_sample_214 ?_
          exact z_lv [0, 5, 6, 7, 8, 9, 10] rfl <| cL_X5_sample_216 C FU v0 v5 v6 v7 (100 * (m_i M 564 v0 0)) v5 0 M _ _ hv0 h
        · have h := itt c16 h
          refine z_aload_n (pc := 194) C 0 rfl dX5_sample_194 ?_
          refine z_iconst (pc := 195) C dX5_sample_195 ?_
          obtain ⟨r63, M64, e65, h⟩ := bNs h
          refine cX5_213 (pc := 196) (st := []) (st1 := [vI r63]) C rfl (rm := { frames := 1, cells := 0, slots := 0, locals := 24 }) (ct_X5_fail C.2.1 v0 3 M _ _ hv0 e65) ⟨by decide, by decide, Nat.zero_le _, Nat.zero_le _⟩ (Or.inl hv0) rfl (Nat.le_of_ble_eq_true rfl) dX5_sample_196 (c2 := 0) (s2 := 0) rfl rfl (fun x66 => ?_)
          cases h
          exact z_iret (pc := 199) C rfl (show 0 ≤ 0 from by decide) (show 0 ≤ 0 from by decide) dX5_sample_199
      · have h := itf c15 h
        refine z_aload_n (pc := 179) C 0 rfl dX5_sample_179 ?_
        refine z_iconst (pc := 180) C dX5_sample_180 ?_
        obtain ⟨r67, M68, e69, h⟩ := bNs h
        refine cX5_213 (pc := 181) (st := []) (st1 := [vI r67]) C rfl (rm := { frames := 1, cells := 0, slots := 0, locals := 24 }) (ct_X5_fail C.2.1 v0 2 M _ _ hv0 e69) ⟨by decide, by decide, Nat.zero_le _, Nat.zero_le _⟩ (Or.inl hv0) rfl (Nat.le_of_ble_eq_true rfl) dX5_sample_181 (c2 := 0) (s2 := 0) rfl rfl (fun x70 => ?_)
        cases h
        exact z_iret (pc := 184) C rfl (show 0 ≤ 0 from by decide) (show 0 ≤ 0 from by decide) dX5_sample_184
  · have h := itf c9 h
    refine z_aload_n (pc := 51) C 0 rfl dX5_sample_51 ?_
    refine z_iload (pc := 52) C 8 rfl dX5_sample_52 ?_
    refine z_iload_n (pc := 54) C 1 rfl dX5_sample_54 ?_
    refine z_aload_n (pc := 55) C 0 rfl dX5_sample_55 ?_
    refine cX5_233 (pc := 56) (st := [vI v1, vI v8, .ref v0]) (st1 := [vI (d_X5_today v0 M), vI v1, vI v8, .ref v0]) C rfl (rm := { frames := 1, cells := 0, slots := 0, locals := 24 }) (ct_X5_today C.2.1 v0 M _ hv0 rfl) ⟨by decide, by decide, Nat.zero_le _, Nat.zero_le _⟩ (Or.inl hv0) rfl (Nat.le_of_ble_eq_true rfl) dX5_sample_56 (c2 := 0) (s2 := 0) rfl rfl (fun _ => ?_)
    refine z_aload_n (pc := 59) C 0 rfl dX5_sample_59 ?_
    refine cX5_233 (pc := 60) (st := [vI (d_X5_today v0 M), vI v1, vI v8, .ref v0]) (st1 := [vI (d_X5_today v0 M), vI (d_X5_today v0 M), vI v1, vI v8, .ref v0]) C rfl (rm := { frames := 1, cells := 0, slots := 0, locals := 24 }) (ct_X5_today C.2.1 v0 M _ hv0 rfl) ⟨by decide, by decide, Nat.zero_le _, Nat.zero_le _⟩ (Or.inl hv0) rfl (Nat.le_of_ble_eq_true rfl) dX5_sample_60 (c2 := 0) (s2 := 0) rfl rfl (fun _ => ?_)
    obtain ⟨r73, e74, h⟩ := bRs h
    refine cX5_245 (pc := 63) (st := []) (st1 := [vI r73]) C rfl (rm := { frames := 2, cells := 0, slots := 0, locals := 51 }) (ct_X5_valueOf C.2.1 v0 v8 v1 (d_X5_today v0 M) (d_X5_today v0 M) M _ hv0 e74) ⟨by decide, by decide, Nat.zero_le _, Nat.zero_le _⟩ (Or.inl hv0) rfl (Nat.le_of_ble_eq_true rfl) dX5_sample_63 (c2 := 0) (s2 := 0) rfl rfl (fun _ => ?_)
    refine z_istore (pc := 66) C (lv' := [(0, .ref v0), (1, vI v1), (2, vI v2), (3, vI v3), (4, vI v4), (5, vI v5), (6, vI v6), (7, vI v7), (8, vI v8), (9, vI r73)]) (by decide) rfl dX5_sample_66 ?_
    refine z_aload_n (pc := 68) C 0 rfl dX5_sample_68 ?_
    refine gX5_503 (pc := 69) C rfl hv0 dX5_sample_69 ?_
    refine z_iload (pc := 72) C 8 rfl dX5_sample_72 ?_
    obtain ⟨c75, h⟩ := ifn h
    refine z_iaO (pc := 74) (k := 5) (j := 3) C 503 rfl (by decide) (by decide) (by decide) rfl rfl rfl rfl hv0 c75 rfl dX5_sample_74 ?_
    refine z_iconst (pc := 75) C dX5_sample_75 ?_
    refine z_ic_ne (pc := 76) C dX5_sample_76 (tgt := 103) (by decide) (fun c76 => ?_) (fun c76 => ?_)
    · have h := itf c76 h
      exact z_lv [0, 1, 2, 3, 4, 5, 6, 7, 8] rfl <| cB_X5_sample_103 C hk42 v0 v1 v2 v3 v4 v5 v6 v7 v8 M _ _ hv0 h
    · have h := itt c76 h
      refine z_iload (pc := 79) C 9 rfl dX5_sample_79 ?_
      refine z_ldc (pc := 81) C (x := -2000000) q1829 (by decide +kernel) dX5_sample_81 ?_
      refine z_ic_eq (pc := 83) C dX5_sample_83 (tgt := 103) (by decide) (fun c85 => ?_) (fun c85 => ?_)
      · have h := itt c85 h
        exact z_lv [0, 1, 2, 3, 4, 5, 6, 7, 8] rfl <| cB_X5_sample_103 C hk42 v0 v1 v2 v3 v4 v5 v6 v7 v8 M _ _ hv0 h
      · have h := itf c85 h
        refine z_iload (pc := 86) C 9 rfl dX5_sample_86 ?_
        refine z_i2l (pc := 88) C dX5_sample_88 ?_
        refine z_iload_n (pc := 89) C 2 rfl dX5_sample_89 ?_
        refine z_i2l (pc := 90) C dX5_sample_90 ?_
        refine z_iload_n (pc := 91) C 3 rfl dX5_sample_91 ?_
        refine z_i2l (pc := 92) C dX5_sample_92 ?_
        refine cX5_207 (pc := 93) (st := []) (st1 := [vI (d_X5_isIn (w32 r73) (w32 v2) (w32 v3))]) C rfl (rm := { frames := 1, cells := 0, slots := 0, locals := 24 }) (ct_X5_isIn C.2.1 (w32 r73) (w32 v2) (w32 v3) M _  rfl) ⟨by decide, by decide, Nat.zero_le _, Nat.zero_le _⟩ rfl (Nat.le_of_ble_eq_true rfl) dX5_sample_93 (c2 := 0) (s2 := 0) rfl rfl (fun _ => ?_)
        refine z_if_eq (pc := 96) C dX5_sample_96 (tgt := 103) (by decide) (fun c87 => ?_) (fun c87 => ?_)
        · have h := itt c87 h
          exact z_lv [0, 1, 2, 3, 4, 5, 6, 7, 8] rfl <| cB_X5_sample_103 C hk42 v0 v1 v2 v3 v4 v5 v6 v7 v8 M _ _ hv0 h
        · have h := itf c87 h
          refine z_iconst (pc := 99) C dX5_sample_99 ?_
          refine z_goto (pc := 100) C dX5_sample_100 (tgt := 104) (by decide) ?_
          exact z_lv [0, 1, 2, 3, 4, 5, 6, 7, 8] rfl <| cB_X5_sample_104 C hk42 v0 v1 v2 v3 v4 v5 v6 v7 v8 1 M _ _ hv0 h
theorem cL_X5_sample_42 {X : x_Ctx} {M0 : Mem} (C : x_CC X 3 82 yX5_sample cX5_sample 15 (some .int) [])  : ∀ (n : Nat) (v0 : Nat) (v1 : Int) (v2 : Int) (v3 : Int) (v4 : Int) (v5 : Int) (v6 : Int) (v7 : Int) (v8 : Int) (M : Mem) (r : Int) (M' : Mem) (hv0 : m_kd M v0 = 5) (h : L_X5_sample_42  n v0 v1 v2 v3 v4 v5 v6 v7 v8 M = some (r, M')) , x_Z X 0 0 (x_QF X M0 (.returned (some (vI r))) M' 0 0) M0 M 15 [(0, .ref v0), (1, vI v1), (2, vI v2), (3, vI v3), (4, vI v4), (5, vI v5), (6, vI v6), (7, vI v7), (8, vI v8)] 42 [] := by
  intro n
  induction n with
  | zero => intro v0 v1 v2 v3 v4 v5 v6 v7 v8 M r M' hv0 h ; cases h
  | succ n ih => intro v0 v1 v2 v3 v4 v5 v6 v7 v8 M r M' hv0 h ; exact cB_X5_sample_42 C (fun v0 v1 v2 v3 v4 v5 v6 v7 v8 M r M' hv0 h  => ih v0 v1 v2 v3 v4 v5 v6 v7 v8 M r M' hv0 h ) v0 v1 v2 v3 v4 v5 v6 v7 v8 M r M' hv0 h 
theorem ct_X5_sample {l : Launch} {S0 : State} {D : va_G} {cA : Nat → ClassId} (hG : x_G l S0 D cA) (v0 : Nat) (v1 : Int) (v2 : Int) (v3 : Int) (v4 : Int) (v5 : Int) (v6 : Int) (M : Mem) (r : Int) (M' : Mem) (hv0 : m_kd M v0 = 5) (h : d_X5_sample v0 v1 v2 v3 v4 v5 v6 M = some (r, M')) : x_Me l S0 D cA yX5_sample cX5_sample 15 (some .int) [] ({ frames := 3, cells := 0, slots := 0, locals := 82 }) [.ref v0, vI v1, vI v2, vI v3, vI v4, vI v5, vI v6] M (.returned (some (vI r))) M' := by
  refine x_begin (F := 3) (Lo := 82) (mc := 0) (ms := 0) hG (Nat.le_of_ble_eq_true rfl) (lv := [(0, .ref v0), (1, vI v1), (2, vI v2), (3, vI v3), (4, vI v4), (5, vI v5), (6, vI v6)]) rfl rfl rfl rfl rfl (fun X e1 e2 e3 e4 e5 C => ?_)
  unfold d_X5_sample at h
  refine z_aload_n (pc := 0) C 0 rfl dX5_sample_0 ?_
  refine z_iconst (pc := 1) C dX5_sample_1 ?_
  refine pX5_500 (pc := 2) C rfl (Or.inl hv0) dX5_sample_2 ?_
  refine z_iload_n (pc := 5) C 1 rfl dX5_sample_5 ?_
  refine z_i2l (pc := 6) C dX5_sample_6 ?_
  refine z_lconst (pc := 7) C (x := 0) (by decide +kernel) dX5_sample_7 ?_
  refine z_ldc2 (pc := 8) C (x := 5) q1806 (by decide +kernel) dX5_sample_8 ?_
  refine cX5_207 (pc := 11) (st := []) (st1 := [vI (d_X5_isIn (w32 v1) 0 5)]) C rfl (rm := { frames := 1, cells := 0, slots := 0, locals := 24 }) (ct_X5_isIn C.2.1 (w32 v1) 0 5 (m_si M 500 v0 0 0) _  rfl) ⟨by decide, by decide, Nat.zero_le _, Nat.zero_le _⟩ rfl (Nat.le_of_ble_eq_true rfl) dX5_sample_11 (c2 := 0) (s2 := 0) rfl rfl (fun _ => ?_)
  refine z_if_eq (pc := 14) C dX5_sample_14 (tgt := 30) (by decide) (fun c2 => ?_) (fun c2 => ?_)
  · have h := itt c2 h
    refine z_aload_n (pc := 30) C 0 rfl dX5_sample_30 ?_
    refine z_iconst (pc := 31) C dX5_sample_31 ?_
    obtain ⟨r3, M4, e5, h⟩ := bNs h
    refine cX5_213 (pc := 32) (st := []) (st1 := [vI r3]) C rfl (rm := { frames := 1, cells := 0, slots := 0, locals := 24 }) (ct_X5_fail C.2.1 v0 1 (m_si M 500 v0 0 0) _ _ hv0 e5) ⟨by decide, by decide, Nat.zero_le _, Nat.zero_le _⟩ (Or.inl hv0) rfl (Nat.le_of_ble_eq_true rfl) dX5_sample_32 (c2 := 0) (s2 := 0) rfl rfl (fun x6 => ?_)
    cases h
    exact z_iret (pc := 35) C rfl (show 0 ≤ 0 from by decide) (show 0 ≤ 0 from by decide) dX5_sample_35
  · have h := itf c2 h
    refine z_iload (pc := 17) C 4 rfl dX5_sample_17 ?_
    refine z_i2l (pc := 19) C dX5_sample_19 ?_
    refine z_lconst (pc := 20) C (x := 0) (by decide +kernel) dX5_sample_20 ?_
    refine z_ldc2 (pc := 21) C (x := 5) q1806 (by decide +kernel) dX5_sample_21 ?_
    refine cX5_207 (pc := 24) (st := []) (st1 := [vI (d_X5_isIn (w32 v4) 0 5)]) C rfl (rm := { frames := 1, cells := 0, slots := 0, locals := 24 }) (ct_X5_isIn C.2.1 (w32 v4) 0 5 (m_si M 500 v0 0 0) _  rfl) ⟨by decide, by decide, Nat.zero_le _, Nat.zero_le _⟩ rfl (Nat.le_of_ble_eq_true rfl) dX5_sample_24 (c2 := 0) (s2 := 0) rfl rfl (fun _ => ?_)
    refine z_if_ne (pc := 27) C dX5_sample_27 (tgt := 36) (by decide) (fun c8 => ?_) (fun c8 => ?_)
    · have h := itf c8 h
      refine z_iconst (pc := 36) C dX5_sample_36 ?_
      refine z_istore (pc := 37) C (lv' := [(0, .ref v0), (1, vI v1), (2, vI v2), (3, vI v3), (4, vI v4), (5, vI v5), (6, vI v6), (7, vI 0)]) (by decide) rfl dX5_sample_37 ?_
      refine z_iconst (pc := 39) C dX5_sample_39 ?_
      refine z_istore (pc := 40) C (lv' := [(0, .ref v0), (1, vI v1), (2, vI v2), (3, vI v3), (4, vI v4), (5, vI v5), (6, vI v6), (7, vI 0), (8, vI 0)]) (by decide) rfl dX5_sample_40 ?_
      exact cL_X5_sample_42 C FU v0 v1 v2 v3 v4 v5 v6 0 0 (m_si M 500 v0 0 0) _ _ hv0 h
    · have h := itt c8 h
      refine z_aload_n (pc := 30) C 0 rfl dX5_sample_30 ?_
      refine z_iconst (pc := 31) C dX5_sample_31 ?_
      obtain ⟨r88, M89, e90, h⟩ := bNs h
      refine cX5_213 (pc := 32) (st := []) (st1 := [vI r88]) C rfl (rm := { frames := 1, cells := 0, slots := 0, locals := 24 }) (ct_X5_fail C.2.1 v0 1 (m_si M 500 v0 0 0) _ _ hv0 e90) ⟨by decide, by decide, Nat.zero_le _, Nat.zero_le _⟩ (Or.inl hv0) rfl (Nat.le_of_ble_eq_true rfl) dX5_sample_32 (c2 := 0) (s2 := 0) rfl rfl (fun x91 => ?_)
      cases h
      exact z_iret (pc := 35) C rfl (show 0 ≤ 0 from by decide) (show 0 ≤ 0 from by decide) dX5_sample_35
def d_X5_isSample (v0 : Nat) (v1 : Int) (M : Mem) : Option Int :=
  if (d_X5_isIn (w32 v1) 0 (w32 ((m_i M 564 v0 0) - 1))) = 0 ∨ (d_X5_isIn (w32 v1) 0 (w32 ((m_i M 564 v0 0) - 1))) = 1 then 
  some (d_X5_isIn (w32 v1) 0 (w32 ((m_i M 564 v0 0) - 1))) else none
theorem ct_X5_isSample {l : Launch} {S0 : State} {D : va_G} {cA : Nat → ClassId} (hG : x_G l S0 D cA) (v0 : Nat) (v1 : Int) (M : Mem) (r : Int) (hv0 : m_kd M v0 = 5) (h : d_X5_isSample v0 v1 M = some r) : x_Me l S0 D cA yX5_isSample cX5_isSample 2 (some .boolean) [] ({ frames := 2, cells := 0, slots := 0, locals := 53 }) [.ref v0, vI v1] M (.returned (some (vI r))) M := by
  refine x_begin (F := 2) (Lo := 53) (mc := 0) (ms := 0) hG (Nat.le_of_ble_eq_true rfl) (lv := [(0, .ref v0), (1, vI v1)]) rfl rfl rfl rfl rfl (fun X e1 e2 e3 e4 e5 C => ?_)
  unfold d_X5_isSample at h
  refine z_iload_n (pc := 0) C 1 rfl dX5_isSample_0 ?_
  refine z_i2l (pc := 1) C dX5_isSample_1 ?_
  refine z_lconst (pc := 2) C (x := 0) (by decide +kernel) dX5_isSample_2 ?_
  refine z_aload_n (pc := 3) C 0 rfl dX5_isSample_3 ?_
  refine gX5_564 (pc := 4) C rfl (Or.inl hv0) rfl dX5_isSample_4 ?_
  refine z_iconst (pc := 7) C dX5_isSample_7 ?_
  refine z_isub (pc := 8) C dX5_isSample_8 ?_
  refine z_i2l (pc := 9) C dX5_isSample_9 ?_
  refine cX5_207 (pc := 10) (st := []) (st1 := [vI (d_X5_isIn (w32 v1) 0 (w32 ((m_i M 564 v0 0) - 1)))]) C rfl (rm := { frames := 1, cells := 0, slots := 0, locals := 24 }) (ct_X5_isIn C.2.1 (w32 v1) 0 (w32 ((m_i M 564 v0 0) - 1)) M _  rfl) ⟨by decide, by decide, Nat.zero_le _, Nat.zero_le _⟩ rfl (Nat.le_of_ble_eq_true rfl) dX5_isSample_10 (c2 := 0) (s2 := 0) rfl rfl (fun _ => ?_)
  obtain ⟨c2, h⟩ := ifn h
  cases h
  exact z_zret (pc := 13) C rfl c2 (show 0 ≤ 0 from by decide) (show 0 ≤ 0 from by decide) dX5_isSample_13
def B_X5_drawn_28 (k28 : Nat → Int → Int → Int → Int → Mem → Option (Int × Mem)) (v0 : Nat) (v1 : Int) (v2 : Int) (v3 : Int) (v4 : Int) (M : Mem) : Option (Int × Mem) :=
  if w32 100 ≤ w32 v4 then
    some (-1, M)
  else
    if inb ((100 * v1) + v4) 1200 then 
    if w32 (m_i M 567 v0 (ixn ((100 * v1) + v4))) = 0 then
      k28 v0 v1 v2 v3 (v4 + 1) M
    else
      if w32 v3 = w32 v2 then
        some (v4, M)
      else
        k28 v0 v1 v2 (v3 + 1) (v4 + 1) M else none
def L_X5_drawn_28  : Nat → Nat → Int → Int → Int → Int → Mem → Option (Int × Mem)
  | 0, _, _, _, _, _, _ => none
  | n + 1, v0, v1, v2, v3, v4, M => B_X5_drawn_28 (L_X5_drawn_28  n) v0 v1 v2 v3 v4 M
def d_X5_drawn (v0 : Nat) (v1 : Int) (v2 : Int) (M : Mem) : Option (Int × Mem) :=
  bR (d_X5_isSample v0 v1 (m_si M 500 v0 0 0)) fun r1 => 
  if w32 r1 = 0 then
    bN (d_X5_fail v0 1 (m_si M 500 v0 0 0)) fun r4 M5 => 
    some (r4, M5)
  else
    if 0 ≤ w32 v2 then
      L_X5_drawn_28 FU v0 v1 v2 0 0 (m_si M 500 v0 0 0)
    else
      bN (d_X5_fail v0 1 (m_si M 500 v0 0 0)) fun r13 M14 => 
      some (r13, M14)
theorem cB_X5_drawn_28 {X : x_Ctx} {M0 : Mem} (C : x_CC X 3 78 yX5_drawn cX5_drawn 5 (some .int) []) {k28 : Nat → Int → Int → Int → Int → Mem → Option (Int × Mem)} (hk28 : ∀ (v0 : Nat) (v1 : Int) (v2 : Int) (v3 : Int) (v4 : Int) (M : Mem) (r : Int) (M' : Mem), m_kd M v0 = 5 → k28 v0 v1 v2 v3 v4 M = some (r, M') → x_Z X 0 0 (x_QF X M0 (.returned (some (vI r))) M' 0 0) M0 M 5 [(0, .ref v0), (1, vI v1), (2, vI v2), (3, vI v3), (4, vI v4)] 28 []) (v0 : Nat) (v1 : Int) (v2 : Int) (v3 : Int) (v4 : Int) (M : Mem) (r : Int) (M' : Mem) (hv0 : m_kd M v0 = 5) (h : B_X5_drawn_28 k28 v0 v1 v2 v3 v4 M = some (r, M'))  : x_Z X 0 0 (x_QF X M0 (.returned (some (vI r))) M' 0 0) M0 M 5 [(0, .ref v0), (1, vI v1), (2, vI v2), (3, vI v3), (4, vI v4)] 28 [] := by
  unfold B_X5_drawn_28 at h
  refine z_iload (pc := 28) C 4 rfl dX5_drawn_28 ?_
  refine z_bipush (pc := 30) C (by decide +kernel) dX5_drawn_30 ?_
  refine z_ic_ge (pc := 32) C dX5_drawn_32 (tgt := 67) (by decide) (fun c9 => ?_) (fun c9 => ?_)
  · have h := itt c9 h
    refine z_iconst (pc := 67) C dX5_drawn_67 ?_
    cases h
    exact z_iret (pc := 68) C rfl (show 0 ≤ 0 from by decide) (show 0 ≤ 0 from by decide) dX5_drawn_68
  · have h := itf c9 h
    refine z_aload_n (pc := 35) C 0 rfl dX5_drawn_35 ?_
    refine gX5_567 (pc := 36) C rfl hv0 dX5_drawn_36 ?_
    refine z_bipush (pc := 39) C (by decide +kernel) dX5_drawn_39 ?_
    refine z_iload_n (pc := 41) C 1 rfl dX5_drawn_41 ?_
    refine z_imul (pc := 42) C dX5_drawn_42 ?_
    refine z_iload (pc := 43) C 4 rfl dX5_drawn_43 ?_
    refine z_iadd (pc := 45) C dX5_drawn_45 ?_
    obtain ⟨c10, h⟩ := ifn h
    refine z_zaO (pc := 46) (k := 5) (j := 67) C 567 rfl (by decide) (by decide) (by decide) rfl rfl rfl rfl hv0 c10 rfl dX5_drawn_46 ?_
    refine z_if_eq (pc := 47) C dX5_drawn_47 (tgt := 61) (by decide) (fun c11 => ?_) (fun c11 => ?_)
    · have h := itt c11 h
      refine z_iinc (pc := 61) C (lv' := [(0, .ref v0), (1, vI v1), (2, vI v2), (3, vI v3), (4, vI (v4 + 1))]) 4 rfl (by decide) rfl dX5_drawn_61 ?_
      refine z_goto (pc := 64) C dX5_drawn_64 (tgt := 28) (by decide) ?_
      exact hk28 v0 v1 v2 v3 (v4 + 1) M _ _ hv0 h
    · have h := itf c11 h
      refine z_iload_n (pc := 50) C 3 rfl dX5_drawn_50 ?_
      refine z_iload_n (pc := 51) C 2 rfl dX5_drawn_51 ?_
      refine z_ic_ne (pc := 52) C dX5_drawn_52 (tgt := 58) (by decide) (fun c12 => ?_) (fun c12 => ?_)
      · have h := itf c12 h
        refine z_iinc (pc := 58) C (lv' := [(0, .ref v0), (1, vI v1), (2, vI v2), (3, vI (v3 + 1)), (4, vI v4)]) 3 rfl (by decide) rfl dX5_drawn_58 ?_
        refine z_iinc (pc := 61) C (lv' := [(0, .ref v0), (1, vI v1), (2, vI v2), (3, vI (v3 + 1)), (4, vI (v4 + 1))]) 4 rfl (by decide) rfl dX5_drawn_61 ?_
        refine z_goto (pc := 64) C dX5_drawn_64 (tgt := 28) (by decide) ?_
        exact hk28 v0 v1 v2 (v3 + 1) (v4 + 1) M _ _ hv0 h
      · have h := itt c12 h
        refine z_iload (pc := 55) C 4 rfl dX5_drawn_55 ?_
        cases h
        exact z_iret (pc := 57) C rfl (show 0 ≤ 0 from by decide) (show 0 ≤ 0 from by decide) dX5_drawn_57
theorem cL_X5_drawn_28 {X : x_Ctx} {M0 : Mem} (C : x_CC X 3 78 yX5_drawn cX5_drawn 5 (some .int) [])  : ∀ (n : Nat) (v0 : Nat) (v1 : Int) (v2 : Int) (v3 : Int) (v4 : Int) (M : Mem) (r : Int) (M' : Mem) (hv0 : m_kd M v0 = 5) (h : L_X5_drawn_28  n v0 v1 v2 v3 v4 M = some (r, M')) , x_Z X 0 0 (x_QF X M0 (.returned (some (vI r))) M' 0 0) M0 M 5 [(0, .ref v0), (1, vI v1), (2, vI v2), (3, vI v3), (4, vI v4)] 28 [] := by
  intro n
  induction n with
  | zero => intro v0 v1 v2 v3 v4 M r M' hv0 h ; cases h
  | succ n ih => intro v0 v1 v2 v3 v4 M r M' hv0 h ; exact cB_X5_drawn_28 C (fun v0 v1 v2 v3 v4 M r M' hv0 h  => ih v0 v1 v2 v3 v4 M r M' hv0 h ) v0 v1 v2 v3 v4 M r M' hv0 h 
theorem ct_X5_drawn {l : Launch} {S0 : State} {D : va_G} {cA : Nat → ClassId} (hG : x_G l S0 D cA) (v0 : Nat) (v1 : Int) (v2 : Int) (M : Mem) (r : Int) (M' : Mem) (hv0 : m_kd M v0 = 5) (h : d_X5_drawn v0 v1 v2 M = some (r, M')) : x_Me l S0 D cA yX5_drawn cX5_drawn 5 (some .int) [] ({ frames := 3, cells := 0, slots := 0, locals := 78 }) [.ref v0, vI v1, vI v2] M (.returned (some (vI r))) M' := by
  refine x_begin (F := 3) (Lo := 78) (mc := 0) (ms := 0) hG (Nat.le_of_ble_eq_true rfl) (lv := [(0, .ref v0), (1, vI v1), (2, vI v2)]) rfl rfl rfl rfl rfl (fun X e1 e2 e3 e4 e5 C => ?_)
  unfold d_X5_drawn at h
  refine z_aload_n (pc := 0) C 0 rfl dX5_drawn_0 ?_
  refine z_iconst (pc := 1) C dX5_drawn_1 ?_
  refine pX5_500 (pc := 2) C rfl (Or.inl hv0) dX5_drawn_2 ?_
  refine z_aload_n (pc := 5) C 0 rfl dX5_drawn_5 ?_
  refine z_iload_n (pc := 6) C 1 rfl dX5_drawn_6 ?_
  obtain ⟨r1, e2, h⟩ := bRs h
  refine cX5_464 (pc := 7) (st := []) (st1 := [vI r1]) C rfl (rm := { frames := 2, cells := 0, slots := 0, locals := 53 }) (ct_X5_isSample C.2.1 v0 v1 (m_si M 500 v0 0 0) _ hv0 e2) ⟨by decide, by decide, Nat.zero_le _, Nat.zero_le _⟩ (Or.inl hv0) rfl (Nat.le_of_ble_eq_true rfl) dX5_drawn_7 (c2 := 0) (s2 := 0) rfl rfl (fun _ => ?_)
  refine z_if_eq (pc := 10) C dX5_drawn_10 (tgt := 17) (by decide) (fun c3 => ?_) (fun c3 => ?_)
  · have h := itt c3 h
    refine z_aload_n (pc := 17) C 0 rfl dX5_drawn_17 ?_
    refine z_iconst (pc := 18) C dX5_drawn_18 ?_
    obtain ⟨r4, M5, e6, h⟩ := bNs h
    refine cX5_213 (pc := 19) (st := []) (st1 := [vI r4]) C rfl (rm := { frames := 1, cells := 0, slots := 0, locals := 24 }) (ct_X5_fail C.2.1 v0 1 (m_si M 500 v0 0 0) _ _ hv0 e6) ⟨by decide, by decide, Nat.zero_le _, Nat.zero_le _⟩ (Or.inl hv0) rfl (Nat.le_of_ble_eq_true rfl) dX5_drawn_19 (c2 := 0) (s2 := 0) rfl rfl (fun x7 => ?_)
    cases h
    exact z_iret (pc := 22) C rfl (show 0 ≤ 0 from by decide) (show 0 ≤ 0 from by decide) dX5_drawn_22
  · have h := itf c3 h
    refine z_iload_n (pc := 13) C 2 rfl dX5_drawn_13 ?_
    refine z_if_ge (pc := 14) C dX5_drawn_14 (tgt := 23) (by decide) (fun c8 => ?_) (fun c8 => ?_)
    · have h := itt c8 h
      refine z_iconst (pc := 23) C dX5_drawn_23 ?_
      refine z_istore_n (pc := 24) C (lv' := [(0, .ref v0), (1, vI v1), (2, vI v2), (3, vI 0)]) (by decide) rfl dX5_drawn_24 ?_
      refine z_iconst (pc := 25) C dX5_drawn_25 ?_
      refine z_istore (pc := 26) C (lv' := [(0, .ref v0), (1, vI v1), (2, vI v2), (3, vI 0), (4, vI 0)]) (by decide) rfl dX5_drawn_26 ?_
      exact cL_X5_drawn_28 C FU v0 v1 v2 0 0 (m_si M 500 v0 0 0) _ _ hv0 h
    · have h := itf c8 h
      refine z_aload_n (pc := 17) C 0 rfl dX5_drawn_17 ?_
      refine z_iconst (pc := 18) C dX5_drawn_18 ?_
      obtain ⟨r13, M14, e15, h⟩ := bNs h
      refine cX5_213 (pc := 19) (st := []) (st1 := [vI r13]) C rfl (rm := { frames := 1, cells := 0, slots := 0, locals := 24 }) (ct_X5_fail C.2.1 v0 1 (m_si M 500 v0 0 0) _ _ hv0 e15) ⟨by decide, by decide, Nat.zero_le _, Nat.zero_le _⟩ (Or.inl hv0) rfl (Nat.le_of_ble_eq_true rfl) dX5_drawn_19 (c2 := 0) (s2 := 0) rfl rfl (fun x16 => ?_)
      cases h
      exact z_iret (pc := 22) C rfl (show 0 ≤ 0 from by decide) (show 0 ≤ 0 from by decide) dX5_drawn_22
def B_X5_divisor_4 (k4 : Int → Int → Option Int) (v2 : Int) (v3 : Int) : Option Int :=
  if w32 v3 ≤ 0 then
    some v2
  else
    if ¬ w32 v3 = 0 then 
    k4 v3 (r32 v2 v3) else none
def L_X5_divisor_4  : Nat → Int → Int → Option Int
  | 0, _, _ => none
  | n + 1, v2, v3 => B_X5_divisor_4 (L_X5_divisor_4  n) v2 v3
def d_X5_divisor (v0 : Int) (v1 : Int) : Option Int :=
  L_X5_divisor_4 FU v0 v1
theorem cB_X5_divisor_4 {X : x_Ctx} {M0 : Mem} (C : x_CC X 1 24 yX5_divisor cX5_divisor 5 (some .int) []) {k4 : Int → Int → Option Int} (hk4 : ∀ (v2 : Int) (v3 : Int) (M : Mem) (r : Int), True → k4 v2 v3 = some r → x_Z X 0 0 (x_QF X M0 (.returned (some (vI r))) M 0 0) M0 M 5 [(2, vI v2), (3, vI v3)] 4 []) (v2 : Int) (v3 : Int) (M : Mem) (r : Int)  (h : B_X5_divisor_4 k4 v2 v3 = some r)  : x_Z X 0 0 (x_QF X M0 (.returned (some (vI r))) M 0 0) M0 M 5 [(2, vI v2), (3, vI v3)] 4 [] := by
  unfold B_X5_divisor_4 at h
  refine z_iload_n (pc := 4) C 1 rfl dX5_divisor_4 ?_
  refine z_if_le (pc := 5) C dX5_divisor_5 (tgt := 21) (by decide) (fun c1 => ?_) (fun c1 => ?_)
  · have h := itt c1 h
    refine z_iload_n (pc := 21) C 0 rfl dX5_divisor_21 ?_
    cases h
    exact z_iret (pc := 22) C rfl (show 0 ≤ 0 from by decide) (show 0 ≤ 0 from by decide) dX5_divisor_22
  · have h := itf c1 h
    refine z_iload_n (pc := 8) C 0 rfl dX5_divisor_8 ?_
    refine z_iload_n (pc := 9) C 1 rfl dX5_divisor_9 ?_
    obtain ⟨c2, h⟩ := ifn h
    refine z_irem (pc := 10) C c2 dX5_divisor_10 ?_
    refine z_istore (pc := 11) C (lv' := [(2, vI v2), (3, vI v3), (4, vI (r32 v2 v3))]) (by decide) rfl dX5_divisor_11 ?_
    refine z_iload_n (pc := 13) C 1 rfl dX5_divisor_13 ?_
    refine z_istore_n (pc := 14) C (lv' := [(2, vI v3), (3, vI v3), (4, vI (r32 v2 v3))]) (by decide) rfl dX5_divisor_14 ?_
    refine z_iload (pc := 15) C 2 rfl dX5_divisor_15 ?_
    refine z_istore_n (pc := 17) C (lv' := [(2, vI v3), (3, vI (r32 v2 v3)), (4, vI (r32 v2 v3))]) (by decide) rfl dX5_divisor_17 ?_
    refine z_goto (pc := 18) C dX5_divisor_18 (tgt := 4) (by decide) ?_
    exact z_lv [0, 1] rfl <| hk4 v3 (r32 v2 v3) M _ trivial h
theorem cL_X5_divisor_4 {X : x_Ctx} {M0 : Mem} (C : x_CC X 1 24 yX5_divisor cX5_divisor 5 (some .int) [])  : ∀ (n : Nat) (v2 : Int) (v3 : Int) (M : Mem) (r : Int)  (h : L_X5_divisor_4  n v2 v3 = some r) , x_Z X 0 0 (x_QF X M0 (.returned (some (vI r))) M 0 0) M0 M 5 [(2, vI v2), (3, vI v3)] 4 [] := by
  intro n
  induction n with
  | zero => intro v2 v3 M r  h ; cases h
  | succ n ih => intro v2 v3 M r  h ; exact cB_X5_divisor_4 C (fun v2 v3 M r _ h  => ih v2 v3 M r  h ) v2 v3 M r  h 
theorem ct_X5_divisor {l : Launch} {S0 : State} {D : va_G} {cA : Nat → ClassId} (hG : x_G l S0 D cA) (v0 : Int) (v1 : Int) (M : Mem) (r : Int)  (h : d_X5_divisor v0 v1 = some r) : x_Me l S0 D cA yX5_divisor cX5_divisor 5 (some .int) [] ({ frames := 1, cells := 0, slots := 0, locals := 24 }) [vI v0, vI v1] M (.returned (some (vI r))) M := by
  refine x_begin (F := 1) (Lo := 24) (mc := 0) (ms := 0) hG (Nat.le_of_ble_eq_true rfl) (lv := [(0, vI v0), (1, vI v1)]) rfl rfl rfl rfl rfl (fun X e1 e2 e3 e4 e5 C => ?_)
  unfold d_X5_divisor at h
  refine z_iload_n (pc := 0) C 0 rfl dX5_divisor_0 ?_
  refine z_istore_n (pc := 1) C (lv' := [(0, vI v0), (1, vI v1), (2, vI v0)]) (by decide) rfl dX5_divisor_1 ?_
  refine z_iload_n (pc := 2) C 1 rfl dX5_divisor_2 ?_
  refine z_istore_n (pc := 3) C (lv' := [(0, vI v0), (1, vI v1), (2, vI v0), (3, vI v1)]) (by decide) rfl dX5_divisor_3 ?_
  exact z_lv [2, 3] rfl <| cL_X5_divisor_4 C FU v0 v1 M _ h
def d_X5_chance (v0 : Nat) (v1 : Int) (v2 : Int) (v3 : Int) (M : Mem) : Option (Int × Mem) :=
  bR (d_X5_isSample v0 v1 (m_si M 500 v0 0 0)) fun r1 => 
  if w32 r1 = 0 then
    bN (d_X5_fail v0 1 (m_si M 500 v0 0 0)) fun r4 M5 => 
    some (r4, M5)
  else
    bR (d_X5_isUnit v0 v2 (m_si M 500 v0 0 0)) fun r8 => 
    if w32 r8 = 0 then
      bN (d_X5_fail v0 1 (m_si M 500 v0 0 0)) fun r19 M20 => 
      some (r19, M20)
    else
      if inb ((100 * v1) + v2) 1200 then 
      if w32 (m_i M 566 v0 (ixn ((100 * v1) + v2))) = 0 then
        if w32 v3 = 0 then
          some (0, (m_si M 500 v0 0 0))
        else
          some (1, (m_si M 500 v0 0 0))
      else
        bR (d_X5_divisor (m_i M 565 v0 (ixn ((100 * v1) + v2))) (m_i M 566 v0 (ixn ((100 * v1) + v2)))) fun r13 => 
        if w32 v3 = 0 then
          if ¬ w32 r13 = 0 then 
          some (d32 (m_i M 565 v0 (ixn ((100 * v1) + v2))) r13, (m_si M 500 v0 0 0)) else none
        else
          if ¬ w32 r13 = 0 then 
          some (d32 (m_i M 566 v0 (ixn ((100 * v1) + v2))) r13, (m_si M 500 v0 0 0)) else none else none
theorem ct_X5_chance {l : Launch} {S0 : State} {D : va_G} {cA : Nat → ClassId} (hG : x_G l S0 D cA) (v0 : Nat) (v1 : Int) (v2 : Int) (v3 : Int) (M : Mem) (r : Int) (M' : Mem) (hv0 : m_kd M v0 = 5) (h : d_X5_chance v0 v1 v2 v3 M = some (r, M')) : x_Me l S0 D cA yX5_chance cX5_chance 7 (some .int) [] ({ frames := 3, cells := 0, slots := 0, locals := 78 }) [.ref v0, vI v1, vI v2, vI v3] M (.returned (some (vI r))) M' := by
  refine x_begin (F := 3) (Lo := 78) (mc := 0) (ms := 0) hG (Nat.le_of_ble_eq_true rfl) (lv := [(0, .ref v0), (1, vI v1), (2, vI v2), (3, vI v3)]) rfl rfl rfl rfl rfl (fun X e1 e2 e3 e4 e5 C => ?_)
  unfold d_X5_chance at h
  refine z_aload_n (pc := 0) C 0 rfl dX5_chance_0 ?_
  refine z_iconst (pc := 1) C dX5_chance_1 ?_
  refine pX5_500 (pc := 2) C rfl (Or.inl hv0) dX5_chance_2 ?_
  refine z_aload_n (pc := 5) C 0 rfl dX5_chance_5 ?_
  refine z_iload_n (pc := 6) C 1 rfl dX5_chance_6 ?_
  obtain ⟨r1, e2, h⟩ := bRs h
  refine cX5_464 (pc := 7) (st := []) (st1 := [vI r1]) C rfl (rm := { frames := 2, cells := 0, slots := 0, locals := 53 }) (ct_X5_isSample C.2.1 v0 v1 (m_si M 500 v0 0 0) _ hv0 e2) ⟨by decide, by decide, Nat.zero_le _, Nat.zero_le _⟩ (Or.inl hv0) rfl (Nat.le_of_ble_eq_true rfl) dX5_chance_7 (c2 := 0) (s2 := 0) rfl rfl (fun _ => ?_)
  refine z_if_eq (pc := 10) C dX5_chance_10 (tgt := 21) (by decide) (fun c3 => ?_) (fun c3 => ?_)
  · have h := itt c3 h
    refine z_aload_n (pc := 21) C 0 rfl dX5_chance_21 ?_
    refine z_iconst (pc := 22) C dX5_chance_22 ?_
    obtain ⟨r4, M5, e6, h⟩ := bNs h
    refine cX5_213 (pc := 23) (st := []) (st1 := [vI r4]) C rfl (rm := { frames := 1, cells := 0, slots := 0, locals := 24 }) (ct_X5_fail C.2.1 v0 1 (m_si M 500 v0 0 0) _ _ hv0 e6) ⟨by decide, by decide, Nat.zero_le _, Nat.zero_le _⟩ (Or.inl hv0) rfl (Nat.le_of_ble_eq_true rfl) dX5_chance_23 (c2 := 0) (s2 := 0) rfl rfl (fun x7 => ?_)
    cases h
    exact z_iret (pc := 26) C rfl (show 0 ≤ 0 from by decide) (show 0 ≤ 0 from by decide) dX5_chance_26
  · have h := itf c3 h
    refine z_aload_n (pc := 13) C 0 rfl dX5_chance_13 ?_
    refine z_iload_n (pc := 14) C 2 rfl dX5_chance_14 ?_
    obtain ⟨r8, e9, h⟩ := bRs h
    refine cX5_220 (pc := 15) (st := []) (st1 := [vI r8]) C rfl (rm := { frames := 2, cells := 0, slots := 0, locals := 53 }) (ct_X5_isUnit C.2.1 v0 v2 (m_si M 500 v0 0 0) _ hv0 e9) ⟨by decide, by decide, Nat.zero_le _, Nat.zero_le _⟩ (Or.inl hv0) rfl (Nat.le_of_ble_eq_true rfl) dX5_chance_15 (c2 := 0) (s2 := 0) rfl rfl (fun _ => ?_)
    refine z_if_ne (pc := 18) C dX5_chance_18 (tgt := 27) (by decide) (fun c10 => ?_) (fun c10 => ?_)
    · have h := itf c10 h
      refine z_aload_n (pc := 27) C 0 rfl dX5_chance_27 ?_
      refine gX5_565 (pc := 28) C rfl hv0 dX5_chance_28 ?_
      refine z_bipush (pc := 31) C (by decide +kernel) dX5_chance_31 ?_
      refine z_iload_n (pc := 33) C 1 rfl dX5_chance_33 ?_
      refine z_imul (pc := 34) C dX5_chance_34 ?_
      refine z_iload_n (pc := 35) C 2 rfl dX5_chance_35 ?_
      refine z_iadd (pc := 36) C dX5_chance_36 ?_
      obtain ⟨c11, h⟩ := ifn h
      refine z_iaO (pc := 37) (k := 5) (j := 65) C 565 rfl (by decide) (by decide) (by decide) rfl rfl rfl rfl hv0 c11 (x := m_i M 565 v0 (ixn ((100 * v1) + v2))) ((m_i_ne (by decide)).trans rfl) dX5_chance_37 ?_
      refine z_istore (pc := 38) C (lv' := [(0, .ref v0), (1, vI v1), (2, vI v2), (3, vI v3), (4, vI (m_i M 565 v0 (ixn ((100 * v1) + v2))))]) (by decide) rfl dX5_chance_38 ?_
      refine z_aload_n (pc := 40) C 0 rfl dX5_chance_40 ?_
      refine gX5_566 (pc := 41) C rfl hv0 dX5_chance_41 ?_
      refine z_bipush (pc := 44) C (by decide +kernel) dX5_chance_44 ?_
      refine z_iload_n (pc := 46) C 1 rfl dX5_chance_46 ?_
      refine z_imul (pc := 47) C dX5_chance_47 ?_
      refine z_iload_n (pc := 48) C 2 rfl dX5_chance_48 ?_
      refine z_iadd (pc := 49) C dX5_chance_49 ?_
      refine z_iaO (pc := 50) (k := 5) (j := 66) C 566 rfl (by decide) (by decide) (by decide) rfl rfl rfl rfl hv0 c11 (x := m_i M 566 v0 (ixn ((100 * v1) + v2))) ((m_i_ne (by decide)).trans rfl) dX5_chance_50 ?_
      refine z_istore (pc := 51) C (lv' := [(0, .ref v0), (1, vI v1), (2, vI v2), (3, vI v3), (4, vI (m_i M 565 v0 (ixn ((100 * v1) + v2)))), (5, vI (m_i M 566 v0 (ixn ((100 * v1) + v2))))]) (by decide) rfl dX5_chance_51 ?_
      refine z_iload (pc := 53) C 5 rfl dX5_chance_53 ?_
      refine z_if_ne (pc := 55) C dX5_chance_55 (tgt := 68) (by decide) (fun c12 => ?_) (fun c12 => ?_)
      · have h := itf c12 h
        refine z_iload (pc := 68) C 4 rfl dX5_chance_68 ?_
        refine z_iload (pc := 70) C 5 rfl dX5_chance_70 ?_
        obtain ⟨r13, e14, h⟩ := bRs h
        refine cX5_467 (pc := 72) (st := []) (st1 := [vI r13]) C rfl (rm := { frames := 1, cells := 0, slots := 0, locals := 24 }) (ct_X5_divisor C.2.1 (m_i M 565 v0 (ixn ((100 * v1) + v2))) (m_i M 566 v0 (ixn ((100 * v1) + v2))) (m_si M 500 v0 0 0) _  e14) ⟨by decide, by decide, Nat.zero_le _, Nat.zero_le _⟩ rfl (Nat.le_of_ble_eq_true rfl) dX5_chance_72 (c2 := 0) (s2 := 0) rfl rfl (fun _ => ?_)
        refine z_istore (pc := 75) C (lv' := [(0, .ref v0), (1, vI v1), (2, vI v2), (3, vI v3), (4, vI (m_i M 565 v0 (ixn ((100 * v1) + v2)))), (5, vI (m_i M 566 v0 (ixn ((100 * v1) + v2)))), (6, vI r13)]) (by decide) rfl dX5_chance_75 ?_
        refine z_iload_n (pc := 77) C 3 rfl dX5_chance_77 ?_
        refine z_if_eq (pc := 78) C dX5_chance_78 (tgt := 89) (by decide) (fun c15 => ?_) (fun c15 => ?_)
        · have h := itt c15 h
          refine z_iload (pc := 89) C 4 rfl dX5_chance_89 ?_
          refine z_iload (pc := 91) C 6 rfl dX5_chance_91 ?_
          obtain ⟨c16, h⟩ := ifn h
          refine z_idiv (pc := 93) C c16 dX5_chance_93 ?_
          cases h
          exact z_iret (pc := 94) C rfl (show 0 ≤ 0 from by decide) (show 0 ≤ 0 from by decide) dX5_chance_94
        · have h := itf c15 h
          refine z_iload (pc := 81) C 5 rfl dX5_chance_81 ?_
          refine z_iload (pc := 83) C 6 rfl dX5_chance_83 ?_
          obtain ⟨c17, h⟩ := ifn h
          refine z_idiv (pc := 85) C c17 dX5_chance_85 ?_
          refine z_goto (pc := 86) C dX5_chance_86 (tgt := 94) (by decide) ?_
          cases h
          exact z_iret (pc := 94) C rfl (show 0 ≤ 0 from by decide) (show 0 ≤ 0 from by decide) dX5_chance_94
      · have h := itt c12 h
        refine z_iload_n (pc := 58) C 3 rfl dX5_chance_58 ?_
        refine z_if_eq (pc := 59) C dX5_chance_59 (tgt := 66) (by decide) (fun c18 => ?_) (fun c18 => ?_)
        · have h := itt c18 h
          refine z_iconst (pc := 66) C dX5_chance_66 ?_
          cases h
          exact z_iret (pc := 67) C rfl (show 0 ≤ 0 from by decide) (show 0 ≤ 0 from by decide) dX5_chance_67
        · have h := itf c18 h
          refine z_iconst (pc := 62) C dX5_chance_62 ?_
          refine z_goto (pc := 63) C dX5_chance_63 (tgt := 67) (by decide) ?_
          cases h
          exact z_iret (pc := 67) C rfl (show 0 ≤ 0 from by decide) (show 0 ≤ 0 from by decide) dX5_chance_67
    · have h := itt c10 h
      refine z_aload_n (pc := 21) C 0 rfl dX5_chance_21 ?_
      refine z_iconst (pc := 22) C dX5_chance_22 ?_
      obtain ⟨r19, M20, e21, h⟩ := bNs h
      refine cX5_213 (pc := 23) (st := []) (st1 := [vI r19]) C rfl (rm := { frames := 1, cells := 0, slots := 0, locals := 24 }) (ct_X5_fail C.2.1 v0 1 (m_si M 500 v0 0 0) _ _ hv0 e21) ⟨by decide, by decide, Nat.zero_le _, Nat.zero_le _⟩ (Or.inl hv0) rfl (Nat.le_of_ble_eq_true rfl) dX5_chance_23 (c2 := 0) (s2 := 0) rfl rfl (fun x22 => ?_)
      cases h
      exact z_iret (pc := 26) C rfl (show 0 ≤ 0 from by decide) (show 0 ≤ 0 from by decide) dX5_chance_26
def B_X5_overlap_32 (k32 : Nat → Int → Int → Int → Int → Mem → Option (Int × Mem)) (v0 : Nat) (v1 : Int) (v2 : Int) (v3 : Int) (v4 : Int) (M : Mem) : Option (Int × Mem) :=
  if w32 100 ≤ w32 v4 then
    some (v3, M)
  else
    if inb ((100 * v1) + v4) 1200 then 
    if w32 (m_i M 567 v0 (ixn ((100 * v1) + v4))) = 0 then
      k32 v0 v1 v2 (v3 + 0) (v4 + 1) M
    else
      if inb ((100 * v2) + v4) 1200 then 
      if w32 (m_i M 567 v0 (ixn ((100 * v2) + v4))) = 0 then
        k32 v0 v1 v2 (v3 + 0) (v4 + 1) M
      else
        k32 v0 v1 v2 (v3 + 1) (v4 + 1) M else none else none
def L_X5_overlap_32  : Nat → Nat → Int → Int → Int → Int → Mem → Option (Int × Mem)
  | 0, _, _, _, _, _, _ => none
  | n + 1, v0, v1, v2, v3, v4, M => B_X5_overlap_32 (L_X5_overlap_32  n) v0 v1 v2 v3 v4 M
def d_X5_overlap (v0 : Nat) (v1 : Int) (v2 : Int) (M : Mem) : Option (Int × Mem) :=
  bR (d_X5_isSample v0 v1 (m_si M 500 v0 0 0)) fun r1 => 
  if w32 r1 = 0 then
    bN (d_X5_fail v0 1 (m_si M 500 v0 0 0)) fun r4 M5 => 
    some (r4, M5)
  else
    bR (d_X5_isSample v0 v2 (m_si M 500 v0 0 0)) fun r8 => 
    if w32 r8 = 0 then
      bN (d_X5_fail v0 1 (m_si M 500 v0 0 0)) fun r16 M17 => 
      some (r16, M17)
    else
      L_X5_overlap_32 FU v0 v1 v2 0 0 (m_si M 500 v0 0 0)
theorem cB_X5_overlap_32 {X : x_Ctx} {M0 : Mem} (C : x_CC X 3 78 yX5_overlap cX5_overlap 5 (some .int) []) {k32 : Nat → Int → Int → Int → Int → Mem → Option (Int × Mem)} (hk32 : ∀ (v0 : Nat) (v1 : Int) (v2 : Int) (v3 : Int) (v4 : Int) (M : Mem) (r : Int) (M' : Mem), m_kd M v0 = 5 → k32 v0 v1 v2 v3 v4 M = some (r, M') → x_Z X 0 0 (x_QF X M0 (.returned (some (vI r))) M' 0 0) M0 M 5 [(0, .ref v0), (1, vI v1), (2, vI v2), (3, vI v3), (4, vI v4)] 32 []) (v0 : Nat) (v1 : Int) (v2 : Int) (v3 : Int) (v4 : Int) (M : Mem) (r : Int) (M' : Mem) (hv0 : m_kd M v0 = 5) (h : B_X5_overlap_32 k32 v0 v1 v2 v3 v4 M = some (r, M'))  : x_Z X 0 0 (x_QF X M0 (.returned (some (vI r))) M' 0 0) M0 M 5 [(0, .ref v0), (1, vI v1), (2, vI v2), (3, vI v3), (4, vI v4)] 32 [] := by
  unfold B_X5_overlap_32 at h
  refine z_iload (pc := 32) C 4 rfl dX5_overlap_32 ?_
  refine z_bipush (pc := 34) C (by decide +kernel) dX5_overlap_34 ?_
  refine z_ic_ge (pc := 36) C dX5_overlap_36 (tgt := 83) (by decide) (fun c11 => ?_) (fun c11 => ?_)
  · have h := itt c11 h
    refine z_iload_n (pc := 83) C 3 rfl dX5_overlap_83 ?_
    cases h
    exact z_iret (pc := 84) C rfl (show 0 ≤ 0 from by decide) (show 0 ≤ 0 from by decide) dX5_overlap_84
  · have h := itf c11 h
    refine z_iload_n (pc := 39) C 3 rfl dX5_overlap_39 ?_
    refine z_aload_n (pc := 40) C 0 rfl dX5_overlap_40 ?_
    refine gX5_567 (pc := 41) C rfl hv0 dX5_overlap_41 ?_
    refine z_bipush (pc := 44) C (by decide +kernel) dX5_overlap_44 ?_
    refine z_iload_n (pc := 46) C 1 rfl dX5_overlap_46 ?_
    refine z_imul (pc := 47) C dX5_overlap_47 ?_
    refine z_iload (pc := 48) C 4 rfl dX5_overlap_48 ?_
    refine z_iadd (pc := 50) C dX5_overlap_50 ?_
    obtain ⟨c12, h⟩ := ifn h
    refine z_zaO (pc := 51) (k := 5) (j := 67) C 567 rfl (by decide) (by decide) (by decide) rfl rfl rfl rfl hv0 c12 rfl dX5_overlap_51 ?_
    refine z_if_eq (pc := 52) C dX5_overlap_52 (tgt := 74) (by decide) (fun c13 => ?_) (fun c13 => ?_)
    · have h := itt c13 h
      refine z_iconst (pc := 74) C dX5_overlap_74 ?_
      refine z_iadd (pc := 75) C dX5_overlap_75 ?_
      refine z_istore_n (pc := 76) C (lv' := [(0, .ref v0), (1, vI v1), (2, vI v2), (3, vI (v3 + 0)), (4, vI v4)]) (by decide) rfl dX5_overlap_76 ?_
      refine z_iinc (pc := 77) C (lv' := [(0, .ref v0), (1, vI v1), (2, vI v2), (3, vI (v3 + 0)), (4, vI (v4 + 1))]) 4 rfl (by decide) rfl dX5_overlap_77 ?_
      refine z_goto (pc := 80) C dX5_overlap_80 (tgt := 32) (by decide) ?_
      exact hk32 v0 v1 v2 (v3 + 0) (v4 + 1) M _ _ hv0 h
    · have h := itf c13 h
      refine z_aload_n (pc := 55) C 0 rfl dX5_overlap_55 ?_
      refine gX5_567 (pc := 56) C rfl hv0 dX5_overlap_56 ?_
      refine z_bipush (pc := 59) C (by decide +kernel) dX5_overlap_59 ?_
      refine z_iload_n (pc := 61) C 2 rfl dX5_overlap_61 ?_
      refine z_imul (pc := 62) C dX5_overlap_62 ?_
      refine z_iload (pc := 63) C 4 rfl dX5_overlap_63 ?_
      refine z_iadd (pc := 65) C dX5_overlap_65 ?_
      obtain ⟨c14, h⟩ := ifn h
      refine z_zaO (pc := 66) (k := 5) (j := 67) C 567 rfl (by decide) (by decide) (by decide) rfl rfl rfl rfl hv0 c14 rfl dX5_overlap_66 ?_
      refine z_if_eq (pc := 67) C dX5_overlap_67 (tgt := 74) (by decide) (fun c15 => ?_) (fun c15 => ?_)
      · have h := itt c15 h
        refine z_iconst (pc := 74) C dX5_overlap_74 ?_
        refine z_iadd (pc := 75) C dX5_overlap_75 ?_
        refine z_istore_n (pc := 76) C (lv' := [(0, .ref v0), (1, vI v1), (2, vI v2), (3, vI (v3 + 0)), (4, vI v4)]) (by decide) rfl dX5_overlap_76 ?_
        refine z_iinc (pc := 77) C (lv' := [(0, .ref v0), (1, vI v1), (2, vI v2), (3, vI (v3 + 0)), (4, vI (v4 + 1))]) 4 rfl (by decide) rfl dX5_overlap_77 ?_
        refine z_goto (pc := 80) C dX5_overlap_80 (tgt := 32) (by decide) ?_
        exact hk32 v0 v1 v2 (v3 + 0) (v4 + 1) M _ _ hv0 h
      · have h := itf c15 h
        refine z_iconst (pc := 70) C dX5_overlap_70 ?_
        refine z_goto (pc := 71) C dX5_overlap_71 (tgt := 75) (by decide) ?_
        refine z_iadd (pc := 75) C dX5_overlap_75 ?_
        refine z_istore_n (pc := 76) C (lv' := [(0, .ref v0), (1, vI v1), (2, vI v2), (3, vI (v3 + 1)), (4, vI v4)]) (by decide) rfl dX5_overlap_76 ?_
        refine z_iinc (pc := 77) C (lv' := [(0, .ref v0), (1, vI v1), (2, vI v2), (3, vI (v3 + 1)), (4, vI (v4 + 1))]) 4 rfl (by decide) rfl dX5_overlap_77 ?_
        refine z_goto (pc := 80) C dX5_overlap_80 (tgt := 32) (by decide) ?_
        exact hk32 v0 v1 v2 (v3 + 1) (v4 + 1) M _ _ hv0 h
theorem cL_X5_overlap_32 {X : x_Ctx} {M0 : Mem} (C : x_CC X 3 78 yX5_overlap cX5_overlap 5 (some .int) [])  : ∀ (n : Nat) (v0 : Nat) (v1 : Int) (v2 : Int) (v3 : Int) (v4 : Int) (M : Mem) (r : Int) (M' : Mem) (hv0 : m_kd M v0 = 5) (h : L_X5_overlap_32  n v0 v1 v2 v3 v4 M = some (r, M')) , x_Z X 0 0 (x_QF X M0 (.returned (some (vI r))) M' 0 0) M0 M 5 [(0, .ref v0), (1, vI v1), (2, vI v2), (3, vI v3), (4, vI v4)] 32 [] := by
  intro n
  induction n with
  | zero => intro v0 v1 v2 v3 v4 M r M' hv0 h ; cases h
  | succ n ih => intro v0 v1 v2 v3 v4 M r M' hv0 h ; exact cB_X5_overlap_32 C (fun v0 v1 v2 v3 v4 M r M' hv0 h  => ih v0 v1 v2 v3 v4 M r M' hv0 h ) v0 v1 v2 v3 v4 M r M' hv0 h 
theorem ct_X5_overlap {l : Launch} {S0 : State} {D : va_G} {cA : Nat → ClassId} (hG : x_G l S0 D cA) (v0 : Nat) (v1 : Int) (v2 : Int) (M : Mem) (r : Int) (M' : Mem) (hv0 : m_kd M v0 = 5) (h : d_X5_overlap v0 v1 v2 M = some (r, M')) : x_Me l S0 D cA yX5_overlap cX5_overlap 5 (some .int) [] ({ frames := 3, cells := 0, slots := 0, locals := 78 }) [.ref v0, vI v1, vI v2] M (.returned (some (vI r))) M' := by
  refine x_begin (F := 3) (Lo := 78) (mc := 0) (ms := 0) hG (Nat.le_of_ble_eq_true rfl) (lv := [(0, .ref v0), (1, vI v1), (2, vI v2)]) rfl rfl rfl rfl rfl (fun X e1 e2 e3 e4 e5 C => ?_)
  unfold d_X5_overlap at h
  refine z_aload_n (pc := 0) C 0 rfl dX5_overlap_0 ?_
  refine z_iconst (pc := 1) C dX5_overlap_1 ?_
  refine pX5_500 (pc := 2) C rfl (Or.inl hv0) dX5_overlap_2 ?_
  refine z_aload_n (pc := 5) C 0 rfl dX5_overlap_5 ?_
  refine z_iload_n (pc := 6) C 1 rfl dX5_overlap_6 ?_
  obtain ⟨r1, e2, h⟩ := bRs h
  refine cX5_464 (pc := 7) (st := []) (st1 := [vI r1]) C rfl (rm := { frames := 2, cells := 0, slots := 0, locals := 53 }) (ct_X5_isSample C.2.1 v0 v1 (m_si M 500 v0 0 0) _ hv0 e2) ⟨by decide, by decide, Nat.zero_le _, Nat.zero_le _⟩ (Or.inl hv0) rfl (Nat.le_of_ble_eq_true rfl) dX5_overlap_7 (c2 := 0) (s2 := 0) rfl rfl (fun _ => ?_)
  refine z_if_eq (pc := 10) C dX5_overlap_10 (tgt := 21) (by decide) (fun c3 => ?_) (fun c3 => ?_)
  · have h := itt c3 h
    refine z_aload_n (pc := 21) C 0 rfl dX5_overlap_21 ?_
    refine z_iconst (pc := 22) C dX5_overlap_22 ?_
    obtain ⟨r4, M5, e6, h⟩ := bNs h
    refine cX5_213 (pc := 23) (st := []) (st1 := [vI r4]) C rfl (rm := { frames := 1, cells := 0, slots := 0, locals := 24 }) (ct_X5_fail C.2.1 v0 1 (m_si M 500 v0 0 0) _ _ hv0 e6) ⟨by decide, by decide, Nat.zero_le _, Nat.zero_le _⟩ (Or.inl hv0) rfl (Nat.le_of_ble_eq_true rfl) dX5_overlap_23 (c2 := 0) (s2 := 0) rfl rfl (fun x7 => ?_)
    cases h
    exact z_iret (pc := 26) C rfl (show 0 ≤ 0 from by decide) (show 0 ≤ 0 from by decide) dX5_overlap_26
  · have h := itf c3 h
    refine z_aload_n (pc := 13) C 0 rfl dX5_overlap_13 ?_
    refine z_iload_n (pc := 14) C 2 rfl dX5_overlap_14 ?_
    obtain ⟨r8, e9, h⟩ := bRs h
    refine cX5_464 (pc := 15) (st := []) (st1 := [vI r8]) C rfl (rm := { frames := 2, cells := 0, slots := 0, locals := 53 }) (ct_X5_isSample C.2.1 v0 v2 (m_si M 500 v0 0 0) _ hv0 e9) ⟨by decide, by decide, Nat.zero_le _, Nat.zero_le _⟩ (Or.inl hv0) rfl (Nat.le_of_ble_eq_true rfl) dX5_overlap_15 (c2 := 0) (s2 := 0) rfl rfl (fun _ => ?_)
    refine z_if_ne (pc := 18) C dX5_overlap_18 (tgt := 27) (by decide) (fun c10 => ?_) (fun c10 => ?_)
    · have h := itf c10 h
      refine z_iconst (pc := 27) C dX5_overlap_27 ?_
      refine z_istore_n (pc := 28) C (lv' := [(0, .ref v0), (1, vI v1), (2, vI v2), (3, vI 0)]) (by decide) rfl dX5_overlap_28 ?_
      refine z_iconst (pc := 29) C dX5_overlap_29 ?_
      refine z_istore (pc := 30) C (lv' := [(0, .ref v0), (1, vI v1), (2, vI v2), (3, vI 0), (4, vI 0)]) (by decide) rfl dX5_overlap_30 ?_
      exact cL_X5_overlap_32 C FU v0 v1 v2 0 0 (m_si M 500 v0 0 0) _ _ hv0 h
    · have h := itt c10 h
      refine z_aload_n (pc := 21) C 0 rfl dX5_overlap_21 ?_
      refine z_iconst (pc := 22) C dX5_overlap_22 ?_
      obtain ⟨r16, M17, e18, h⟩ := bNs h
      refine cX5_213 (pc := 23) (st := []) (st1 := [vI r16]) C rfl (rm := { frames := 1, cells := 0, slots := 0, locals := 24 }) (ct_X5_fail C.2.1 v0 1 (m_si M 500 v0 0 0) _ _ hv0 e18) ⟨by decide, by decide, Nat.zero_le _, Nat.zero_le _⟩ (Or.inl hv0) rfl (Nat.le_of_ble_eq_true rfl) dX5_overlap_23 (c2 := 0) (s2 := 0) rfl rfl (fun x19 => ?_)
      cases h
      exact z_iret (pc := 26) C rfl (show 0 ≤ 0 from by decide) (show 0 ≤ 0 from by decide) dX5_overlap_26
def B_X5_table_449 (k323 : Nat → Int → Int → Int → Int → Int → Int → Int → Int → Mem → Option (Int × Mem)) (v0 : Nat) (v1 : Int) (v2 : Int) (v3 : Int) (v4 : Int) (v5 : Int) (v6 : Int) (v7 : Int) (v8 : Int) (v9 : Int) (v10 : Int) (v11 : Int) (s0 : Int) (M : Mem) : Option (Int × Mem) :=
  if w32 v9 = 0 then
    k323 v0 v1 v2 v3 v4 v5 v6 v7 (v8 + 1) M
  else
    if w32 v10 = w32 (-2000000) then
      k323 v0 v1 v2 v3 v4 v5 v6 v7 (v8 + 1) M
    else
      if w32 v11 = w32 (-2000000) then
        k323 v0 v1 v2 v3 v4 v5 v6 v7 (v8 + 1) M
      else
        if w32 s0 < 0 then
          k323 v0 v1 v2 v3 v4 v5 v6 v7 (v8 + 1) M
        else
          if inb (v6 + v2) 120 then 
          if inb v7 12 then 
          if inb (v6 + v3) 120 then 
          if inb ((((12 * v7) + ((v10 - (m_i M 518 v0 (ixn (v6 + v2)))) * (m_i M 571 v0 (ixn v7)))) + v11) - (m_i M 518 v0 (ixn (v6 + v3)))) 144 then 
          if w32 s0 ≤ w32 (m_i M 574 v0 (ixn ((((12 * v7) + ((v10 - (m_i M 518 v0 (ixn (v6 + v2)))) * (m_i M 571 v0 (ixn v7)))) + v11) - (m_i M 518 v0 (ixn (v6 + v3)))))) then
            k323 v0 v1 v2 v3 v4 v5 v6 v7 (v8 + 1) (m_si (m_si (m_si M 572 v0 (ixn ((((12 * v7) + ((v10 - (m_i M 518 v0 (ixn (v6 + v2)))) * (m_i M 571 v0 (ixn v7)))) + v11) - (m_i M 518 v0 (ixn (v6 + v3))))) ((m_i M 572 v0 (ixn ((((12 * v7) + ((v10 - (m_i M 518 v0 (ixn (v6 + v2)))) * (m_i M 571 v0 (ixn v7)))) + v11) - (m_i M 518 v0 (ixn (v6 + v3)))))) + s0)) 573 v0 (ixn ((((12 * v7) + ((v10 - (m_i M 518 v0 (ixn (v6 + v2)))) * (m_i M 571 v0 (ixn v7)))) + v11) - (m_i M 518 v0 (ixn (v6 + v3))))) ((m_i M 573 v0 (ixn ((((12 * v7) + ((v10 - (m_i M 518 v0 (ixn (v6 + v2)))) * (m_i M 571 v0 (ixn v7)))) + v11) - (m_i M 518 v0 (ixn (v6 + v3)))))) + 1)) 574 v0 (ixn ((((12 * v7) + ((v10 - (m_i M 518 v0 (ixn (v6 + v2)))) * (m_i M 571 v0 (ixn v7)))) + v11) - (m_i M 518 v0 (ixn (v6 + v3))))) (m_i M 574 v0 (ixn ((((12 * v7) + ((v10 - (m_i M 518 v0 (ixn (v6 + v2)))) * (m_i M 571 v0 (ixn v7)))) + v11) - (m_i M 518 v0 (ixn (v6 + v3)))))))
          else
            k323 v0 v1 v2 v3 v4 v5 v6 v7 (v8 + 1) (m_si (m_si (m_si M 572 v0 (ixn ((((12 * v7) + ((v10 - (m_i M 518 v0 (ixn (v6 + v2)))) * (m_i M 571 v0 (ixn v7)))) + v11) - (m_i M 518 v0 (ixn (v6 + v3))))) ((m_i M 572 v0 (ixn ((((12 * v7) + ((v10 - (m_i M 518 v0 (ixn (v6 + v2)))) * (m_i M 571 v0 (ixn v7)))) + v11) - (m_i M 518 v0 (ixn (v6 + v3)))))) + s0)) 573 v0 (ixn ((((12 * v7) + ((v10 - (m_i M 518 v0 (ixn (v6 + v2)))) * (m_i M 571 v0 (ixn v7)))) + v11) - (m_i M 518 v0 (ixn (v6 + v3))))) ((m_i M 573 v0 (ixn ((((12 * v7) + ((v10 - (m_i M 518 v0 (ixn (v6 + v2)))) * (m_i M 571 v0 (ixn v7)))) + v11) - (m_i M 518 v0 (ixn (v6 + v3)))))) + 1)) 574 v0 (ixn ((((12 * v7) + ((v10 - (m_i M 518 v0 (ixn (v6 + v2)))) * (m_i M 571 v0 (ixn v7)))) + v11) - (m_i M 518 v0 (ixn (v6 + v3))))) s0) else none else none else none else none
def B_X5_table_396 (k323 : Nat → Int → Int → Int → Int → Int → Int → Int → Int → Mem → Option (Int × Mem)) (v0 : Nat) (v1 : Int) (v2 : Int) (v3 : Int) (v4 : Int) (v5 : Int) (v6 : Int) (v7 : Int) (v8 : Int) (s0 : Int) (M : Mem) : Option (Int × Mem) :=
  if inb ((20 * v8) + v2) 1200 then 
  if inb ((20 * v8) + v3) 1200 then 
  if w32 v4 = w32 (-1) then
    B_X5_table_449 k323 v0 v1 v2 v3 v4 v5 v6 v7 v8 s0 (m_i M 555 v0 (ixn ((20 * v8) + v2))) (m_i M 555 v0 (ixn ((20 * v8) + v3))) 1 M
  else
    if inb ((20 * v8) + v4) 1200 then 
    B_X5_table_449 k323 v0 v1 v2 v3 v4 v5 v6 v7 v8 s0 (m_i M 555 v0 (ixn ((20 * v8) + v2))) (m_i M 555 v0 (ixn ((20 * v8) + v3))) (m_i M 555 v0 (ixn ((20 * v8) + v4))) M else none else none else none
def B_X5_table_395 (k323 : Nat → Int → Int → Int → Int → Int → Int → Int → Int → Mem → Option (Int × Mem)) (v0 : Nat) (v1 : Int) (v2 : Int) (v3 : Int) (v4 : Int) (v5 : Int) (v6 : Int) (v7 : Int) (v8 : Int) (M : Mem) : Option (Int × Mem) :=
  B_X5_table_396 k323 v0 v1 v2 v3 v4 v5 v6 v7 v8 0 M
def B_X5_table_391 (k323 : Nat → Int → Int → Int → Int → Int → Int → Int → Int → Mem → Option (Int × Mem)) (v0 : Nat) (v1 : Int) (v2 : Int) (v3 : Int) (v4 : Int) (v5 : Int) (v6 : Int) (v7 : Int) (v8 : Int) (M : Mem) : Option (Int × Mem) :=
  B_X5_table_396 k323 v0 v1 v2 v3 v4 v5 v6 v7 v8 1 M
def B_X5_table_323 (k323 : Nat → Int → Int → Int → Int → Int → Int → Int → Int → Mem → Option (Int × Mem)) (v0 : Nat) (v1 : Int) (v2 : Int) (v3 : Int) (v4 : Int) (v5 : Int) (v6 : Int) (v7 : Int) (v8 : Int) (M : Mem) : Option (Int × Mem) :=
  if w32 (m_i M 553 v0 0) ≤ w32 v8 then
    some (v7, (m_si M 569 v0 0 ((m_i M 569 v0 0) + 1)))
  else
    bR (d_X5_formOf v0 v8 M) fun r49 => 
    if w32 r49 = w32 v1 then
      bR (d_X5_isClean v0 v8 M) fun r65 => 
      if w32 r65 = 0 then
        B_X5_table_395 k323 v0 v1 v2 v3 v4 v5 v6 v7 v8 M
      else
        if w32 v5 = w32 (-1) then
          B_X5_table_391 k323 v0 v1 v2 v3 v4 v5 v6 v7 v8 M
        else
          if inb v8 60 then 
          if inb (m_i M 554 v0 (ixn v8)) 60 then 
          bR (d_X5_lastAs v0 (m_i M 540 v0 (ixn (m_i M 554 v0 (ixn v8)))) (d_X5_today v0 M) M) fun r72 => 
          if inb ((100 * v5) + r72) 1200 then 
          if w32 (m_i M 567 v0 (ixn ((100 * v5) + r72))) = 0 then
            B_X5_table_395 k323 v0 v1 v2 v3 v4 v5 v6 v7 v8 M
          else
            B_X5_table_391 k323 v0 v1 v2 v3 v4 v5 v6 v7 v8 M else none else none else none
    else
      B_X5_table_395 k323 v0 v1 v2 v3 v4 v5 v6 v7 v8 M
def L_X5_table_323  : Nat → Nat → Int → Int → Int → Int → Int → Int → Int → Int → Mem → Option (Int × Mem)
  | 0, _, _, _, _, _, _, _, _, _, _ => none
  | n + 1, v0, v1, v2, v3, v4, v5, v6, v7, v8, M => B_X5_table_323 (L_X5_table_323  n) v0 v1 v2 v3 v4 v5 v6 v7 v8 M
def B_X5_table_265 (k265 : Nat → Int → Int → Int → Int → Int → Int → Int → Int → Mem → Option (Int × Mem)) (v0 : Nat) (v1 : Int) (v2 : Int) (v3 : Int) (v4 : Int) (v5 : Int) (v6 : Int) (v7 : Int) (v8 : Int) (M : Mem) : Option (Int × Mem) :=
  if w32 12 ≤ w32 v8 then
    L_X5_table_323 FU v0 v1 v2 v3 v4 v5 v6 v7 0 M
  else
    if inb ((12 * v7) + v8) 144 then 
    k265 v0 v1 v2 v3 v4 v5 v6 v7 (v8 + 1) (m_si (m_si (m_si M 572 v0 (ixn ((12 * v7) + v8)) 0) 573 v0 (ixn ((12 * v7) + v8)) 0) 574 v0 (ixn ((12 * v7) + v8)) 0) else none
def L_X5_table_265  : Nat → Nat → Int → Int → Int → Int → Int → Int → Int → Int → Mem → Option (Int × Mem)
  | 0, _, _, _, _, _, _, _, _, _, _ => none
  | n + 1, v0, v1, v2, v3, v4, v5, v6, v7, v8, M => B_X5_table_265 (L_X5_table_265  n) v0 v1 v2 v3 v4 v5 v6 v7 v8 M
def B_X5_table_109  (v0 : Nat) (v1 : Int) (v2 : Int) (v3 : Int) (v4 : Int) (v5 : Int) (v6 : Int) (M : Mem) : Option (Int × Mem) :=
  if inb (v6 + v2) 120 then 
  if w32 3 < w32 ((m_i M 519 v0 (ixn (v6 + v2))) - (m_i M 518 v0 (ixn (v6 + v2)))) then
    bN (d_X5_fail v0 2 M) fun r39 M40 => 
    some (r39, M40)
  else
    if inb (v6 + v3) 120 then 
    if w32 ((m_i M 519 v0 (ixn (v6 + v3))) - (m_i M 518 v0 (ixn (v6 + v3)))) ≤ w32 2 then
      if w32 (m_i M 569 v0 0) = w32 12 then
        bN (d_X5_fail v0 3 M) fun r77 M78 => 
        some (r77, M78)
      else
        if inb (m_i M 569 v0 0) 12 then 
        L_X5_table_265 FU v0 v1 v2 v3 v4 v5 v6 (m_i M 569 v0 0) 0 (m_si (m_si (m_si (m_si (m_si M 570 v0 (ixn (m_i M 569 v0 0)) (((m_i M 519 v0 (ixn (v6 + v2))) - (m_i M 518 v0 (ixn (v6 + v2)))) + 1)) 571 v0 (ixn (m_i M 569 v0 0)) (((m_i M 519 v0 (ixn (v6 + v3))) - (m_i M 518 v0 (ixn (v6 + v3)))) + 1)) 576 v0 (ixn (m_i M 569 v0 0)) (bz 0)) 577 v0 (ixn (m_i M 569 v0 0)) 0) 578 v0 (ixn (m_i M 569 v0 0)) 0) else none
    else
      bN (d_X5_fail v0 2 M) fun r81 M82 => 
      some (r81, M82) else none else none
def B_X5_table_60  (v0 : Nat) (v1 : Int) (v2 : Int) (v3 : Int) (v4 : Int) (v5 : Int) (M : Mem) : Option (Int × Mem) :=
  bR (d_X5_isAsk v0 v1 v2 M) fun r17 => 
  if w32 r17 = 0 then
    bN (d_X5_fail v0 2 M) fun r20 M21 => 
    some (r20, M21)
  else
    bR (d_X5_isAsk v0 v1 v3 M) fun r24 => 
    if w32 r24 = 0 then
      bN (d_X5_fail v0 2 M) fun r27 M28 => 
      some (r27, M28)
    else
      if w32 v2 = w32 v3 then
        bN (d_X5_fail v0 2 M) fun r32 M33 => 
        some (r32, M33)
      else
        if w32 v4 = w32 (-1) then
          B_X5_table_109 v0 v1 v2 v3 v4 v5 (20 * v1) M
        else
          if inb ((20 * v1) + v4) 120 then 
          if w32 1 < w32 (m_i M 516 v0 (ixn ((20 * v1) + v4))) then
            bN (d_X5_fail v0 2 M) fun r87 M88 => 
            some (r87, M88)
          else
            B_X5_table_109 v0 v1 v2 v3 v4 v5 (20 * v1) M else none
def B_X5_table_39  (v0 : Nat) (v1 : Int) (v2 : Int) (v3 : Int) (v4 : Int) (v5 : Int) (M : Mem) : Option (Int × Mem) :=
  if w32 v5 = w32 (-1) then
    B_X5_table_60 v0 v1 v2 v3 v4 v5 M
  else
    bR (d_X5_isSample v0 v5 M) fun r91 => 
    if w32 r91 = 0 then
      bN (d_X5_fail v0 1 M) fun r94 M95 => 
      some (r94, M95)
    else
      B_X5_table_60 v0 v1 v2 v3 v4 v5 M
def d_X5_table (v0 : Nat) (v1 : Int) (v2 : Int) (v3 : Int) (v4 : Int) (v5 : Int) (M : Mem) : Option (Int × Mem) :=
  bR (d_X5_isStatementOf v0 v1 v2 (m_si M 500 v0 0 0)) fun r1 => 
  if w32 r1 = 0 then
    bN (d_X5_fail v0 1 (m_si M 500 v0 0 0)) fun r4 M5 => 
    some (r4, M5)
  else
    bR (d_X5_isStatementOf v0 v1 v3 (m_si M 500 v0 0 0)) fun r8 => 
    if w32 r8 = 0 then
      bN (d_X5_fail v0 1 (m_si M 500 v0 0 0)) fun r11 M12 => 
      some (r11, M12)
    else
      if w32 v4 = w32 (-1) then
        B_X5_table_39 v0 v1 v2 v3 v4 v5 (m_si M 500 v0 0 0)
      else
        bR (d_X5_isStatementOf v0 v1 v4 (m_si M 500 v0 0 0)) fun r98 => 
        if w32 r98 = 0 then
          bN (d_X5_fail v0 1 (m_si M 500 v0 0 0)) fun r101 M102 => 
          some (r101, M102)
        else
          B_X5_table_39 v0 v1 v2 v3 v4 v5 (m_si M 500 v0 0 0)
theorem cB_X5_table_449 {X : x_Ctx} {M0 : Mem} (C : x_CC X 4 104 yX5_table cX5_table 14 (some .int) []) {k323 : Nat → Int → Int → Int → Int → Int → Int → Int → Int → Mem → Option (Int × Mem)} (hk323 : ∀ (v0 : Nat) (v1 : Int) (v2 : Int) (v3 : Int) (v4 : Int) (v5 : Int) (v6 : Int) (v7 : Int) (v8 : Int) (M : Mem) (r : Int) (M' : Mem), m_kd M v0 = 5 → k323 v0 v1 v2 v3 v4 v5 v6 v7 v8 M = some (r, M') → x_Z X 0 0 (x_QF X M0 (.returned (some (vI r))) M' 0 0) M0 M 14 [(0, .ref v0), (1, vI v1), (2, vI v2), (3, vI v3), (4, vI v4), (5, vI v5), (6, vI v6), (7, vI v7), (8, vI v8)] 323 []) (v0 : Nat) (v1 : Int) (v2 : Int) (v3 : Int) (v4 : Int) (v5 : Int) (v6 : Int) (v7 : Int) (v8 : Int) (v9 : Int) (v10 : Int) (v11 : Int) (s0 : Int) (M : Mem) (r : Int) (M' : Mem) (hv0 : m_kd M v0 = 5) (h : B_X5_table_449 k323 v0 v1 v2 v3 v4 v5 v6 v7 v8 v9 v10 v11 s0 M = some (r, M'))  : x_Z X 0 0 (x_QF X M0 (.returned (some (vI r))) M' 0 0) M0 M 14 [(0, .ref v0), (1, vI v1), (2, vI v2), (3, vI v3), (4, vI v4), (5, vI v5), (6, vI v6), (7, vI v7), (8, vI v8), (9, vI v9), (10, vI v10), (11, vI v11)] 449 [vI s0] := by
  unfold B_X5_table_449 at h
  refine z_istore (pc := 449) C (lv' := [(0, .ref v0), (1, vI v1), (2, vI v2), (3, vI v3), (4, vI v4), (5, vI v5), (6, vI v6), (7, vI v7), (8, vI v8), (9, vI v9), (10, vI v10), (11, vI v11), (12, vI s0)]) (by decide) rfl dX5_table_449 ?_
  refine z_iload (pc := 451) C 9 rfl dX5_table_451 ?_
  refine z_if_eq (pc := 453) C dX5_table_453 (tgt := 570) (by decide) (fun c56 => ?_) (fun c56 => ?_)
  · have h := itt c56 h
    refine z_iinc (pc := 570) C (lv' := [(0, .ref v0), (1, vI v1), (2, vI v2), (3, vI v3), (4, vI v4), (5, vI v5), (6, vI v6), (7, vI v7), (8, vI (v8 + 1)), (9, vI v9), (10, vI v10), (11, vI v11), (12, vI s0)]) 8 rfl (by decide) rfl dX5_table_570 ?_
    refine z_goto (pc := 573) C dX5_table_573 (tgt := 323) (by decide) ?_
    exact z_lv [0, 1, 2, 3, 4, 5, 6, 7, 8] rfl <| hk323 v0 v1 v2 v3 v4 v5 v6 v7 (v8 + 1) M _ _ hv0 h
  · have h := itf c56 h
    refine z_iload (pc := 456) C 10 rfl dX5_table_456 ?_
    refine z_ldc (pc := 458) C (x := -2000000) q1829 (by decide +kernel) dX5_table_458 ?_
    refine z_ic_eq (pc := 460) C dX5_table_460 (tgt := 570) (by decide) (fun c57 => ?_) (fun c57 => ?_)
    · have h := itt c57 h
      refine z_iinc (pc := 570) C (lv' := [(0, .ref v0), (1, vI v1), (2, vI v2), (3, vI v3), (4, vI v4), (5, vI v5), (6, vI v6), (7, vI v7), (8, vI (v8 + 1)), (9, vI v9), (10, vI v10), (11, vI v11), (12, vI s0)]) 8 rfl (by decide) rfl dX5_table_570 ?_
      refine z_goto (pc := 573) C dX5_table_573 (tgt := 323) (by decide) ?_
      exact z_lv [0, 1, 2, 3, 4, 5, 6, 7, 8] rfl <| hk323 v0 v1 v2 v3 v4 v5 v6 v7 (v8 + 1) M _ _ hv0 h
    · have h := itf c57 h
      refine z_iload (pc := 463) C 11 rfl dX5_table_463 ?_
      refine z_ldc (pc := 465) C (x := -2000000) q1829 (by decide +kernel) dX5_table_465 ?_
      refine z_ic_eq (pc := 467) C dX5_table_467 (tgt := 570) (by decide) (fun c58 => ?_) (fun c58 => ?_)
      · have h := itt c58 h
        refine z_iinc (pc := 570) C (lv' := [(0, .ref v0), (1, vI v1), (2, vI v2), (3, vI v3), (4, vI v4), (5, vI v5), (6, vI v6), (7, vI v7), (8, vI (v8 + 1)), (9, vI v9), (10, vI v10), (11, vI v11), (12, vI s0)]) 8 rfl (by decide) rfl dX5_table_570 ?_
        refine z_goto (pc := 573) C dX5_table_573 (tgt := 323) (by decide) ?_
        exact z_lv [0, 1, 2, 3, 4, 5, 6, 7, 8] rfl <| hk323 v0 v1 v2 v3 v4 v5 v6 v7 (v8 + 1) M _ _ hv0 h
      · have h := itf c58 h
        refine z_iload (pc := 470) C 12 rfl dX5_table_470 ?_
        refine z_if_lt (pc := 472) C dX5_table_472 (tgt := 570) (by decide) (fun c59 => ?_) (fun c59 => ?_)
        · have h := itt c59 h
          refine z_iinc (pc := 570) C (lv' := [(0, .ref v0), (1, vI v1), (2, vI v2), (3, vI v3), (4, vI v4), (5, vI v5), (6, vI v6), (7, vI v7), (8, vI (v8 + 1)), (9, vI v9), (10, vI v10), (11, vI v11), (12, vI s0)]) 8 rfl (by decide) rfl dX5_table_570 ?_
          refine z_goto (pc := 573) C dX5_table_573 (tgt := 323) (by decide) ?_
          exact z_lv [0, 1, 2, 3, 4, 5, 6, 7, 8] rfl <| hk323 v0 v1 v2 v3 v4 v5 v6 v7 (v8 + 1) M _ _ hv0 h
        · have h := itf c59 h
          refine z_bipush (pc := 475) C (by decide +kernel) dX5_table_475 ?_
          refine z_iload (pc := 477) C 7 rfl dX5_table_477 ?_
          refine z_imul (pc := 479) C dX5_table_479 ?_
          refine z_iload (pc := 480) C 10 rfl dX5_table_480 ?_
          refine z_aload_n (pc := 482) C 0 rfl dX5_table_482 ?_
          refine gX5_518 (pc := 483) C rfl hv0 dX5_table_483 ?_
          refine z_iload (pc := 486) C 6 rfl dX5_table_486 ?_
          refine z_iload_n (pc := 488) C 2 rfl dX5_table_488 ?_
          refine z_iadd (pc := 489) C dX5_table_489 ?_
          obtain ⟨c60, h⟩ := ifn h
          refine z_iaO (pc := 490) (k := 5) (j := 18) C 518 rfl (by decide) (by decide) (by decide) rfl rfl rfl rfl hv0 c60 rfl dX5_table_490 ?_
          refine z_isub (pc := 491) C dX5_table_491 ?_
          refine z_aload_n (pc := 492) C 0 rfl dX5_table_492 ?_
          refine gX5_571 (pc := 493) C rfl hv0 dX5_table_493 ?_
          refine z_iload (pc := 496) C 7 rfl dX5_table_496 ?_
          obtain ⟨c61, h⟩ := ifn h
          refine z_iaO (pc := 498) (k := 5) (j := 71) C 571 rfl (by decide) (by decide) (by decide) rfl rfl rfl rfl hv0 c61 rfl dX5_table_498 ?_
          refine z_imul (pc := 499) C dX5_table_499 ?_
          refine z_iadd (pc := 500) C dX5_table_500 ?_
          refine z_iload (pc := 501) C 11 rfl dX5_table_501 ?_
          refine z_iadd (pc := 503) C dX5_table_503 ?_
          refine z_aload_n (pc := 504) C 0 rfl dX5_table_504 ?_
          refine gX5_518 (pc := 505) C rfl hv0 dX5_table_505 ?_
          refine z_iload (pc := 508) C 6 rfl dX5_table_508 ?_
          refine z_iload_n (pc := 510) C 3 rfl dX5_table_510 ?_
          refine z_iadd (pc := 511) C dX5_table_511 ?_
          obtain ⟨c62, h⟩ := ifn h
          refine z_iaO (pc := 512) (k := 5) (j := 18) C 518 rfl (by decide) (by decide) (by decide) rfl rfl rfl rfl hv0 c62 rfl dX5_table_512 ?_
          refine z_isub (pc := 513) C dX5_table_513 ?_
          refine z_istore (pc := 514) C (lv' := [(0, .ref v0), (1, vI v1), (2, vI v2), (3, vI v3), (4, vI v4), (5, vI v5), (6, vI v6), (7, vI v7), (8, vI v8), (9, vI v9), (10, vI v10), (11, vI v11), (12, vI s0), (13, vI ((((12 * v7) + ((v10 - (m_i M 518 v0 (ixn (v6 + v2)))) * (m_i M 571 v0 (ixn v7)))) + v11) - (m_i M 518 v0 (ixn (v6 + v3)))))]) (by decide) rfl dX5_table_514 ?_
          refine z_aload_n (pc := 516) C 0 rfl dX5_table_516 ?_
          refine gX5_572 (pc := 517) C rfl hv0 dX5_table_517 ?_
          refine z_iload (pc := 520) C 13 rfl dX5_table_520 ?_
          refine z_dup2 (pc := 522) C rfl rfl dX5_table_522 ?_
          obtain ⟨c63, h⟩ := ifn h
          refine z_iaO (pc := 523) (k := 5) (j := 72) C 572 rfl (by decide) (by decide) (by decide) rfl rfl rfl rfl hv0 c63 rfl dX5_table_523 ?_
          refine z_iload (pc := 524) C 12 rfl dX5_table_524 ?_
          refine z_iadd (pc := 526) C dX5_table_526 ?_
          refine z_isO (pc := 527) (k := 5) (j := 72) C 572 rfl (by decide) (by decide) (by decide) rfl rfl rfl rfl hv0 c63 dX5_table_527 ?_
          refine z_aload_n (pc := 528) C 0 rfl dX5_table_528 ?_
          refine gX5_573 (pc := 529) C rfl hv0 dX5_table_529 ?_
          refine z_iload (pc := 532) C 13 rfl dX5_table_532 ?_
          refine z_dup2 (pc := 534) C rfl rfl dX5_table_534 ?_
          refine z_iaO (pc := 535) (k := 5) (j := 73) C 573 rfl (by decide) (by decide) (by decide) rfl rfl rfl rfl hv0 c63 (x := m_i M 573 v0 (ixn ((((12 * v7) + ((v10 - (m_i M 518 v0 (ixn (v6 + v2)))) * (m_i M 571 v0 (ixn v7)))) + v11) - (m_i M 518 v0 (ixn (v6 + v3)))))) ((m_i_ne (by decide)).trans rfl) dX5_table_535 ?_
          refine z_iconst (pc := 536) C dX5_table_536 ?_
          refine z_iadd (pc := 537) C dX5_table_537 ?_
          refine z_isO (pc := 538) (k := 5) (j := 73) C 573 rfl (by decide) (by decide) (by decide) rfl rfl rfl rfl hv0 c63 dX5_table_538 ?_
          refine z_aload_n (pc := 539) C 0 rfl dX5_table_539 ?_
          refine gX5_574 (pc := 540) C rfl hv0 dX5_table_540 ?_
          refine z_iload (pc := 543) C 13 rfl dX5_table_543 ?_
          refine z_iload (pc := 545) C 12 rfl dX5_table_545 ?_
          refine z_aload_n (pc := 547) C 0 rfl dX5_table_547 ?_
          refine gX5_574 (pc := 548) C rfl hv0 dX5_table_548 ?_
          refine z_iload (pc := 551) C 13 rfl dX5_table_551 ?_
          refine z_iaO (pc := 553) (k := 5) (j := 74) C 574 rfl (by decide) (by decide) (by decide) rfl rfl rfl rfl hv0 c63 (x := m_i M 574 v0 (ixn ((((12 * v7) + ((v10 - (m_i M 518 v0 (ixn (v6 + v2)))) * (m_i M 571 v0 (ixn v7)))) + v11) - (m_i M 518 v0 (ixn (v6 + v3)))))) ((m_i_ne (by decide)).trans ((m_i_ne (by decide)).trans rfl)) dX5_table_553 ?_
          refine z_ic_le (pc := 554) C dX5_table_554 (tgt := 562) (by decide) (fun c64 => ?_) (fun c64 => ?_)
          · have h := itt c64 h
            refine z_aload_n (pc := 562) C 0 rfl dX5_table_562 ?_
            refine gX5_574 (pc := 563) C rfl hv0 dX5_table_563 ?_
            refine z_iload (pc := 566) C 13 rfl dX5_table_566 ?_
            refine z_iaO (pc := 568) (k := 5) (j := 74) C 574 rfl (by decide) (by decide) (by decide) rfl rfl rfl rfl hv0 c63 (x := m_i M 574 v0 (ixn ((((12 * v7) + ((v10 - (m_i M 518 v0 (ixn (v6 + v2)))) * (m_i M 571 v0 (ixn v7)))) + v11) - (m_i M 518 v0 (ixn (v6 + v3)))))) ((m_i_ne (by decide)).trans ((m_i_ne (by decide)).trans rfl)) dX5_table_568 ?_
            refine z_isO (pc := 569) (k := 5) (j := 74) C 574 rfl (by decide) (by decide) (by decide) rfl rfl rfl rfl hv0 c63 dX5_table_569 ?_
            refine z_iinc (pc := 570) C (lv' := [(0, .ref v0), (1, vI v1), (2, vI v2), (3, vI v3), (4, vI v4), (5, vI v5), (6, vI v6), (7, vI v7), (8, vI (v8 + 1)), (9, vI v9), (10, vI v10), (11, vI v11), (12, vI s0), (13, vI ((((12 * v7) + ((v10 - (m_i M 518 v0 (ixn (v6 + v2)))) * (m_i M 571 v0 (ixn v7)))) + v11) - (m_i M 518 v0 (ixn (v6 + v3)))))]) 8 rfl (by decide) rfl dX5_table_570 ?_
            refine z_goto (pc := 573) C dX5_table_573 (tgt := 323) (by decide) ?_
            exact z_lv [0, 1, 2, 3, 4, 5, 6, 7, 8] rfl <| hk323 v0 v1 v2 v3 v4 v5 v6 v7 (v8 + 1) (m_si (m_si (m_si M 572 v0 (ixn ((((12 * v7) + ((v10 - (m_i M 518 v0 (ixn (v6 + v2)))) * (m_i M 571 v0 (ixn v7)))) + v11) - (m_i M 518 v0 (ixn (v6 + v3))))) ((m_i M 572 v0 (ixn ((((12 * v7) + ((v10 - (m_i M 518 v0 (ixn (v6 + v2)))) * (m_i M 571 v0 (ixn v7)))) + v11) - (m_i M 518 v0 (ixn (v6 + v3)))))) + s0)) 573 v0 (ixn ((((12 * v7) + ((v10 - (m_i M 518 v0 (ixn (v6 + v2)))) * (m_i M 571 v0 (ixn v7)))) + v11) - (m_i M 518 v0 (ixn (v6 + v3))))) ((m_i M 573 v0 (ixn ((((12 * v7) + ((v10 - (m_i M 518 v0 (ixn (v6 + v2)))) * (m_i M 571 v0 (ixn v7)))) + v11) - (m_i M 518 v0 (ixn (v6 + v3)))))) + 1)) 574 v0 (ixn ((((12 * v7) + ((v10 - (m_i M 518 v0 (ixn (v6 + v2)))) * (m_i M 571 v0 (ixn v7)))) + v11) - (m_i M 518 v0 (ixn (v6 + v3))))) (m_i M 574 v0 (ixn ((((12 * v7) + ((v10 - (m_i M 518 v0 (ixn (v6 + v2)))) * (m_i M 571 v0 (ixn v7)))) + v11) - (m_i M 518 v0 (ixn (v6 + v3))))))) _ _ hv0 h
          · have h := itf c64 h
            refine z_iload (pc := 557) C 12 rfl dX5_table_557 ?_
            refine z_goto (pc := 559) C dX5_table_559 (tgt := 569) (by decide) ?_
            refine z_isO (pc := 569) (k := 5) (j := 74) C 574 rfl (by decide) (by decide) (by decide) rfl rfl rfl rfl hv0 c63 dX5_table_569 ?_
            refine z_iinc (pc := 570) C (lv' := [(0, .ref v0), (1, vI v1), (2, vI v2), (3, vI v3), (4, vI v4), (5, vI v5), (6, vI v6), (7, vI v7), (8, vI (v8 + 1)), (9, vI v9), (10, vI v10), (11, vI v11), (12, vI s0), (13, vI ((((12 * v7) + ((v10 - (m_i M 518 v0 (ixn (v6 + v2)))) * (m_i M 571 v0 (ixn v7)))) + v11) - (m_i M 518 v0 (ixn (v6 + v3)))))]) 8 rfl (by decide) rfl dX5_table_570 ?_
            refine z_goto (pc := 573) C dX5_table_573 (tgt := 323) (by decide) ?_
            exact z_lv [0, 1, 2, 3, 4, 5, 6, 7, 8] rfl <| hk323 v0 v1 v2 v3 v4 v5 v6 v7 (v8 + 1) (m_si (m_si (m_si M 572 v0 (ixn ((((12 * v7) + ((v10 - (m_i M 518 v0 (ixn (v6 + v2)))) * (m_i M 571 v0 (ixn v7)))) + v11) - (m_i M 518 v0 (ixn (v6 + v3))))) ((m_i M 572 v0 (ixn ((((12 * v7) + ((v10 - (m_i M 518 v0 (ixn (v6 + v2)))) * (m_i M 571 v0 (ixn v7)))) + v11) - (m_i M 518 v0 (ixn (v6 + v3)))))) + s0)) 573 v0 (ixn ((((12 * v7) + ((v10 - (m_i M 518 v0 (ixn (v6 + v2)))) * (m_i M 571 v0 (ixn v7)))) + v11) - (m_i M 518 v0 (ixn (v6 + v3))))) ((m_i M 573 v0 (ixn ((((12 * v7) + ((v10 - (m_i M 518 v0 (ixn (v6 + v2)))) * (m_i M 571 v0 (ixn v7)))) + v11) - (m_i M 518 v0 (ixn (v6 + v3)))))) + 1)) 574 v0 (ixn ((((12 * v7) + ((v10 - (m_i M 518 v0 (ixn (v6 + v2)))) * (m_i M 571 v0 (ixn v7)))) + v11) - (m_i M 518 v0 (ixn (v6 + v3))))) s0) _ _ hv0 h
theorem cB_X5_table_396 {X : x_Ctx} {M0 : Mem} (C : x_CC X 4 104 yX5_table cX5_table 14 (some .int) []) {k323 : Nat → Int → Int → Int → Int → Int → Int → Int → Int → Mem → Option (Int × Mem)} (hk323 : ∀ (v0 : Nat) (v1 : Int) (v2 : Int) (v3 : Int) (v4 : Int) (v5 : Int) (v6 : Int) (v7 : Int) (v8 : Int) (M : Mem) (r : Int) (M' : Mem), m_kd M v0 = 5 → k323 v0 v1 v2 v3 v4 v5 v6 v7 v8 M = some (r, M') → x_Z X 0 0 (x_QF X M0 (.returned (some (vI r))) M' 0 0) M0 M 14 [(0, .ref v0), (1, vI v1), (2, vI v2), (3, vI v3), (4, vI v4), (5, vI v5), (6, vI v6), (7, vI v7), (8, vI v8)] 323 []) (v0 : Nat) (v1 : Int) (v2 : Int) (v3 : Int) (v4 : Int) (v5 : Int) (v6 : Int) (v7 : Int) (v8 : Int) (s0 : Int) (M : Mem) (r : Int) (M' : Mem) (hv0 : m_kd M v0 = 5) (h : B_X5_table_396 k323 v0 v1 v2 v3 v4 v5 v6 v7 v8 s0 M = some (r, M'))  : x_Z X 0 0 (x_QF X M0 (.returned (some (vI r))) M' 0 0) M0 M 14 [(0, .ref v0), (1, vI v1), (2, vI v2), (3, vI v3), (4, vI v4), (5, vI v5), (6, vI v6), (7, vI v7), (8, vI v8)] 396 [vI s0] := by
  unfold B_X5_table_396 at h
  refine z_istore (pc := 396) C (lv' := [(0, .ref v0), (1, vI v1), (2, vI v2), (3, vI v3), (4, vI v4), (5, vI v5), (6, vI v6), (7, vI v7), (8, vI v8), (9, vI s0)]) (by decide) rfl dX5_table_396 ?_
  refine z_aload_n (pc := 398) C 0 rfl dX5_table_398 ?_
  refine gX5_555 (pc := 399) C rfl hv0 dX5_table_399 ?_
  refine z_bipush (pc := 402) C (by decide +kernel) dX5_table_402 ?_
  refine z_iload (pc := 404) C 8 rfl dX5_table_404 ?_
  refine z_imul (pc := 406) C dX5_table_406 ?_
  refine z_iload_n (pc := 407) C 2 rfl dX5_table_407 ?_
  refine z_iadd (pc := 408) C dX5_table_408 ?_
  obtain ⟨c52, h⟩ := ifn h
  refine z_iaO (pc := 409) (k := 5) (j := 55) C 555 rfl (by decide) (by decide) (by decide) rfl rfl rfl rfl hv0 c52 rfl dX5_table_409 ?_
  refine z_istore (pc := 410) C (lv' := [(0, .ref v0), (1, vI v1), (2, vI v2), (3, vI v3), (4, vI v4), (5, vI v5), (6, vI v6), (7, vI v7), (8, vI v8), (9, vI s0), (10, vI (m_i M 555 v0 (ixn ((20 * v8) + v2))))]) (by decide) rfl dX5_table_410 ?_
  refine z_aload_n (pc := 412) C 0 rfl dX5_table_412 ?_
  refine gX5_555 (pc := 413) C rfl hv0 dX5_table_413 ?_
  refine z_bipush (pc := 416) C (by decide +kernel) dX5_table_416 ?_
  refine z_iload (pc := 418) C 8 rfl dX5_table_418 ?_
  refine z_imul (pc := 420) C dX5_table_420 ?_
  refine z_iload_n (pc := 421) C 3 rfl dX5_table_421 ?_
  refine z_iadd (pc := 422) C dX5_table_422 ?_
  obtain ⟨c53, h⟩ := ifn h
  refine z_iaO (pc := 423) (k := 5) (j := 55) C 555 rfl (by decide) (by decide) (by decide) rfl rfl rfl rfl hv0 c53 rfl dX5_table_423 ?_
  refine z_istore (pc := 424) C (lv' := [(0, .ref v0), (1, vI v1), (2, vI v2), (3, vI v3), (4, vI v4), (5, vI v5), (6, vI v6), (7, vI v7), (8, vI v8), (9, vI s0), (10, vI (m_i M 555 v0 (ixn ((20 * v8) + v2)))), (11, vI (m_i M 555 v0 (ixn ((20 * v8) + v3))))]) (by decide) rfl dX5_table_424 ?_
  refine z_iload (pc := 426) C 4 rfl dX5_table_426 ?_
  refine z_iconst (pc := 428) C dX5_table_428 ?_
  refine z_ic_ne (pc := 429) C dX5_table_429 (tgt := 436) (by decide) (fun c54 => ?_) (fun c54 => ?_)
  · have h := itf c54 h
    refine z_aload_n (pc := 436) C 0 rfl dX5_table_436 ?_
    refine gX5_555 (pc := 437) C rfl hv0 dX5_table_437 ?_
    refine z_bipush (pc := 440) C (by decide +kernel) dX5_table_440 ?_
    refine z_iload (pc := 442) C 8 rfl dX5_table_442 ?_
    refine z_imul (pc := 444) C dX5_table_444 ?_
    refine z_iload (pc := 445) C 4 rfl dX5_table_445 ?_
    refine z_iadd (pc := 447) C dX5_table_447 ?_
    obtain ⟨c55, h⟩ := ifn h
    refine z_iaO (pc := 448) (k := 5) (j := 55) C 555 rfl (by decide) (by decide) (by decide) rfl rfl rfl rfl hv0 c55 rfl dX5_table_448 ?_
    exact cB_X5_table_449 C hk323 v0 v1 v2 v3 v4 v5 v6 v7 v8 s0 (m_i M 555 v0 (ixn ((20 * v8) + v2))) (m_i M 555 v0 (ixn ((20 * v8) + v3))) (m_i M 555 v0 (ixn ((20 * v8) + v4))) M _ _ hv0 h
  · have h := itt c54 h
    refine z_iconst (pc := 432) C dX5_table_432 ?_
    refine z_goto (pc := 433) C dX5_table_433 (tgt := 449) (by decide) ?_
    exact cB_X5_table_449 C hk323 v0 v1 v2 v3 v4 v5 v6 v7 v8 s0 (m_i M 555 v0 (ixn ((20 * v8) + v2))) (m_i M 555 v0 (ixn ((20 * v8) + v3))) 1 M _ _ hv0 h
theorem cB_X5_table_395 {X : x_Ctx} {M0 : Mem} (C : x_CC X 4 104 yX5_table cX5_table 14 (some .int) []) {k323 : Nat → Int → Int → Int → Int → Int → Int → Int → Int → Mem → Option (Int × Mem)} (hk323 : ∀ (v0 : Nat) (v1 : Int) (v2 : Int) (v3 : Int) (v4 : Int) (v5 : Int) (v6 : Int) (v7 : Int) (v8 : Int) (M : Mem) (r : Int) (M' : Mem), m_kd M v0 = 5 → k323 v0 v1 v2 v3 v4 v5 v6 v7 v8 M = some (r, M') → x_Z X 0 0 (x_QF X M0 (.returned (some (vI r))) M' 0 0) M0 M 14 [(0, .ref v0), (1, vI v1), (2, vI v2), (3, vI v3), (4, vI v4), (5, vI v5), (6, vI v6), (7, vI v7), (8, vI v8)] 323 []) (v0 : Nat) (v1 : Int) (v2 : Int) (v3 : Int) (v4 : Int) (v5 : Int) (v6 : Int) (v7 : Int) (v8 : Int) (M : Mem) (r : Int) (M' : Mem) (hv0 : m_kd M v0 = 5) (h : B_X5_table_395 k323 v0 v1 v2 v3 v4 v5 v6 v7 v8 M = some (r, M'))  : x_Z X 0 0 (x_QF X M0 (.returned (some (vI r))) M' 0 0) M0 M 14 [(0, .ref v0), (1, vI v1), (2, vI v2), (3, vI v3), (4, vI v4), (5, vI v5), (6, vI v6), (7, vI v7), (8, vI v8)] 395 [] := by
  unfold B_X5_table_395 at h
  refine z_iconst (pc := 395) C dX5_table_395 ?_
  exact cB_X5_table_396 C hk323 v0 v1 v2 v3 v4 v5 v6 v7 v8 0 M _ _ hv0 h
theorem cB_X5_table_391 {X : x_Ctx} {M0 : Mem} (C : x_CC X 4 104 yX5_table cX5_table 14 (some .int) []) {k323 : Nat → Int → Int → Int → Int → Int → Int → Int → Int → Mem → Option (Int × Mem)} (hk323 : ∀ (v0 : Nat) (v1 : Int) (v2 : Int) (v3 : Int) (v4 : Int) (v5 : Int) (v6 : Int) (v7 : Int) (v8 : Int) (M : Mem) (r : Int) (M' : Mem), m_kd M v0 = 5 → k323 v0 v1 v2 v3 v4 v5 v6 v7 v8 M = some (r, M') → x_Z X 0 0 (x_QF X M0 (.returned (some (vI r))) M' 0 0) M0 M 14 [(0, .ref v0), (1, vI v1), (2, vI v2), (3, vI v3), (4, vI v4), (5, vI v5), (6, vI v6), (7, vI v7), (8, vI v8)] 323 []) (v0 : Nat) (v1 : Int) (v2 : Int) (v3 : Int) (v4 : Int) (v5 : Int) (v6 : Int) (v7 : Int) (v8 : Int) (M : Mem) (r : Int) (M' : Mem) (hv0 : m_kd M v0 = 5) (h : B_X5_table_391 k323 v0 v1 v2 v3 v4 v5 v6 v7 v8 M = some (r, M'))  : x_Z X 0 0 (x_QF X M0 (.returned (some (vI r))) M' 0 0) M0 M 14 [(0, .ref v0), (1, vI v1), (2, vI v2), (3, vI v3), (4, vI v4), (5, vI v5), (6, vI v6), (7, vI v7), (8, vI v8)] 391 [] := by
  unfold B_X5_table_391 at h
  refine z_iconst (pc := 391) C dX5_table_391 ?_
  refine z_goto (pc := 392) C dX5_table_392 (tgt := 396) (by decide) ?_
  exact cB_X5_table_396 C hk323 v0 v1 v2 v3 v4 v5 v6 v7 v8 1 M _ _ hv0 h
theorem cB_X5_table_323 {X : x_Ctx} {M0 : Mem} (C : x_CC X 4 104 yX5_table cX5_table 14 (some .int) []) {k323 : Nat → Int → Int → Int → Int → Int → Int → Int → Int → Mem → Option (Int × Mem)} (hk323 : ∀ (v0 : Nat) (v1 : Int) (v2 : Int) (v3 : Int) (v4 : Int) (v5 : Int) (v6 : Int) (v7 : Int) (v8 : Int) (M : Mem) (r : Int) (M' : Mem), m_kd M v0 = 5 → k323 v0 v1 v2 v3 v4 v5 v6 v7 v8 M = some (r, M') → x_Z X 0 0 (x_QF X M0 (.returned (some (vI r))) M' 0 0) M0 M 14 [(0, .ref v0), (1, vI v1), (2, vI v2), (3, vI v3), (4, vI v4), (5, vI v5), (6, vI v6), (7, vI v7), (8, vI v8)] 323 []) (v0 : Nat) (v1 : Int) (v2 : Int) (v3 : Int) (v4 : Int) (v5 : Int) (v6 : Int) (v7 : Int) (v8 : Int) (M : Mem) (r : Int) (M' : Mem) (hv0 : m_kd M v0 = 5) (h : B_X5_table_323 k323 v0 v1 v2 v3 v4 v5 v6 v7 v8 M = some (r, M'))  : x_Z X 0 0 (x_QF X M0 (.returned (some (vI r))) M' 0 0) M0 M 14 [(0, .ref v0), (1, vI v1), (2, vI v2), (3, vI v3), (4, vI v4), (5, vI v5), (6, vI v6), (7, vI v7), (8, vI v8)] 323 [] := by
  unfold B_X5_table_323 at h
  refine z_iload (pc := 323) C 8 rfl dX5_table_323 ?_
  refine z_aload_n (pc := 325) C 0 rfl dX5_table_325 ?_
  refine gX5_553 (pc := 326) C rfl (Or.inl hv0) rfl dX5_table_326 ?_
  refine z_ic_ge (pc := 329) C dX5_table_329 (tgt := 576) (by decide) (fun c48 => ?_) (fun c48 => ?_)
  · have h := itt c48 h
    refine z_aload_n (pc := 576) C 0 rfl dX5_table_576 ?_
    refine z_dup (pc := 577) C rfl dX5_table_577 ?_
    refine gX5_569 (pc := 578) C rfl (Or.inl hv0) rfl dX5_table_578 ?_
    refine z_iconst (pc := 581) C dX5_table_581 ?_
    refine z_iadd (pc := 582) C dX5_table_582 ?_
    refine pX5_569 (pc := 583) C rfl (Or.inl hv0) dX5_table_583 ?_
    refine z_iload (pc := 586) C 7 rfl dX5_table_586 ?_
    cases h
    exact z_iret (pc := 588) C rfl (show 0 ≤ 0 from by decide) (show 0 ≤ 0 from by decide) dX5_table_588
  · have h := itf c48 h
    refine z_aload_n (pc := 332) C 0 rfl dX5_table_332 ?_
    refine z_iload (pc := 333) C 8 rfl dX5_table_333 ?_
    obtain ⟨r49, e50, h⟩ := bRs h
    refine cX5_401 (pc := 335) (st := []) (st1 := [vI r49]) C rfl (rm := { frames := 1, cells := 0, slots := 0, locals := 24 }) (ct_X5_formOf C.2.1 v0 v8 M _ hv0 e50) ⟨by decide, by decide, Nat.zero_le _, Nat.zero_le _⟩ (Or.inl hv0) rfl (Nat.le_of_ble_eq_true rfl) dX5_table_335 (c2 := 0) (s2 := 0) rfl rfl (fun _ => ?_)
    refine z_iload_n (pc := 338) C 1 rfl dX5_table_338 ?_
    refine z_ic_ne (pc := 339) C dX5_table_339 (tgt := 395) (by decide) (fun c51 => ?_) (fun c51 => ?_)
    · have h := itf c51 h
      exact cB_X5_table_395 C hk323 v0 v1 v2 v3 v4 v5 v6 v7 v8 M _ _ hv0 h
    · have h := itt c51 h
      refine z_aload_n (pc := 342) C 0 rfl dX5_table_342 ?_
      refine z_iload (pc := 343) C 8 rfl dX5_table_343 ?_
      obtain ⟨r65, e66, h⟩ := bRs h
      refine cX5_435 (pc := 345) (st := []) (st1 := [vI r65]) C rfl (rm := { frames := 2, cells := 0, slots := 0, locals := 52 }) (ct_X5_isClean C.2.1 v0 v8 M _ hv0 e66) ⟨by decide, by decide, Nat.zero_le _, Nat.zero_le _⟩ (Or.inl hv0) rfl (Nat.le_of_ble_eq_true rfl) dX5_table_345 (c2 := 0) (s2 := 0) rfl rfl (fun _ => ?_)
      refine z_if_eq (pc := 348) C dX5_table_348 (tgt := 395) (by decide) (fun c67 => ?_) (fun c67 => ?_)
      · have h := itt c67 h
        exact cB_X5_table_395 C hk323 v0 v1 v2 v3 v4 v5 v6 v7 v8 M _ _ hv0 h
      · have h := itf c67 h
        refine z_iload (pc := 351) C 5 rfl dX5_table_351 ?_
        refine z_iconst (pc := 353) C dX5_table_353 ?_
        refine z_ic_eq (pc := 354) C dX5_table_354 (tgt := 391) (by decide) (fun c68 => ?_) (fun c68 => ?_)
        · have h := itt c68 h
          exact cB_X5_table_391 C hk323 v0 v1 v2 v3 v4 v5 v6 v7 v8 M _ _ hv0 h
        · have h := itf c68 h
          refine z_aload_n (pc := 357) C 0 rfl dX5_table_357 ?_
          refine gX5_567 (pc := 358) C rfl hv0 dX5_table_358 ?_
          refine z_bipush (pc := 361) C (by decide +kernel) dX5_table_361 ?_
          refine z_iload (pc := 363) C 5 rfl dX5_table_363 ?_
          refine z_imul (pc := 365) C dX5_table_365 ?_
          refine z_aload_n (pc := 366) C 0 rfl dX5_table_366 ?_
          refine z_aload_n (pc := 367) C 0 rfl dX5_table_367 ?_
          refine gX5_540 (pc := 368) C rfl hv0 dX5_table_368 ?_
          refine z_aload_n (pc := 371) C 0 rfl dX5_table_371 ?_
          refine gX5_554 (pc := 372) C rfl hv0 dX5_table_372 ?_
          refine z_iload (pc := 375) C 8 rfl dX5_table_375 ?_
          obtain ⟨c69, h⟩ := ifn h
          refine z_iaO (pc := 377) (k := 5) (j := 54) C 554 rfl (by decide) (by decide) (by decide) rfl rfl rfl rfl hv0 c69 rfl dX5_table_377 ?_
          obtain ⟨c70, h⟩ := ifn h
          refine z_iaO (pc := 378) (k := 5) (j := 40) C 540 rfl (by decide) (by decide) (by decide) rfl rfl rfl rfl hv0 c70 rfl dX5_table_378 ?_
          refine z_aload_n (pc := 379) C 0 rfl dX5_table_379 ?_
          refine cX5_233 (pc := 380) (st := [vI (m_i M 540 v0 (ixn (m_i M 554 v0 (ixn v8)))), .ref v0, vI (100 * v5), .ref (v0 + 44)]) (st1 := [vI (d_X5_today v0 M), vI (m_i M 540 v0 (ixn (m_i M 554 v0 (ixn v8)))), .ref v0, vI (100 * v5), .ref (v0 + 44)]) C rfl (rm := { frames := 1, cells := 0, slots := 0, locals := 24 }) (ct_X5_today C.2.1 v0 M _ hv0 rfl) ⟨by decide, by decide, Nat.zero_le _, Nat.zero_le _⟩ (Or.inl hv0) rfl (Nat.le_of_ble_eq_true rfl) dX5_table_380 (c2 := 0) (s2 := 0) rfl rfl (fun _ => ?_)
          obtain ⟨r72, e73, h⟩ := bRs h
          refine cX5_237 (pc := 383) (st := [vI (100 * v5), .ref (v0 + 44)]) (st1 := [vI r72, vI (100 * v5), .ref (v0 + 44)]) C rfl (rm := { frames := 1, cells := 0, slots := 0, locals := 24 }) (ct_X5_lastAs C.2.1 v0 (m_i M 540 v0 (ixn (m_i M 554 v0 (ixn v8)))) (d_X5_today v0 M) M _ hv0 e73) ⟨by decide, by decide, Nat.zero_le _, Nat.zero_le _⟩ (Or.inl hv0) rfl (Nat.le_of_ble_eq_true rfl) dX5_table_383 (c2 := 0) (s2 := 0) rfl rfl (fun _ => ?_)
          refine z_iadd (pc := 386) C dX5_table_386 ?_
          obtain ⟨c74, h⟩ := ifn h
          refine z_zaO (pc := 387) (k := 5) (j := 67) C 567 rfl (by decide) (by decide) (by decide) rfl rfl rfl rfl hv0 c74 rfl dX5_table_387 ?_
          refine z_if_eq (pc := 388) C dX5_table_388 (tgt := 395) (by decide) (fun c75 => ?_) (fun c75 => ?_)
          · have h := itt c75 h
            exact cB_X5_table_395 C hk323 v0 v1 v2 v3 v4 v5 v6 v7 v8 M _ _ hv0 h
          · have h := itf c75 h
            exact cB_X5_table_391 C hk323 v0 v1 v2 v3 v4 v5 v6 v7 v8 M _ _ hv0 h
theorem cL_X5_table_323 {X : x_Ctx} {M0 : Mem} (C : x_CC X 4 104 yX5_table cX5_table 14 (some .int) [])  : ∀ (n : Nat) (v0 : Nat) (v1 : Int) (v2 : Int) (v3 : Int) (v4 : Int) (v5 : Int) (v6 : Int) (v7 : Int) (v8 : Int) (M : Mem) (r : Int) (M' : Mem) (hv0 : m_kd M v0 = 5) (h : L_X5_table_323  n v0 v1 v2 v3 v4 v5 v6 v7 v8 M = some (r, M')) , x_Z X 0 0 (x_QF X M0 (.returned (some (vI r))) M' 0 0) M0 M 14 [(0, .ref v0), (1, vI v1), (2, vI v2), (3, vI v3), (4, vI v4), (5, vI v5), (6, vI v6), (7, vI v7), (8, vI v8)] 323 [] := by
  intro n
  induction n with
  | zero => intro v0 v1 v2 v3 v4 v5 v6 v7 v8 M r M' hv0 h ; cases h
  | succ n ih => intro v0 v1 v2 v3 v4 v5 v6 v7 v8 M r M' hv0 h ; exact cB_X5_table_323 C (fun v0 v1 v2 v3 v4 v5 v6 v7 v8 M r M' hv0 h  => ih v0 v1 v2 v3 v4 v5 v6 v7 v8 M r M' hv0 h ) v0 v1 v2 v3 v4 v5 v6 v7 v8 M r M' hv0 h 
theorem cB_X5_table_265 {X : x_Ctx} {M0 : Mem} (C : x_CC X 4 104 yX5_table cX5_table 14 (some .int) []) {k265 : Nat → Int → Int → Int → Int → Int → Int → Int → Int → Mem → Option (Int × Mem)} (hk265 : ∀ (v0 : Nat) (v1 : Int) (v2 : Int) (v3 : Int) (v4 : Int) (v5 : Int) (v6 : Int) (v7 : Int) (v8 : Int) (M : Mem) (r : Int) (M' : Mem), m_kd M v0 = 5 → k265 v0 v1 v2 v3 v4 v5 v6 v7 v8 M = some (r, M') → x_Z X 0 0 (x_QF X M0 (.returned (some (vI r))) M' 0 0) M0 M 14 [(0, .ref v0), (1, vI v1), (2, vI v2), (3, vI v3), (4, vI v4), (5, vI v5), (6, vI v6), (7, vI v7), (8, vI v8)] 265 []) (v0 : Nat) (v1 : Int) (v2 : Int) (v3 : Int) (v4 : Int) (v5 : Int) (v6 : Int) (v7 : Int) (v8 : Int) (M : Mem) (r : Int) (M' : Mem) (hv0 : m_kd M v0 = 5) (h : B_X5_table_265 k265 v0 v1 v2 v3 v4 v5 v6 v7 v8 M = some (r, M'))  : x_Z X 0 0 (x_QF X M0 (.returned (some (vI r))) M' 0 0) M0 M 14 [(0, .ref v0), (1, vI v1), (2, vI v2), (3, vI v3), (4, vI v4), (5, vI v5), (6, vI v6), (7, vI v7), (8, vI v8)] 265 [] := by
  unfold B_X5_table_265 at h
  refine z_iload (pc := 265) C 8 rfl dX5_table_265 ?_
  refine z_bipush (pc := 267) C (by decide +kernel) dX5_table_267 ?_
  refine z_ic_ge (pc := 269) C dX5_table_269 (tgt := 320) (by decide) (fun c47 => ?_) (fun c47 => ?_)
  · have h := itt c47 h
    refine z_iconst (pc := 320) C dX5_table_320 ?_
    refine z_istore (pc := 321) C (lv' := [(0, .ref v0), (1, vI v1), (2, vI v2), (3, vI v3), (4, vI v4), (5, vI v5), (6, vI v6), (7, vI v7), (8, vI 0)]) (by decide) rfl dX5_table_321 ?_
    exact cL_X5_table_323 C FU v0 v1 v2 v3 v4 v5 v6 v7 0 M _ _ hv0 h
  · have h := itf c47 h
    refine z_aload_n (pc := 272) C 0 rfl dX5_table_272 ?_
    refine gX5_572 (pc := 273) C rfl hv0 dX5_table_273 ?_
    refine z_bipush (pc := 276) C (by decide +kernel) dX5_table_276 ?_
    refine z_iload (pc := 278) C 7 rfl dX5_table_278 ?_
    refine z_imul (pc := 280) C dX5_table_280 ?_
    refine z_iload (pc := 281) C 8 rfl dX5_table_281 ?_
    refine z_iadd (pc := 283) C dX5_table_283 ?_
    refine z_iconst (pc := 284) C dX5_table_284 ?_
    obtain ⟨c76, h⟩ := ifn h
    refine z_isO (pc := 285) (k := 5) (j := 72) C 572 rfl (by decide) (by decide) (by decide) rfl rfl rfl rfl hv0 c76 dX5_table_285 ?_
    refine z_aload_n (pc := 286) C 0 rfl dX5_table_286 ?_
    refine gX5_573 (pc := 287) C rfl hv0 dX5_table_287 ?_
    refine z_bipush (pc := 290) C (by decide +kernel) dX5_table_290 ?_
    refine z_iload (pc := 292) C 7 rfl dX5_table_292 ?_
    refine z_imul (pc := 294) C dX5_table_294 ?_
    refine z_iload (pc := 295) C 8 rfl dX5_table_295 ?_
    refine z_iadd (pc := 297) C dX5_table_297 ?_
    refine z_iconst (pc := 298) C dX5_table_298 ?_
    refine z_isO (pc := 299) (k := 5) (j := 73) C 573 rfl (by decide) (by decide) (by decide) rfl rfl rfl rfl hv0 c76 dX5_table_299 ?_
    refine z_aload_n (pc := 300) C 0 rfl dX5_table_300 ?_
    refine gX5_574 (pc := 301) C rfl hv0 dX5_table_301 ?_
    refine z_bipush (pc := 304) C (by decide +kernel) dX5_table_304 ?_
    refine z_iload (pc := 306) C 7 rfl dX5_table_306 ?_
    refine z_imul (pc := 308) C dX5_table_308 ?_
    refine z_iload (pc := 309) C 8 rfl dX5_table_309 ?_
    refine z_iadd (pc := 311) C dX5_table_311 ?_
    refine z_iconst (pc := 312) C dX5_table_312 ?_
    refine z_isO (pc := 313) (k := 5) (j := 74) C 574 rfl (by decide) (by decide) (by decide) rfl rfl rfl rfl hv0 c76 dX5_table_313 ?_
    refine z_iinc (pc := 314) C (lv' := [(0, .ref v0), (1, vI v1), (2, vI v2), (3, vI v3), (4, vI v4), (5, vI v5), (6, vI v6), (7, vI v7), (8, vI (v8 + 1))]) 8 rfl (by decide) rfl dX5_table_314 ?_
    refine z_goto (pc := 317) C dX5_table_317 (tgt := 265) (by decide) ?_
    exact hk265 v0 v1 v2 v3 v4 v5 v6 v7 (v8 + 1) (m_si (m_si (m_si M 572 v0 (ixn ((12 * v7) + v8)) 0) 573 v0 (ixn ((12 * v7) + v8)) 0) 574 v0 (ixn ((12 * v7) + v8)) 0) _ _ hv0 h
theorem cL_X5_table_265 {X : x_Ctx} {M0 : Mem} (C : x_CC X 4 104 yX5_table cX5_table 14 (some .int) [])  : ∀ (n : Nat) (v0 : Nat) (v1 : Int) (v2 : Int) (v3 : Int) (v4 : Int) (v5 : Int) (v6 : Int) (v7 : Int) (v8 : Int) (M : Mem) (r : Int) (M' : Mem) (hv0 : m_kd M v0 = 5) (h : L_X5_table_265  n v0 v1 v2 v3 v4 v5 v6 v7 v8 M = some (r, M')) , x_Z X 0 0 (x_QF X M0 (.returned (some (vI r))) M' 0 0) M0 M 14 [(0, .ref v0), (1, vI v1), (2, vI v2), (3, vI v3), (4, vI v4), (5, vI v5), (6, vI v6), (7, vI v7), (8, vI v8)] 265 [] := by
  intro n
  induction n with
  | zero => intro v0 v1 v2 v3 v4 v5 v6 v7 v8 M r M' hv0 h ; cases h
  | succ n ih => intro v0 v1 v2 v3 v4 v5 v6 v7 v8 M r M' hv0 h ; exact cB_X5_table_265 C (fun v0 v1 v2 v3 v4 v5 v6 v7 v8 M r M' hv0 h  => ih v0 v1 v2 v3 v4 v5 v6 v7 v8 M r M' hv0 h ) v0 v1 v2 v3 v4 v5 v6 v7 v8 M r M' hv0 h 
theorem cB_X5_table_109 {X : x_Ctx} {M0 : Mem} (C : x_CC X 4 104 yX5_table cX5_table 14 (some .int) [])  (v0 : Nat) (v1 : Int) (v2 : Int) (v3 : Int) (v4 : Int) (v5 : Int) (v6 : Int) (M : Mem) (r : Int) (M' : Mem) (hv0 : m_kd M v0 = 5) (h : B_X5_table_109  v0 v1 v2 v3 v4 v5 v6 M = some (r, M'))  : x_Z X 0 0 (x_QF X M0 (.returned (some (vI r))) M' 0 0) M0 M 14 [(0, .ref v0), (1, vI v1), (2, vI v2), (3, vI v3), (4, vI v4), (5, vI v5), (6, vI v6)] 109 [] := by
  unfold B_X5_table_109 at h
  refine z_aload_n (pc := 109) C 0 rfl dX5_table_109 ?_
  refine gX5_519 (pc := 110) C rfl hv0 dX5_table_110 ?_
  refine z_iload (pc := 113) C 6 rfl dX5_table_113 ?_
  refine z_iload_n (pc := 115) C 2 rfl dX5_table_115 ?_
  refine z_iadd (pc := 116) C dX5_table_116 ?_
  obtain ⟨c37, h⟩ := ifn h
  refine z_iaO (pc := 117) (k := 5) (j := 19) C 519 rfl (by decide) (by decide) (by decide) rfl rfl rfl rfl hv0 c37 rfl dX5_table_117 ?_
  refine z_aload_n (pc := 118) C 0 rfl dX5_table_118 ?_
  refine gX5_518 (pc := 119) C rfl hv0 dX5_table_119 ?_
  refine z_iload (pc := 122) C 6 rfl dX5_table_122 ?_
  refine z_iload_n (pc := 124) C 2 rfl dX5_table_124 ?_
  refine z_iadd (pc := 125) C dX5_table_125 ?_
  refine z_iaO (pc := 126) (k := 5) (j := 18) C 518 rfl (by decide) (by decide) (by decide) rfl rfl rfl rfl hv0 c37 rfl dX5_table_126 ?_
  refine z_isub (pc := 127) C dX5_table_127 ?_
  refine z_iconst (pc := 128) C dX5_table_128 ?_
  refine z_ic_gt (pc := 129) C dX5_table_129 (tgt := 155) (by decide) (fun c38 => ?_) (fun c38 => ?_)
  · have h := itt c38 h
    refine z_aload_n (pc := 155) C 0 rfl dX5_table_155 ?_
    refine z_iconst (pc := 156) C dX5_table_156 ?_
    obtain ⟨r39, M40, e41, h⟩ := bNs h
    refine cX5_213 (pc := 157) (st := []) (st1 := [vI r39]) C rfl (rm := { frames := 1, cells := 0, slots := 0, locals := 24 }) (ct_X5_fail C.2.1 v0 2 M _ _ hv0 e41) ⟨by decide, by decide, Nat.zero_le _, Nat.zero_le _⟩ (Or.inl hv0) rfl (Nat.le_of_ble_eq_true rfl) dX5_table_157 (c2 := 0) (s2 := 0) rfl rfl (fun x42 => ?_)
    cases h
    exact z_iret (pc := 160) C rfl (show 0 ≤ 0 from by decide) (show 0 ≤ 0 from by decide) dX5_table_160
  · have h := itf c38 h
    refine z_aload_n (pc := 132) C 0 rfl dX5_table_132 ?_
    refine gX5_519 (pc := 133) C rfl hv0 dX5_table_133 ?_
    refine z_iload (pc := 136) C 6 rfl dX5_table_136 ?_
    refine z_iload_n (pc := 138) C 3 rfl dX5_table_138 ?_
    refine z_iadd (pc := 139) C dX5_table_139 ?_
    obtain ⟨c43, h⟩ := ifn h
    refine z_iaO (pc := 140) (k := 5) (j := 19) C 519 rfl (by decide) (by decide) (by decide) rfl rfl rfl rfl hv0 c43 rfl dX5_table_140 ?_
    refine z_aload_n (pc := 141) C 0 rfl dX5_table_141 ?_
    refine gX5_518 (pc := 142) C rfl hv0 dX5_table_142 ?_
    refine z_iload (pc := 145) C 6 rfl dX5_table_145 ?_
    refine z_iload_n (pc := 147) C 3 rfl dX5_table_147 ?_
    refine z_iadd (pc := 148) C dX5_table_148 ?_
    refine z_iaO (pc := 149) (k := 5) (j := 18) C 518 rfl (by decide) (by decide) (by decide) rfl rfl rfl rfl hv0 c43 rfl dX5_table_149 ?_
    refine z_isub (pc := 150) C dX5_table_150 ?_
    refine z_iconst (pc := 151) C dX5_table_151 ?_
    refine z_ic_le (pc := 152) C dX5_table_152 (tgt := 161) (by decide) (fun c44 => ?_) (fun c44 => ?_)
    · have h := itt c44 h
      refine z_aload_n (pc := 161) C 0 rfl dX5_table_161 ?_
      refine gX5_569 (pc := 162) C rfl (Or.inl hv0) rfl dX5_table_162 ?_
      refine z_bipush (pc := 165) C (by decide +kernel) dX5_table_165 ?_
      refine z_ic_ne (pc := 167) C dX5_table_167 (tgt := 176) (by decide) (fun c45 => ?_) (fun c45 => ?_)
      · have h := itf c45 h
        refine z_aload_n (pc := 176) C 0 rfl dX5_table_176 ?_
        refine gX5_569 (pc := 177) C rfl (Or.inl hv0) rfl dX5_table_177 ?_
        refine z_istore (pc := 180) C (lv' := [(0, .ref v0), (1, vI v1), (2, vI v2), (3, vI v3), (4, vI v4), (5, vI v5), (6, vI v6), (7, vI (m_i M 569 v0 0))]) (by decide) rfl dX5_table_180 ?_
        refine z_aload_n (pc := 182) C 0 rfl dX5_table_182 ?_
        refine gX5_570 (pc := 183) C rfl hv0 dX5_table_183 ?_
        refine z_iload (pc := 186) C 7 rfl dX5_table_186 ?_
        refine z_aload_n (pc := 188) C 0 rfl dX5_table_188 ?_
        refine gX5_519 (pc := 189) C rfl hv0 dX5_table_189 ?_
        refine z_iload (pc := 192) C 6 rfl dX5_table_192 ?_
        refine z_iload_n (pc := 194) C 2 rfl dX5_table_194 ?_
        refine z_iadd (pc := 195) C dX5_table_195 ?_
        refine z_iaO (pc := 196) (k := 5) (j := 19) C 519 rfl (by decide) (by decide) (by decide) rfl rfl rfl rfl hv0 c37 rfl dX5_table_196 ?_
        refine z_aload_n (pc := 197) C 0 rfl dX5_table_197 ?_
        refine gX5_518 (pc := 198) C rfl hv0 dX5_table_198 ?_
        refine z_iload (pc := 201) C 6 rfl dX5_table_201 ?_
        refine z_iload_n (pc := 203) C 2 rfl dX5_table_203 ?_
        refine z_iadd (pc := 204) C dX5_table_204 ?_
        refine z_iaO (pc := 205) (k := 5) (j := 18) C 518 rfl (by decide) (by decide) (by decide) rfl rfl rfl rfl hv0 c37 rfl dX5_table_205 ?_
        refine z_isub (pc := 206) C dX5_table_206 ?_
        refine z_iconst (pc := 207) C dX5_table_207 ?_
        refine z_iadd (pc := 208) C dX5_table_208 ?_
        obtain ⟨c46, h⟩ := ifn h
        refine z_isO (pc := 209) (k := 5) (j := 70) C 570 rfl (by decide) (by decide) (by decide) rfl rfl rfl rfl hv0 c46 dX5_table_209 ?_
        refine z_aload_n (pc := 210) C 0 rfl dX5_table_210 ?_
        refine gX5_571 (pc := 211) C rfl hv0 dX5_table_211 ?_
        refine z_iload (pc := 214) C 7 rfl dX5_table_214 ?_
        refine z_aload_n (pc := 216) C 0 rfl dX5_table_216 ?_
        refine gX5_519 (pc := 217) C rfl hv0 dX5_table_217 ?_
        refine z_iload (pc := 220) C 6 rfl dX5_table_220 ?_
        refine z_iload_n (pc := 222) C 3 rfl dX5_table_222 ?_
        refine z_iadd (pc := 223) C dX5_table_223 ?_
        refine z_iaO (pc := 224) (k := 5) (j := 19) C 519 rfl (by decide) (by decide) (by decide) rfl rfl rfl rfl hv0 c43 (x := m_i M 519 v0 (ixn (v6 + v3))) ((m_i_ne (by decide)).trans rfl) dX5_table_224 ?_
        refine z_aload_n (pc := 225) C 0 rfl dX5_table_225 ?_
        refine gX5_518 (pc := 226) C rfl hv0 dX5_table_226 ?_
        refine z_iload (pc := 229) C 6 rfl dX5_table_229 ?_
        refine z_iload_n (pc := 231) C 3 rfl dX5_table_231 ?_
        refine z_iadd (pc := 232) C dX5_table_232 ?_
        refine z_iaO (pc := 233) (k := 5) (j := 18) C 518 rfl (by decide) (by decide) (by decide) rfl rfl rfl rfl hv0 c43 (x := m_i M 518 v0 (ixn (v6 + v3))) ((m_i_ne (by decide)).trans rfl) dX5_table_233 ?_
        refine z_isub (pc := 234) C dX5_table_234 ?_
        refine z_iconst (pc := 235) C dX5_table_235 ?_
        refine z_iadd (pc := 236) C dX5_table_236 ?_
        refine z_isO (pc := 237) (k := 5) (j := 71) C 571 rfl (by decide) (by decide) (by decide) rfl rfl rfl rfl hv0 c46 dX5_table_237 ?_
        refine z_aload_n (pc := 238) C 0 rfl dX5_table_238 ?_
        refine gX5_576 (pc := 239) C rfl hv0 dX5_table_239 ?_
        refine z_iload (pc := 242) C 7 rfl dX5_table_242 ?_
        refine z_iconst (pc := 244) C dX5_table_244 ?_
        refine z_zsO (pc := 245) (k := 5) (j := 76) C 576 rfl (by decide) (by decide) (by decide) rfl rfl rfl rfl hv0 c46 dX5_table_245 ?_
        refine z_aload_n (pc := 246) C 0 rfl dX5_table_246 ?_
        refine gX5_577 (pc := 247) C rfl hv0 dX5_table_247 ?_
        refine z_iload (pc := 250) C 7 rfl dX5_table_250 ?_
        refine z_iconst (pc := 252) C dX5_table_252 ?_
        refine z_isO (pc := 253) (k := 5) (j := 77) C 577 rfl (by decide) (by decide) (by decide) rfl rfl rfl rfl hv0 c46 dX5_table_253 ?_
        refine z_aload_n (pc := 254) C 0 rfl dX5_table_254 ?_
        refine gX5_578 (pc := 255) C rfl hv0 dX5_table_255 ?_
        refine z_iload (pc := 258) C 7 rfl dX5_table_258 ?_
        refine z_iconst (pc := 260) C dX5_table_260 ?_
        refine z_isO (pc := 261) (k := 5) (j := 78) C 578 rfl (by decide) (by decide) (by decide) rfl rfl rfl rfl hv0 c46 dX5_table_261 ?_
        refine z_iconst (pc := 262) C dX5_table_262 ?_
        refine z_istore (pc := 263) C (lv' := [(0, .ref v0), (1, vI v1), (2, vI v2), (3, vI v3), (4, vI v4), (5, vI v5), (6, vI v6), (7, vI (m_i M 569 v0 0)), (8, vI 0)]) (by decide) rfl dX5_table_263 ?_
        exact cL_X5_table_265 C FU v0 v1 v2 v3 v4 v5 v6 (m_i M 569 v0 0) 0 (m_si (m_si (m_si (m_si (m_si M 570 v0 (ixn (m_i M 569 v0 0)) (((m_i M 519 v0 (ixn (v6 + v2))) - (m_i M 518 v0 (ixn (v6 + v2)))) + 1)) 571 v0 (ixn (m_i M 569 v0 0)) (((m_i M 519 v0 (ixn (v6 + v3))) - (m_i M 518 v0 (ixn (v6 + v3)))) + 1)) 576 v0 (ixn (m_i M 569 v0 0)) (bz 0)) 577 v0 (ixn (m_i M 569 v0 0)) 0) 578 v0 (ixn (m_i M 569 v0 0)) 0) _ _ hv0 h
      · have h := itt c45 h
        refine z_aload_n (pc := 170) C 0 rfl dX5_table_170 ?_
        refine z_iconst (pc := 171) C dX5_table_171 ?_
        obtain ⟨r77, M78, e79, h⟩ := bNs h
        refine cX5_213 (pc := 172) (st := []) (st1 := [vI r77]) C rfl (rm := { frames := 1, cells := 0, slots := 0, locals := 24 }) (ct_X5_fail C.2.1 v0 3 M _ _ hv0 e79) ⟨by decide, by decide, Nat.zero_le _, Nat.zero_le _⟩ (Or.inl hv0) rfl (Nat.le_of_ble_eq_true rfl) dX5_table_172 (c2 := 0) (s2 := 0) rfl rfl (fun x80 => ?_)
        cases h
        exact z_iret (pc := 175) C rfl (show 0 ≤ 0 from by decide) (show 0 ≤ 0 from by decide) dX5_table_175
    · have h := itf c44 h
      refine z_aload_n (pc := 155) C 0 rfl dX5_table_155 ?_
      refine z_iconst (pc := 156) C dX5_table_156 ?_
      obtain ⟨r81, M82, e83, h⟩ := bNs h
      refine cX5_213 (pc := 157) (st := []) (st1 := [vI r81]) C rfl (rm := { frames := 1, cells := 0, slots := 0, locals := 24 }) (ct_X5_fail C.2.1 v0 2 M _ _ hv0 e83) ⟨by decide, by decide, Nat.zero_le _, Nat.zero_le _⟩ (Or.inl hv0) rfl (Nat.le_of_ble_eq_true rfl) dX5_table_157 (c2 := 0) (s2 := 0) rfl rfl (fun x84 => ?_)
      cases h
      exact z_iret (pc := 160) C rfl (show 0 ≤ 0 from by decide) (show 0 ≤ 0 from by decide) dX5_table_160
theorem cB_X5_table_60 {X : x_Ctx} {M0 : Mem} (C : x_CC X 4 104 yX5_table cX5_table 14 (some .int) [])  (v0 : Nat) (v1 : Int) (v2 : Int) (v3 : Int) (v4 : Int) (v5 : Int) (M : Mem) (r : Int) (M' : Mem) (hv0 : m_kd M v0 = 5) (h : B_X5_table_60  v0 v1 v2 v3 v4 v5 M = some (r, M'))  : x_Z X 0 0 (x_QF X M0 (.returned (some (vI r))) M' 0 0) M0 M 14 [(0, .ref v0), (1, vI v1), (2, vI v2), (3, vI v3), (4, vI v4), (5, vI v5)] 60 [] := by
  unfold B_X5_table_60 at h
  refine z_bipush (pc := 60) C (by decide +kernel) dX5_table_60 ?_
  refine z_iload_n (pc := 62) C 1 rfl dX5_table_62 ?_
  refine z_imul (pc := 63) C dX5_table_63 ?_
  refine z_istore (pc := 64) C (lv' := [(0, .ref v0), (1, vI v1), (2, vI v2), (3, vI v3), (4, vI v4), (5, vI v5), (6, vI (20 * v1))]) (by decide) rfl dX5_table_64 ?_
  refine z_aload_n (pc := 66) C 0 rfl dX5_table_66 ?_
  refine z_iload_n (pc := 67) C 1 rfl dX5_table_67 ?_
  refine z_iload_n (pc := 68) C 2 rfl dX5_table_68 ?_
  obtain ⟨r17, e18, h⟩ := bRs h
  refine cX5_407 (pc := 69) (st := []) (st1 := [vI r17]) C rfl (rm := { frames := 1, cells := 0, slots := 0, locals := 24 }) (ct_X5_isAsk C.2.1 v0 v1 v2 M _ hv0 e18) ⟨by decide, by decide, Nat.zero_le _, Nat.zero_le _⟩ (Or.inl hv0) rfl (Nat.le_of_ble_eq_true rfl) dX5_table_69 (c2 := 0) (s2 := 0) rfl rfl (fun _ => ?_)
  refine z_if_eq (pc := 72) C dX5_table_72 (tgt := 155) (by decide) (fun c19 => ?_) (fun c19 => ?_)
  · have h := itt c19 h
    refine z_aload_n (pc := 155) C 0 rfl dX5_table_155 ?_
    refine z_iconst (pc := 156) C dX5_table_156 ?_
    obtain ⟨r20, M21, e22, h⟩ := bNs h
    refine cX5_213 (pc := 157) (st := []) (st1 := [vI r20]) C rfl (rm := { frames := 1, cells := 0, slots := 0, locals := 24 }) (ct_X5_fail C.2.1 v0 2 M _ _ hv0 e22) ⟨by decide, by decide, Nat.zero_le _, Nat.zero_le _⟩ (Or.inl hv0) rfl (Nat.le_of_ble_eq_true rfl) dX5_table_157 (c2 := 0) (s2 := 0) rfl rfl (fun x23 => ?_)
    cases h
    exact z_iret (pc := 160) C rfl (show 0 ≤ 0 from by decide) (show 0 ≤ 0 from by decide) dX5_table_160
  · have h := itf c19 h
    refine z_aload_n (pc := 75) C 0 rfl dX5_table_75 ?_
    refine z_iload_n (pc := 76) C 1 rfl dX5_table_76 ?_
    refine z_iload_n (pc := 77) C 3 rfl dX5_table_77 ?_
    obtain ⟨r24, e25, h⟩ := bRs h
    refine cX5_407 (pc := 78) (st := []) (st1 := [vI r24]) C rfl (rm := { frames := 1, cells := 0, slots := 0, locals := 24 }) (ct_X5_isAsk C.2.1 v0 v1 v3 M _ hv0 e25) ⟨by decide, by decide, Nat.zero_le _, Nat.zero_le _⟩ (Or.inl hv0) rfl (Nat.le_of_ble_eq_true rfl) dX5_table_78 (c2 := 0) (s2 := 0) rfl rfl (fun _ => ?_)
    refine z_if_eq (pc := 81) C dX5_table_81 (tgt := 155) (by decide) (fun c26 => ?_) (fun c26 => ?_)
    · have h := itt c26 h
      refine z_aload_n (pc := 155) C 0 rfl dX5_table_155 ?_
      refine z_iconst (pc := 156) C dX5_table_156 ?_
      obtain ⟨r27, M28, e29, h⟩ := bNs h
      refine cX5_213 (pc := 157) (st := []) (st1 := [vI r27]) C rfl (rm := { frames := 1, cells := 0, slots := 0, locals := 24 }) (ct_X5_fail C.2.1 v0 2 M _ _ hv0 e29) ⟨by decide, by decide, Nat.zero_le _, Nat.zero_le _⟩ (Or.inl hv0) rfl (Nat.le_of_ble_eq_true rfl) dX5_table_157 (c2 := 0) (s2 := 0) rfl rfl (fun x30 => ?_)
      cases h
      exact z_iret (pc := 160) C rfl (show 0 ≤ 0 from by decide) (show 0 ≤ 0 from by decide) dX5_table_160
    · have h := itf c26 h
      refine z_iload_n (pc := 84) C 2 rfl dX5_table_84 ?_
      refine z_iload_n (pc := 85) C 3 rfl dX5_table_85 ?_
      refine z_ic_eq (pc := 86) C dX5_table_86 (tgt := 155) (by decide) (fun c31 => ?_) (fun c31 => ?_)
      · have h := itt c31 h
        refine z_aload_n (pc := 155) C 0 rfl dX5_table_155 ?_
        refine z_iconst (pc := 156) C dX5_table_156 ?_
        obtain ⟨r32, M33, e34, h⟩ := bNs h
        refine cX5_213 (pc := 157) (st := []) (st1 := [vI r32]) C rfl (rm := { frames := 1, cells := 0, slots := 0, locals := 24 }) (ct_X5_fail C.2.1 v0 2 M _ _ hv0 e34) ⟨by decide, by decide, Nat.zero_le _, Nat.zero_le _⟩ (Or.inl hv0) rfl (Nat.le_of_ble_eq_true rfl) dX5_table_157 (c2 := 0) (s2 := 0) rfl rfl (fun x35 => ?_)
        cases h
        exact z_iret (pc := 160) C rfl (show 0 ≤ 0 from by decide) (show 0 ≤ 0 from by decide) dX5_table_160
      · have h := itf c31 h
        refine z_iload (pc := 89) C 4 rfl dX5_table_89 ?_
        refine z_iconst (pc := 91) C dX5_table_91 ?_
        refine z_ic_eq (pc := 92) C dX5_table_92 (tgt := 109) (by decide) (fun c36 => ?_) (fun c36 => ?_)
        · have h := itt c36 h
          exact cB_X5_table_109 C v0 v1 v2 v3 v4 v5 (20 * v1) M _ _ hv0 h
        · have h := itf c36 h
          refine z_aload_n (pc := 95) C 0 rfl dX5_table_95 ?_
          refine gX5_516 (pc := 96) C rfl hv0 dX5_table_96 ?_
          refine z_iload (pc := 99) C 6 rfl dX5_table_99 ?_
          refine z_iload (pc := 101) C 4 rfl dX5_table_101 ?_
          refine z_iadd (pc := 103) C dX5_table_103 ?_
          obtain ⟨c85, h⟩ := ifn h
          refine z_iaO (pc := 104) (k := 5) (j := 16) C 516 rfl (by decide) (by decide) (by decide) rfl rfl rfl rfl hv0 c85 rfl dX5_table_104 ?_
          refine z_iconst (pc := 105) C dX5_table_105 ?_
          refine z_ic_gt (pc := 106) C dX5_table_106 (tgt := 155) (by decide) (fun c86 => ?_) (fun c86 => ?_)
          · have h := itt c86 h
            refine z_aload_n (pc := 155) C 0 rfl dX5_table_155 ?_
            refine z_iconst (pc := 156) C dX5_table_156 ?_
            obtain ⟨r87, M88, e89, h⟩ := bNs h
            refine cX5_213 (pc := 157) (st := []) (st1 := [vI r87]) C rfl (rm := { frames := 1, cells := 0, slots := 0, locals := 24 }) (ct_X5_fail C.2.1 v0 2 M _ _ hv0 e89) ⟨by decide, by decide, Nat.zero_le _, Nat.zero_le _⟩ (Or.inl hv0) rfl (Nat.le_of_ble_eq_true rfl) dX5_table_157 (c2 := 0) (s2 := 0) rfl rfl (fun x90 => ?_)
            cases h
            exact z_iret (pc := 160) C rfl (show 0 ≤ 0 from by decide) (show 0 ≤ 0 from by decide) dX5_table_160
          · have h := itf c86 h
            exact cB_X5_table_109 C v0 v1 v2 v3 v4 v5 (20 * v1) M _ _ hv0 h
theorem cB_X5_table_39 {X : x_Ctx} {M0 : Mem} (C : x_CC X 4 104 yX5_table cX5_table 14 (some .int) [])  (v0 : Nat) (v1 : Int) (v2 : Int) (v3 : Int) (v4 : Int) (v5 : Int) (M : Mem) (r : Int) (M' : Mem) (hv0 : m_kd M v0 = 5) (h : B_X5_table_39  v0 v1 v2 v3 v4 v5 M = some (r, M'))  : x_Z X 0 0 (x_QF X M0 (.returned (some (vI r))) M' 0 0) M0 M 14 [(0, .ref v0), (1, vI v1), (2, vI v2), (3, vI v3), (4, vI v4), (5, vI v5)] 39 [] := by
  unfold B_X5_table_39 at h
  refine z_iload (pc := 39) C 5 rfl dX5_table_39 ?_
  refine z_iconst (pc := 41) C dX5_table_41 ?_
  refine z_ic_eq (pc := 42) C dX5_table_42 (tgt := 60) (by decide) (fun c16 => ?_) (fun c16 => ?_)
  · have h := itt c16 h
    exact cB_X5_table_60 C v0 v1 v2 v3 v4 v5 M _ _ hv0 h
  · have h := itf c16 h
    refine z_aload_n (pc := 45) C 0 rfl dX5_table_45 ?_
    refine z_iload (pc := 46) C 5 rfl dX5_table_46 ?_
    obtain ⟨r91, e92, h⟩ := bRs h
    refine cX5_464 (pc := 48) (st := []) (st1 := [vI r91]) C rfl (rm := { frames := 2, cells := 0, slots := 0, locals := 53 }) (ct_X5_isSample C.2.1 v0 v5 M _ hv0 e92) ⟨by decide, by decide, Nat.zero_le _, Nat.zero_le _⟩ (Or.inl hv0) rfl (Nat.le_of_ble_eq_true rfl) dX5_table_48 (c2 := 0) (s2 := 0) rfl rfl (fun _ => ?_)
    refine z_if_ne (pc := 51) C dX5_table_51 (tgt := 60) (by decide) (fun c93 => ?_) (fun c93 => ?_)
    · have h := itf c93 h
      exact cB_X5_table_60 C v0 v1 v2 v3 v4 v5 M _ _ hv0 h
    · have h := itt c93 h
      refine z_aload_n (pc := 54) C 0 rfl dX5_table_54 ?_
      refine z_iconst (pc := 55) C dX5_table_55 ?_
      obtain ⟨r94, M95, e96, h⟩ := bNs h
      refine cX5_213 (pc := 56) (st := []) (st1 := [vI r94]) C rfl (rm := { frames := 1, cells := 0, slots := 0, locals := 24 }) (ct_X5_fail C.2.1 v0 1 M _ _ hv0 e96) ⟨by decide, by decide, Nat.zero_le _, Nat.zero_le _⟩ (Or.inl hv0) rfl (Nat.le_of_ble_eq_true rfl) dX5_table_56 (c2 := 0) (s2 := 0) rfl rfl (fun x97 => ?_)
      cases h
      exact z_iret (pc := 59) C rfl (show 0 ≤ 0 from by decide) (show 0 ≤ 0 from by decide) dX5_table_59
theorem ct_X5_table {l : Launch} {S0 : State} {D : va_G} {cA : Nat → ClassId} (hG : x_G l S0 D cA) (v0 : Nat) (v1 : Int) (v2 : Int) (v3 : Int) (v4 : Int) (v5 : Int) (M : Mem) (r : Int) (M' : Mem) (hv0 : m_kd M v0 = 5) (h : d_X5_table v0 v1 v2 v3 v4 v5 M = some (r, M')) : x_Me l S0 D cA yX5_table cX5_table 14 (some .int) [] ({ frames := 4, cells := 0, slots := 0, locals := 104 }) [.ref v0, vI v1, vI v2, vI v3, vI v4, vI v5] M (.returned (some (vI r))) M' := by
  refine x_begin (F := 4) (Lo := 104) (mc := 0) (ms := 0) hG (Nat.le_of_ble_eq_true rfl) (lv := [(0, .ref v0), (1, vI v1), (2, vI v2), (3, vI v3), (4, vI v4), (5, vI v5)]) rfl rfl rfl rfl rfl (fun X e1 e2 e3 e4 e5 C => ?_)
  unfold d_X5_table at h
  refine z_aload_n (pc := 0) C 0 rfl dX5_table_0 ?_
  refine z_iconst (pc := 1) C dX5_table_1 ?_
  refine pX5_500 (pc := 2) C rfl (Or.inl hv0) dX5_table_2 ?_
  refine z_aload_n (pc := 5) C 0 rfl dX5_table_5 ?_
  refine z_iload_n (pc := 6) C 1 rfl dX5_table_6 ?_
  refine z_iload_n (pc := 7) C 2 rfl dX5_table_7 ?_
  obtain ⟨r1, e2, h⟩ := bRs h
  refine cX5_352 (pc := 8) (st := []) (st1 := [vI r1]) C rfl (rm := { frames := 3, cells := 0, slots := 0, locals := 78 }) (ct_X5_isStatementOf C.2.1 v0 v1 v2 (m_si M 500 v0 0 0) _ hv0 e2) ⟨by decide, by decide, Nat.zero_le _, Nat.zero_le _⟩ (Or.inl hv0) rfl (Nat.le_of_ble_eq_true rfl) dX5_table_8 (c2 := 0) (s2 := 0) rfl rfl (fun _ => ?_)
  refine z_if_eq (pc := 11) C dX5_table_11 (tgt := 54) (by decide) (fun c3 => ?_) (fun c3 => ?_)
  · have h := itt c3 h
    refine z_aload_n (pc := 54) C 0 rfl dX5_table_54 ?_
    refine z_iconst (pc := 55) C dX5_table_55 ?_
    obtain ⟨r4, M5, e6, h⟩ := bNs h
    refine cX5_213 (pc := 56) (st := []) (st1 := [vI r4]) C rfl (rm := { frames := 1, cells := 0, slots := 0, locals := 24 }) (ct_X5_fail C.2.1 v0 1 (m_si M 500 v0 0 0) _ _ hv0 e6) ⟨by decide, by decide, Nat.zero_le _, Nat.zero_le _⟩ (Or.inl hv0) rfl (Nat.le_of_ble_eq_true rfl) dX5_table_56 (c2 := 0) (s2 := 0) rfl rfl (fun x7 => ?_)
    cases h
    exact z_iret (pc := 59) C rfl (show 0 ≤ 0 from by decide) (show 0 ≤ 0 from by decide) dX5_table_59
  · have h := itf c3 h
    refine z_aload_n (pc := 14) C 0 rfl dX5_table_14 ?_
    refine z_iload_n (pc := 15) C 1 rfl dX5_table_15 ?_
    refine z_iload_n (pc := 16) C 3 rfl dX5_table_16 ?_
    obtain ⟨r8, e9, h⟩ := bRs h
    refine cX5_352 (pc := 17) (st := []) (st1 := [vI r8]) C rfl (rm := { frames := 3, cells := 0, slots := 0, locals := 78 }) (ct_X5_isStatementOf C.2.1 v0 v1 v3 (m_si M 500 v0 0 0) _ hv0 e9) ⟨by decide, by decide, Nat.zero_le _, Nat.zero_le _⟩ (Or.inl hv0) rfl (Nat.le_of_ble_eq_true rfl) dX5_table_17 (c2 := 0) (s2 := 0) rfl rfl (fun _ => ?_)
    refine z_if_eq (pc := 20) C dX5_table_20 (tgt := 54) (by decide) (fun c10 => ?_) (fun c10 => ?_)
    · have h := itt c10 h
      refine z_aload_n (pc := 54) C 0 rfl dX5_table_54 ?_
      refine z_iconst (pc := 55) C dX5_table_55 ?_
      obtain ⟨r11, M12, e13, h⟩ := bNs h
      refine cX5_213 (pc := 56) (st := []) (st1 := [vI r11]) C rfl (rm := { frames := 1, cells := 0, slots := 0, locals := 24 }) (ct_X5_fail C.2.1 v0 1 (m_si M 500 v0 0 0) _ _ hv0 e13) ⟨by decide, by decide, Nat.zero_le _, Nat.zero_le _⟩ (Or.inl hv0) rfl (Nat.le_of_ble_eq_true rfl) dX5_table_56 (c2 := 0) (s2 := 0) rfl rfl (fun x14 => ?_)
      cases h
      exact z_iret (pc := 59) C rfl (show 0 ≤ 0 from by decide) (show 0 ≤ 0 from by decide) dX5_table_59
    · have h := itf c10 h
      refine z_iload (pc := 23) C 4 rfl dX5_table_23 ?_
      refine z_iconst (pc := 25) C dX5_table_25 ?_
      refine z_ic_eq (pc := 26) C dX5_table_26 (tgt := 39) (by decide) (fun c15 => ?_) (fun c15 => ?_)
      · have h := itt c15 h
        exact cB_X5_table_39 C v0 v1 v2 v3 v4 v5 (m_si M 500 v0 0 0) _ _ hv0 h
      · have h := itf c15 h
        refine z_aload_n (pc := 29) C 0 rfl dX5_table_29 ?_
        refine z_iload_n (pc := 30) C 1 rfl dX5_table_30 ?_
        refine z_iload (pc := 31) C 4 rfl dX5_table_31 ?_
        obtain ⟨r98, e99, h⟩ := bRs h
        refine cX5_352 (pc := 33) (st := []) (st1 := [vI r98]) C rfl (rm := { frames := 3, cells := 0, slots := 0, locals := 78 }) (ct_X5_isStatementOf C.2.1 v0 v1 v4 (m_si M 500 v0 0 0) _ hv0 e99) ⟨by decide, by decide, Nat.zero_le _, Nat.zero_le _⟩ (Or.inl hv0) rfl (Nat.le_of_ble_eq_true rfl) dX5_table_33 (c2 := 0) (s2 := 0) rfl rfl (fun _ => ?_)
        refine z_if_eq (pc := 36) C dX5_table_36 (tgt := 54) (by decide) (fun c100 => ?_) (fun c100 => ?_)
        · have h := itt c100 h
          refine z_aload_n (pc := 54) C 0 rfl dX5_table_54 ?_
          refine z_iconst (pc := 55) C dX5_table_55 ?_
          obtain ⟨r101, M102, e103, h⟩ := bNs h
          refine cX5_213 (pc := 56) (st := []) (st1 := [vI r101]) C rfl (rm := { frames := 1, cells := 0, slots := 0, locals := 24 }) (ct_X5_fail C.2.1 v0 1 (m_si M 500 v0 0 0) _ _ hv0 e103) ⟨by decide, by decide, Nat.zero_le _, Nat.zero_le _⟩ (Or.inl hv0) rfl (Nat.le_of_ble_eq_true rfl) dX5_table_56 (c2 := 0) (s2 := 0) rfl rfl (fun x104 => ?_)
          cases h
          exact z_iret (pc := 59) C rfl (show 0 ≤ 0 from by decide) (show 0 ≤ 0 from by decide) dX5_table_59
        · have h := itf c100 h
          exact cB_X5_table_39 C v0 v1 v2 v3 v4 v5 (m_si M 500 v0 0 0) _ _ hv0 h
