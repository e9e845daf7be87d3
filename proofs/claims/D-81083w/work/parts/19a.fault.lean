/-! ===== the constructor of CensusOffice$Fault ===== -/
set_option maxRecDepth 100000
section XF
variable {X : x_Ctx} {cells slots : Nat} {Q : State → Prop} {M0 M M' : Mem} {nL : Nat} {lv lv' : List (Nat × Value)} {pc : Nat} {st : List Value} {y : MethodName} {cc : ByteArray} {ret : Option FieldType} {hs : List (Nat × Nat × Nat × Nat)} {F Lo : Nat}
variable {j idx b : Nat} {S0 : State} {D : va_G} {cA : Nat → ClassId} {H H' : Heap}
theorem x_P.put7 (hP : x_P S0 D cA M H) (hb : m_kd M b = 107) (hsz : m_sz M' = m_sz M) (hkd : m_kd M' = m_kd M)
    (hi : ∀ f' b' i', ¬ (f' = 706 ∧ b' = b) → m_i M' f' b' i' = m_i M f' b' i') (hr : ∀ f' b' i', m_r M' f' b' i' = m_r M f' b' i') (hWT : x_WT M') (hz : H'.size = H.size) (ho : ∀ q : Nat, q ≠ b → H'[q]? = H[q]?)
    {V : Nat → Value} (hob : t_OB b (D.1 7) (x_N 7) (D.2 7) H' V) (hV : V 6 = vI (m_i M' 706 b 0)) : x_P S0 D cA M' H' := by
  have hb0 : m_kd M b ≠ 0 := by omega
  have hblt := hP.lt hb0
  refine ⟨by rw [hsz, hz]; exact hP.1, by rw [hz]; exact hP.2.1, fun q hq => ?_, fun a ha => ?_, fun a => ?_, hWT⟩
  · rw [ho q (by omega)]; exact hP.2.2.1 q hq
  · rw [hsz]; rw [hkd] at ha; exact hP.lt ha
  · by_cases hab : a = b
    · subst hab
      refine ⟨fun k' hk' l1 l2 => ?_, fun f' hf' => ?_⟩
      · unfold x_isK at hk'
        rw [hkd, hb] at hk'
        have : k' = 7 := by omega
        subst this
        unfold x_obj
        rw [if_neg (by omega)]
        exact ⟨V, hob, fun _ => hV⟩
      · rw [hkd, hb] at hf'; omega
    · refine x_cell_eq (hP.2.2.2.2.1 a) (ho a hab) (by rw [hkd]) (fun f' _ _ => by rw [hkd]) (fun f' _ => hi _ _ _ (fun z => hab z.2)) (fun f' _ => hr _ _ _) (fun f' i g _ => hi _ _ _ (fun z => ?_)) (fun f' i g _ => hr _ _ _)
      rw [z.1] at g; cases g
theorem x_P.obj7 (hP : x_P S0 D cA M H) (hb : m_kd M b = 107) : ∃ V, t_OB b (D.1 7) (x_N 7) (D.2 7) H V ∧ V 6 = vI (m_i M 706 b 0) := by
  have := (hP.2.2.2.2.1 b).1 7 (Or.inr hb) (by decide) (by decide)
  unfold x_obj at this
  rw [if_neg (by omega)] at this
  obtain ⟨V, h1, h2⟩ := this
  exact ⟨V, h1, h2 rfl⟩
/-- a field of Throwable in a fault: the memory knows nothing of it -/
theorem z_put7 (C : x_CC X F Lo y cc nL ret hs) (q : Cond.fieldLink y.cls idx (TX7 j).1 (TX7 j).2.1 (TX7 j).2.2.1 ∈ lw_all) (hj : j < 5) (hb : m_kd M b = 107) {v : Value} (hn : narrow (tyX7 j) v = v) (hfit : fits (tyX7 j) v = true)
    (d : decode cc pc = .ok (.putfield idx, 3)) (kk : x_Z X cells slots Q M0 M nL lv (pc + 3) st) : x_Z X cells slots Q M0 M nL lv pc (v :: .ref b :: st) := by
  intro H locs ls hP hE hL hl
  have hap := x_apart (k := 7) C in_X7 tyX7 tyX7_ok nmX7 (by decide) (by decide)
  obtain ⟨V, ⟨cell, q1, q2, q3, q4⟩, hV⟩ := hP.obj7 hb
  obtain ⟨hS, hfc, kC, hkC, hkind⟩ := C.kn (k := 7) (by decide) (by decide)
  obtain ⟨cf, kf, fi, fd, hi, hsl⟩ := hS j (show j < 7 by omega)
  have hlay := C.hts _ (in_X7 _ (u_in_lay (show j < 7 by omega)))
  have hfin : (TX7 j).2.2.2 = false := by
    have : j = 0 ∨ j = 1 ∨ j = 2 ∨ j = 3 ∨ j = 4 := by omega
    rcases this with rfl | rfl | rfl | rfl | rfl <;> rfl
  unfold u_lay at hlay
  rw [if_neg (by rw [hfin]; decide)] at hlay
  have hst := (u_facts hfc hkC (u_lays C.hts in_X7 (show j < 7 by omega)) hi).1
  have h6 := u_store hfc hkC hkind hlay hi (tyX7_ok j (by omega)) hn hfit
  refine W.putK C.1.1 C.1.2.1 (f := fd) ⟨C.1.2.2.2.1, C.hts _ q, ⟨_, _, _, hi⟩, hst⟩ (by rw [q2]; exact h6) q1 q3 (by rw [hsl]; exact k2_hasslot (q4 j (show j < 7 by omega))) rfl rfl d fun H' e1 e2 e3 => ?_
  rw [hsl] at e1 ⊢
  have hlt := hP.lt (a := b) (by omega)
  refine kk H' _ ls (hP.put7 hb rfl rfl (fun _ _ _ _ => rfl) (fun _ _ _ => rfl) hP.2.2.2.2.2 e2 e3 (V := updV V j v) ⟨_, e1, q2, q3, fun i hi => t_set q4 hap (show j < 7 by omega) v i hi⟩ ?_) hE (fun z hz => ?_) hl
  · unfold updV
    rw [if_neg (by omega)]
    exact hV
  · rcases List.mem_append.mp hz with z1 | z1
    · exact hL z z1
    · rw [List.mem_singleton.mp z1]; exact hlt.1
/-- the fault's own place -/
theorem z_put7F (C : x_CC X F Lo y cc nL ret hs) (q : Cond.fieldLink y.cls idx (TX7 6).1 (TX7 6).2.1 (TX7 6).2.2.1 ∈ lw_all) (hini : y.name = "<init>") (hdec : (TX7 6).1 = y.cls) (hb : m_kd M b = 107) {x : Int}
    (d : decode cc pc = .ok (.putfield idx, 3)) (kk : x_Z X cells slots Q M0 (m_si M 706 b 0 x) nL lv (pc + 3) st) : x_Z X cells slots Q M0 M nL lv pc (vI x :: .ref b :: st) := by
  intro H locs ls hP hE hL hl
  have hap := x_apart (k := 7) C in_X7 tyX7 tyX7_ok nmX7 (by decide) (by decide)
  obtain ⟨V, ⟨cell, q1, q2, q3, q4⟩, hV⟩ := hP.obj7 hb
  obtain ⟨hS, hfc, kC, hkC, hkind⟩ := C.kn (k := 7) (by decide) (by decide)
  obtain ⟨cf, kf, fi, fd, hi, hsl⟩ := hS 6 (show 6 < 7 by omega)
  have hlay := C.hts _ (in_X7 _ (u_in_lay (show 6 < 7 by omega)))
  unfold u_lay at hlay
  rw [if_pos (show (TX7 6).2.2.2 = true from rfl)] at hlay
  have hst := (u_facts hfc hkC (u_lays C.hts in_X7 (show 6 < 7 by omega)) hi).1
  have hcf : (Xm X).cls = cf := by
    obtain ⟨_, _, c', _, _, _, -, -, hf', -, -, -, hown2, -⟩ := Cond.laysFinal_spec hlay
    have e1 : c' = cf := by have := hi.symm.trans hf'; simp at this; exact this.1.symm
    rw [hdec] at hown2
    rw [← e1]; exact Option.some.inj (C.1.2.2.2.1.symm.trans hown2)
  have h6 := u_fits hfc hkC hkind (Or.inr hlay) hi (tyX7_ok 6 (by omega)) (v := vI x) rfl rfl
  refine W.putFinK C.1.1 C.1.2.1 C.1.2.2.2.1 (C.hts _ q) hi hst hcf (C.1.2.2.2.2.2.2.2.2.trans hini) (by rw [q2]; exact h6) q1 q3 (by rw [hsl]; exact k2_hasslot (q4 6 (show 6 < 7 by omega))) rfl rfl d fun H' e1 e2 e3 => ?_
  rw [hsl] at e1 ⊢
  have hlt := hP.lt (a := b) (by omega)
  have hz : x_off 706 = 0 := rfl
  refine kk H' _ ls (hP.put7 (M' := m_si M 706 b 0 x) hb rfl rfl (fun f' b' i' hn => by rw [m_i_si, if_neg (fun q => hn ⟨q.1, q.2.1⟩)]) (fun _ _ _ => rfl) (hP.2.2.2.2.2.si (by rw [hz]; exact hlt.2) x) e2 e3 (V := updV V 6 (vI x)) ⟨_, e1, q2, q3, fun i hi => t_set q4 hap (show 6 < 7 by omega) (vI x) i hi⟩ ?_) hE (fun z hz => ?_) hl
  · unfold updV
    rw [if_pos rfl, m_i_si, if_pos ⟨rfl, rfl, rfl⟩]
  · rcases List.mem_append.mp hz with z1 | z1
    · exact hL z z1
    · rw [List.mem_singleton.mp z1]; exact hlt.1
theorem z_anull (C : x_CC X F Lo y cc nL ret hs) (d : decode cc pc = .ok (.aconst_null, 1)) (kk : x_Z X cells slots Q M0 M nL lv (pc + 1) (.null :: st)) : x_Z X cells slots Q M0 M nL lv pc st := fun H locs ls hP hE hL hl => lv_null C.1.1 C.1.2.1 d (kk H locs ls hP hE hL hl)
theorem z_aloadV (C : x_CC X F Lo y cc nL ret hs) {j : Fin 4} (q : Nat) {v : Value} (hv : v = .null ∨ ∃ a, v = .ref a) (hq : lv[q]? = some ((j : Nat), v)) (d : decode cc pc = .ok (.aload_n j, 1)) (k : x_Z X cells slots Q M0 M nL lv (pc + 1) (v :: st)) : x_Z X cells slots Q M0 M nL lv pc st := fun H locs ls hP hE hL hl => by
  rcases hv with rfl | ⟨a, rfl⟩
  · exact lv_aload_nN C.1.1 C.1.2.1 d rfl (lv_at hl q hq) (k H locs ls hP hE hL hl)
  · exact lv_aload_n C.1.1 C.1.2.1 d rfl (lv_at hl q hq) (k H locs ls hP hE hL hl)
theorem gX1_706 (C : x_CC X F Lo y cc nL ret hs) (hy : y.cls = RX1) (hb : x_isK M b 7) {x : Int} (hx : m_i M 706 b 0 = x) (d : decode cc pc = .ok (.getfield 229, 3)) (kk : x_Z X cells slots Q M0 M nL lv (pc + 3) (vI x :: st)) : x_Z X cells slots Q M0 M nL lv pc (.ref b :: st) := by
  intro H locs ls hP hE hL hl
  have h7 := (hP.2.2.2.2.1 b).1 7 hb (by decide) (by decide)
  unfold x_obj at h7
  rw [if_neg (by omega)] at h7
  obtain ⟨V, ⟨cell, q1, q2, q3, q4⟩, hV⟩ := h7
  obtain ⟨hS, hfc, kC, hkC, hkind⟩ := C.kn (k := 7) (by decide) (by decide)
  obtain ⟨cf, kf, fi, fd, hi, hsl⟩ := hS 6 (show 6 < 7 by omega)
  exact va_Wgetf C.1.1 C.1.2.1 C.1.2.2.2.1 (x_link C (by rw [hy]; exact q765)) hi (u_facts hfc hkC (u_lays C.hts in_X7 (show 6 < 7 by omega)) hi).1 q1 (by rw [q3]; exact fun h => by cases h) (v := vI x) (by rw [hsl, q4 6 (show 6 < 7 by omega), hV rfl, hx]) rfl rfl d (kk H locs ls hP hE hL hl)
variable {l : Launch}
theorem x_stat (C : x_CC X F Lo y cc nL ret hs) {n d : String} (hl : (Cond.laysStatic "java/lang/Throwable" n d).before #[] (XS X) = true) (h : (Cond.isRef (.static "java/lang/Throwable" n d)).before #[] (XS X) = true) : ∃ v : Value, (v = .null ∨ ∃ a, v = .ref a) ∧ va_Z "java/lang/Throwable" n d v (x_A (XS X)) (XS X) (XS X).heap := by
  simp only [Cond.before, Cond.holds, Cond.value] at h
  cases hv : (Term.static "java/lang/Throwable" n d).eval #[] (XS X) none [] (XS X) with
  | none => rw [hv] at h; simp at h
  | some v =>
    rw [hv] at h
    refine ⟨v, ?_, va_Zof hl (C.2.1.2.1 _ (lw_all_tbl q112)) hv (fun a h1 h2 => by have h2' : (XS X).heap.size ≤ a := h2; omega)⟩
    cases v <;> first | exact Or.inl rfl | exact Or.inr ⟨_, rfl⟩ | simp at h
theorem ct_thr4 (hG : x_G l S0 D cA) (b i : Nat) (hi : i < 23) (M : Mem) (hb : m_kd M b = 107) : x_Me l S0 D cA yJ0_init_3 cJ0_init_3 5 none [] { frames := 1, cells := 0, slots := 0, locals := 24 } [.ref b, vS D i, .null, vI 0, vI 0] M (.returned none) M := by
  refine x_begin (F := 1) (Lo := 24) (mc := 0) (ms := 0) hG (Nat.le_of_ble_eq_true rfl) (lv := [(0, .ref b), (1, vS D i), (2, .null), (3, vI 0), (4, vI 0)]) rfl rfl rfl rfl rfl (fun X e1 e2 e3 e4 e5 C => ?_)
  obtain ⟨v1, hv1, hz1⟩ := x_stat C (C.2.1.2.1 _ q487) C.2.1.2.2.2.2.1
  obtain ⟨v2, hv2, hz2⟩ := x_stat C (C.2.1.2.1 _ q489) C.2.1.2.2.2.2.2.1
  refine z_aload_n (pc := 0) C 0 rfl dJ0_init_3_0 ?_
  refine z_obj (pc := 1) C q485 q139 q140 (by decide) (by decide) (by decide) dJ0_init_3_1 ?_
  refine z_aload_n (pc := 4) C 0 rfl dJ0_init_3_4 ?_
  refine z_aload_n (pc := 5) C 0 rfl dJ0_init_3_5 ?_
  refine z_put7 (pc := 6) (j := 0) C q519 (by decide) hb rfl rfl dJ0_init_3_6 ?_
  refine z_aload_n (pc := 9) C 0 rfl dJ0_init_3_9 ?_
  refine z_gets (pc := 10) C hz1 q486 dJ0_init_3_10 ?_
  refine z_put7 (pc := 13) (j := 1) C q520 (by decide) hb (by rcases hv1 with rfl | ⟨a, rfl⟩ <;> rfl) (by rcases hv1 with rfl | ⟨a, rfl⟩ <;> rfl) dJ0_init_3_13 ?_
  refine z_aload_n (pc := 16) C 0 rfl dJ0_init_3_16 ?_
  refine z_gets (pc := 17) C hz2 q488 dJ0_init_3_17 ?_
  refine z_put7 (pc := 20) (j := 2) C q521 (by decide) hb (by rcases hv2 with rfl | ⟨a, rfl⟩ <;> rfl) (by rcases hv2 with rfl | ⟨a, rfl⟩ <;> rfl) dJ0_init_3_20 ?_
  refine z_iload (pc := 23) C 4 rfl dJ0_init_3_23 ?_
  refine z_if_eq (pc := 25) C dJ0_init_3_25 (tgt := 36) (by decide) (fun _ => ?_) (fun h => absurd rfl h)
  refine z_aload_n (pc := 36) C 0 rfl dJ0_init_3_36 ?_
  refine z_anull (pc := 37) C dJ0_init_3_37 ?_
  refine z_put7 (pc := 38) (j := 1) C q520 (by decide) hb rfl rfl dJ0_init_3_38 ?_
  refine z_aload_n (pc := 41) C 0 rfl dJ0_init_3_41 ?_
  refine z_aload_n (pc := 42) C 1 rfl dJ0_init_3_42 ?_
  refine z_put7 (pc := 43) (j := 3) C q518 (by decide) hb rfl rfl dJ0_init_3_43 ?_
  refine z_aload_n (pc := 46) C 0 rfl dJ0_init_3_46 ?_
  refine z_aloadV (pc := 47) C 2 (Or.inl rfl) rfl dJ0_init_3_47 ?_
  refine z_put7 (pc := 48) (j := 0) C q519 (by decide) hb rfl rfl dJ0_init_3_48 ?_
  refine z_iload_n (pc := 51) C 3 rfl dJ0_init_3_51 ?_
  refine z_if_ne (pc := 52) C dJ0_init_3_52 (tgt := 60) (by decide) (fun h => absurd rfl h) (fun _ => ?_)
  refine z_aload_n (pc := 55) C 0 rfl dJ0_init_3_55 ?_
  refine z_anull (pc := 56) C dJ0_init_3_56 ?_
  refine z_put7 (pc := 57) (j := 2) C q521 (by decide) hb rfl rfl dJ0_init_3_57 ?_
  exact z_vret (pc := 60) C rfl (Nat.le_refl _) (Nat.le_refl _) dJ0_init_3_60
theorem ct_exc4 (hG : x_G l S0 D cA) (b i : Nat) (hi : i < 23) (M : Mem) (hb : m_kd M b = 107) : x_Me l S0 D cA yJ1_init_2 cJ1_init_2 5 none [] { frames := 2, cells := 0, slots := 0, locals := 60 } [.ref b, vS D i, .null, vI 0, vI 0] M (.returned none) M := by
  refine x_begin (F := 2) (Lo := 60) (mc := 0) (ms := 0) hG (Nat.le_of_ble_eq_true rfl) (lv := [(0, .ref b), (1, vS D i), (2, .null), (3, vI 0), (4, vI 0)]) rfl rfl rfl rfl rfl (fun X e1 e2 e3 e4 e5 C => ?_)
  subst e3
  refine z_aload_n (pc := 0) C 0 rfl dJ1_init_2_0 ?_
  refine z_aload_n (pc := 1) C 1 rfl dJ1_init_2_1 ?_
  refine z_aloadV (pc := 2) C 2 (Or.inl rfl) rfl dJ1_init_2_2 ?_
  refine z_iload_n (pc := 3) C 3 rfl dJ1_init_2_3 ?_
  refine z_iload (pc := 4) C 4 rfl dJ1_init_2_4 ?_
  refine z_callI (pc := 6) C (ct_thr4 C.2.1 b i hi M hb) q763 rfl q761 q762 (by decide +kernel) ⟨by decide +kernel, by decide +kernel⟩ (show (parseMethodDescriptor yJ0_init_3.desc).map (fun d => d.parameters.length) = some 4 from by decide +kernel) ⟨by decide, by decide, Nat.zero_le _, Nat.zero_le _⟩ (st := []) rfl (Nat.le_of_ble_eq_true rfl) dJ1_init_2_6 (fun _ => ?_)
  exact z_vret (pc := 9) C rfl (Nat.le_refl _) (Nat.le_refl _) dJ1_init_2_9
def d_X7_init (v0 : Nat) (v1 : Int) (M : Mem) : Option (Int × Mem) := some (0, m_se (m_si M 706 v0 0 v1) v0 7)
theorem ct_X7_init (hG : x_G l S0 D cA) (v0 : Nat) (v1 : Int) (M : Mem) (r : Int) (M' : Mem) (hv0 : m_kd M v0 = 107) (h : d_X7_init v0 v1 M = some (r, M')) : x_Me l S0 D cA yX7_init cX7_init 2 none [] { frames := 4, cells := 0, slots := 0, locals := 200 } [.ref v0, vI v1] M (.returned none) M' := by
  refine x_begin (F := 4) (Lo := 200) (mc := 0) (ms := 0) hG (Nat.le_of_ble_eq_true rfl) (lv := [(0, .ref v0), (1, vI v1)]) rfl rfl rfl rfl rfl (fun X e1 e2 e3 e4 e5 C => ?_)
  cases h
  refine z_aload_n (pc := 0) C 0 rfl dX7_init_0 ?_
  refine z_lds (pc := 1) C 22 (by decide) rfl dX7_init_1 ?_
  refine z_anull (pc := 3) C dX7_init_3 ?_
  refine z_iconst (pc := 4) C dX7_init_4 ?_
  refine z_iconst (pc := 5) C dX7_init_5 ?_
  refine z_callI (pc := 6) C (ct_exc4 C.2.1 v0 22 (by decide) M hv0) q760 rfl q758 q759 (by decide +kernel) ⟨by decide +kernel, by decide +kernel⟩ (show (parseMethodDescriptor yJ1_init_2.desc).map (fun d => d.parameters.length) = some 4 from by decide +kernel) ⟨by decide, by decide, Nat.zero_le _, Nat.zero_le _⟩ (st := []) rfl (Nat.le_of_ble_eq_true rfl) dX7_init_6 (fun _ => ?_)
  refine z_aload_n (pc := 9) C 0 rfl dX7_init_9 ?_
  refine z_iload_n (pc := 10) C 1 rfl dX7_init_10 ?_
  refine z_put7F (pc := 11) C q764 rfl rfl hv0 dX7_init_11 ?_
  refine z_sealW (k := 7) v0 hv0 (by decide) (by decide) rfl (fun _ _ => ?_)
  exact z_vret (pc := 14) C rfl (Nat.le_refl _) (Nat.le_refl _) dX7_init_14
end XF
