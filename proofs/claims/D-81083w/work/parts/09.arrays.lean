/-! ===== rows of arrays ===== -/
set_option maxRecDepth 100000
section XA_
variable {X : x_Ctx} {cells slots : Nat} {Q : State → Prop} {M0 M : Mem} {nL : Nat} {lv lv' : List (Nat × Value)} {pc : Nat} {st : List Value} {y : MethodName} {cc : ByteArray} {ret : Option FieldType} {hs : List (Nat × Nat × Nat × Nat)} {F Lo : Nat}
variable {f a b n : Nat} {i x : Int}
theorem x_arrI (hf : x_aty f < 3) (M : Mem) (b n : Nat) (cA : ClassId) : vp_cell cA (n, x_con M f b) = arrV cA n (fun i => vI (m_i M f b i)) := by
  unfold x_con; rw [if_pos hf]; rfl
theorem x_arrL (hf : x_aty f = 3) (M : Mem) (b n : Nat) (cA : ClassId) : vp_cell cA (n, x_con M f b) = arrV cA n (fun i => vL (m_i M f b i)) := by
  unfold x_con; rw [if_neg (by omega), if_pos hf]; rfl
theorem x_arrR (hf : 10 ≤ x_aty f) (M : Mem) (b n : Nat) (cA : ClassId) : vp_cell cA (n, x_con M f b) = arrV cA n (fun i => va_rf (m_r M f b i)) := by
  unfold x_con; rw [if_neg (by omega), if_neg (by omega)]; rfl
theorem x_inb_lt (h : inb i n) : ixn i < n := by unfold inb at h; unfold ixn; omega
theorem x_inbV (h : inb i n) (cA : ClassId) (V : Nat → Value) : ¬ (Int32.ofInt i < 0 ∨ (arrV cA n V).slots.size ≤ (Int32.ofInt i).toNatClampNeg) := by
  rw [arrV_size]; exact x_inb.mpr h
theorem z_alen (C : x_CC X F Lo y cc nL ret hs) (ha : m_kd M a = 10000 + f) (hn : x_len f = n) (ht : x_aty f ∈ x_tys) (d : decode cc pc = .ok (.arraylength, 1)) (kk : x_Z X cells slots Q M0 M nL lv (pc + 1) (vI n :: st)) : x_Z X cells slots Q M0 M nL lv pc (.ref a :: st) := by
  intro H locs ls hP hE hL hl
  obtain ⟨g1, g2, g3⟩ := hP.arr ha
  subst hn
  have hlen : ∃ V, vp_cell (XA X (x_aty f)) (x_len f, x_con M f (a - x_off f)) = arrV (XA X (x_aty f)) (x_len f) V := by
    unfold x_con; split
    · exact ⟨_, vp_cell_i _ _ _⟩
    · split
      · exact ⟨_, vp_cell_l _ _ _⟩
      · exact ⟨_, vp_cell_q _ _ _⟩
  obtain ⟨V, hV⟩ := hlen
  rw [hV] at g3
  exact W.alen C.1.1 C.1.2.1 (n := Int32.ofInt (x_len f : Int)) g3 ((C.ar ht).1 _ _) (by rw [arrV_size]; rfl) rfl rfl d (kk H locs ls hP hE hL hl)
theorem z_iald (C : x_CC X F Lo y cc nL ret hs) (ha : m_kd M a = 10000 + f) (hab : a = b + x_off f) (ht : x_aty f = 0) (hn : x_len f = n) (hin : inb i n) (d : decode cc pc = .ok (.iaload, 1)) (kk : x_Z X cells slots Q M0 M nL lv (pc + 1) (vI (m_i M f b (ixn i)) :: st)) : x_Z X cells slots Q M0 M nL lv pc (vI i :: .ref a :: st) := by
  intro H locs ls hP hE hL hl
  obtain ⟨g1, g2, g3⟩ := hP.arr ha
  subst hn
  rw [x_arrI (by omega), show a - x_off f = b by omega, ht] at g3
  exact W.iald C.1.1 C.1.2.1 g3 ((C.ar (t := 0) (by decide)).1 _ _) (fun q => by cases q) (x_inbV hin _ _) (arrV_read _ _ (x_inb_lt hin)) rfl rfl d (kk H locs ls hP hE hL hl)
theorem z_zald (C : x_CC X F Lo y cc nL ret hs) (ha : m_kd M a = 10000 + f) (hab : a = b + x_off f) (ht : x_aty f = 1) (hn : x_len f = n) (hin : inb i n) (d : decode cc pc = .ok (.baload, 1)) (kk : x_Z X cells slots Q M0 M nL lv (pc + 1) (vI (m_i M f b (ixn i)) :: st)) : x_Z X cells slots Q M0 M nL lv pc (vI i :: .ref a :: st) := by
  intro H locs ls hP hE hL hl
  obtain ⟨g1, g2, g3⟩ := hP.arr ha
  subst hn
  rw [x_arrI (by omega), show a - x_off f = b by omega, ht] at g3
  exact W.zald C.1.1 C.1.2.1 g3 ((C.ar (t := 1) (by decide)).1 _ _) (fun q => by cases q) (x_inbV hin _ _) (arrV_read _ _ (x_inb_lt hin)) rfl rfl d (kk H locs ls hP hE hL hl)
theorem z_bald (C : x_CC X F Lo y cc nL ret hs) (ha : m_kd M a = 10000 + f) (hab : a = b + x_off f) (ht : x_aty f = 2) (hn : x_len f = n) (hin : inb i n) (d : decode cc pc = .ok (.baload, 1)) (kk : x_Z X cells slots Q M0 M nL lv (pc + 1) (vI (m_i M f b (ixn i)) :: st)) : x_Z X cells slots Q M0 M nL lv pc (vI i :: .ref a :: st) := by
  intro H locs ls hP hE hL hl
  obtain ⟨g1, g2, g3⟩ := hP.arr ha
  subst hn
  rw [x_arrI (by omega), show a - x_off f = b by omega, ht] at g3
  exact W.bald C.1.1 C.1.2.1 g3 ((C.ar (t := 2) (by decide)).1 _ _) (fun q => by cases q) (x_inbV hin _ _) (arrV_read _ _ (x_inb_lt hin)) rfl rfl d (kk H locs ls hP hE hL hl)
theorem z_lald (C : x_CC X F Lo y cc nL ret hs) (ha : m_kd M a = 10000 + f) (hab : a = b + x_off f) (ht : x_aty f = 3) (hn : x_len f = n) (hin : inb i n) (d : decode cc pc = .ok (.laload, 1)) (kk : x_Z X cells slots Q M0 M nL lv (pc + 1) (vL (m_i M f b (ixn i)) :: st)) : x_Z X cells slots Q M0 M nL lv pc (vI i :: .ref a :: st) := by
  intro H locs ls hP hE hL hl
  obtain ⟨g1, g2, g3⟩ := hP.arr ha
  subst hn
  rw [x_arrL ht, show a - x_off f = b by omega, ht] at g3
  exact W.lald C.1.1 C.1.2.1 g3 ((C.ar (t := 3) (by decide)).1 _ _) (fun q => by cases q) (x_inbV hin _ _) (arrV_read _ _ (x_inb_lt hin)) rfl rfl d (kk H locs ls hP hE hL hl)
theorem x_tyref (ht : 10 ≤ x_aty f) (hm : x_aty f ∈ x_tys) : (x_ty (x_aty f)).isReference = true := by
  generalize x_aty f = t at ht hm
  unfold x_tys at hm
  simp only [List.mem_cons, List.not_mem_nil, or_false] at hm
  rcases hm with h | h | h | h | h | h | h | h | h | h <;> first | omega | (subst h; rfl)
theorem z_aald (C : x_CC X F Lo y cc nL ret hs) (ha : m_kd M a = 10000 + f) (hab : a = b + x_off f) (ht : 10 ≤ x_aty f) (hm : x_aty f ∈ x_tys) (hn : x_len f = n) (hin : inb i n) {r : Nat} (hr : m_r M f b (ixn i) = some r) (d : decode cc pc = .ok (.aaload, 1)) (kk : x_rk f (m_kd M r) → x_Z X cells slots Q M0 M nL lv (pc + 1) (.ref r :: st)) : x_Z X cells slots Q M0 M nL lv pc (vI i :: .ref a :: st) := by
  intro H locs ls hP hE hL hl
  obtain ⟨g1, g2, g3⟩ := hP.arr ha
  subst hn
  rw [x_arrR ht, show a - x_off f = b by omega] at g3
  refine W.aald (v := .ref r) C.1.1 C.1.2.1 g3 ((C.ar hm).1 _ _) (x_tyref ht hm) (fun q => by cases q) (x_inbV hin _ _) ?_ rfl rfl d (kk (hP.2.2.2.2.2.2.2 _ _ _ _ hr) H locs ls hP hE hL hl)
  rw [x_ixn, arrV_read _ _ (x_inb_lt hin), hr]
  rfl
theorem x_hL {locs : List Loc} {S0 : State} {l2 : Loc} (hL : ∀ q ∈ locs, S0.heap.size ≤ q.base) (h : S0.heap.size ≤ l2.base) : ∀ q ∈ locs ++ [l2], S0.heap.size ≤ q.base := fun z hz => by
  rcases List.mem_append.mp hz with z1 | z1
  · exact hL z z1
  · rw [List.mem_singleton.mp z1]; exact h
/-- a store into an array of ints, booleans, bytes or longs -/
theorem x_ast {S0 : State} {D : va_G} {cA : Nat → ClassId} {H H1 : Heap} (hP : x_P S0 D cA M H) (ha : m_kd M a = 10000 + f) (hab : a = b + x_off f) (hin : ixn i < x_len f) (x : Int) {v : Value} {V : Nat → Value} (hV : ∀ M, vp_cell (cA (x_aty f)) (x_len f, x_con M f b) = arrV (cA (x_aty f)) (x_len f) (fun i => (fun z => if x_aty f < 3 then vI z else vL z) (m_i M f b i))) (hv : v = (if x_aty f < 3 then vI x else vL x))
    (e1 : H1[a]? = some ((vp_cell (cA (x_aty f)) (x_len f, x_con M f b)).setSlot (ixn i) v)) (e2 : H1.size = H.size) (e3 : ∀ q : Nat, q ≠ a → H1[q]? = H[q]?) : x_P S0 D cA (m_si M f b (ixn i) x) H1 := by
  have hlt := hP.lt (a := a) (by omega)
  have hb : a - x_off f = b := by omega
  refine hP.puta ha rfl rfl (fun f' b' i' hn => by rw [m_i_si, if_neg (fun q => hn ⟨q.1, by rw [hb]; exact q.2.1⟩)]) (fun _ _ _ _ => rfl) (hP.2.2.2.2.2.si (by omega) x) e2 e3 ?_
  rw [e1, hb, hV, hV, arrV_store]
  congr 2
  funext z
  unfold updV
  by_cases q : z = ixn i
  · subst q; rw [if_pos rfl, hv, m_i_si]; simp
  · rw [if_neg q, m_i_si, if_neg (fun w => q w.2.2)]
theorem z_iast (C : x_CC X F Lo y cc nL ret hs) (ha : m_kd M a = 10000 + f) (hab : a = b + x_off f) (ht : x_aty f = 0) (hn : x_len f = n) (hin : inb i n) (d : decode cc pc = .ok (.iastore, 1)) (kk : x_Z X cells slots Q M0 (m_si M f b (ixn i) x) nL lv (pc + 1) st) : x_Z X cells slots Q M0 M nL lv pc (vI x :: vI i :: .ref a :: st) := by
  intro H locs ls hP hE hL hl
  obtain ⟨g1, g2, g3⟩ := hP.arr ha
  subst hn
  have g4 := g3
  rw [x_arrI (by omega), show a - x_off f = b by omega, ht] at g4
  refine W.iast C.1.1 C.1.2.1 g4 ((C.ar (t := 0) (by decide)).1 _ _) (fun q => by cases q) (x_inbV hin _ _) rfl rfl d fun H1 e1 e2 e3 => ?_
  refine kk H1 _ ls (x_ast hP ha hab (x_inb_lt hin) x (V := fun _ => .null) (v := vI x) (fun M => by rw [x_arrI (by omega)]; simp [ht]) (by simp [ht]) (by rw [e1, x_arrI (by omega), ht]; rfl) e2 e3) hE (x_hL hL (hP.lt (a := a) (by omega)).1) hl
theorem z_zast (C : x_CC X F Lo y cc nL ret hs) (ha : m_kd M a = 10000 + f) (hab : a = b + x_off f) (ht : x_aty f = 1) (hn : x_len f = n) (hin : inb i n) (d : decode cc pc = .ok (.bastore, 1)) (kk : x_Z X cells slots Q M0 (m_si M f b (ixn i) (bz x)) nL lv (pc + 1) st) : x_Z X cells slots Q M0 M nL lv pc (vI x :: vI i :: .ref a :: st) := by
  intro H locs ls hP hE hL hl
  obtain ⟨g1, g2, g3⟩ := hP.arr ha
  subst hn
  have g4 := g3
  rw [x_arrI (by omega), show a - x_off f = b by omega, ht] at g4
  refine W.zast C.1.1 C.1.2.1 g4 ((C.ar (t := 1) (by decide)).1 _ _) (fun q => by cases q) (x_inbV hin _ _) rfl rfl d fun H1 e1 e2 e3 => ?_
  refine kk H1 _ ls (x_ast hP ha hab (x_inb_lt hin) (bz x) (V := fun _ => .null) (v := narrow .boolean (vI x)) (fun M => by rw [x_arrI (by omega)]; simp [ht]) (by simp [ht, bz, vp_nar, narrow, Int32.ofInt_toInt]) (by rw [e1, x_arrI (by omega), ht]; rfl) e2 e3) hE (x_hL hL (hP.lt (a := a) (by omega)).1) hl
theorem z_bast (C : x_CC X F Lo y cc nL ret hs) (ha : m_kd M a = 10000 + f) (hab : a = b + x_off f) (ht : x_aty f = 2) (hn : x_len f = n) (hin : inb i n) (d : decode cc pc = .ok (.bastore, 1)) (kk : x_Z X cells slots Q M0 (m_si M f b (ixn i) (b8 x)) nL lv (pc + 1) st) : x_Z X cells slots Q M0 M nL lv pc (vI x :: vI i :: .ref a :: st) := by
  intro H locs ls hP hE hL hl
  obtain ⟨g1, g2, g3⟩ := hP.arr ha
  subst hn
  have g4 := g3
  rw [x_arrI (by omega), show a - x_off f = b by omega, ht] at g4
  refine W.bast C.1.1 C.1.2.1 g4 ((C.ar (t := 2) (by decide)).1 _ _) (fun q => by cases q) (x_inbV hin _ _) rfl rfl d fun H1 e1 e2 e3 => ?_
  refine kk H1 _ ls (x_ast hP ha hab (x_inb_lt hin) (b8 x) (V := fun _ => .null) (v := narrow .byte (vI x)) (fun M => by rw [x_arrI (by omega)]; simp [ht]) (by rw [if_pos (by omega)]; exact (congrArg Value.int (Int32.ofInt_toInt _)).symm) (by rw [e1, x_arrI (by omega), ht]; rfl) e2 e3) hE (x_hL hL (hP.lt (a := a) (by omega)).1) hl
theorem z_last (C : x_CC X F Lo y cc nL ret hs) (ha : m_kd M a = 10000 + f) (hab : a = b + x_off f) (ht : x_aty f = 3) (hn : x_len f = n) (hin : inb i n) (d : decode cc pc = .ok (.lastore, 1)) (kk : x_Z X cells slots Q M0 (m_si M f b (ixn i) x) nL lv (pc + 1) st) : x_Z X cells slots Q M0 M nL lv pc (vL x :: vI i :: .ref a :: st) := by
  intro H locs ls hP hE hL hl
  obtain ⟨g1, g2, g3⟩ := hP.arr ha
  subst hn
  have g4 := g3
  rw [x_arrL ht, show a - x_off f = b by omega, ht] at g4
  refine W.last C.1.1 C.1.2.1 g4 ((C.ar (t := 3) (by decide)).1 _ _) (fun q => by cases q) (x_inbV hin _ _) rfl rfl d fun H1 e1 e2 e3 => ?_
  refine kk H1 _ ls (x_ast hP ha hab (x_inb_lt hin) x (V := fun _ => .null) (v := vL x) (fun M => by rw [x_arrL ht]; simp [ht]) (by simp [ht]) (by rw [e1, x_arrL ht, ht]; rfl) e2 e3) hE (x_hL hL (hP.lt (a := a) (by omega)).1) hl
/-- a reference is stored: its object's class is the array's own -/
theorem z_aast (C : x_CC X F Lo y cc nL ret hs) {k r : Nat} (ha : m_kd M a = 10000 + f) (hab : a = b + x_off f) (ht : x_aty f = 10 + k) (hm : x_aty f ∈ x_tys) (hty : x_ty (x_aty f) = .object (x_C k).1) (h1 : 1 ≤ k) (h2 : k < 13) (h7 : k ≠ 7) (hn : x_len f = n) (hin : inb i n) (hk : m_kd M r = k) (hrk : x_rk f k) (hself : Cond.castable (x_C k).1 (x_C k).1 ∈ lw_tbl ∨ True) (d : decode cc pc = .ok (.aastore, 1)) (kk : x_Z X cells slots Q M0 (m_sr M f b (ixn i) (some r)) nL lv (pc + 1) st) : x_Z X cells slots Q M0 M nL lv pc (.ref r :: vI i :: .ref a :: st) := by
  intro H locs ls hP hE hL hl
  obtain ⟨g1, g2, g3⟩ := hP.arr ha
  subst hn
  have g4 := g3
  rw [x_arrR (by omega), show a - x_off f = b by omega] at g4
  obtain ⟨hA1, hA2⟩ := C.ar hm
  rw [hty] at hA2
  obtain ⟨kA, comp, p1, p2, p3, p4⟩ := hA2
  obtain ⟨cell, q1, q2, q3, q4⟩ := hP.obj (Or.inl hk) h1 h2 h7
  obtain ⟨hS, hfc, kC, hkC, hkind⟩ := C.kn h1 (by omega)
  cases p3.symm.trans hfc
  have hlt := hP.lt (a := a) (by omega)
  refine W.aast C.1.1 C.1.2.1 g4 (fun z => by intro h; cases h) (fun h => by cases h) p1 p2 rfl hkC ?_ q1 (fun z => by rw [q3]; intro h; cases h) (by rw [q2]; exact hkC) (by rw [q2]; show Vm.assignableAux _ (255 + 1) _ _ = true; rw [Vm.assignableAux]; rw [Bool.or_eq_true]; exact Or.inl (beq_self_eq_true _)) rfl rfl d fun H1 e1 e2 e3 => ?_
  · rw [arrV_size]
    have := x_inb.mpr hin
    unfold vp_in at this
    exact ⟨fun z => this (Or.inl z), Nat.not_le.mp fun z => this (Or.inr z)⟩
  · have hb : a - x_off f = b := by omega
    refine kk H1 _ ls (hP.puta ha rfl rfl (fun _ _ _ _ => rfl) (fun f' b' i' hn => by rw [m_r_sr, if_neg (fun q => hn ⟨q.1, by rw [hb]; exact q.2.1⟩)]) (hP.2.2.2.2.2.sr (by omega) (fun z hz => by cases hz; rw [hk]; exact hrk)) e2 e3 ?_) hE (x_hL hL hlt.1) hl
    rw [e1, hb, x_arrR (by omega), x_ixn, arrV_store]
    congr 2
    funext z
    unfold updV
    by_cases q : z = ixn i
    · subst q; rw [if_pos rfl, m_r_sr, if_pos ⟨rfl, rfl, rfl⟩]; rfl
    · rw [if_neg q, m_r_sr, if_neg (fun w => q w.2.2)]
end XA_
