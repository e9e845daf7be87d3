/-! ===== rows of fields, arrays, new cells ===== -/
set_option maxRecDepth 100000
section XF
variable {X : x_Ctx} {cells slots : Nat} {Q : State → Prop} {M0 M : Mem} {nL : Nat} {lv lv' : List (Nat × Value)} {pc : Nat} {st : List Value} {y : MethodName} {cc : ByteArray} {ret : Option FieldType} {hs : List (Nat × Nat × Nat × Nat)} {F Lo : Nat}
variable {k j idx b f a o : Nat}
theorem x_link (C : x_CC X F Lo y cc nL ret hs) {own r n d h : String} {i : Nat} (q : Cond.fieldLinkNest own i r n d h ∈ lw_tbl) : (Cond.fieldLinkNest own i r n d h).before (Xa X) (Xs X) = true :=
  va_Nw.use rfl (va_Nw.warmF C.1.2.2.2.2.1 (va_Nw.of rfl (C.2.1.2.1 _ q)))
theorem z_get (C : x_CC X F Lo y cc nL ret hs) (q : Cond.fieldLink y.cls idx ((x_C k).2.1 j).1 ((x_C k).2.1 j).2.1 ((x_C k).2.1 j).2.2.1 ∈ lw_all) (hin : ∀ w ∈ u_ws (x_C k).1 (x_C k).2.1 (x_C k).2.2, w ∈ lw_all) (h1 : 1 ≤ k) (h2 : k < 13) (h7 : k ≠ 7) (hj : j < x_N k) (hb : x_isK M b k) {v : Value} (hv : x_fv M b (100 * k + j) = v)
    (d : decode cc pc = .ok (.getfield idx, 3)) (kk : x_Z X cells slots Q M0 M nL lv (pc + 3) (v :: st)) : x_Z X cells slots Q M0 M nL lv pc (.ref b :: st) := by
  intro H locs ls hP hE hL hl
  obtain ⟨cell, q1, q2, q3, q4⟩ := hP.obj hb h1 h2 h7
  obtain ⟨hS, hfc, kC, hkC, hkind⟩ := C.kn h1 (by omega)
  obtain ⟨cf, kf, fi, fd, hi, hsl⟩ := hS j hj
  exact W.getf C.1.1 C.1.2.1 C.1.2.2.2.1 (C.hts _ q) hi (u_facts hfc hkC (u_lays C.hts hin hj) hi).1 q1 (by rw [q3]; exact fun h => by cases h) (v := v) (by rw [hsl, q4 j hj]; exact congrArg some hv) rfl rfl d (kk H locs ls hP hE hL hl)
theorem z_getN (C : x_CC X F Lo y cc nL ret hs) {host : String} (q : Cond.fieldLinkNest y.cls idx ((x_C k).2.1 j).1 ((x_C k).2.1 j).2.1 ((x_C k).2.1 j).2.2.1 host ∈ lw_tbl) (hin : ∀ w ∈ u_ws (x_C k).1 (x_C k).2.1 (x_C k).2.2, w ∈ lw_all) (h1 : 1 ≤ k) (h2 : k < 13) (h7 : k ≠ 7) (hj : j < x_N k) (hb : x_isK M b k) {v : Value} (hv : x_fv M b (100 * k + j) = v)
    (d : decode cc pc = .ok (.getfield idx, 3)) (kk : x_Z X cells slots Q M0 M nL lv (pc + 3) (v :: st)) : x_Z X cells slots Q M0 M nL lv pc (.ref b :: st) := by
  intro H locs ls hP hE hL hl
  obtain ⟨cell, q1, q2, q3, q4⟩ := hP.obj hb h1 h2 h7
  obtain ⟨hS, hfc, kC, hkC, hkind⟩ := C.kn h1 (by omega)
  obtain ⟨cf, kf, fi, fd, hi, hsl⟩ := hS j hj
  exact va_Wgetf C.1.1 C.1.2.1 C.1.2.2.2.1 (x_link C q) hi (u_facts hfc hkC (u_lays C.hts hin hj) hi).1 q1 (by rw [q3]; exact fun h => by cases h) (v := v) (by rw [hsl, q4 j hj]; exact congrArg some hv) rfl rfl d (kk H locs ls hP hE hL hl)
/-- the slots of a class's fields are apart -/
theorem x_apart (C : x_CC X F Lo y cc nL ret hs) (hin : ∀ w ∈ u_ws (x_C k).1 (x_C k).2.1 (x_C k).2.2, w ∈ lw_all) (ty : Nat → FieldType) (hty : ∀ j, j < x_N k → parseFieldDescriptor ((x_C k).2.1 j).2.2.1 = some (ty j)) (hnm : ∀ a, a < x_N k → ∀ b, b < x_N k → a ≠ b → ((x_C k).2.1 a).2.1 ≠ ((x_C k).2.1 b).2.1) (h1 : 1 ≤ k) (h2 : k < 17) : ∀ x z, x < x_N k → z < x_N k → x ≠ z → ((XD X).2 k) x ≠ ((XD X).2 k) z := by
  intro x z hx hz hne
  obtain ⟨hS, -⟩ := C.kn h1 h2
  obtain ⟨_, _, _, fa, hia, ea⟩ := hS x hx
  obtain ⟨_, _, _, fb, hib, eb⟩ := hS z hz
  rw [← ea, ← eb]
  refine u_apart (u_lays C.hts hin hx) (u_lays C.hts hin hz) hia hib ?_
  rw [(State.fieldFound?_type hia (hty x hx)).1, (State.fieldFound?_type hib (hty z hz)).1]
  exact hnm x hx z hz hne
/-- what a field's change makes of the memory: an int (or long) field, a reference -/
def x_put (M M' : Mem) (f b : Nat) (v : Value) : Prop :=
  (∃ x : Int, M' = m_si M f b 0 x ∧ ((x_ft f = 0 ∧ v = vI x) ∨ (x_ft f = 1 ∧ v = vL x))) ∨ (∃ x : Nat, M' = m_sr M f b 0 (some x) ∧ (x_ft f = 2 ∨ x_ft f = 4) ∧ v = .ref x ∧ x_rk f (m_kd M x))
theorem x_put.fv {M' : Mem} {v : Value} (h : x_put M M' f b v) : x_ft f ≠ 3 ∧ m_sz M' = m_sz M ∧ m_kd M' = m_kd M ∧ (∀ f' b' i', ¬ (f' = f ∧ b' = b) → m_i M' f' b' i' = m_i M f' b' i') ∧ (∀ f' b' i', ¬ (f' = f ∧ b' = b) → m_r M' f' b' i' = m_r M f' b' i') ∧ x_fv M' b f = v ∧ ∀ f', f' ≠ f → x_fv M' b f' = x_fv M b f' := by
  rcases h with ⟨x, rfl, h⟩ | ⟨x, rfl, h, rfl, -⟩
  · have hf : x_ft f ≠ 3 := by rcases h with h | h <;> (rw [h.1]; decide)
    have hi : ∀ f' b' i', ¬ (f' = f ∧ b' = b) → m_i (m_si M f b 0 x) f' b' i' = m_i M f' b' i' := fun f' b' i' hn => by
      rw [m_i_si, if_neg (fun q => hn ⟨q.1, q.2.1⟩)]
    refine ⟨hf, rfl, rfl, hi, fun _ _ _ _ => rfl, ?_, fun f' hn => ?_⟩
    · unfold x_fv
      rcases h with ⟨h, rfl⟩ | ⟨h, rfl⟩
      · rw [h]; show vI _ = _; rw [m_i_si, if_pos ⟨rfl, rfl, rfl⟩]
      · rw [h]; show vL _ = _; rw [m_i_si, if_pos ⟨rfl, rfl, rfl⟩]
    · unfold x_fv
      rw [hi f' b 0 (fun q => hn q.1)]
      rfl
  · have hf : x_ft f ≠ 3 := by rcases h with h | h <;> (rw [h]; decide)
    have hr : ∀ f' b' i', ¬ (f' = f ∧ b' = b) → m_r (m_sr M f b 0 (some x)) f' b' i' = m_r M f' b' i' := fun f' b' i' hn => by
      rw [m_r_sr, if_neg (fun q => hn ⟨q.1, q.2.1⟩)]
    refine ⟨hf, rfl, rfl, fun _ _ _ _ => rfl, hr, ?_, fun f' hn => ?_⟩
    · unfold x_fv
      rcases h with h | h
      · rw [h]; show va_rf _ = _; rw [m_r_sr, if_pos ⟨rfl, rfl, rfl⟩]; rfl
      · rw [h]; show va_rf _ = _; rw [m_r_sr, if_pos ⟨rfl, rfl, rfl⟩]; rfl
    · unfold x_fv
      rw [hr f' b 0 (fun q => hn q.1)]
      rfl
theorem x_put.wt {M' : Mem} {v : Value} (h : x_put M M' f b v) (hw : x_WT M) (ho : x_off f = 0) (hb : b < m_sz M) : x_WT M' := by
  rcases h with ⟨x, rfl, h⟩ | ⟨x, rfl, h, rfl, hk⟩
  · exact hw.si (by omega) x
  · exact hw.sr (by omega) (fun a ha => by cases ha; exact hk)
theorem x_put.P {M' : Mem} {S0 : State} {D : va_G} {cA : Nat → ClassId} {H H' : Heap} {v : Value} (h : x_put M M' (100 * k + j) b v) (hP : x_P S0 D cA M H) (hb : x_isK M b k) (h1 : 1 ≤ k) (h2 : k < 13) (h7 : k ≠ 7) (hj : j < x_N k) (ho : x_off (100 * k + j) = 0) (hap : ∀ x z, x < x_N k → z < x_N k → x ≠ z → (D.2 k) x ≠ (D.2 k) z) {cell : Cell} (q1 : H[b]? = some cell) (q2 : cell.cls = D.1 k) (q3 : cell.vm = .none) (q4 : ∀ j, j < x_N k → cell.slots[D.2 k j]? = some (x_fv M b (100 * k + j)))
    (e1 : H'[b]? = some (cell.setSlot (D.2 k j) v)) (e2 : H'.size = H.size) (e3 : ∀ q : Nat, q ≠ b → H'[q]? = H[q]?) : x_P S0 D cA M' H' := by
  obtain ⟨g1, g2, g3, g4, g5, g6, g7⟩ := h.fv
  have hlt := hP.lt (a := b) (by rcases hb with q | q <;> omega)
  refine hP.put hb h1 h2 h7 g2 g3 g1 g4 g5 (h.wt hP.2.2.2.2.2 ho hlt.2) e2 e3 ⟨_, e1, q2, q3, fun i hi => ?_⟩
  have hs := t_set q4 hap hj v i hi
  rw [hs]
  unfold updV
  by_cases q : i = j
  · subst q; rw [if_pos rfl]; show some v = some (x_fv M' b (100 * k + i)); rw [g6]
  · rw [if_neg q]; show some (x_fv M b (100 * k + i)) = some (x_fv M' b (100 * k + i)); rw [g7 _ (by omega)]
theorem z_put (C : x_CC X F Lo y cc nL ret hs) (q : Cond.fieldLink y.cls idx ((x_C k).2.1 j).1 ((x_C k).2.1 j).2.1 ((x_C k).2.1 j).2.2.1 ∈ lw_all) (hin : ∀ w ∈ u_ws (x_C k).1 (x_C k).2.1 (x_C k).2.2, w ∈ lw_all) (ty : Nat → FieldType) (hty : ∀ j, j < x_N k → parseFieldDescriptor ((x_C k).2.1 j).2.2.1 = some (ty j)) (hnm : ∀ a, a < x_N k → ∀ b, b < x_N k → a ≠ b → ((x_C k).2.1 a).2.1 ≠ ((x_C k).2.1 b).2.1) (h1 : 1 ≤ k) (h2 : k < 13) (h7 : k ≠ 7) (hj : j < x_N k) (hfin : ((x_C k).2.1 j).2.2.2 = false) (ho : x_off (100 * k + j) = 0) (hb : x_isK M b k) {v : Value} {M' : Mem} (hp : x_put M M' (100 * k + j) b v) (hn : narrow (ty j) v = v) (hfit : fits (ty j) v = true)
    (d : decode cc pc = .ok (.putfield idx, 3)) (kk : x_Z X cells slots Q M0 M' nL lv (pc + 3) st) : x_Z X cells slots Q M0 M nL lv pc (v :: .ref b :: st) := by
  intro H locs ls hP hE hL hl
  have hap := x_apart C hin ty hty hnm h1 (by omega)
  obtain ⟨cell, q1, q2, q3, q4⟩ := hP.obj hb h1 h2 h7
  obtain ⟨hS, hfc, kC, hkC, hkind⟩ := C.kn h1 (by omega)
  obtain ⟨cf, kf, fi, fd, hi, hsl⟩ := hS j hj
  have hlay := C.hts _ (hin _ (u_in_lay hj))
  unfold u_lay at hlay
  rw [if_neg (by rw [hfin]; decide)] at hlay
  have hst := (u_facts hfc hkC (u_lays C.hts hin hj) hi).1
  have h6 := u_store hfc hkC hkind hlay hi (hty j hj) hn hfit
  refine W.putK C.1.1 C.1.2.1 (f := fd) ⟨C.1.2.2.2.1, C.hts _ q, ⟨_, _, _, hi⟩, hst⟩ (by rw [q2]; exact h6) q1 q3 (by rw [hsl]; exact k2_hasslot (q4 j hj)) rfl rfl d fun H' e1 e2 e3 => ?_
  rw [hsl] at e1 ⊢
  have hlt := hP.lt (a := b) (by rcases hb with q | q <;> omega)
  refine kk H' _ ls (hp.P hP hb h1 h2 h7 hj ho hap q1 q2 q3 q4 e1 e2 e3) (fun a k' l1 l2 z => by rw [hp.fv.2.2.1]; exact hE a k' l1 l2 z) (fun z hz => ?_) hl
  rcases List.mem_append.mp hz with z1 | z1
  · exact hL z z1
  · rw [List.mem_singleton.mp z1]; exact hlt.1
theorem z_putN (C : x_CC X F Lo y cc nL ret hs) {host : String} (q : Cond.fieldLinkNest y.cls idx ((x_C k).2.1 j).1 ((x_C k).2.1 j).2.1 ((x_C k).2.1 j).2.2.1 host ∈ lw_tbl) (hin : ∀ w ∈ u_ws (x_C k).1 (x_C k).2.1 (x_C k).2.2, w ∈ lw_all) (ty : Nat → FieldType) (hty : ∀ j, j < x_N k → parseFieldDescriptor ((x_C k).2.1 j).2.2.1 = some (ty j)) (hnm : ∀ a, a < x_N k → ∀ b, b < x_N k → a ≠ b → ((x_C k).2.1 a).2.1 ≠ ((x_C k).2.1 b).2.1) (h1 : 1 ≤ k) (h2 : k < 13) (h7 : k ≠ 7) (hj : j < x_N k) (hfin : ((x_C k).2.1 j).2.2.2 = false) (ho : x_off (100 * k + j) = 0) (hb : x_isK M b k) {v : Value} {M' : Mem} (hp : x_put M M' (100 * k + j) b v) (hn : narrow (ty j) v = v) (hfit : fits (ty j) v = true)
    (d : decode cc pc = .ok (.putfield idx, 3)) (kk : x_Z X cells slots Q M0 M' nL lv (pc + 3) st) : x_Z X cells slots Q M0 M nL lv pc (v :: .ref b :: st) := by
  intro H locs ls hP hE hL hl
  have hap := x_apart C hin ty hty hnm h1 (by omega)
  obtain ⟨cell, q1, q2, q3, q4⟩ := hP.obj hb h1 h2 h7
  obtain ⟨hS, hfc, kC, hkC, hkind⟩ := C.kn h1 (by omega)
  obtain ⟨cf, kf, fi, fd, hi, hsl⟩ := hS j hj
  have hlay := C.hts _ (hin _ (u_in_lay hj))
  unfold u_lay at hlay
  rw [if_neg (by rw [hfin]; decide)] at hlay
  have hst := (u_facts hfc hkC (u_lays C.hts hin hj) hi).1
  have h6 := u_store hfc hkC hkind hlay hi (hty j hj) hn hfit
  refine va_WputK C.1.1 C.1.2.1 (f := fd) C.1.2.2.2.1 (x_link C q) hi hst (by rw [q2]; exact h6) q1 q3 (by rw [hsl]; exact k2_hasslot (q4 j hj)) rfl rfl d fun H' e1 e2 e3 => ?_
  rw [hsl] at e1 ⊢
  have hlt := hP.lt (a := b) (by rcases hb with q | q <;> omega)
  refine kk H' _ ls (hp.P hP hb h1 h2 h7 hj ho hap q1 q2 q3 q4 e1 e2 e3) (fun a k' l1 l2 z => by rw [hp.fv.2.2.1]; exact hE a k' l1 l2 z) (fun z hz => ?_) hl
  rcases List.mem_append.mp hz with z1 | z1
  · exact hL z z1
  · rw [List.mem_singleton.mp z1]; exact hlt.1
theorem z_putF (C : x_CC X F Lo y cc nL ret hs) (q : Cond.fieldLink y.cls idx ((x_C k).2.1 j).1 ((x_C k).2.1 j).2.1 ((x_C k).2.1 j).2.2.1 ∈ lw_all) (hin : ∀ w ∈ u_ws (x_C k).1 (x_C k).2.1 (x_C k).2.2, w ∈ lw_all) (ty : Nat → FieldType) (hty : ∀ j, j < x_N k → parseFieldDescriptor ((x_C k).2.1 j).2.2.1 = some (ty j)) (hnm : ∀ a, a < x_N k → ∀ b, b < x_N k → a ≠ b → ((x_C k).2.1 a).2.1 ≠ ((x_C k).2.1 b).2.1) (h1 : 1 ≤ k) (h2 : k < 13) (h7 : k ≠ 7) (hj : j < x_N k) (hfin : ((x_C k).2.1 j).2.2.2 = true) (hini : y.name = "<init>") (hdec : ((x_C k).2.1 j).1 = y.cls) (ho : x_off (100 * k + j) = 0) (hb : x_isK M b k) {v : Value} {M' : Mem} (hp : x_put M M' (100 * k + j) b v) (hn : narrow (ty j) v = v) (hfit : fits (ty j) v = true)
    (d : decode cc pc = .ok (.putfield idx, 3)) (kk : x_Z X cells slots Q M0 M' nL lv (pc + 3) st) : x_Z X cells slots Q M0 M nL lv pc (v :: .ref b :: st) := by
  intro H locs ls hP hE hL hl
  have hap := x_apart C hin ty hty hnm h1 (by omega)
  obtain ⟨cell, q1, q2, q3, q4⟩ := hP.obj hb h1 h2 h7
  obtain ⟨hS, hfc, kC, hkC, hkind⟩ := C.kn h1 (by omega)
  obtain ⟨cf, kf, fi, fd, hi, hsl⟩ := hS j hj
  have hlay := C.hts _ (hin _ (u_in_lay hj))
  unfold u_lay at hlay
  rw [if_pos hfin] at hlay
  have hst := (u_facts hfc hkC (u_lays C.hts hin hj) hi).1
  have hcf : (Xm X).cls = cf := by
    obtain ⟨_, _, c', _, _, _, -, -, hf', -, -, -, hown2, -⟩ := Cond.laysFinal_spec hlay
    have e1 : c' = cf := by have := hi.symm.trans hf'; simp at this; exact this.1.symm
    rw [hdec] at hown2
    rw [← e1]; exact Option.some.inj (C.1.2.2.2.1.symm.trans hown2)
  have h6 := u_fits hfc hkC hkind (Or.inr hlay) hi (hty j hj) hn hfit
  refine W.putFinK C.1.1 C.1.2.1 C.1.2.2.2.1 (C.hts _ q) hi hst hcf (C.1.2.2.2.2.2.2.2.2.trans hini) (by rw [q2]; exact h6) q1 q3 (by rw [hsl]; exact k2_hasslot (q4 j hj)) rfl rfl d fun H' e1 e2 e3 => ?_
  rw [hsl] at e1 ⊢
  have hlt := hP.lt (a := b) (by rcases hb with q | q <;> omega)
  refine kk H' _ ls (hp.P hP hb h1 h2 h7 hj ho hap q1 q2 q3 q4 e1 e2 e3) (fun a k' l1 l2 z => by rw [hp.fv.2.2.1]; exact hE a k' l1 l2 z) (fun z hz => ?_) hl
  rcases List.mem_append.mp hz with z1 | z1
  · exact hL z z1
  · rw [List.mem_singleton.mp z1]; exact hlt.1
end XF
