/-! ===== constructors' calls, a nest mate's method ===== -/
set_option maxRecDepth 100000
section XI
variable {X : x_Ctx} {cells slots mc ms : Nat} {Q : State → Prop} {M0 M M1 : Mem} {nL : Nat} {lv lv' : List (Nat × Value)} {pc : Nat} {st st0 st1 : List Value} {y : MethodName} {cc : ByteArray} {ret : Option FieldType} {hs : List (Nat × Nat × Nat × Nat)} {F Lo : Nat}
variable {y2 : MethodName} {cc2 : ByteArray} {nL2 idx : Nat} {ret2 : Option FieldType} {hs2 : List (Nat × Nat × Nat × Nat)} {rm : Room} {av : List Value} {o : Outcome} {v : Option Value}
abbrev x_bPre (X : x_Ctx) (rm : Room) (av : List Value) (M : Mem) : Pt → Array Value → Prop := fun A a => a = av.toArray ∧ x_P (XS X) (XD X) (XA X) M A.U.heap ∧ A.cells + rm.cells ≤ (XR X).cells ∧ A.slots + rm.slots ≤ (XR X).slots
abbrev x_bPost (X : x_Ctx) (rm : Room) (M M1 : Mem) (v : Option Value) : Pt → Array Value → Option Value → Pt → Prop := fun A _ v' B => v' = v ∧ x_J (XS X) (XD X) (XA X) M M1 B.U.heap ∧ B.cells = A.cells + rm.cells ∧ B.slots = A.slots + rm.slots ∧ ∃ L, B.locs = A.locs ++ L ∧ ∀ q ∈ L, (XS X).heap.size ≤ q.base
theorem x_bk (C : x_CC X F Lo y cc nL ret hs) (hC : x_Me (Xl X) (XS X) (XD X) (XA X) y2 cc2 nL2 ret2 hs2 rm av M (.returned v) M1) (hw : x_cw y2 cc2 nL2 ret2 hs2) (hpl : plainName y2.cls = true) (hR : rm.frames + 1 ≤ F ∧ 12 + (nL2 + 11) + rm.locals ≤ Lo) : Back (Xl X) (XR X) (Xp X) (Xe X) (Xb X) (Xs X) (Xa X) y2 3 12 (x_bPre X rm av M) (x_bPost X rm M M1 v) := by
  intro m' meth' c' A g ig mk a S hg hsize hdg hW hn hp
  obtain ⟨mk0, methk, ck, hnm, h1, h2, h3, h4, h5, h6, h7, h8⟩ := x_code C hw
  cases hn.symm.trans (S.named hnm)
  obtain ⟨rfl, hP, hc1, hc2⟩ := hp
  obtain ⟨T', L, g1, g2, g3, g4, -⟩ := x_core hC S C.1.1 C.1.2.2.2.2.1 hg hsize hdg hnm h1 h2 h3 h4 h5 h6 h7 hpl (Nat.le_trans hR.1 C.2.2.1) (Nat.le_trans (by have := hR.2; omega) C.2.2.2) hc1 hc2 hP
  exact ⟨v, ⟨T', A.locs ++ L, A.cells + rm.cells, A.slots + rm.slots⟩, g1, ⟨rfl, g3, rfl, rfl, L, rfl, g2⟩, g4 v rfl⟩
theorem x_after2 {H : Heap} {ls : Array Slot} {locs : List Loc} (hE : x_ext M0 M) (hL : ∀ q ∈ locs, (XS X).heap.size ≤ q.base) (hl : lv_has ls nL lv) {T : State} {A : Array Value} {v' : Option Value} {vm₁ : Vm} {B : Pt} (S : Stand (Xp X) (Xl X) (Xe X) (XR X) (Xs X) (Xm X) (Xa X) (Xb X) (Xt X) (Xc X) B.U B.locs B.cells B.slots) (hp : x_bPost X rm M M1 v ⟨T.setVm vm₁, locs, cells, slots⟩ A v' B) (hst1 : v.toList ++ st = st1) (kk : x_ext M M1 → x_Z X (cells + rm.cells) (slots + rm.slots) Q M0 M1 nL lv (pc + 3) st1)
    (hs : ∀ target, Steps (Xp X).tables (Xe X) (Xb X) (B.U.setTop { F0 (Xm X) pc ls st0 with pc := pc + 3, stack := v'.toList ++ st }) target → Steps (Xp X).tables (Xe X) (Xb X) (T.setTop (F0 (Xm X) pc ls st0)) target) : ∃ t, Steps (Xp X).tables (Xe X) (Xb X) (T.setTop (F0 (Xm X) pc ls st0)) t ∧ Q t := by
  obtain ⟨U, bl, bc, bs⟩ := B
  obtain ⟨rfl, ⟨g3, g3'⟩, e1, e2, L, e3, g2⟩ := hp
  dsimp only [Pt.U, Pt.locs, Pt.cells, Pt.slots] at S g3 e1 e2 e3 hs
  subst e1; subst e2; subst e3; subst hst1
  obtain ⟨t, a1, b1⟩ := kk g3' U.heap (locs ++ L) ls g3 (hE.trans g3') (fun q hq => (List.mem_append.mp hq).elim (hL q) (g2 q)) hl U rfl S
  exact ⟨t, hs t a1, b1⟩
theorem z_callI (C : x_CC X F Lo y cc nL ret hs) {b : Nat} (hC : x_Me (Xl X) (XS X) (XD X) (XA X) y2 cc2 nL2 none [] rm (.ref b :: av) M (.returned none) M1) (hw : Cond.code y2 cc2 nL2 none ∈ lw_all) (hy1 : y2.name = "<init>") (ql : Cond.methodLink y.cls idx y2 ∈ lw_all) (qm : Cond.instanceMethod y2 ∈ lw_all) (hpl : plainName y2.cls = true) (hy : y2.cls ≠ "java/lang/invoke/MethodHandle" ∧ y2.cls ≠ "java/lang/invoke/VarHandle") (hn : (parseMethodDescriptor y2.desc).map (fun d => d.parameters.length) = some av.length) (hR : x_rm X F Lo rm nL2 cells slots) (hst0 : av.reverse ++ .ref b :: st = st0) (hsum : (st.map fun v => v.category).sum ≤ 12) (d : decode cc pc = .ok (.invokespecial idx, 3)) (kk : x_ext M M1 → x_Z X (cells + rm.cells) (slots + rm.slots) Q M0 M1 nL lv (pc + 3) st) : x_Z X cells slots Q M0 M nL lv pc st0 := by
  intro H locs ls hP hE hL hl T hT S
  subst hT
  obtain ⟨v', vm₁, B, -, S', hp, hs'⟩ := callI S C.1.1 C.1.2.2.2.1 hy1 (C.hts _ ql) (C.hts _ qm) (C.hts _ hw) hy (x_bk C hC (Or.inl ⟨rfl, hw⟩) hpl ⟨hR.1, hR.2.1⟩) (g := F0 (Xm X) pc ls st0) rfl (hl.1.trans C.1.2.2.1.symm) (a := b) (argsL := av) (rest := st) (fun sig h => by rw [h] at hn; exact (Option.some.inj hn).symm) hst0.symm (by show 2 * 0 + _ ≤ 12; omega) (by rw [C.1.2.1]; exact d) (fun vm₁ _ => ⟨rfl, hP, hR.2.2.1, hR.2.2.2⟩)
  exact x_after2 (H := T.heap) hE hL hl S' hp rfl kk hs'
theorem x_linkM (C : x_CC X F Lo y cc nL ret hs) {h : String} (q : Cond.methodLinkNest y.cls idx y2 h ∈ lw_tbl) : (Cond.methodLinkNest y.cls idx y2 h).before (Xa X) (Xs X) = true :=
  va_Nw.use rfl (va_Nw.warmM C.1.2.2.2.2.1 (va_Nw.of rfl (C.2.1.2.1 _ q)))
theorem z_callIN (C : x_CC X F Lo y cc nL ret hs) {b : Nat} {host : String} (hC : x_Me (Xl X) (XS X) (XD X) (XA X) y2 cc2 nL2 none [] rm (.ref b :: av) M (.returned none) M1) (hw : Cond.code y2 cc2 nL2 none ∈ lw_all) (hy1 : y2.name = "<init>") (ql : Cond.methodLinkNest y.cls idx y2 host ∈ lw_tbl) (qm : Cond.instanceMethod y2 ∈ lw_all) (hpl : plainName y2.cls = true) (hy : y2.cls ≠ "java/lang/invoke/MethodHandle" ∧ y2.cls ≠ "java/lang/invoke/VarHandle") (hn : (parseMethodDescriptor y2.desc).map (fun d => d.parameters.length) = some av.length) (hR : x_rm X F Lo rm nL2 cells slots) (hst0 : av.reverse ++ .ref b :: st = st0) (hsum : (st.map fun v => v.category).sum ≤ 12) (d : decode cc pc = .ok (.invokespecial idx, 3)) (kk : x_ext M M1 → x_Z X (cells + rm.cells) (slots + rm.slots) Q M0 M1 nL lv (pc + 3) st) : x_Z X cells slots Q M0 M nL lv pc st0 := by
  intro H locs ls hP hE hL hl T hT S
  subst hT
  obtain ⟨v', vm₁, B, -, S', hp, hs'⟩ := va_callIN S C.1.1 C.1.2.2.2.1 hy1 (x_linkM C ql) (C.hts _ qm) (C.hts _ hw) hy (x_bk C hC (Or.inl ⟨rfl, hw⟩) hpl ⟨hR.1, hR.2.1⟩) (g := F0 (Xm X) pc ls st0) rfl (hl.1.trans C.1.2.2.1.symm) (a := b) (argsL := av) (rest := st) (fun sig h => by rw [h] at hn; exact (Option.some.inj hn).symm) hst0.symm (by show 2 * 0 + _ ≤ 12; omega) (by rw [C.1.2.1]; exact d) (fun vm₁ _ => ⟨rfl, hP, hR.2.2.1, hR.2.2.2⟩)
  exact x_after2 (H := T.heap) hE hL hl S' hp rfl kk hs'
theorem z_callVN (C : x_CC X F Lo y cc nL ret hs) {k b : Nat} {host : String} (hC : x_Me (Xl X) (XS X) (XD X) (XA X) y2 cc2 nL2 ret2 [] rm (.ref b :: av) M (.returned v) M1) (hw : Cond.code y2 cc2 nL2 ret2 ∈ lw_all) (ql : Cond.methodLinkNest y.cls idx y2 host ∈ lw_tbl) (qm : Cond.instanceMethod y2 ∈ lw_all) (qs : Cond.selects (x_C k).1 y2 y2 ∈ lw_all) (hpl : plainName y2.cls = true) (hy : y2.cls ≠ "java/lang/invoke/MethodHandle" ∧ y2.cls ≠ "java/lang/invoke/VarHandle") (hn : (parseMethodDescriptor y2.desc).map (fun d => d.parameters.length) = some av.length) (hR : x_rm X F Lo rm nL2 cells slots) (k1 : 1 ≤ k) (k2 : k < 13) (k7 : k ≠ 7) (hb : x_isK M b k) (hst0 : av.reverse ++ .ref b :: st = st0) (hst1 : v.toList ++ st = st1) (hsum : (st.map fun v => v.category).sum ≤ 12) (d : decode cc pc = .ok (.invokevirtual idx, 3)) (kk : x_ext M M1 → x_Z X (cells + rm.cells) (slots + rm.slots) Q M0 M1 nL lv (pc + 3) st1) : x_Z X cells slots Q M0 M nL lv pc st0 := by
  intro H locs ls hP hE hL hl T hT S
  subst hT
  obtain ⟨cell, q1, q2, q3, -⟩ := hP.obj hb k1 k2 k7
  obtain ⟨v', vm₁, B, -, S', hp, hs'⟩ := va_callVN S C.1.1 (C := (x_C k).1) C.1.2.2.2.1 (x_linkM C ql) (C.hts _ qm) (C.hts _ qs) (C.hts _ hw) hy (x_bk C hC (Or.inl ⟨rfl, hw⟩) hpl ⟨hR.1, hR.2.1⟩) q1 (by rw [q3]; rfl) (by rw [q2]; exact (C.kn k1 (by omega)).2.1) (g := F0 (Xm X) pc ls st0) rfl (hl.1.trans C.1.2.2.1.symm) (argsL := av) (rest := st) (fun sig h => by rw [h] at hn; exact (Option.some.inj hn).symm) hst0.symm (by show 2 * 0 + _ ≤ 12; omega) (by rw [C.1.2.1]; exact d) (fun vm₁ _ => ⟨rfl, hP, hR.2.2.1, hR.2.2.2⟩)
  exact x_after2 (H := T.heap) hE hL hl S' hp hst1 kk hs'
end XI
