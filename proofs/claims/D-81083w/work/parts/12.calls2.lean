/-! ===== ends of methods; calls ===== -/
set_option maxRecDepth 100000
/-- how a method ends: with the outcome o and the memory M' -/
abbrev x_J (S0 : State) (D : va_G) (cA : Nat → ClassId) (M0 M' : Mem) : Heap → Prop := fun H => x_P S0 D cA M' H ∧ x_ext M0 M'
abbrev x_QF (X : x_Ctx) (M0 : Mem) (o : Outcome) (M' : Mem) (mc ms : Nat) : State → Prop := x_MQ (XS X) (Xb X) (Xs X) o (x_J (XS X) (XD X) (XA X) M0 M') mc ms
/-- a method's contract over the memory -/
abbrev x_Me (l : Launch) (S0 : State) (D : va_G) (cA : Nat → ClassId) (y : MethodName) (cc : ByteArray) (nL : Nat) (ret : Option FieldType) (hs : List (Nat × Nat × Nat × Nat)) (rm : Room) (av : List Value) (M : Mem) (o : Outcome) (M' : Mem) : Prop :=
  x_Ct l S0 y cc nL ret hs rm av (x_P S0 D cA M) o (x_J S0 D cA M M')
section XE
variable {X : x_Ctx} {cells slots mc ms : Nat} {Q : State → Prop} {M0 M M1 : Mem} {nL : Nat} {lv lv' : List (Nat × Value)} {pc : Nat} {st st0 st1 : List Value} {y : MethodName} {cc : ByteArray} {ret : Option FieldType} {hs : List (Nat × Nat × Nat × Nat)} {F Lo : Nat}
theorem x_mono {H : Heap} {locs : List Loc} {Q Q' : State → Prop} {g : JFrame} (h : x_W X H locs cells slots Q g) (hq : ∀ t, Q t → Q' t) : x_W X H locs cells slots Q' g := fun T hT S => by
  obtain ⟨t, a, b⟩ := h T hT S
  exact ⟨t, a, hq t b⟩
theorem x_fin {o : Outcome} {t : State} {M' : Mem} (h : MQ (Xb X) (fun _ _ o' t' => o' = o ∧ x_J (XS X) (XD X) (XA X) M0 M' t'.heap) (Xa X) (Xs X) mc ms (fun q => (XS X).heap.size ≤ q) t) : x_QF X M0 o M' mc ms t := by
  obtain ⟨o', h1, h2, ⟨rfl, h3⟩, L, ⟨-, h4, h5⟩, h6⟩ := h
  exact ⟨h1, h2, h3, L, ⟨h4, h5⟩, h6⟩
theorem z_iret (C : x_CC X F Lo y cc nL ret hs) {x : Int} (hr : ret = some .int) (h1 : cells ≤ mc) (h2 : slots ≤ ms) (d : decode cc pc = .ok (.ireturn, 1)) : x_Z X cells slots (x_QF X M0 (.returned (some (vI x))) M mc ms) M0 M nL lv pc [vI x] := fun H locs ls hP hE hL hl =>
  W.widen h1 h2 (x_mono (W.iret C.1.1 C.1.2.1 (C.1.2.2.2.2.2.2.1.trans hr) (fun t ht _ => ⟨rfl, by rw [ht]; exact ⟨hP, hE⟩⟩) hL d C.1.2.2.2.2.2.1) (fun t h => x_fin h))
theorem x_nz {x : Int} (h : x = 0 ∨ x = 1) : narrow .boolean (vI x) = vI x := by rcases h with rfl | rfl <;> rfl
theorem z_zret (C : x_CC X F Lo y cc nL ret hs) {x : Int} (hr : ret = some .boolean) (hx : x = 0 ∨ x = 1) (h1 : cells ≤ mc) (h2 : slots ≤ ms) (d : decode cc pc = .ok (.ireturn, 1)) : x_Z X cells slots (x_QF X M0 (.returned (some (vI x))) M mc ms) M0 M nL lv pc [vI x] := fun H locs ls hP hE hL hl =>
  W.widen h1 h2 (x_mono (W.zret C.1.1 C.1.2.1 (C.1.2.2.2.2.2.2.1.trans hr) (x_nz hx) (fun t ht _ => ⟨rfl, by rw [ht]; exact ⟨hP, hE⟩⟩) hL d C.1.2.2.2.2.2.1) (fun t h => x_fin h))
theorem z_lret (C : x_CC X F Lo y cc nL ret hs) {x : Int} (hr : ret = some .long) (h1 : cells ≤ mc) (h2 : slots ≤ ms) (d : decode cc pc = .ok (.lreturn, 1)) : x_Z X cells slots (x_QF X M0 (.returned (some (vL x))) M mc ms) M0 M nL lv pc [vL x] := fun H locs ls hP hE hL hl =>
  W.widen h1 h2 (x_mono (W.lret C.1.1 C.1.2.1 (C.1.2.2.2.2.2.2.1.trans hr) (fun t ht _ => ⟨rfl, by rw [ht]; exact ⟨hP, hE⟩⟩) hL d C.1.2.2.2.2.2.1) (fun t h => x_fin h))
theorem z_vret (C : x_CC X F Lo y cc nL ret hs) (hr : ret = none) (h1 : cells ≤ mc) (h2 : slots ≤ ms) (d : decode cc pc = .ok (.return_, 1)) : x_Z X cells slots (x_QF X M0 (.returned none) M mc ms) M0 M nL lv pc [] := fun H locs ls hP hE hL hl =>
  W.widen h1 h2 (x_mono (W.vret C.1.1 C.1.2.1 (C.1.2.2.2.2.2.2.1.trans hr) (fun t ht _ => ⟨rfl, by rw [ht]; exact ⟨hP, hE⟩⟩) hL d C.1.2.2.2.2.2.1) (fun t h => x_fin h))
theorem z_aret (C : x_CC X F Lo y cc nL ret hs) {x : Nat} {C2 : String} (hr : ret = some (.object C2)) (h1 : cells ≤ mc) (h2 : slots ≤ ms) (d : decode cc pc = .ok (.areturn, 1)) : x_Z X cells slots (x_QF X M0 (.returned (some (.ref x))) M mc ms) M0 M nL lv pc [.ref x] := fun H locs ls hP hE hL hl =>
  W.widen h1 h2 (x_mono (W.aret C.1.1 C.1.2.1 (C.1.2.2.2.2.2.2.1.trans hr) (Or.inl ⟨_, rfl⟩) (Or.inr ⟨_, rfl⟩) (fun t ht _ => ⟨rfl, by rw [ht]; exact ⟨hP, hE⟩⟩) hL d C.1.2.2.2.2.2.1) (fun t h => x_fin h))
/-- a method's walk begins -/
theorem x_begin {l : Launch} {S0 : State} {D : va_G} {cA : Nat → ClassId} {rm : Room} {av : List Value} {o : Outcome} {M' : Mem} (hG : x_G l S0 D cA) (hn : (lg_sl av).length ≤ nL) (hlv : lv_args 0 av = lv) (hF : rm.frames = F) (hLo : rm.locals = Lo) (hmc : rm.cells = mc) (hms : rm.slots = ms)
    (h : ∀ X : x_Ctx, Xl X = l → XS X = S0 → XD X = D → XA X = cA → XR X = rm → x_CC X F Lo y cc nL ret hs → x_Z X 0 0 (x_QF X M o M' mc ms) M M nL lv 0 []) : x_Me l S0 D cA y cc nL ret hs rm av M o M' := by
  intro p e s m below meth c hCX hP
  subst hmc; subst hms
  have hl := lv_entry av (n := nL) hn
  rw [hlv] at hl
  rw [lg_entry_eq]
  exact h (l, S0, D, cA, p, e, rm, s, m, av.toArray, below, meth, c) rfl rfl rfl rfl rfl ⟨hCX, hG, Nat.le_of_eq hF.symm, Nat.le_of_eq hLo.symm⟩ s.heap [] _ hP (x_ext.refl M) (fun q h => by cases h) hl
/-! the callee's code, by its word -/
abbrev x_cw (y2 : MethodName) (cc2 : ByteArray) (nL2 : Nat) (ret2 : Option FieldType) (hs2 : List (Nat × Nat × Nat × Nat)) : Prop := (hs2 = [] ∧ Cond.code y2 cc2 nL2 ret2 ∈ lw_all) ∨ Cond.codeWith y2 cc2 nL2 ret2 hs2 ∈ lw_all
variable {y2 : MethodName} {cc2 : ByteArray} {nL2 idx : Nat} {ret2 : Option FieldType} {hs2 : List (Nat × Nat × Nat × Nat)} {rm : Room} {av : List Value} {o : Outcome}
theorem x_code (C : x_CC X F Lo y cc nL ret hs) (hw : x_cw y2 cc2 nL2 ret2 hs2) : ∃ mk methk ck, (Xs X).methodNamed? y2 = some mk ∧ (Xs X).vm.method? mk = some methk ∧ methk.code = some ck ∧ ck.code = cc2 ∧ ck.maxLocals = nL2 ∧ methk.sig.returnType = ret2 ∧ methk.locks = false ∧ ck.exceptionTable.toList.map (fun h => (h.startPc, h.endPc, h.handlerPc, h.catchType)) = hs2 ∧ parseMethodDescriptor y2.desc = some methk.sig := by
  rcases hw with ⟨rfl, hw⟩ | hw
  · have hc := C.hts _ hw
    obtain ⟨mk, hn⟩ := Cond.code_named hc
    obtain ⟨methk, ck, h1, h2, h3, h4, h5, h6, h7, h8⟩ := Cond.code_spec hn hc
    refine ⟨mk, methk, ck, hn, h1, h2, h3, h4, h5, h6, ?_, h8⟩
    have : ck.exceptionTable = #[] := by simpa using h7
    rw [this]; rfl
  · obtain ⟨mk, methk, ck, hn, h1, h2, h3, h4, h5, h6, h7, h8⟩ := Cond.codeWith_spec (C.hts _ hw)
    exact ⟨mk, methk, ck, hn, h1, h2, h3, h4, h6, h7, h5, h8⟩
/-- room for a call -/
abbrev x_rm (X : x_Ctx) (F Lo : Nat) (rm : Room) (nL2 cells slots : Nat) : Prop := rm.frames + 1 ≤ F ∧ 12 + (nL2 + 11) + rm.locals ≤ Lo ∧ cells + rm.cells ≤ (XR X).cells ∧ slots + rm.slots ≤ (XR X).slots
/-- the callee has run: what the caller has -/
abbrev x_Back (X : x_Ctx) (M M1 : Mem) (T : State) (g : JFrame) (rest : List Value) (o : Outcome) (locs : List Loc) (cells slots : Nat) : Prop :=
  ∃ T' L, Stand (Xp X) (Xl X) (Xe X) (XR X) (Xs X) (Xm X) (Xa X) (Xb X) (Xt X) (Xc X) T' (locs ++ L) cells slots ∧ (∀ q ∈ L, (XS X).heap.size ≤ q.base) ∧ x_J (XS X) (XD X) (XA X) M M1 T'.heap ∧
      (∀ v, o = .returned v → Steps (Xp X).tables (Xe X) (Xb X) (T.setTop g) (T'.setTop { g with pc := g.pc + 3, stack := v.toList ++ rest })) ∧
      (∀ x, o = .threw x → Steps (Xp X).tables (Xe X) (Xb X) (T.setTop g) ((T'.setTop { g with stack := rest }).pushFrame (.throwing x)))
theorem x_callS (C : x_CC X F Lo y cc nL ret hs) (hC : x_Me (Xl X) (XS X) (XD X) (XA X) y2 cc2 nL2 ret2 hs2 rm av M o M1) (hw : x_cw y2 cc2 nL2 ret2 hs2) (ql : Cond.methodLink y.cls idx y2 ∈ lw_all) (qs : Cond.static y2 ∈ lw_all) (qi : Cond.initialized y2.cls ∈ lw_all) (hpl : plainName y2.cls = true) (hy : y2.cls ≠ "java/lang/invoke/MethodHandle" ∧ y2.cls ≠ "java/lang/invoke/VarHandle") (hn : (parseMethodDescriptor y2.desc).map (fun d => d.parameters.length) = some av.length) (hR : x_rm X F Lo rm nL2 cells slots)
    {T : State} {locs : List Loc} (hP : x_P (XS X) (XD X) (XA X) M T.heap) (S : Stand (Xp X) (Xl X) (Xe X) (XR X) (Xs X) (Xm X) (Xa X) (Xb X) (Xt X) (Xc X) T locs cells slots) {g : JFrame} (hg : g.method = Xm X) (hsize : g.locals.size = nL) (hmon : g.monitorRoom = 0) (hstk : g.stack = av.reverse ++ st) (hsum : (st.map fun v => v.category).sum ≤ 12) (d : decode cc g.pc = .ok (.invokestatic idx, 3)) :
    x_Back X M M1 T g st o locs (cells + rm.cells) (slots + rm.slots) := by
  obtain ⟨mk, methk, ck, hnm, h1, h2, h3, h4, h5, h6, h7, h8⟩ := x_code C hw
  have hstat : methk.isStatic = true := Cond.static_spec hnm h1 (C.hts _ qs)
  obtain ⟨kP, hkP, -⟩ := className_of_methodNamed hnm
  have hini : kP.init = .initialized := Cond.initialized_spec (findClass_of_methodNamed hnm) hkP (C.hts _ qi)
  have hdc : decode (Xc X).code g.pc = .ok (.invokestatic idx, 3) := by rw [C.1.2.1]; exact d
  rw [h8] at hn
  obtain ⟨vm₁, S₁, st₁⟩ := S.invokestatic C.1.1 C.1.2.2.2.1 (C.hts _ ql) hnm h1 hstat hkP hini hy (g := g) hg (argsL := av) (rest := st) (Option.some.inj hn).symm hstk hdc
  obtain ⟨T', L, g1, g2, g3, g4, g5⟩ := x_core hC S₁ C.1.1 C.1.2.2.2.2.1 (g := { g with stack := st }) hg (hsize.trans C.1.2.2.1.symm) hdc hnm h1 h2 h3 h4 h5 h6 h7 hpl (Nat.le_trans hR.1 C.2.2.1) (Nat.le_trans (by show 2 * g.monitorRoom + (st.map fun v => v.category).sum + (nL2 + 11) + rm.locals ≤ Lo; have := hR.2.1; omega) C.2.2.2) hR.2.2.1 hR.2.2.2 hP
  exact ⟨T', L, g1, g2, g3, fun v hv => st₁ _ fun acts => by rw [doInvoke_state]; exact g4 v hv, fun x hx => st₁ _ fun acts => by rw [doInvoke_state]; exact g5 x hx⟩
theorem x_callV (C : x_CC X F Lo y cc nL ret hs) {k b : Nat} (hC : x_Me (Xl X) (XS X) (XD X) (XA X) y2 cc2 nL2 ret2 hs2 rm (.ref b :: av) M o M1) (hw : x_cw y2 cc2 nL2 ret2 hs2) (ql : Cond.methodLink y.cls idx y2 ∈ lw_all) (qm : Cond.instanceMethod y2 ∈ lw_all) (qs : Cond.selects (x_C k).1 y2 y2 ∈ lw_all) (hpl : plainName y2.cls = true) (hy : y2.cls ≠ "java/lang/invoke/MethodHandle" ∧ y2.cls ≠ "java/lang/invoke/VarHandle") (hn : (parseMethodDescriptor y2.desc).map (fun d => d.parameters.length) = some av.length) (hR : x_rm X F Lo rm nL2 cells slots) (hb : x_isK M b k) (k1 : 1 ≤ k) (k2 : k < 13) (k7 : k ≠ 7)
    {T : State} {locs : List Loc} (hP : x_P (XS X) (XD X) (XA X) M T.heap) (S : Stand (Xp X) (Xl X) (Xe X) (XR X) (Xs X) (Xm X) (Xa X) (Xb X) (Xt X) (Xc X) T locs cells slots) {g : JFrame} (hg : g.method = Xm X) (hsize : g.locals.size = nL) (hmon : g.monitorRoom = 0) (hstk : g.stack = av.reverse ++ .ref b :: st) (hsum : (st.map fun v => v.category).sum ≤ 12) (d : decode cc g.pc = .ok (.invokevirtual idx, 3)) :
    x_Back X M M1 T g st o locs (cells + rm.cells) (slots + rm.slots) := by
  obtain ⟨mk, methk, ck, hnm, h1, h2, h3, h4, h5, h6, h7, h8⟩ := x_code C hw
  obtain ⟨cell, q1, q2, q3, -⟩ := hP.obj hb k1 k2 k7
  have hcls : (Xs X).vm.findClass (x_C k).1 = some cell.cls := by rw [q2]; exact (C.kn k1 (by omega)).2.1
  obtain ⟨mk2, methM, hnamed, hmethM, hstM, habM⟩ := Cond.instanceMethod_spec (C.hts _ qm)
  cases hnm.symm.trans hnamed
  cases h1.symm.trans hmethM
  obtain ⟨c2, r2, m2, p1, p2, p3, p4, kP, hkP, hkPi⟩ := Cond.selects_spec (C.hts _ qs)
  cases hcls.symm.trans p1
  cases (State.methodFound?_of_named hnamed hy).symm.trans p2
  cases hnamed.symm.trans p3
  have hselP : selectMethod (Xe X).platform (Xs X).vm cell.cls mk = .method mk := by rw [Launch.admits_selectMethod S.admits]; exact p4
  have hdc : decode (Xc X).code g.pc = .ok (.invokevirtual idx, 3) := by rw [C.1.2.1]; exact d
  rw [h8] at hn
  obtain ⟨vm₁, S₁, st₁⟩ := S.invokevirtual C.1.1 C.1.2.2.2.1 (C.hts _ ql) hnm h1 hstM hkP hkPi hy (a := b) (cell := cell) q1 (fun z => by rw [q3]; intro h; cases h) hselP h1 habM hkP hkPi (g := g) hg (argsL := av) (rest := st) (Option.some.inj hn).symm hstk hdc
  obtain ⟨T', L, g1, g2, g3, g4, g5⟩ := x_core hC S₁ C.1.1 C.1.2.2.2.2.1 (g := { g with stack := st }) hg (hsize.trans C.1.2.2.1.symm) hdc hnm h1 h2 h3 h4 h5 h6 h7 hpl (Nat.le_trans hR.1 C.2.2.1) (Nat.le_trans (by show 2 * g.monitorRoom + (st.map fun v => v.category).sum + (nL2 + 11) + rm.locals ≤ Lo; have := hR.2.1; omega) C.2.2.2) hR.2.2.1 hR.2.2.2 hP
  exact ⟨T', L, g1, g2, g3, fun v hv => st₁ _ fun acts => by rw [doInvoke_state]; exact g4 v hv, fun x hx => st₁ _ fun acts => by rw [doInvoke_state]; exact g5 x hx⟩
/-- the call has returned -/
theorem x_after {v : Option Value} (hst1 : v.toList ++ st = st1) {T : State} {H : Heap} {ls : Array Slot} {locs : List Loc} (hT : T.heap = H) (B : x_Back X M M1 T (F0 (Xm X) pc ls st0) st (.returned v) locs mc ms) (hE : x_ext M0 M) (hL : ∀ q ∈ locs, (XS X).heap.size ≤ q.base) (hl : lv_has ls nL lv) (kk : x_ext M M1 → x_Z X mc ms Q M0 M1 nL lv (pc + 3) st1) :
    ∃ t, Steps (Xp X).tables (Xe X) (Xb X) (T.setTop (F0 (Xm X) pc ls st0)) t ∧ Q t := by
  obtain ⟨T', L, g1, g2, ⟨g3, g3'⟩, g4, -⟩ := B
  obtain ⟨t, a1, b1⟩ := kk g3' T'.heap (locs ++ L) ls g3 (hE.trans g3') (fun q hq => (List.mem_append.mp hq).elim (hL q) (g2 q)) hl T' rfl g1
  subst hst1
  exact ⟨t, (g4 v rfl).trans a1, b1⟩
/-- the call has thrown, and so does the method -/
theorem x_leave (C : x_CC X F Lo y cc nL ret hs) (hno : ∀ h ∈ hs, (decide (h.1 ≤ pc) && decide (pc < h.2.1)) = false) {x : Nat} {T : State} {H : Heap} {ls : Array Slot} {locs : List Loc} {c2 s2 : Nat} (hT : T.heap = H) (B : x_Back X M M1 T (F0 (Xm X) pc ls st0) st (.threw x) locs c2 s2) (hc : c2 ≤ mc) (hsl : s2 ≤ ms) (hE : x_ext M0 M) (hL : ∀ q ∈ locs, (XS X).heap.size ≤ q.base) :
    ∃ t, Steps (Xp X).tables (Xe X) (Xb X) (T.setTop (F0 (Xm X) pc ls st0)) t ∧ x_QF X M0 (.threw x) M1 mc ms t := by
  obtain ⟨T', L, g1, g2, ⟨g3, g3'⟩, -, g5⟩ := B
  have hout : ∀ h ∈ (Xc X).exceptionTable.toList, covers h pc = false := fun h hh => by
    have := hno (h.startPc, h.endPc, h.handlerPc, h.catchType) (by rw [← C.1.2.2.2.2.2.2.2.1]; exact List.mem_map.mpr ⟨h, hh, rfl⟩)
    exact this
  obtain ⟨s1, s2', s3, s4, s5⟩ := (stand_widen g1 hc hsl).leaveThrown x (g := { F0 (Xm X) pc ls st0 with stack := st }) rfl rfl rfl hout C.1.2.2.2.2.2.1
  refine ⟨_, (g5 x rfl).trans s1, s2', s3, ?_, locs ++ L, ⟨s4, s5⟩, fun q hq => (List.mem_append.mp hq).elim (hL q) (g2 q)⟩
  exact ⟨g3, hE.trans g3'⟩
theorem z_callS (C : x_CC X F Lo y cc nL ret hs) {v : Option Value} (hC : x_Me (Xl X) (XS X) (XD X) (XA X) y2 cc2 nL2 ret2 hs2 rm av M (.returned v) M1) (hw : x_cw y2 cc2 nL2 ret2 hs2) (ql : Cond.methodLink y.cls idx y2 ∈ lw_all) (qs : Cond.static y2 ∈ lw_all) (qi : Cond.initialized y2.cls ∈ lw_all) (hpl : plainName y2.cls = true) (hy : y2.cls ≠ "java/lang/invoke/MethodHandle" ∧ y2.cls ≠ "java/lang/invoke/VarHandle") (hn : (parseMethodDescriptor y2.desc).map (fun d => d.parameters.length) = some av.length) (hR : x_rm X F Lo rm nL2 cells slots) (hst0 : av.reverse ++ st = st0) (hst1 : v.toList ++ st = st1) (hsum : (st.map fun v => v.category).sum ≤ 12) (d : decode cc pc = .ok (.invokestatic idx, 3)) (kk : x_ext M M1 → x_Z X (cells + rm.cells) (slots + rm.slots) Q M0 M1 nL lv (pc + 3) st1) : x_Z X cells slots Q M0 M nL lv pc st0 := by
  intro H locs ls hP hE hL hl T hT S
  subst hT
  exact x_after hst1 rfl (x_callS C hC hw ql qs qi hpl hy hn hR hP S (g := F0 (Xm X) pc ls st0) rfl hl.1 rfl hst0.symm hsum d) hE hL hl kk
theorem z_thrS (C : x_CC X F Lo y cc nL ret hs) {x : Nat} (hC : x_Me (Xl X) (XS X) (XD X) (XA X) y2 cc2 nL2 ret2 hs2 rm av M (.threw x) M1) (hw : x_cw y2 cc2 nL2 ret2 hs2) (ql : Cond.methodLink y.cls idx y2 ∈ lw_all) (qs : Cond.static y2 ∈ lw_all) (qi : Cond.initialized y2.cls ∈ lw_all) (hpl : plainName y2.cls = true) (hy : y2.cls ≠ "java/lang/invoke/MethodHandle" ∧ y2.cls ≠ "java/lang/invoke/VarHandle") (hn : (parseMethodDescriptor y2.desc).map (fun d => d.parameters.length) = some av.length) (hR : x_rm X F Lo rm nL2 cells slots) (hst0 : av.reverse ++ st = st0) (hsum : (st.map fun v => v.category).sum ≤ 12) (d : decode cc pc = .ok (.invokestatic idx, 3)) (hno : ∀ h ∈ hs, (decide (h.1 ≤ pc) && decide (pc < h.2.1)) = false) (hc : cells + rm.cells ≤ mc) (hsl : slots + rm.slots ≤ ms) : x_Z X cells slots (x_QF X M0 (.threw x) M1 mc ms) M0 M nL lv pc st0 := by
  intro H locs ls hP hE hL hl T hT S
  subst hT
  exact x_leave C hno rfl (x_callS C hC hw ql qs qi hpl hy hn hR hP S (g := F0 (Xm X) pc ls st0) rfl hl.1 rfl hst0.symm hsum d) hc hsl hE hL
theorem z_callV (C : x_CC X F Lo y cc nL ret hs) {k b : Nat} {v : Option Value} (hC : x_Me (Xl X) (XS X) (XD X) (XA X) y2 cc2 nL2 ret2 hs2 rm (.ref b :: av) M (.returned v) M1) (hw : x_cw y2 cc2 nL2 ret2 hs2) (ql : Cond.methodLink y.cls idx y2 ∈ lw_all) (qm : Cond.instanceMethod y2 ∈ lw_all) (qs : Cond.selects (x_C k).1 y2 y2 ∈ lw_all) (hpl : plainName y2.cls = true) (hy : y2.cls ≠ "java/lang/invoke/MethodHandle" ∧ y2.cls ≠ "java/lang/invoke/VarHandle") (hn : (parseMethodDescriptor y2.desc).map (fun d => d.parameters.length) = some av.length) (hR : x_rm X F Lo rm nL2 cells slots) (k1 : 1 ≤ k) (k2 : k < 13) (k7 : k ≠ 7) (hb : x_isK M b k) (hst0 : av.reverse ++ .ref b :: st = st0) (hst1 : v.toList ++ st = st1) (hsum : (st.map fun v => v.category).sum ≤ 12) (d : decode cc pc = .ok (.invokevirtual idx, 3)) (kk : x_ext M M1 → x_Z X (cells + rm.cells) (slots + rm.slots) Q M0 M1 nL lv (pc + 3) st1) : x_Z X cells slots Q M0 M nL lv pc st0 := by
  intro H locs ls hP hE hL hl T hT S
  subst hT
  exact x_after hst1 rfl (x_callV C hC hw ql qm qs hpl hy hn hR hb k1 k2 k7 hP S (g := F0 (Xm X) pc ls st0) rfl hl.1 rfl hst0.symm hsum d) hE hL hl kk
theorem z_thrV (C : x_CC X F Lo y cc nL ret hs) {k b x : Nat} (hC : x_Me (Xl X) (XS X) (XD X) (XA X) y2 cc2 nL2 ret2 hs2 rm (.ref b :: av) M (.threw x) M1) (hw : x_cw y2 cc2 nL2 ret2 hs2) (ql : Cond.methodLink y.cls idx y2 ∈ lw_all) (qm : Cond.instanceMethod y2 ∈ lw_all) (qs : Cond.selects (x_C k).1 y2 y2 ∈ lw_all) (hpl : plainName y2.cls = true) (hy : y2.cls ≠ "java/lang/invoke/MethodHandle" ∧ y2.cls ≠ "java/lang/invoke/VarHandle") (hn : (parseMethodDescriptor y2.desc).map (fun d => d.parameters.length) = some av.length) (hR : x_rm X F Lo rm nL2 cells slots) (k1 : 1 ≤ k) (k2 : k < 13) (k7 : k ≠ 7) (hb : x_isK M b k) (hst0 : av.reverse ++ .ref b :: st = st0) (hsum : (st.map fun v => v.category).sum ≤ 12) (d : decode cc pc = .ok (.invokevirtual idx, 3)) (hno : ∀ h ∈ hs, (decide (h.1 ≤ pc) && decide (pc < h.2.1)) = false) (hc : cells + rm.cells ≤ mc) (hsl : slots + rm.slots ≤ ms) : x_Z X cells slots (x_QF X M0 (.threw x) M1 mc ms) M0 M nL lv pc st0 := by
  intro H locs ls hP hE hL hl T hT S
  subst hT
  exact x_leave C hno rfl (x_callV C hC hw ql qm qs hpl hy hn hR hb k1 k2 k7 hP S (g := F0 (Xm X) pc ls st0) rfl hl.1 rfl hst0.symm hsum d) hc hsl hE hL
end XE
