/-! ===== exceptions are caught, by classes that need not be resolved yet ===== -/
set_option maxRecDepth 100000
section XK0
variable {e : Env} {s : State} {f : JFrame} {a : Addr}
theorem k_cold {x : ExceptionTableEntry} {t : List ExceptionTableEntry} {c : ClassId} {vm' : Vm} (hx : covers x f.pc = true) (h0 : x.catchType ≠ 0) (hg : (Jvm.resolveClass f.method.cls x.catchType).Gives e.toSetting s.vm (.ok c) vm') (hr : vm'.classReady f.method.cls x.catchType c) (hsz : vm'.classes.size ≤ s.vm.classes.size)
    {Q : Handler → Pre} {E : CtlPost} {d : Bool} {acts : List Action} : wp (findHandler.go f a (x :: t)) Q E e d acts s ↔ wp (findHandler.go f a (x :: t)) Q E e d acts (s.setVm vm') := by
  obtain ⟨ha, ht⟩ := hg.op (op := VmOp.resolveClass f.method.cls x.catchType) rfl
  obtain ⟨k, hkd, hres⟩ := hr
  obtain ⟨ma, mt⟩ := resolveClass_memo e hkd hres
  simp only [covers] at hx
  simp [findHandler.go, hx, h0, ha, ht, hsz, ma, mt, VmOp.dirties, VmOp.acts]
  exact Iff.rfl
/-- the search ends at a handler, and leaves other tables -/
def k_Finds (e : Env) (s : State) (f : JFrame) (a : Addr) (h : Handler) (vm' : Vm) : Prop :=
  ∀ (Q : Handler → Pre) (E : CtlPost) (d : Bool) (acts : List Action), wp (findHandler f a) Q E e d acts s ↔ Q h d acts (s.setVm vm')
theorem k_catch {r : List Frame} {pc : Nat} {vm' : Vm} (hfind : k_Finds e s f a (.found pc) vm') :
    (stepThrowing e s a (.java f :: r)).Is ((s.setVm vm').setFrames (.java { f with pc := pc, stack := [.ref a] } :: r)) [] := by
  simp only [stepThrowing, searchFrame, vmDo]
  generalize hr : Sem.go _ e false [] s = res
  obtain ⟨as, rfl, ha⟩ := Sem.eq_ok_of hr (a := Handler.found pc) (s' := s.setVm vm') (acts' := []) (by simp [hfind _ _ _ _])
  exact ⟨rfl, ha⟩
theorem k_caught {tb : Tables} {g : JFrame} {c : Code} {below : List Frame} {target : State} (h : At s g.method c below) {pc : Nat} {vm' : Vm} (hfind : k_Finds e ((s.setTop g).pushFrame (.throwing a)) g a (.found pc) vm')
    (hrest : Steps tb e below ((s.setVm vm').setTop { g with pc := pc, stack := [.ref a] }) target) :
    Steps tb e below ((s.setTop g).pushFrame (.throwing a)) target := by
  obtain ⟨hgo, hw⟩ := h.throwing a
  refine Steps.head hgo hw ?_
  rw [stepThread_throwing (frames_entered h.top _), (k_catch (s := (s.setTop g).pushFrame (.throwing a)) hfind).1]
  obtain ⟨g₀, hg⟩ := Option.isSome_iff_exists.mp h.top
  obtain ⟨r, hr⟩ := State.topJava?_eq_some.mp hg
  have hr2 : (s.setVm vm').frames = .java g₀ :: r := hr
  rw [State.setTop_of_frames _ hr2] at hrest
  rw [State.pushFrame, State.setTop_of_frames _ hr]
  rw [hr]
  show Steps tb e below ((((s.setVm vm').setFrames (Frame.java g :: r)).setFrames _).setFrames _) target
  rw [State.setFrames_setFrames, State.setFrames_setFrames]
  exact hrest
end XK0
section XK
variable {X : x_Ctx} {cells slots : Nat} {Q : State → Prop} {M0 M M1 : Mem} {nL : Nat} {lv lv' : List (Nat × Value)} {pc : Nat} {st st0 : List Value} {y : MethodName} {cc : ByteArray} {ret : Option FieldType} {hs : List (Nat × Nat × Nat × Nat)} {F Lo : Nat}
theorem k_kind (C : x_CC X F Lo y cc nL ret hs) {k a : Nat} (h : k ∈ [7, 13, 14, 15, 16]) {H : Heap} (hP : x_P (XS X) (XD X) (XA X) M H) (ha : x_isK M a k) : ∃ cell, H[a]? = some cell ∧ cell.vm = .none ∧ (Xs X).vm.findClass (x_C k).1 = some cell.cls := by
  have h1 : 1 ≤ k ∧ k < 17 ∧ ¬ (k < 13 ∧ k ≠ 7) := by simp at h; omega
  have := (hP.2.2.2.2.1 a).1 k ha h1.1 (by omega)
  unfold x_obj at this
  rw [if_neg h1.2.2] at this
  obtain ⟨V, ⟨cell, q1, q2, q3, -⟩, -⟩ := this
  exact ⟨cell, q1, q3, by rw [q2]; exact (C.kn h1.1 h1.2.1).2.1⟩
theorem k_not {S0 s : State} {C T : String} (hW : S0.WarmedH s.vm) {c t : ClassId} (hc : s.vm.findClass C = some c) (ht : s.vm.findClass T = some t) (h : (Cond.not (Cond.castable C T)).before #[] S0 = true) : s.vm.assignable c t = false := by
  have hal := hW.alike
  simp only [Cond.before, Cond.holds, Cond.value] at h
  rw [hal.findClass] at hc ht
  rw [hc, ht] at h
  rw [hal.assignable]
  simpa using h
/-- which handler of the list takes an exception of kind k that is thrown at pc -/
def k_ok (own : String) (pc k hpc : Nat) : List (Nat × Nat × Nat × Nat) → Prop
  | [] => False
  | h :: t => ((decide (h.1 ≤ pc) && decide (pc < h.2.1)) = false ∧ k_ok own pc k hpc t) ∨ ((decide (h.1 ≤ pc) && decide (pc < h.2.1)) = true ∧ h.2.2.2 ≠ 0 ∧ ∃ j, j ∈ [7, 13, 14, 15, 16] ∧ Cond.classLink own h.2.2.2 (x_C j).1 ∈ lw_all ∧ ((j = k ∧ h.2.2.1 = hpc) ∨ (j ≠ k ∧ k_ok own pc k hpc t)))
theorem k_go (C : x_CC X F Lo y cc nL ret hs) {k a hpc : Nat} (hk : k ∈ [7, 13, 14, 15, 16]) {g : JFrame} (hg : g.method = Xm X) (hadm : (Xl X).admits (Xe X)) {B : State} {H : Heap} (hB : B.heap = H) (hP : x_P (XS X) (XD X) (XA X) M H) (ha : x_isK M a k) :
    ∀ (t : List ExceptionTableEntry), k_ok y.cls g.pc k hpc (t.map (fun h => (h.startPc, h.endPc, h.handlerPc, h.catchType))) → ∀ v : Vm, (Xs X).WarmedH v →
      ∃ v', (Xs X).WarmedH v' ∧ ∀ (Q : Handler → Pre) (E : CtlPost) (d : Bool) (acts : List Action), wp (findHandler.go g a t) Q E (Xe X) d acts (B.setVm v) ↔ Q (.found hpc) d acts (B.setVm v') := by
  subst hB
  obtain ⟨cell, q1, q3, q2⟩ := k_kind C hk hP ha
  have hpl : (Xe X).platform.magicAccessors = ({} : Platform).magicAccessors := by rw [hadm.platform]
  intro t
  induction t with
  | nil => intro h; exact h.elim
  | cons x t ih =>
    intro h v hv
    rcases h with ⟨h1, h2⟩ | ⟨h1, h0, j, hj, hq, h2⟩
    · obtain ⟨v', w1, w2⟩ := ih h2 v hv
      exact ⟨v', w1, fun Q E d acts => (W.findHandler_go_skip h1).trans (w2 Q E d acts)⟩
    · obtain ⟨ci, hfc, hcl⟩ := Cond.classLink_spec C.1.2.2.2.1 (C.hts _ hq) (Xe X).platform hpl
      rw [← hg] at hcl
      obtain ⟨hg₁, hwarm₁, hready₁⟩ := State.classEntry (e := Xe X) hv hcl
      have hsz : (v.noted g.method.cls x.catchType (.cls ci)).classes.size ≤ v.classes.size := Nat.le_of_eq (Vm.size_noted _ _ _ _)
      generalize hv1 : v.noted g.method.cls x.catchType (.cls ci) = vm₁ at hg₁ hwarm₁ hready₁ hsz
      have hal := hwarm₁.alike
      have hcold : ∀ (Q : Handler → Pre) (E : CtlPost) (d : Bool) (acts : List Action), wp (findHandler.go g a (x :: t)) Q E (Xe X) d acts (B.setVm v) ↔ wp (findHandler.go g a (x :: t)) Q E (Xe X) d acts (B.setVm vm₁) :=
        fun Q E d acts => k_cold (s := B.setVm v) h1 h0 hg₁ hready₁ hsz
      have hcls : ∀ (Q : Handler → Pre) (E : CtlPost) (d : Bool) (acts : List Action), wp (findHandler.go g a (x :: t)) Q E (Xe X) d acts (B.setVm vm₁) ↔ if vm₁.assignable cell.cls ci = true then Q (.found x.handlerPc) d acts (B.setVm vm₁) else wp (findHandler.go g a t) Q E (Xe X) d acts (B.setVm vm₁) :=
        fun Q E d acts => W.findHandler_go_class (s := B.setVm vm₁) h1 h0 hready₁ (cell := cell) q1 (fun k => by rw [q3]; intro z; cases z) (Vm.classAt_of_findClass (vm := vm₁) ((hal.findClass _ _).trans q2)) (Vm.classAt_of_findClass (vm := vm₁) ((hal.findClass _ _).trans hfc))
      rcases h2 with ⟨rfl, hh⟩ | ⟨hne, h2⟩
      · cases hfc.symm.trans q2
        refine ⟨vm₁, hwarm₁, fun Q E d acts => (hcold Q E d acts).trans ((hcls Q E d acts).trans ?_)⟩
        rw [if_pos (va_asg _ _)]
        have : x.handlerPc = hpc := hh
        rw [this]
      · have hno : vm₁.assignable cell.cls ci = false := by
          rw [hal.assignable]
          exact k_not C.1.2.2.2.2.1 q2 hfc ((x_St.at C).2.2.2.2 k hk j hj (Ne.symm hne))
        obtain ⟨v', w1, w2⟩ := ih h2 vm₁ hwarm₁
        refine ⟨v', w1, fun Q E d acts => (hcold Q E d acts).trans ((hcls Q E d acts).trans ?_)⟩
        rw [if_neg (by rw [hno]; decide)]
        exact w2 Q E d acts
/-- a call has thrown, and the method catches it -/
theorem x_catch (C : x_CC X F Lo y cc nL ret hs) {k a hpc : Nat} (hk : k ∈ [7, 13, 14, 15, 16]) (ha : x_isK M1 a k) (hok : k_ok y.cls pc k hpc hs) {T : State} {ls : Array Slot} {locs : List Loc} {c2 s2 : Nat} (B : x_Back X M M1 T (F0 (Xm X) pc ls st0) st (.threw a) locs c2 s2) (hE : x_ext M0 M) (hL : ∀ q ∈ locs, (XS X).heap.size ≤ q.base) (hl : lv_has ls nL lv) (kk : x_ext M M1 → x_Z X c2 s2 Q M0 M1 nL lv hpc [.ref a]) :
    ∃ t, Steps (Xp X).tables (Xe X) (Xb X) (T.setTop (F0 (Xm X) pc ls st0)) t ∧ Q t := by
  obtain ⟨T', L, g1, g2, ⟨g3, g3'⟩, -, g5⟩ := B
  have hvm : ((T'.setTop { F0 (Xm X) pc ls st0 with stack := st }).pushFrame (.throwing a)).vm = T'.vm := Stand.throwing_vm _ _ _
  have hhp : ((T'.setTop { F0 (Xm X) pc ls st0 with stack := st }).pushFrame (.throwing a)).heap = T'.heap := Stand.throwing_heap _ _ _
  obtain ⟨v', w1, w2⟩ := k_go C hk (g := { F0 (Xm X) pc ls st0 with stack := st }) rfl g1.admits hhp g3 ha (Xc X).exceptionTable.toList (by rw [C.1.2.2.2.2.2.2.2.1]; exact hok) T'.vm g1.warmed
  have hself : ((T'.setTop { F0 (Xm X) pc ls st0 with stack := st }).pushFrame (.throwing a)).setVm T'.vm = (T'.setTop { F0 (Xm X) pc ls st0 with stack := st }).pushFrame (.throwing a) := by
    rw [← hvm]; rfl
  have hfind : k_Finds (Xe X) ((T'.setTop { F0 (Xm X) pc ls st0 with stack := st }).pushFrame (.throwing a)) { F0 (Xm X) pc ls st0 with stack := st } a (.found hpc) v' := fun Q E d acts => by
    rw [W.findHandler_eq (meth := Xt X) (code := Xc X) (by rw [hvm]; exact g1.method') g1.code]
    have := w2 Q E d acts
    rw [hself] at this
    exact this
  have S2 := g1.noted w1
  obtain ⟨t, a1, b1⟩ := kk g3' T'.heap (locs ++ L) ls g3 (hE.trans g3') (fun q hq => (List.mem_append.mp hq).elim (hL q) (g2 q)) hl (T'.setVm v') rfl S2
  exact ⟨t, (g5 a rfl).trans (k_caught (g := { F0 (Xm X) pc ls st0 with stack := st }) g1.here hfind a1), b1⟩
variable {y2 : MethodName} {cc2 : ByteArray} {nL2 idx : Nat} {ret2 : Option FieldType} {hs2 : List (Nat × Nat × Nat × Nat)} {rm : Room} {av : List Value}
theorem z_catV (C : x_CC X F Lo y cc nL ret hs) {k b x e hpc c2 s2 : Nat} (hC : x_Me (Xl X) (XS X) (XD X) (XA X) y2 cc2 nL2 ret2 hs2 rm (.ref b :: av) M (.threw x) M1) (hw : x_cw y2 cc2 nL2 ret2 hs2) (ql : Cond.methodLink y.cls idx y2 ∈ lw_all) (qm : Cond.instanceMethod y2 ∈ lw_all) (qs : Cond.selects (x_C k).1 y2 y2 ∈ lw_all) (hpl : plainName y2.cls = true) (hy : y2.cls ≠ "java/lang/invoke/MethodHandle" ∧ y2.cls ≠ "java/lang/invoke/VarHandle") (hn : (parseMethodDescriptor y2.desc).map (fun d => d.parameters.length) = some av.length) (hR : x_rm X F Lo rm nL2 cells slots) (k1 : 1 ≤ k) (k2 : k < 13) (k7 : k ≠ 7) (hb : x_isK M b k) (hst0 : av.reverse ++ .ref b :: st = st0) (hsum : (st.map fun v => v.category).sum ≤ 12) (d : decode cc pc = .ok (.invokevirtual idx, 3))
    (he : e ∈ [7, 13, 14, 15, 16]) (hx : x_isK M1 x e) (hok : k_ok y.cls pc e hpc hs) (e1 : cells + rm.cells = c2) (e2 : slots + rm.slots = s2) (kk : x_ext M M1 → x_Z X c2 s2 Q M0 M1 nL lv hpc [.ref x]) : x_Z X cells slots Q M0 M nL lv pc st0 := by
  subst e1; subst e2
  intro H locs ls hP hE hL hl T hT S
  subst hT
  exact x_catch C he hx hok (x_callV C hC hw ql qm qs hpl hy hn hR hb k1 k2 k7 hP S (g := F0 (Xm X) pc ls st0) rfl hl.1 rfl hst0.symm hsum d) hE hL hl kk
theorem z_astoreX (C : x_CC X F Lo y cc nL ret hs) {j : Nat} {x : Nat} (hn : (j : Nat) < nL) (hv : x_in (j : Nat) (.ref x) (lv.filter (fun q => !(q.1 == (j : Nat)) && !(q.1 + 1 == (j : Nat) && q.2.category == 2))) = lv') (d : decode cc pc = .ok (.astore j, 2)) (k : x_Z X cells slots Q M0 M nL lv' (pc + 2) st) : x_Z X cells slots Q M0 M nL lv pc (.ref x :: st) := z_astore C hn hv d k
end XK
