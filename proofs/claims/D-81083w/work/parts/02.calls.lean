/-! ===== contracts that may throw, and the calls by them ===== -/
set_option maxRecDepth 100000
theorem x_weaken {tb : Tables} {e : Env} {mid below : List Frame} {a b : State} (h : Steps tb e (mid ++ below) a b) : Steps tb e below a b := by
  obtain ⟨n, h1, h2⟩ := h
  exact ⟨n, h1, fun k hk => (h2 k hk).weaken⟩
def x_FE (st t : State) (L : List Loc) (k n : Nat) : Prop := st.WarmedH t.vm ∧ st.sameButNew ({ t with vm := st.vm } : State) L k n
/-- where a method's walk stands -/
def x_CX (S0 : State) (p : Program) (s : State) (m : MethodId) (meth : Method) (c : Code) (y : MethodName) (cc : ByteArray) (nL : Nat) (ret : Option FieldType) (hs : List (Nat × Nat × Nat × Nat)) : Prop :=
  p.tables.exec = Jvm.exec ∧ c.code = cc ∧ c.maxLocals = nL ∧ s.vm.findClass y.cls = some m.cls ∧ S0.WarmedH s.vm ∧ meth.locks = false ∧ meth.sig.returnType = ret ∧ c.exceptionTable.toList.map (fun h => (h.startPc, h.endPc, h.handlerPc, h.catchType)) = hs ∧ meth.name = y.name
/-- how a method ends -/
def x_MQ (S0 : State) (below : List Frame) (s : State) (o : Outcome) (J : Heap → Prop) (mc ms : Nat) : State → Prop := fun t =>
  t.status = .running ∧ Ended t below o ∧ J t.heap ∧ ∃ L, x_FE s t L mc ms ∧ ∀ q ∈ L, S0.heap.size ≤ q.base
/-- a contract: from the heap J the method comes to the outcome o and the heap J' -/
def x_Ct (l : Launch) (S0 : State) (y : MethodName) (cc : ByteArray) (nL : Nat) (ret : Option FieldType) (hs : List (Nat × Nat × Nat × Nat)) (rm : Room) (av : List Value) (J : Heap → Prop) (o : Outcome) (J' : Heap → Prop) : Prop :=
  ∀ p e s m below meth c, x_CX S0 p s m meth c y cc nL ret hs → J s.heap → W p l e rm s m av.toArray below meth c s.heap [] 0 0 (x_MQ S0 below s o J' rm.cells rm.slots) (entryFrame m av.toArray nL)
theorem x_words {S0 s : State} (h0 : ∀ w ∈ lw_tbl, w.before #[] S0 = true) (hW : S0.WarmedH s.vm) (args : Array Value) : ∀ w ∈ lw_all, w.before args s = true :=
  fun w hw => word_at hW (good_of_word (List.mem_filter.mp hw).2) (h0 w (lw_all_tbl hw))
section XC
variable {p : Program} {l : Launch} {e : Env} {R : Room} {s : State} {m : MethodId} {args : Array Value} {below : List Frame} {meth : Method} {c : Code} {T : State} {locs : List Loc} {cells slots : Nat}
variable {S0 : State} {y : MethodName} {cc : ByteArray} {nL : Nat} {ret : Option FieldType} {hs : List (Nat × Nat × Nat × Nat)} {rm : Room} {av : List Value} {J J' : Heap → Prop} {o : Outcome}
theorem x_core (hC : x_Ct l S0 y cc nL ret hs rm av J o J') (X : Stand p l e R s m args below meth c T locs cells slots) (hx : p.tables.exec = Jvm.exec) (hS0 : S0.WarmedH s.vm) {g : JFrame} (hg : g.method = m) (hsize : g.locals.size = c.maxLocals) {ig : Instr} {len : Nat} (hdg : decode c.code g.pc = .ok (ig, len))
    {mk : MethodId} {methk : Method} {ck : Code} (hn : s.methodNamed? y = some mk) (hm : s.vm.method? mk = some methk) (hck : methk.code = some ck) (hcc : ck.code = cc) (hnl : ck.maxLocals = nL) (hret : methk.sig.returnType = ret) (hlk : methk.locks = false) (hhs : ck.exceptionTable.toList.map (fun h => (h.startPc, h.endPc, h.handlerPc, h.catchType)) = hs) (hpl : plainName y.cls = true)
    (hfr : rm.frames + 1 ≤ R.frames) (hlo : 2 * g.monitorRoom + (g.stack.map fun v => v.category).sum + (nL + 11) + rm.locals ≤ R.locals) (hce : cells + rm.cells ≤ R.cells) (hsl : slots + rm.slots ≤ R.slots) (hJ : J T.heap) :
    ∃ T' L, Stand p l e R s m args below meth c T' (locs ++ L) (cells + rm.cells) (slots + rm.slots) ∧ (∀ q ∈ L, S0.heap.size ≤ q.base) ∧ J' T'.heap ∧
      (∀ v, o = .returned v → Steps p.tables e below (doInvoke e (T.setTop g) [] mk av.toArray).1 (T'.setTop { g with pc := g.pc + len, stack := v.toList ++ g.stack })) ∧
      (∀ x, o = .threw x → Steps p.tables e below (doInvoke e (T.setTop g) [] mk av.toArray).1 ((T'.setTop g).pushFrame (.throwing x))) := by
  have hW := X.warmed
  have hmT : T.vm.method? mk = some methk := by rw [hW.alike.method?]; exact hm
  have hnT : T.methodNamed? y = some mk := X.named hn
  have hpk : T.plainMethod mk := State.plainMethod.of_named (plainFor_of_name hpl) hnT hmT
  obtain ⟨Y, hin⟩ := X.into hg hsize hdg (mk := mk) (methk := methk) (ck := ck) av.toArray (R' := rm) hmT hck hlk hpk hfr (by rw [hnl]; exact hlo) hce hsl
  have hCX : x_CX S0 p (T.calling g mk av.toArray) mk methk ck y cc nL ret hs := by
    refine ⟨hx, hcc, hnl, ?_, ?_, hlk, hret, hhs, (name_of_methodNamed hn hm).1⟩
    · exact findClass_of_methodNamed (s := T) hnT
    · exact State.WarmedH.trans hS0 hW
  have hK := hC p e (T.calling g mk av.toArray) mk (.java g :: below) methk ck hCX hJ
  obtain ⟨t, st, hrun, hend, hJ', L, ⟨hWt, hsame⟩, hL⟩ := hK ((T.setTop g).pushFrame (.java (entryFrame mk av.toArray ck.maxLocals))) rfl Y
  have hst : Steps p.tables e below (doInvoke e (T.setTop g) [] mk av.toArray).1 t := by
    rw [hin [], hnl]
    rw [hnl] at st
    exact x_weaken (mid := [.java g]) st
  cases o with
  | returned v =>
    obtain ⟨T', X', -, -, ht⟩ := X.outOf hg hdg hend hWt hsame
    refine ⟨T', L, X', hL, ?_, fun w hw => ?_, fun x hx => (by cases hx)⟩
    · have h1 : t.heap = T'.heap := by rw [ht]; simp
      rw [← h1]; exact hJ'
    · cases hw
      rw [← ht]; exact hst
  | threw x =>
    obtain ⟨T', X', -, -, ht⟩ := X.outOfThrown hg hend hWt hsame
    refine ⟨T', L, X', hL, ?_, fun w hw => (by cases hw), fun z hz => ?_⟩
    · have h1 : t.heap = T'.heap := by rw [ht]; exact Stand.throwing_heap T' g x
      rw [← h1]; exact hJ'
    · cases hz
      rw [← ht]; exact hst
end XC
