/-! ===== exceptions are thrown ===== -/
set_option maxRecDepth 100000
theorem x_ste {S0 s : State} (hW : S0.WarmedH s.vm) (hH : ∀ q : Nat, q < S0.heap.size → s.heap[q]? = S0.heap[q]?) {o n d : String} (hl : (Cond.laysStatic o n d).before #[] S0 = true) {v : Value} (h : (Term.static o n d).eval #[] S0 none [] S0 = some v) (args : Array Value) : (Term.static o n d).eval args s none [] s = some v := by
  obtain ⟨c, k, i, f, a, cell, hc, hi, hst, ha, hcell, hs, hcls, hlt, hty⟩ := Cond.laysStatic_spec hl
  obtain ⟨k', hi', hek⟩ := State.fieldFound?_setVm hW.alike hi
  obtain ⟨-, a2, cell2, ha2, hcell2, -, hv⟩ := Term.static_spec hi h
  cases ha.symm.trans ha2
  cases hcell.symm.trans hcell2
  exact Term.static_eval (s := s) hi' hst (by rw [hek]; exact ha) (by rw [hH a (Array.getElem?_eq_some_iff.mp hcell).1]; exact hcell) hs hv
theorem x_lst {S0 s : State} (hW : S0.WarmedH s.vm) (hH : ∀ q : Nat, q < S0.heap.size → s.heap[q]? = S0.heap[q]?) {o n d : String} (h : (Cond.laysStatic o n d).before #[] S0 = true) (args : Array Value) : (Cond.laysStatic o n d).before args s = true := by
  obtain ⟨c, k, i, f, a, cell, hc, hi, hst, ha, hcell, hs, hcls, hlt, hty⟩ := Cond.laysStatic_spec h
  obtain ⟨k', hi', hek⟩ := State.fieldFound?_setVm hW.alike hi
  exact Cond.laysStatic_of (s := s) (by rw [hW.alike.findClass]; exact hc) hi' hst (by rw [hek]; exact ha) (by rw [hH a (Array.getElem?_eq_some_iff.mp hcell).1]; exact hcell) hs hcls hlt (by rw [hek]; exact hty)
theorem x_isr {S0 s : State} (hW : S0.WarmedH s.vm) (hH : ∀ q : Nat, q < S0.heap.size → s.heap[q]? = S0.heap[q]?) {o n d : String} (hl : (Cond.laysStatic o n d).before #[] S0 = true) (h : (Cond.isRef (.static o n d)).before #[] S0 = true) (args : Array Value) : (Cond.isRef (.static o n d)).before args s = true := by
  simp only [Cond.before, Cond.holds, Cond.value] at h ⊢
  cases hv : (Term.static o n d).eval #[] S0 none [] S0 with
  | none => rw [hv] at h; simp at h
  | some v =>
    rw [x_ste hW hH hl hv args]
    rw [hv] at h
    exact h
theorem x_noargs {w : Cond} {U : State} (h : w.before #[] U = true) (he : ∀ args, w.before args U = w.before #[] U) (args : Array Value) : w.before args U = true := (he args).trans h
theorem x_cst {S0 s : State} (hW : S0.WarmedH s.vm) {C T : String} (h : (Cond.castable C T).before #[] S0 = true) (args : Array Value) : (Cond.castable C T).before args s = true := va_Nw.warmC hW h
theorem x_dcl {S0 s : State} (hW : S0.WarmedH s.vm) {y : MethodName} (h : (Cond.declares y).before #[] S0 = true) (args : Array Value) : (Cond.declares y).before args s = true := va_Nw.warmD hW h
theorem x_fa {P : Cond → Prop} {a : Cond} {L : List Cond} (h : P a) (t : ∀ x ∈ L, P x) : ∀ x ∈ a :: L, P x := fun x hx => by
  rcases List.mem_cons.mp hx with rfl | hx
  · exact h
  · exact t x hx
theorem x_fz {P : Cond → Prop} : ∀ x ∈ ([] : List Cond), P x := fun x hx => by cases hx
section XT
variable {X : x_Ctx} {cells slots : Nat} {Q : State → Prop} {M0 M : Mem} {nL : Nat} {lv lv' : List (Nat × Value)} {pc : Nat} {st : List Value} {y : MethodName} {cc : ByteArray} {ret : Option FieldType} {hs : List (Nat × Nat × Nat × Nat)} {F Lo : Nat}
abbrev x_up : List String := ["java/lang/RuntimeException", "java/lang/Exception"]
theorem own_13 (C : x_CC X F Lo y cc nL ret hs) (hH : ∀ q : Nat, q < (XS X).heap.size → (Xs X).heap[q]? = (XS X).heap[q]?) : ∀ a ∈ Bundle.ownAtoms "CensusOffice" 142 "java/lang/IllegalArgumentException" x_up, a.before (Xa X) (Xs X) = true :=
  x_fa (C.hts _ q112) <| x_fa (C.hts _ q482) <| x_fa (C.hts _ q491) <| x_fa (C.hts _ q498) <| x_fa (C.hts _ q501) <| x_fa (C.hts _ q503) <| x_fa (C.hts _ q483) <| x_fa (C.hts _ q484) <| x_fa (C.hts _ q139) <| x_fa (C.hts _ q140) <| x_fa (C.hts _ q485) <| x_fa (C.hts _ q490) <| x_fa (C.hts _ q499) <| x_fa (C.hts _ q519) <| x_fa (C.hts _ q472) <| x_fa (C.hts _ q520) <| x_fa (C.hts _ q474) <| x_fa (C.hts _ q521) <| x_fa (C.hts _ q476) <| x_fa (C.hts _ q486) <| x_fa (x_lst C.1.2.2.2.2.1 hH (C.2.1.2.1 _ q487) _) <| x_fa (C.hts _ q488) <| x_fa (x_lst C.1.2.2.2.2.1 hH (C.2.1.2.1 _ q489) _) <| x_fa (C.hts _ q478) <| x_fa (C.hts _ q515) <| x_fa (C.hts _ q516) <| x_fa (C.hts _ q518) <| x_fa (C.hts _ q478) <| x_fa (C.hts _ q506) <| x_fa (C.hts _ q507) <| x_fa (C.hts _ q508) <| x_fa (C.hts _ q509) <| x_fa (x_dcl C.1.2.2.2.2.1 (C.2.1.2.1 _ q464) _) <| x_fa (C.hts _ q509) <| x_fa (C.hts _ q510) <| x_fa (C.hts _ q511) <| x_fa (C.hts _ q512) <| x_fa (x_dcl C.1.2.2.2.2.1 (C.2.1.2.1 _ q466) _) <| x_fa (C.hts _ q512) <| x_fa (C.hts _ q513) <| x_fa (C.hts _ q514) <| x_fa (C.hts _ q515) <| x_fa (x_dcl C.1.2.2.2.2.1 (C.2.1.2.1 _ q468) _) <| x_fa (C.hts _ q505) <| x_fa (C.hts _ q461) <| x_fa (x_cst C.1.2.2.2.2.1 (C.2.1.2.1 _ q462) _) <| x_fa (C.hts _ q469) <| x_fa (C.hts _ q470) <| x_fa (C.hts _ q471) <| x_fa (C.hts _ q473) <| x_fa (C.hts _ q475) <| x_fa (C.hts _ q477) <| x_fa (x_isr C.1.2.2.2.2.1 hH (C.2.1.2.1 _ q487) C.2.1.2.2.2.2.1 _) <| x_fa (x_isr C.1.2.2.2.2.1 hH (C.2.1.2.1 _ q489) C.2.1.2.2.2.2.2.1 _) <| x_fa (C.hts _ q481) <| x_fa (C.hts _ q480) <| x_fa (C.hts _ q479) <| x_fz
theorem own_14 (C : x_CC X F Lo y cc nL ret hs) (hH : ∀ q : Nat, q < (XS X).heap.size → (Xs X).heap[q]? = (XS X).heap[q]?) : ∀ a ∈ Bundle.ownAtoms "CensusOffice" 152 "java/lang/UnsupportedOperationException" x_up, a.before (Xa X) (Xs X) = true :=
  x_fa (C.hts _ q112) <| x_fa (C.hts _ q482) <| x_fa (C.hts _ q491) <| x_fa (C.hts _ q498) <| x_fa (C.hts _ q501) <| x_fa (C.hts _ q503) <| x_fa (C.hts _ q483) <| x_fa (C.hts _ q484) <| x_fa (C.hts _ q139) <| x_fa (C.hts _ q140) <| x_fa (C.hts _ q485) <| x_fa (C.hts _ q490) <| x_fa (C.hts _ q499) <| x_fa (C.hts _ q519) <| x_fa (C.hts _ q472) <| x_fa (C.hts _ q520) <| x_fa (C.hts _ q474) <| x_fa (C.hts _ q521) <| x_fa (C.hts _ q476) <| x_fa (C.hts _ q486) <| x_fa (x_lst C.1.2.2.2.2.1 hH (C.2.1.2.1 _ q487) _) <| x_fa (C.hts _ q488) <| x_fa (x_lst C.1.2.2.2.2.1 hH (C.2.1.2.1 _ q489) _) <| x_fa (C.hts _ q478) <| x_fa (C.hts _ q515) <| x_fa (C.hts _ q516) <| x_fa (C.hts _ q518) <| x_fa (C.hts _ q478) <| x_fa (C.hts _ q552) <| x_fa (C.hts _ q553) <| x_fa (C.hts _ q554) <| x_fa (C.hts _ q509) <| x_fa (x_dcl C.1.2.2.2.2.1 (C.2.1.2.1 _ q464) _) <| x_fa (C.hts _ q509) <| x_fa (C.hts _ q510) <| x_fa (C.hts _ q511) <| x_fa (C.hts _ q512) <| x_fa (x_dcl C.1.2.2.2.2.1 (C.2.1.2.1 _ q466) _) <| x_fa (C.hts _ q512) <| x_fa (C.hts _ q513) <| x_fa (C.hts _ q514) <| x_fa (C.hts _ q515) <| x_fa (x_dcl C.1.2.2.2.2.1 (C.2.1.2.1 _ q468) _) <| x_fa (C.hts _ q551) <| x_fa (C.hts _ q542) <| x_fa (x_cst C.1.2.2.2.2.1 (C.2.1.2.1 _ q543) _) <| x_fa (C.hts _ q544) <| x_fa (C.hts _ q497) <| x_fa (C.hts _ q545) <| x_fa (C.hts _ q546) <| x_fa (C.hts _ q547) <| x_fa (C.hts _ q548) <| x_fa (x_isr C.1.2.2.2.2.1 hH (C.2.1.2.1 _ q487) C.2.1.2.2.2.2.1 _) <| x_fa (x_isr C.1.2.2.2.2.1 hH (C.2.1.2.1 _ q489) C.2.1.2.2.2.2.2.1 _) <| x_fa (C.hts _ q481) <| x_fa (C.hts _ q480) <| x_fa (C.hts _ q549) <| x_fz
theorem own_15 (C : x_CC X F Lo y cc nL ret hs) (hH : ∀ q : Nat, q < (XS X).heap.size → (Xs X).heap[q]? = (XS X).heap[q]?) : ∀ a ∈ Bundle.ownAtoms "CensusOffice" 135 "java/lang/IndexOutOfBoundsException" x_up, a.before (Xa X) (Xs X) = true :=
  x_fa (C.hts _ q112) <| x_fa (C.hts _ q482) <| x_fa (C.hts _ q491) <| x_fa (C.hts _ q498) <| x_fa (C.hts _ q501) <| x_fa (C.hts _ q503) <| x_fa (C.hts _ q483) <| x_fa (C.hts _ q484) <| x_fa (C.hts _ q139) <| x_fa (C.hts _ q140) <| x_fa (C.hts _ q485) <| x_fa (C.hts _ q490) <| x_fa (C.hts _ q499) <| x_fa (C.hts _ q519) <| x_fa (C.hts _ q472) <| x_fa (C.hts _ q520) <| x_fa (C.hts _ q474) <| x_fa (C.hts _ q521) <| x_fa (C.hts _ q476) <| x_fa (C.hts _ q486) <| x_fa (x_lst C.1.2.2.2.2.1 hH (C.2.1.2.1 _ q487) _) <| x_fa (C.hts _ q488) <| x_fa (x_lst C.1.2.2.2.2.1 hH (C.2.1.2.1 _ q489) _) <| x_fa (C.hts _ q478) <| x_fa (C.hts _ q515) <| x_fa (C.hts _ q516) <| x_fa (C.hts _ q518) <| x_fa (C.hts _ q478) <| x_fa (C.hts _ q565) <| x_fa (C.hts _ q566) <| x_fa (C.hts _ q567) <| x_fa (C.hts _ q509) <| x_fa (x_dcl C.1.2.2.2.2.1 (C.2.1.2.1 _ q464) _) <| x_fa (C.hts _ q509) <| x_fa (C.hts _ q510) <| x_fa (C.hts _ q511) <| x_fa (C.hts _ q512) <| x_fa (x_dcl C.1.2.2.2.2.1 (C.2.1.2.1 _ q466) _) <| x_fa (C.hts _ q512) <| x_fa (C.hts _ q513) <| x_fa (C.hts _ q514) <| x_fa (C.hts _ q515) <| x_fa (x_dcl C.1.2.2.2.2.1 (C.2.1.2.1 _ q468) _) <| x_fa (C.hts _ q606) <| x_fa (C.hts _ q597) <| x_fa (x_cst C.1.2.2.2.2.1 (C.2.1.2.1 _ q598) _) <| x_fa (C.hts _ q599) <| x_fa (C.hts _ q496) <| x_fa (C.hts _ q600) <| x_fa (C.hts _ q601) <| x_fa (C.hts _ q602) <| x_fa (C.hts _ q603) <| x_fa (x_isr C.1.2.2.2.2.1 hH (C.2.1.2.1 _ q487) C.2.1.2.2.2.2.1 _) <| x_fa (x_isr C.1.2.2.2.2.1 hH (C.2.1.2.1 _ q489) C.2.1.2.2.2.2.2.1 _) <| x_fa (C.hts _ q481) <| x_fa (C.hts _ q480) <| x_fa (C.hts _ q604) <| x_fz
theorem own_16 (C : x_CC X F Lo y cc nL ret hs) (hH : ∀ q : Nat, q < (XS X).heap.size → (Xs X).heap[q]? = (XS X).heap[q]?) : ∀ a ∈ Bundle.ownAtoms "CensusOffice" 147 "java/lang/IllegalStateException" x_up, a.before (Xa X) (Xs X) = true :=
  x_fa (C.hts _ q112) <| x_fa (C.hts _ q482) <| x_fa (C.hts _ q491) <| x_fa (C.hts _ q498) <| x_fa (C.hts _ q501) <| x_fa (C.hts _ q503) <| x_fa (C.hts _ q483) <| x_fa (C.hts _ q484) <| x_fa (C.hts _ q139) <| x_fa (C.hts _ q140) <| x_fa (C.hts _ q485) <| x_fa (C.hts _ q490) <| x_fa (C.hts _ q499) <| x_fa (C.hts _ q519) <| x_fa (C.hts _ q472) <| x_fa (C.hts _ q520) <| x_fa (C.hts _ q474) <| x_fa (C.hts _ q521) <| x_fa (C.hts _ q476) <| x_fa (C.hts _ q486) <| x_fa (x_lst C.1.2.2.2.2.1 hH (C.2.1.2.1 _ q487) _) <| x_fa (C.hts _ q488) <| x_fa (x_lst C.1.2.2.2.2.1 hH (C.2.1.2.1 _ q489) _) <| x_fa (C.hts _ q478) <| x_fa (C.hts _ q515) <| x_fa (C.hts _ q516) <| x_fa (C.hts _ q518) <| x_fa (C.hts _ q478) <| x_fa (C.hts _ q629) <| x_fa (C.hts _ q630) <| x_fa (C.hts _ q631) <| x_fa (C.hts _ q509) <| x_fa (x_dcl C.1.2.2.2.2.1 (C.2.1.2.1 _ q464) _) <| x_fa (C.hts _ q509) <| x_fa (C.hts _ q510) <| x_fa (C.hts _ q511) <| x_fa (C.hts _ q512) <| x_fa (x_dcl C.1.2.2.2.2.1 (C.2.1.2.1 _ q466) _) <| x_fa (C.hts _ q512) <| x_fa (C.hts _ q513) <| x_fa (C.hts _ q514) <| x_fa (C.hts _ q515) <| x_fa (x_dcl C.1.2.2.2.2.1 (C.2.1.2.1 _ q468) _) <| x_fa (C.hts _ q628) <| x_fa (C.hts _ q619) <| x_fa (x_cst C.1.2.2.2.2.1 (C.2.1.2.1 _ q620) _) <| x_fa (C.hts _ q621) <| x_fa (C.hts _ q495) <| x_fa (C.hts _ q622) <| x_fa (C.hts _ q623) <| x_fa (C.hts _ q624) <| x_fa (C.hts _ q625) <| x_fa (x_isr C.1.2.2.2.2.1 hH (C.2.1.2.1 _ q487) C.2.1.2.2.2.2.1 _) <| x_fa (x_isr C.1.2.2.2.2.1 hH (C.2.1.2.1 _ q489) C.2.1.2.2.2.2.2.1 _) <| x_fa (C.hts _ q481) <| x_fa (C.hts _ q480) <| x_fa (C.hts _ q626) <| x_fz
/-- new X; dup; ldc; invokespecial <init>(String); athrow, ahead of any write -/
theorem x_throw (C : x_CC X F Lo y cc nL ret hs) (hF : 6 ≤ F) (hLo : 90 ≤ Lo) {k ic0 ix ic sid w : Nat} (hy : y.cls = "CensusOffice") (h1 : 13 ≤ k) (h2 : k < 17) (hw : w = 2 ∨ w = 3) (qcl : Cond.classLink y.cls ic0 (x_C k).1 ∈ lw_all) (qin : Cond.instantiable (x_C k).1 6 ∈ lw_all) (qini : Cond.initialized (x_C k).1 ∈ lw_all) (hown : ∀ a ∈ Bundle.ownAtoms "CensusOffice" ic (x_C k).1 x_up, a.before (Xa X) (Xs X) = true) (hfit : Bundle.fit (x_C k).1 = true) (hs23 : sid < 23) (hso : (x_so sid).1 = y.cls) (hsi : (x_so sid).2.1 = ix)
    (hhs : hs = []) (hc : 1 ≤ (XR X).cells) (hsl : 6 ≤ (XR X).slots) (d0 : decode cc pc = .ok (.new ic0, 3)) (d1 : decode cc (pc + 3) = .ok (.dup, 1)) (d2 : decode cc (pc + 4) = .ok (if w = 2 then .ldc ix else .ldc_w ix, w)) (d3 : decode cc (pc + 4 + w) = .ok (.invokespecial ic, 3)) (d4 : decode cc (pc + 4 + w + 3) = .ok (.athrow, 1)) {ls : Array Slot} (hls : ls.size = nL)
    (hP : x_P (XS X) (XD X) (XA X) M (Xs X).heap) : x_W X (Xs X).heap [] 0 0 (x_QF X M (.threw (m_sz M)) (m_nw M (100 + k)) 1 6) (F0 (Xm X) pc ls []) := by
  intro T hT S
  have hcode := C.1.2.1
  have htr : (Xe X).platform.stackTraces = false := by rw [S.admits.platform]; exact C.2.1.1
  obtain ⟨vm₁, cX, kX, hfX, hkX, -, -, X₁, st1⟩ := S.newCold C.1.1 (own := y.cls) (C := (x_C k).1) (index := ic0) (n := 6) C.1.2.2.2.1 (C.hts _ qcl) (C.hts _ qin) (C.hts _ qini) (g := F0 (Xm X) pc ls []) rfl (by rw [hcode]; exact d0) (by omega) (by omega)
  generalize hT2 : (T.setVm vm₁).pushCell { cls := cX, slots := kX.instanceTypes.map defaultValue, vm := .none } = T2 at X₁ st1
  have hcellA : T2.heap[T.heap.size]? = some (freshCell cX kX) := by rw [← hT2]; exact State.heap_pushCell_size _ _
  have hstr := vk_R.warm C.1.2.2.2.2.1 (C.2.1.2.2.2.2.2.2.1 sid hs23)
  rw [hso, hsi] at hstr
  have hsz : T.heap.size = m_sz M := by rw [hT]; exact hP.1.symm
  have hex : ∀ x ∈ (Xc X).exceptionTable.toList, covers x (pc + 4 + w + 3) = false := by
    have := C.1.2.2.2.2.2.2.2.1
    rw [hhs] at this
    rw [List.map_eq_nil_iff.mp this]
    intro x hx; cases hx
  obtain ⟨U, hsteps, hrun, hend, hW, hsame, ce, hce, K⟩ := X₁.ctorThrowS C.1.1 htr (own := "CensusOffice") (cls := (x_C k).1) (names := x_up) (ic := ic) (by rw [← hy]; exact C.1.2.2.2.1) hfit (by decide +kernel)
    hown (fun y hy => by cases hy) hfX hkX hcellA (by rw [hT]; exact Nat.le_refl _) (msg := .ref ((XD X).2 1000 sid)) rfl
    (g := F0 (Xm X) (pc + 4 + w) ls [.ref ((XD X).2 1000 sid), .ref T.heap.size, .ref T.heap.size]) rfl (hls.trans C.1.2.2.1.symm) rfl rfl (rest := []) rfl (by rw [hcode]; exact d3) (by rw [hcode]; exact d4) hex
    (by show 2 + 3 < _; have := C.2.2.1; omega) (by show 2 * 0 + 1 + (13 * 3 + 42) ≤ _; have := C.2.2.2; omega) C.1.2.2.2.2.2.1
  refine ⟨U, ?_, hrun, by rw [← hsz]; exact hend, ?_, [], ⟨hW, hsame⟩, fun q h => by cases h⟩
  · refine st1 _ ?_
    show Steps (Xp X).tables (Xe X) (Xb X) (T2.setTop (F0 (Xm X) (pc + 3) ls [.ref T.heap.size])) U
    jvm_step X₁.here [X₁.here.top, C.1.1, hcode, d1, Value.category]
    rcases hw with rfl | rfl
    · exact X₁.ldcString C.1.1 (own := y.cls) (a := (XD X).2 1000 sid) C.1.2.2.2.1 hstr.1 hstr.2 (g := F0 (Xm X) (pc + 4) ls [.ref T.heap.size, .ref T.heap.size]) rfl (by rw [hcode]; exact d2) _ hsteps
    · exact X₁.ldcStringW C.1.1 (own := y.cls) (a := (XD X).2 1000 sid) C.1.2.2.2.1 hstr.1 hstr.2 (g := F0 (Xm X) (pc + 4) ls [.ref T.heap.size, .ref T.heap.size]) rfl (by rw [hcode]; exact d2) _ hsteps
  · have hUs : U.heap.size = m_sz M + 1 := by
      have e1 : (Xs X).heap.size ≤ U.heap.size := hsame.2.1
      have e2 : U.heap.size ≤ (Xs X).heap.size + 1 := hsame.2.2.1
      have e3 := (Array.getElem?_eq_some_iff.mp hce).1
      have e4 := hP.1
      omega
    have hold : ∀ q, q < m_sz M → U.heap[q]? = (Xs X).heap[q]? := fun q hq => by
      rw [hP.1] at hq
      obtain ⟨cc', hcc', e1, e2, e3⟩ := hsame.2.2.2.2.2 q _ (Array.getElem?_eq_getElem hq)
      rw [Array.getElem?_eq_getElem hq]
      refine hcc'.trans (congrArg some ?_)
      rw [e1]
      congr 1
      exact Array.ext_getElem? fun i => e3 i (fun h => by cases h)
    refine ⟨hP.nw (by omega) (by rw [hUs, hP.1]) (fun q hq => hold q (by rw [hP.1]; exact hq)) (fun f' g1 g2 => by omega) ⟨fun k' hk' l1 l2 => ?_, fun f' hf' => ?_⟩, ?_⟩
    · unfold x_isK at hk'
      rw [m_kd_nw, if_pos rfl] at hk'
      have : k' = k := by omega
      subst this
      unfold x_obj
      rw [if_neg (by omega)]
      have hn0 : x_N k' = 0 := by
        have : k' = 13 ∨ k' = 14 ∨ k' = 15 ∨ k' = 16 := by omega
        rcases this with rfl | rfl | rfl | rfl <;> rfl
      refine ⟨fun _ => .null, ⟨ce, by rw [← hsz]; exact hce, ?_, K.vm, fun i hi => by omega⟩, fun h => by omega⟩
      have hk := (C.kn (by omega) h2 (k := k')).2.1
      exact Option.some.inj (K.cls.symm.trans hk)
    · rw [m_kd_nw, if_pos rfl] at hf'; omega
    · exact x_ext.nw (fun a h => (hP.lt h).2)
/-- a method's walk begins, at its own heap -/
theorem x_begin0 {l : Launch} {S0 : State} {D : va_G} {cA : Nat → ClassId} {rm : Room} {av : List Value} {o : Outcome} {M' : Mem} {mc ms : Nat} (hG : x_G l S0 D cA) (hn : (lg_sl av).length ≤ nL) (hlv : lv_args 0 av = lv) (hF : rm.frames = F) (hLo : rm.locals = Lo) (hmc : rm.cells = mc) (hms : rm.slots = ms)
    (h : ∀ (X : x_Ctx) (ls : Array Slot), Xl X = l → XS X = S0 → XD X = D → XA X = cA → XR X = rm → x_CC X F Lo y cc nL ret hs → x_P (XS X) (XD X) (XA X) M (Xs X).heap → lv_has ls nL lv → x_W X (Xs X).heap [] 0 0 (x_QF X M o M' mc ms) (F0 (Xm X) 0 ls [])) : x_Me l S0 D cA y cc nL ret hs rm av M o M' := by
  intro p e s m below meth c hCX hP
  subst hmc; subst hms
  have hl := lv_entry av (n := nL) hn
  rw [hlv] at hl
  rw [lg_entry_eq]
  exact h (l, S0, D, cA, p, e, rm, s, m, av.toArray, below, meth, c) _ rfl rfl rfl rfl rfl ⟨hCX, hG, Nat.le_of_eq hF.symm, Nat.le_of_eq hLo.symm⟩ hP hl
end XT
