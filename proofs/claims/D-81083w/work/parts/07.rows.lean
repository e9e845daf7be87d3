/-! ===== a row an instruction, over the memory ===== -/
set_option maxRecDepth 100000
abbrev x_Ctx : Type := Launch × State × va_G × (Nat → ClassId) × Program × Env × Room × State × MethodId × Array Value × List Frame × Method × Code
abbrev Xl (X : x_Ctx) : Launch := X.1
abbrev XS (X : x_Ctx) : State := X.2.1
abbrev XD (X : x_Ctx) : va_G := X.2.2.1
abbrev XA (X : x_Ctx) : Nat → ClassId := X.2.2.2.1
abbrev Xp (X : x_Ctx) : Program := X.2.2.2.2.1
abbrev Xe (X : x_Ctx) : Env := X.2.2.2.2.2.1
abbrev XR (X : x_Ctx) : Room := X.2.2.2.2.2.2.1
abbrev Xs (X : x_Ctx) : State := X.2.2.2.2.2.2.2.1
abbrev Xm (X : x_Ctx) : MethodId := X.2.2.2.2.2.2.2.2.1
abbrev Xa (X : x_Ctx) : Array Value := X.2.2.2.2.2.2.2.2.2.1
abbrev Xb (X : x_Ctx) : List Frame := X.2.2.2.2.2.2.2.2.2.2.1
abbrev Xt (X : x_Ctx) : Method := X.2.2.2.2.2.2.2.2.2.2.2.1
abbrev Xc (X : x_Ctx) : Code := X.2.2.2.2.2.2.2.2.2.2.2.2
def x_CC (X : x_Ctx) (F Lo : Nat) (y : MethodName) (cc : ByteArray) (nL : Nat) (ret : Option FieldType) (hs : List (Nat × Nat × Nat × Nat)) : Prop :=
  x_CX (XS X) (Xp X) (Xs X) (Xm X) (Xt X) (Xc X) y cc nL ret hs ∧ x_G (Xl X) (XS X) (XD X) (XA X) ∧ F ≤ (XR X).frames ∧ Lo ≤ (XR X).locals
abbrev x_W (X : x_Ctx) (H : Heap) (locs : List Loc) (cells slots : Nat) (Q : State → Prop) (g : JFrame) : Prop := W (Xp X) (Xl X) (Xe X) (XR X) (Xs X) (Xm X) (Xa X) (Xb X) (Xt X) (Xc X) H locs cells slots Q g
/-- the walk stands at pc with the memory M -/
def x_Z (X : x_Ctx) (cells slots : Nat) (Q : State → Prop) (M0 M : Mem) (nL : Nat) (lv : List (Nat × Value)) (pc : Nat) (st : List Value) : Prop :=
  ∀ (H : Heap) (locs : List Loc) (ls : Array Slot), x_P (XS X) (XD X) (XA X) M H → x_ext M0 M → (∀ q ∈ locs, (XS X).heap.size ≤ q.base) → lv_has ls nL lv → x_W X H locs cells slots Q (F0 (Xm X) pc ls st)
def x_in (i : Nat) (v : Value) : List (Nat × Value) → List (Nat × Value)
  | [] => [(i, v)]
  | q :: r => if Nat.blt i q.1 = true then (i, v) :: q :: r else q :: x_in i v r
theorem x_in_mem {i : Nat} {v : Value} : ∀ {r : List (Nat × Value)} {q : Nat × Value}, q ∈ x_in i v r → q = (i, v) ∨ q ∈ r
  | [], q, h => by simp [x_in] at h; exact Or.inl h
  | a :: r, q, h => by
    unfold x_in at h
    split at h
    · rcases List.mem_cons.mp h with h | h
      · exact Or.inl h
      · exact Or.inr h
    · rcases List.mem_cons.mp h with h | h
      · exact Or.inr (h ▸ List.mem_cons_self)
      · rcases x_in_mem h with h | h
        · exact Or.inl h
        · exact Or.inr (List.mem_cons_of_mem _ h)
theorem x_has {ls : Array Slot} {nL i : Nat} {v : Value} {r lv' : List (Nat × Value)} (h : lv_has ls nL ((i, v) :: r)) (e : x_in i v r = lv') : lv_has ls nL lv' := by
  subst e
  refine ⟨h.1, h.2.1, fun q hq => h.2.2 q ?_⟩
  rcases x_in_mem hq with z | z
  · rw [z]; exact List.mem_cons_self
  · exact List.mem_cons_of_mem _ z
/-! numbers -/
def d32 (x y : Int) : Int := (w32 x).tdiv (w32 y)
def r32 (x y : Int) : Int := (w32 x).tmod (w32 y)
def d64 (x y : Int) : Int := (w64 x).tdiv (w64 y)
def a32 (x y : Int) : Int := (Int32.ofInt x &&& Int32.ofInt y).toInt
def o32 (x y : Int) : Int := (Int32.ofInt x ||| Int32.ofInt y).toInt
def e32 (x y : Int) : Int := (Int32.ofInt x ^^^ Int32.ofInt y).toInt
def l32 (x y : Int) : Int := (Int32.ofInt x <<< (Int32.ofInt y &&& 31)).toInt
def s32 (x y : Int) : Int := (Int32.ofInt x >>> (Int32.ofInt y &&& 31)).toInt
def u32 (x y : Int) : Int := ((Int32.ofInt x).toUInt32 >>> ((Int32.ofInt y).toUInt32 &&& Int32.toUInt32 31)).toInt32.toInt
def a64 (x y : Int) : Int := (Int64.ofInt x &&& Int64.ofInt y).toInt
def o64 (x y : Int) : Int := (Int64.ofInt x ||| Int64.ofInt y).toInt
def l64 (x y : Int) : Int := (Int64.ofInt x <<< ((Int32.ofInt y).toInt64 &&& 63)).toInt
def b8 (x : Int) : Int := (Int32.ofInt x).toInt8.toInt32.toInt
def bz (x : Int) : Int := (vp_nar .boolean (Int32.ofInt x)).toInt
theorem ofInt_w32 (x : Int) : Int32.ofInt (w32 x) = Int32.ofInt x := Int32.ofInt_toInt _
theorem ofInt_w64 (x : Int) : Int64.ofInt (w64 x) = Int64.ofInt x := Int64.ofInt_toInt _
theorem ofInt_d32 (x y : Int) : Int32.ofInt (d32 x y) = Int32.ofInt x / Int32.ofInt y := by
  apply Int32.toInt_inj.mp
  rw [Int32.toInt_div, Int32.toInt_ofInt]
  rfl
theorem ofInt_r32 (x y : Int) : Int32.ofInt (r32 x y) = Int32.ofInt x - Int32.ofInt x / Int32.ofInt y * Int32.ofInt y := by
  have h : r32 x y = w32 x - d32 x y * w32 y := by
    unfold r32 d32
    rw [Int.tmod_def, Int.mul_comm]
  rw [h, Int32.ofInt_sub, Int32.ofInt_mul, ofInt_w32, ofInt_w32, ofInt_d32]
theorem ofInt_d64 (x y : Int) : Int64.ofInt (d64 x y) = Int64.ofInt x / Int64.ofInt y := by
  apply Int64.toInt_inj.mp
  rw [Int64.toInt_div, Int64.toInt_ofInt]
  rfl
theorem x_i2l (x : Int) : (Int32.ofInt x).toInt64 = Int64.ofInt (w32 x) := by
  apply Int64.toInt_inj.mp
  rw [Int32.toInt_toInt64]
  show w32 x = (Int64.ofInt (w32 x)).toInt
  rw [Int64.toInt_ofInt]
  have h1 := Int32.le_toInt (Int32.ofInt x)
  have h2 := Int32.toInt_lt (Int32.ofInt x)
  have h3 : w32 x = (Int32.ofInt x).toInt := rfl
  rw [← h3] at h1 h2
  rw [show (Int64.size : Nat) = 18446744073709551616 from rfl]
  rw [Int.bmod_eq_of_le] <;> omega
theorem x_l2i (x : Int) : (Int64.ofInt x).toInt32 = Int32.ofInt x := by
  apply Int32.toInt_inj.mp
  rw [Int64.toInt_toInt32, Int64.toInt_ofInt, Int32.toInt_ofInt]
  rw [show (Int64.size : Nat) = 2 ^ 64 from rfl, show (Int32.size : Nat) = 2 ^ 32 from rfl]
  exact Int.bmod_bmod_of_dvd ⟨2 ^ 32, by decide⟩
theorem x_eq {x y : Int} : Int32.ofInt x = Int32.ofInt y ↔ w32 x = w32 y := Int32.toInt_inj.symm
theorem x_lt {x y : Int} : Int32.ofInt x < Int32.ofInt y ↔ w32 x < w32 y := Int32.lt_iff_toInt_lt
theorem x_le {x y : Int} : Int32.ofInt x ≤ Int32.ofInt y ↔ w32 x ≤ w32 y := Int32.le_iff_toInt_le
theorem x_eq0 {x : Int} : Int32.ofInt x = 0 ↔ w32 x = 0 := (Int32.toInt_inj (x := Int32.ofInt x) (y := 0)).symm
theorem x_lt0 {x : Int} : Int32.ofInt x < 0 ↔ w32 x < 0 := Int32.lt_iff_toInt_lt
theorem x_gt0 {x : Int} : 0 < Int32.ofInt x ↔ 0 < w32 x := Int32.lt_iff_toInt_lt
theorem x_le0 {x : Int} : Int32.ofInt x ≤ 0 ↔ w32 x ≤ 0 := Int32.le_iff_toInt_le
theorem x_ge0 {x : Int} : 0 ≤ Int32.ofInt x ↔ 0 ≤ w32 x := Int32.le_iff_toInt_le
theorem x_inb {i : Int} {n : Nat} : vp_in (Int32.ofInt i) n ↔ inb i n := vp_in_iff
theorem x_ixn (i : Int) : (Int32.ofInt i).toNatClampNeg = ixn i := rfl
section XR
variable {X : x_Ctx} {cells slots : Nat} {Q : State → Prop} {M0 M : Mem} {nL : Nat} {lv lv' : List (Nat × Value)} {pc : Nat} {st : List Value} {y : MethodName} {cc : ByteArray} {ret : Option FieldType} {hs : List (Nat × Nat × Nat × Nat)} {F Lo : Nat}
theorem x_CC.hts (C : x_CC X F Lo y cc nL ret hs) : ∀ w ∈ lw_all, w.before (Xa X) (Xs X) = true := x_words C.2.1.2.1 C.1.2.2.2.2.1 _
theorem x_CC.kn (C : x_CC X F Lo y cc nL ret hs) {k : Nat} (h1 : 1 ≤ k) (h2 : k < 17) : u_Kn (Xs X) (x_C k).1 (x_C k).2.1 (x_C k).2.2 ((XD X).1 k) ((XD X).2 k) := u_Kn_moved C.1.2.2.2.2.1.alike (C.2.1.2.2.1 k h1 h2)
theorem x_CC.ar (C : x_CC X F Lo y cc nL ret hs) {t : Nat} (h : t ∈ x_tys) : ArrOfT (Xs X) (XA X t) (x_ty t) ∧ va_RA (Xs X) (XA X t) (x_ty t) := ⟨arrOfT_moved C.1.2.2.2.2.1.alike (C.2.1.2.2.2.1 t h).1, (C.2.1.2.2.2.1 t h).2.moved C.1.2.2.2.2.1.alike⟩
theorem z_lv (ks : List Nat) (h : lv_pick lv ks = lv') (k : x_Z X cells slots Q M0 M nL lv' pc st) : x_Z X cells slots Q M0 M nL lv pc st := fun H locs ls hP hE hL hl => k H locs ls hP hE hL (lv_sub hl ks h)
theorem z_wide {c2 s2 : Nat} (h1 : cells ≤ c2) (h2 : slots ≤ s2) (k : x_Z X c2 s2 Q M0 M nL lv pc st) : x_Z X cells slots Q M0 M nL lv pc st := fun H locs ls hP hE hL hl => W.widen h1 h2 (k H locs ls hP hE hL hl)
theorem z_st {st' : List Value} (e : st' = st) (k : x_Z X cells slots Q M0 M nL lv pc st') : x_Z X cells slots Q M0 M nL lv pc st := e ▸ k
theorem z_iconst (C : x_CC X F Lo y cc nL ret hs) {n : Int} (d : decode cc pc = .ok (.iconst n, 1)) (k : x_Z X cells slots Q M0 M nL lv (pc + 1) (vI n :: st)) : x_Z X cells slots Q M0 M nL lv pc st := fun H locs ls hP hE hL hl => lv_iconst C.1.1 C.1.2.1 d rfl (k H locs ls hP hE hL hl)
theorem z_bipush (C : x_CC X F Lo y cc nL ret hs) {n : Int} (hv : (Int8.ofInt n).toInt32 = Int32.ofInt n) (d : decode cc pc = .ok (.bipush n, 2)) (k : x_Z X cells slots Q M0 M nL lv (pc + 2) (vI n :: st)) : x_Z X cells slots Q M0 M nL lv pc st := fun H locs ls hP hE hL hl => lv_bipush C.1.1 C.1.2.1 d hv (k H locs ls hP hE hL hl)
theorem z_sipush (C : x_CC X F Lo y cc nL ret hs) {n : Int} (hv : (Int16.ofInt n).toInt32 = Int32.ofInt n) (d : decode cc pc = .ok (.sipush n, 3)) (k : x_Z X cells slots Q M0 M nL lv (pc + 3) (vI n :: st)) : x_Z X cells slots Q M0 M nL lv pc st := fun H locs ls hP hE hL hl => lv_sipush C.1.1 C.1.2.1 d hv (k H locs ls hP hE hL hl)
theorem z_lconst (C : x_CC X F Lo y cc nL ret hs) {n : Fin 2} {x : Int} (hv : Int64.ofNat (n : Nat) = Int64.ofInt x) (d : decode cc pc = .ok (.lconst n, 1)) (k : x_Z X cells slots Q M0 M nL lv (pc + 1) (vL x :: st)) : x_Z X cells slots Q M0 M nL lv pc st := fun H locs ls hP hE hL hl => lv_lconst C.1.1 C.1.2.1 d hv (k H locs ls hP hE hL hl)
theorem z_ldc (C : x_CC X F Lo y cc nL ret hs) {i : Nat} {v : Int32} {x : Int} (q : Cond.constant y.cls i v ∈ lw_all) (hv : v = Int32.ofInt x) (d : decode cc pc = .ok (.ldc i, 2)) (k : x_Z X cells slots Q M0 M nL lv (pc + 2) (vI x :: st)) : x_Z X cells slots Q M0 M nL lv pc st := fun H locs ls hP hE hL hl => lv_ldc C.1.1 C.1.2.1 C.1.2.2.2.1 (C.hts _ q) d (hv ▸ (k H locs ls hP hE hL hl))
theorem z_ldcw (C : x_CC X F Lo y cc nL ret hs) {i : Nat} {v : Int32} {x : Int} (q : Cond.constant y.cls i v ∈ lw_all) (hv : v = Int32.ofInt x) (d : decode cc pc = .ok (.ldc_w i, 3)) (k : x_Z X cells slots Q M0 M nL lv (pc + 3) (vI x :: st)) : x_Z X cells slots Q M0 M nL lv pc st := fun H locs ls hP hE hL hl => lv_ldcw C.1.1 C.1.2.1 C.1.2.2.2.1 (C.hts _ q) d (hv ▸ (k H locs ls hP hE hL hl))
theorem z_ldc2 (C : x_CC X F Lo y cc nL ret hs) {i : Nat} {v : Int64} {x : Int} (q : Cond.constantLong y.cls i v ∈ lw_all) (hv : v = Int64.ofInt x) (d : decode cc pc = .ok (.ldc2_w i, 3)) (k : x_Z X cells slots Q M0 M nL lv (pc + 3) (vL x :: st)) : x_Z X cells slots Q M0 M nL lv pc st := fun H locs ls hP hE hL hl => lv_ldc2 C.1.1 C.1.2.1 C.1.2.2.2.1 (C.hts _ q) d (hv ▸ (k H locs ls hP hE hL hl))
theorem z_iload_n (C : x_CC X F Lo y cc nL ret hs) {j : Fin 4} (q : Nat) {x : Int} (hq : lv[q]? = some ((j : Nat), vI x)) (d : decode cc pc = .ok (.iload_n j, 1)) (k : x_Z X cells slots Q M0 M nL lv (pc + 1) (vI x :: st)) : x_Z X cells slots Q M0 M nL lv pc st := fun H locs ls hP hE hL hl => lv_iload_n C.1.1 C.1.2.1 d rfl (lv_at hl q hq) (k H locs ls hP hE hL hl)
theorem z_iload (C : x_CC X F Lo y cc nL ret hs) {j : Nat} (q : Nat) {x : Int} (hq : lv[q]? = some (j, vI x)) (d : decode cc pc = .ok (.iload j, 2)) (k : x_Z X cells slots Q M0 M nL lv (pc + 2) (vI x :: st)) : x_Z X cells slots Q M0 M nL lv pc st := fun H locs ls hP hE hL hl => lv_iload C.1.1 C.1.2.1 d (lv_at hl q hq) (k H locs ls hP hE hL hl)
theorem z_istore_n (C : x_CC X F Lo y cc nL ret hs) {j : Fin 4} {x : Int} (hn : (j : Nat) < nL) (hv : x_in (j : Nat) (vI x) (lv.filter (fun q => !(q.1 == (j : Nat)) && !(q.1 + 1 == (j : Nat) && q.2.category == 2))) = lv') (d : decode cc pc = .ok (.istore_n j, 1)) (k : x_Z X cells slots Q M0 M nL lv' (pc + 1) st) : x_Z X cells slots Q M0 M nL lv pc (vI x :: st) := fun H locs ls hP hE hL hl => lv_istore_n C.1.1 C.1.2.1 d rfl hl hn rfl (fun ls2 hl2 => k H locs ls2 hP hE hL (x_has hl2 hv))
theorem z_istore (C : x_CC X F Lo y cc nL ret hs) {j : Nat} {x : Int} (hn : (j : Nat) < nL) (hv : x_in (j : Nat) (vI x) (lv.filter (fun q => !(q.1 == (j : Nat)) && !(q.1 + 1 == (j : Nat) && q.2.category == 2))) = lv') (d : decode cc pc = .ok (.istore j, 2)) (k : x_Z X cells slots Q M0 M nL lv' (pc + 2) st) : x_Z X cells slots Q M0 M nL lv pc (vI x :: st) := fun H locs ls hP hE hL hl => lv_istore C.1.1 C.1.2.1 d hl hn rfl (fun ls2 hl2 => k H locs ls2 hP hE hL (x_has hl2 hv))
theorem z_lload_n (C : x_CC X F Lo y cc nL ret hs) {j : Fin 4} (q : Nat) {x : Int} (hq : lv[q]? = some ((j : Nat), vL x)) (d : decode cc pc = .ok (.lload_n j, 1)) (k : x_Z X cells slots Q M0 M nL lv (pc + 1) (vL x :: st)) : x_Z X cells slots Q M0 M nL lv pc st := fun H locs ls hP hE hL hl => lv_lload_n C.1.1 C.1.2.1 d rfl (lv_at hl q hq) (k H locs ls hP hE hL hl)
theorem z_lload (C : x_CC X F Lo y cc nL ret hs) {j : Nat} (q : Nat) {x : Int} (hq : lv[q]? = some (j, vL x)) (d : decode cc pc = .ok (.lload j, 2)) (k : x_Z X cells slots Q M0 M nL lv (pc + 2) (vL x :: st)) : x_Z X cells slots Q M0 M nL lv pc st := fun H locs ls hP hE hL hl => lv_lload C.1.1 C.1.2.1 d (lv_at hl q hq) (k H locs ls hP hE hL hl)
theorem z_lstore_n (C : x_CC X F Lo y cc nL ret hs) {j : Fin 4} {x : Int} (hn : (j : Nat) + 1 < nL) (hv : x_in (j : Nat) (vL x) (lv.filter (fun q => !(q.1 == (j : Nat)) && (!(q.1 == (j : Nat) + 1) && !(q.1 + 1 == (j : Nat) && q.2.category == 2)))) = lv') (d : decode cc pc = .ok (.lstore_n j, 1)) (k : x_Z X cells slots Q M0 M nL lv' (pc + 1) st) : x_Z X cells slots Q M0 M nL lv pc (vL x :: st) := fun H locs ls hP hE hL hl => lv_lstore_n C.1.1 C.1.2.1 d rfl hl hn rfl (fun ls2 hl2 => k H locs ls2 hP hE hL (x_has hl2 hv))
theorem z_lstore (C : x_CC X F Lo y cc nL ret hs) {j : Nat} {x : Int} (hn : (j : Nat) + 1 < nL) (hv : x_in (j : Nat) (vL x) (lv.filter (fun q => !(q.1 == (j : Nat)) && (!(q.1 == (j : Nat) + 1) && !(q.1 + 1 == (j : Nat) && q.2.category == 2)))) = lv') (d : decode cc pc = .ok (.lstore j, 2)) (k : x_Z X cells slots Q M0 M nL lv' (pc + 2) st) : x_Z X cells slots Q M0 M nL lv pc (vL x :: st) := fun H locs ls hP hE hL hl => lv_lstore C.1.1 C.1.2.1 d hl hn rfl (fun ls2 hl2 => k H locs ls2 hP hE hL (x_has hl2 hv))
theorem z_aload_n (C : x_CC X F Lo y cc nL ret hs) {j : Fin 4} (q : Nat) {x : Nat} (hq : lv[q]? = some ((j : Nat), .ref x)) (d : decode cc pc = .ok (.aload_n j, 1)) (k : x_Z X cells slots Q M0 M nL lv (pc + 1) (.ref x :: st)) : x_Z X cells slots Q M0 M nL lv pc st := fun H locs ls hP hE hL hl => lv_aload_n C.1.1 C.1.2.1 d rfl (lv_at hl q hq) (k H locs ls hP hE hL hl)
theorem z_aload (C : x_CC X F Lo y cc nL ret hs) {j : Nat} (q : Nat) {x : Nat} (hq : lv[q]? = some (j, .ref x)) (d : decode cc pc = .ok (.aload j, 2)) (k : x_Z X cells slots Q M0 M nL lv (pc + 2) (.ref x :: st)) : x_Z X cells slots Q M0 M nL lv pc st := fun H locs ls hP hE hL hl => lv_aload C.1.1 C.1.2.1 d (lv_at hl q hq) (k H locs ls hP hE hL hl)
theorem z_astore_n (C : x_CC X F Lo y cc nL ret hs) {j : Fin 4} {x : Nat} (hn : (j : Nat) < nL) (hv : x_in (j : Nat) (.ref x) (lv.filter (fun q => !(q.1 == (j : Nat)) && !(q.1 + 1 == (j : Nat) && q.2.category == 2))) = lv') (d : decode cc pc = .ok (.astore_n j, 1)) (k : x_Z X cells slots Q M0 M nL lv' (pc + 1) st) : x_Z X cells slots Q M0 M nL lv pc (.ref x :: st) := fun H locs ls hP hE hL hl => lv_astore_n C.1.1 C.1.2.1 d rfl hl hn rfl (fun ls2 hl2 => k H locs ls2 hP hE hL (x_has hl2 hv))
theorem z_astore (C : x_CC X F Lo y cc nL ret hs) {j : Nat} {x : Nat} (hn : (j : Nat) < nL) (hv : x_in (j : Nat) (.ref x) (lv.filter (fun q => !(q.1 == (j : Nat)) && !(q.1 + 1 == (j : Nat) && q.2.category == 2))) = lv') (d : decode cc pc = .ok (.astore j, 2)) (k : x_Z X cells slots Q M0 M nL lv' (pc + 2) st) : x_Z X cells slots Q M0 M nL lv pc (.ref x :: st) := fun H locs ls hP hE hL hl => lv_astore C.1.1 C.1.2.1 d hl hn rfl (fun ls2 hl2 => k H locs ls2 hP hE hL (x_has hl2 hv))
theorem z_iinc (C : x_CC X F Lo y cc nL ret hs) {j : Nat} {n : Int} (q : Nat) {x : Int} (hq : lv[q]? = some (j, vI x)) (hn : j < nL) (hv : x_in j (vI (x + n)) (lv.filter (fun q => !(q.1 == j) && !(q.1 + 1 == j && q.2.category == 2))) = lv') (d : decode cc pc = .ok (.iinc j n, 3)) (k : x_Z X cells slots Q M0 M nL lv' (pc + 3) st) : x_Z X cells slots Q M0 M nL lv pc st := fun H locs ls hP hE hL hl => lv_iinc C.1.1 C.1.2.1 d hl hq (Int32.ofInt_add x n).symm hn rfl (fun ls2 hl2 => k H locs ls2 hP hE hL (x_has hl2 hv))
theorem z_iadd (C : x_CC X F Lo y cc nL ret hs) {x z : Int} (d : decode cc pc = .ok (.iadd, 1)) (k : x_Z X cells slots Q M0 M nL lv (pc + 1) (vI (x + z) :: st)) : x_Z X cells slots Q M0 M nL lv pc (vI z :: vI x :: st) := fun H locs ls hP hE hL hl => lv_iadd C.1.1 C.1.2.1 d (by rw [← Int32.ofInt_add x z]; exact (k H locs ls hP hE hL hl))
theorem z_isub (C : x_CC X F Lo y cc nL ret hs) {x z : Int} (d : decode cc pc = .ok (.isub, 1)) (k : x_Z X cells slots Q M0 M nL lv (pc + 1) (vI (x - z) :: st)) : x_Z X cells slots Q M0 M nL lv pc (vI z :: vI x :: st) := fun H locs ls hP hE hL hl => lv_isub C.1.1 C.1.2.1 d (by rw [← Int32.ofInt_sub x z]; exact (k H locs ls hP hE hL hl))
theorem z_imul (C : x_CC X F Lo y cc nL ret hs) {x z : Int} (d : decode cc pc = .ok (.imul, 1)) (k : x_Z X cells slots Q M0 M nL lv (pc + 1) (vI (x * z) :: st)) : x_Z X cells slots Q M0 M nL lv pc (vI z :: vI x :: st) := fun H locs ls hP hE hL hl => lv_imul C.1.1 C.1.2.1 d (by rw [← Int32.ofInt_mul x z]; exact (k H locs ls hP hE hL hl))
theorem z_ladd (C : x_CC X F Lo y cc nL ret hs) {x z : Int} (d : decode cc pc = .ok (.ladd, 1)) (k : x_Z X cells slots Q M0 M nL lv (pc + 1) (vL (x + z) :: st)) : x_Z X cells slots Q M0 M nL lv pc (vL z :: vL x :: st) := fun H locs ls hP hE hL hl => lv_ladd C.1.1 C.1.2.1 d (by rw [← Int64.ofInt_add x z]; exact (k H locs ls hP hE hL hl))
theorem z_lsub (C : x_CC X F Lo y cc nL ret hs) {x z : Int} (d : decode cc pc = .ok (.lsub, 1)) (k : x_Z X cells slots Q M0 M nL lv (pc + 1) (vL (x - z) :: st)) : x_Z X cells slots Q M0 M nL lv pc (vL z :: vL x :: st) := fun H locs ls hP hE hL hl => lv_lsub C.1.1 C.1.2.1 d (by rw [← Int64.ofInt_sub x z]; exact (k H locs ls hP hE hL hl))
theorem z_lmul (C : x_CC X F Lo y cc nL ret hs) {x z : Int} (d : decode cc pc = .ok (.lmul, 1)) (k : x_Z X cells slots Q M0 M nL lv (pc + 1) (vL (x * z) :: st)) : x_Z X cells slots Q M0 M nL lv pc (vL z :: vL x :: st) := fun H locs ls hP hE hL hl => lv_lmul C.1.1 C.1.2.1 d (by rw [← Int64.ofInt_mul x z]; exact (k H locs ls hP hE hL hl))
theorem z_ineg (C : x_CC X F Lo y cc nL ret hs) {x : Int} (d : decode cc pc = .ok (.ineg, 1)) (k : x_Z X cells slots Q M0 M nL lv (pc + 1) (vI (-x) :: st)) : x_Z X cells slots Q M0 M nL lv pc (vI x :: st) := fun H locs ls hP hE hL hl => lv_ineg C.1.1 C.1.2.1 d (by rw [← Int32.ofInt_neg x]; exact (k H locs ls hP hE hL hl))
theorem z_idiv (C : x_CC X F Lo y cc nL ret hs) {x z : Int} (hz : ¬ w32 z = 0) (d : decode cc pc = .ok (.idiv, 1)) (k : x_Z X cells slots Q M0 M nL lv (pc + 1) (vI (d32 x z) :: st)) : x_Z X cells slots Q M0 M nL lv pc (vI z :: vI x :: st) := fun H locs ls hP hE hL hl => lv_idiv C.1.1 C.1.2.1 d (fun q => hz (x_eq0.mp q)) (by rw [← ofInt_d32 x z]; exact (k H locs ls hP hE hL hl))
theorem z_irem (C : x_CC X F Lo y cc nL ret hs) {x z : Int} (hz : ¬ w32 z = 0) (d : decode cc pc = .ok (.irem, 1)) (k : x_Z X cells slots Q M0 M nL lv (pc + 1) (vI (r32 x z) :: st)) : x_Z X cells slots Q M0 M nL lv pc (vI z :: vI x :: st) := fun H locs ls hP hE hL hl => lv_irem C.1.1 C.1.2.1 d (fun q => hz (x_eq0.mp q)) (by rw [← ofInt_r32 x z]; exact (k H locs ls hP hE hL hl))
theorem z_ldiv (C : x_CC X F Lo y cc nL ret hs) {x z : Int} (hz : ¬ w64 z = 0) (d : decode cc pc = .ok (.ldiv, 1)) (k : x_Z X cells slots Q M0 M nL lv (pc + 1) (vL (d64 x z) :: st)) : x_Z X cells slots Q M0 M nL lv pc (vL z :: vL x :: st) := fun H locs ls hP hE hL hl => lv_ldiv C.1.1 C.1.2.1 d (fun q => hz (by unfold w64; rw [q]; rfl)) (by rw [← ofInt_d64 x z]; exact (k H locs ls hP hE hL hl))
theorem z_iand (C : x_CC X F Lo y cc nL ret hs) {x z : Int} (d : decode cc pc = .ok (.iand, 1)) (k : x_Z X cells slots Q M0 M nL lv (pc + 1) (vI (a32 x z) :: st)) : x_Z X cells slots Q M0 M nL lv pc (vI z :: vI x :: st) := fun H locs ls hP hE hL hl => lv_iand C.1.1 C.1.2.1 d (by have h := (k H locs ls hP hE hL hl); unfold a32 vI at h; rw [Int32.ofInt_toInt] at h; exact h)
theorem z_ior (C : x_CC X F Lo y cc nL ret hs) {x z : Int} (d : decode cc pc = .ok (.ior, 1)) (k : x_Z X cells slots Q M0 M nL lv (pc + 1) (vI (o32 x z) :: st)) : x_Z X cells slots Q M0 M nL lv pc (vI z :: vI x :: st) := fun H locs ls hP hE hL hl => lv_ior C.1.1 C.1.2.1 d (by have h := (k H locs ls hP hE hL hl); unfold o32 vI at h; rw [Int32.ofInt_toInt] at h; exact h)
theorem z_ixor (C : x_CC X F Lo y cc nL ret hs) {x z : Int} (d : decode cc pc = .ok (.ixor, 1)) (k : x_Z X cells slots Q M0 M nL lv (pc + 1) (vI (e32 x z) :: st)) : x_Z X cells slots Q M0 M nL lv pc (vI z :: vI x :: st) := fun H locs ls hP hE hL hl => lv_ixor C.1.1 C.1.2.1 d (by have h := (k H locs ls hP hE hL hl); unfold e32 vI at h; rw [Int32.ofInt_toInt] at h; exact h)
theorem z_ishl (C : x_CC X F Lo y cc nL ret hs) {x z : Int} (d : decode cc pc = .ok (.ishl, 1)) (k : x_Z X cells slots Q M0 M nL lv (pc + 1) (vI (l32 x z) :: st)) : x_Z X cells slots Q M0 M nL lv pc (vI z :: vI x :: st) := fun H locs ls hP hE hL hl => lv_ishl C.1.1 C.1.2.1 d (by have h := (k H locs ls hP hE hL hl); unfold l32 vI at h; rw [Int32.ofInt_toInt] at h; exact h)
theorem z_ishr (C : x_CC X F Lo y cc nL ret hs) {x z : Int} (d : decode cc pc = .ok (.ishr, 1)) (k : x_Z X cells slots Q M0 M nL lv (pc + 1) (vI (s32 x z) :: st)) : x_Z X cells slots Q M0 M nL lv pc (vI z :: vI x :: st) := fun H locs ls hP hE hL hl => lv_ishr C.1.1 C.1.2.1 d (by have h := (k H locs ls hP hE hL hl); unfold s32 vI at h; rw [Int32.ofInt_toInt] at h; exact h)
theorem z_iushr (C : x_CC X F Lo y cc nL ret hs) {x z : Int} (d : decode cc pc = .ok (.iushr, 1)) (k : x_Z X cells slots Q M0 M nL lv (pc + 1) (vI (u32 x z) :: st)) : x_Z X cells slots Q M0 M nL lv pc (vI z :: vI x :: st) := fun H locs ls hP hE hL hl => lv_iushr C.1.1 C.1.2.1 d (Int32.ofInt_toInt _).symm (k H locs ls hP hE hL hl)
theorem z_land (C : x_CC X F Lo y cc nL ret hs) {x z : Int} (d : decode cc pc = .ok (.land, 1)) (k : x_Z X cells slots Q M0 M nL lv (pc + 1) (vL (a64 x z) :: st)) : x_Z X cells slots Q M0 M nL lv pc (vL z :: vL x :: st) := fun H locs ls hP hE hL hl => lv_land C.1.1 C.1.2.1 d (by have h := (k H locs ls hP hE hL hl); unfold a64 vL at h; rw [Int64.ofInt_toInt] at h; exact h)
theorem z_lor (C : x_CC X F Lo y cc nL ret hs) {x z : Int} (d : decode cc pc = .ok (.lor, 1)) (k : x_Z X cells slots Q M0 M nL lv (pc + 1) (vL (o64 x z) :: st)) : x_Z X cells slots Q M0 M nL lv pc (vL z :: vL x :: st) := fun H locs ls hP hE hL hl => lv_lor C.1.1 C.1.2.1 d (by have h := (k H locs ls hP hE hL hl); unfold o64 vL at h; rw [Int64.ofInt_toInt] at h; exact h)
theorem z_lshl (C : x_CC X F Lo y cc nL ret hs) {x z : Int} (d : decode cc pc = .ok (.lshl, 1)) (k : x_Z X cells slots Q M0 M nL lv (pc + 1) (vL (l64 x z) :: st)) : x_Z X cells slots Q M0 M nL lv pc (vI z :: vL x :: st) := fun H locs ls hP hE hL hl => lv_lshl C.1.1 C.1.2.1 d (Int64.ofInt_toInt _).symm (k H locs ls hP hE hL hl)
theorem z_i2l (C : x_CC X F Lo y cc nL ret hs) {x : Int} (d : decode cc pc = .ok (.i2l, 1)) (k : x_Z X cells slots Q M0 M nL lv (pc + 1) (vL (w32 x) :: st)) : x_Z X cells slots Q M0 M nL lv pc (vI x :: st) := fun H locs ls hP hE hL hl => lv_i2l C.1.1 C.1.2.1 d (x_i2l x) (k H locs ls hP hE hL hl)
theorem z_l2i (C : x_CC X F Lo y cc nL ret hs) {x : Int} (d : decode cc pc = .ok (.l2i, 1)) (k : x_Z X cells slots Q M0 M nL lv (pc + 1) (vI x :: st)) : x_Z X cells slots Q M0 M nL lv pc (vL x :: st) := fun H locs ls hP hE hL hl => lv_l2i C.1.1 C.1.2.1 d (x_l2i x) (k H locs ls hP hE hL hl)
theorem z_i2b (C : x_CC X F Lo y cc nL ret hs) {x : Int} (d : decode cc pc = .ok (.i2b, 1)) (k : x_Z X cells slots Q M0 M nL lv (pc + 1) (vI (b8 x) :: st)) : x_Z X cells slots Q M0 M nL lv pc (vI x :: st) := fun H locs ls hP hE hL hl => lv_i2b C.1.1 C.1.2.1 d (Int32.ofInt_toInt _).symm (k H locs ls hP hE hL hl)
theorem z_dup (C : x_CC X F Lo y cc nL ret hs) {v : Value} (hv : v.category = 1) (d : decode cc pc = .ok (.dup, 1)) (k : x_Z X cells slots Q M0 M nL lv (pc + 1) (v :: v :: st)) : x_Z X cells slots Q M0 M nL lv pc (v :: st) := fun H locs ls hP hE hL hl => lv_dup C.1.1 C.1.2.1 d hv (k H locs ls hP hE hL hl)
theorem z_dupx1 (C : x_CC X F Lo y cc nL ret hs) {v w : Value} (hv : v.category = 1) (hw : w.category = 1) (d : decode cc pc = .ok (.dup_x1, 1)) (k : x_Z X cells slots Q M0 M nL lv (pc + 1) (v :: w :: v :: st)) : x_Z X cells slots Q M0 M nL lv pc (v :: w :: st) := fun H locs ls hP hE hL hl => lv_dup_x1 C.1.1 C.1.2.1 d hv hw (k H locs ls hP hE hL hl)
theorem z_dup2 (C : x_CC X F Lo y cc nL ret hs) {v w : Value} (hv : v.category = 1) (hw : w.category = 1) (d : decode cc pc = .ok (.dup2, 1)) (k : x_Z X cells slots Q M0 M nL lv (pc + 1) (v :: w :: v :: w :: st)) : x_Z X cells slots Q M0 M nL lv pc (v :: w :: st) := fun H locs ls hP hE hL hl => lv_dup2_11 C.1.1 C.1.2.1 d hv hw (k H locs ls hP hE hL hl)
theorem z_pop (C : x_CC X F Lo y cc nL ret hs) {v : Value} (hv : v.category = 1) (d : decode cc pc = .ok (.pop, 1)) (k : x_Z X cells slots Q M0 M nL lv (pc + 1) st) : x_Z X cells slots Q M0 M nL lv pc (v :: st) := fun H locs ls hP hE hL hl => lv_pop C.1.1 C.1.2.1 d hv (k H locs ls hP hE hL hl)
theorem z_if_eq (C : x_CC X F Lo y cc nL ret hs) {x : Int} {off : Int} {tgt : Nat} (d : decode cc pc = .ok (.ifCond .eq off, 3)) (ht : (pc : Int) + off = (tgt : Int)) (kt : w32 x = 0 → x_Z X cells slots Q M0 M nL lv tgt st) (kf : ¬ (w32 x = 0) → x_Z X cells slots Q M0 M nL lv (pc + 3) st) : x_Z X cells slots Q M0 M nL lv pc (vI x :: st) := fun H locs ls hP hE hL hl => lv_if_eq C.1.1 C.1.2.1 d ht (fun q => kt (x_eq0.mp q) H locs ls hP hE hL hl) (fun q => kf (fun z => q (x_eq0.mpr z)) H locs ls hP hE hL hl)
theorem z_if_lt (C : x_CC X F Lo y cc nL ret hs) {x : Int} {off : Int} {tgt : Nat} (d : decode cc pc = .ok (.ifCond .lt off, 3)) (ht : (pc : Int) + off = (tgt : Int)) (kt : w32 x < 0 → x_Z X cells slots Q M0 M nL lv tgt st) (kf : ¬ (w32 x < 0) → x_Z X cells slots Q M0 M nL lv (pc + 3) st) : x_Z X cells slots Q M0 M nL lv pc (vI x :: st) := fun H locs ls hP hE hL hl => lv_if_lt C.1.1 C.1.2.1 d ht (fun q => kt (x_lt0.mp q) H locs ls hP hE hL hl) (fun q => kf (fun z => q (x_lt0.mpr z)) H locs ls hP hE hL hl)
theorem z_if_ge (C : x_CC X F Lo y cc nL ret hs) {x : Int} {off : Int} {tgt : Nat} (d : decode cc pc = .ok (.ifCond .ge off, 3)) (ht : (pc : Int) + off = (tgt : Int)) (kt : 0 ≤ w32 x → x_Z X cells slots Q M0 M nL lv tgt st) (kf : ¬ (0 ≤ w32 x) → x_Z X cells slots Q M0 M nL lv (pc + 3) st) : x_Z X cells slots Q M0 M nL lv pc (vI x :: st) := fun H locs ls hP hE hL hl => lv_if_ge C.1.1 C.1.2.1 d ht (fun q => kt (x_ge0.mp q) H locs ls hP hE hL hl) (fun q => kf (fun z => q (x_ge0.mpr z)) H locs ls hP hE hL hl)
theorem z_if_gt (C : x_CC X F Lo y cc nL ret hs) {x : Int} {off : Int} {tgt : Nat} (d : decode cc pc = .ok (.ifCond .gt off, 3)) (ht : (pc : Int) + off = (tgt : Int)) (kt : 0 < w32 x → x_Z X cells slots Q M0 M nL lv tgt st) (kf : ¬ (0 < w32 x) → x_Z X cells slots Q M0 M nL lv (pc + 3) st) : x_Z X cells slots Q M0 M nL lv pc (vI x :: st) := fun H locs ls hP hE hL hl => lv_if_gt C.1.1 C.1.2.1 d ht (fun q => kt (x_gt0.mp q) H locs ls hP hE hL hl) (fun q => kf (fun z => q (x_gt0.mpr z)) H locs ls hP hE hL hl)
theorem z_if_le (C : x_CC X F Lo y cc nL ret hs) {x : Int} {off : Int} {tgt : Nat} (d : decode cc pc = .ok (.ifCond .le off, 3)) (ht : (pc : Int) + off = (tgt : Int)) (kt : w32 x ≤ 0 → x_Z X cells slots Q M0 M nL lv tgt st) (kf : ¬ (w32 x ≤ 0) → x_Z X cells slots Q M0 M nL lv (pc + 3) st) : x_Z X cells slots Q M0 M nL lv pc (vI x :: st) := fun H locs ls hP hE hL hl => lv_if_le C.1.1 C.1.2.1 d ht (fun q => kt (x_le0.mp q) H locs ls hP hE hL hl) (fun q => kf (fun z => q (x_le0.mpr z)) H locs ls hP hE hL hl)
theorem z_ic_eq (C : x_CC X F Lo y cc nL ret hs) {x z : Int} {off : Int} {tgt : Nat} (d : decode cc pc = .ok (.if_icmp .eq off, 3)) (ht : (pc : Int) + off = (tgt : Int)) (kt : w32 x = w32 z → x_Z X cells slots Q M0 M nL lv tgt st) (kf : ¬ (w32 x = w32 z) → x_Z X cells slots Q M0 M nL lv (pc + 3) st) : x_Z X cells slots Q M0 M nL lv pc (vI z :: vI x :: st) := fun H locs ls hP hE hL hl => lv_icmp_eq C.1.1 C.1.2.1 d ht (fun q => kt (x_eq.mp q) H locs ls hP hE hL hl) (fun q => kf (fun z => q (x_eq.mpr z)) H locs ls hP hE hL hl)
theorem z_ic_lt (C : x_CC X F Lo y cc nL ret hs) {x z : Int} {off : Int} {tgt : Nat} (d : decode cc pc = .ok (.if_icmp .lt off, 3)) (ht : (pc : Int) + off = (tgt : Int)) (kt : w32 x < w32 z → x_Z X cells slots Q M0 M nL lv tgt st) (kf : ¬ (w32 x < w32 z) → x_Z X cells slots Q M0 M nL lv (pc + 3) st) : x_Z X cells slots Q M0 M nL lv pc (vI z :: vI x :: st) := fun H locs ls hP hE hL hl => lv_icmp_lt C.1.1 C.1.2.1 d ht (fun q => kt (x_lt.mp q) H locs ls hP hE hL hl) (fun q => kf (fun z => q (x_lt.mpr z)) H locs ls hP hE hL hl)
theorem z_ic_ge (C : x_CC X F Lo y cc nL ret hs) {x z : Int} {off : Int} {tgt : Nat} (d : decode cc pc = .ok (.if_icmp .ge off, 3)) (ht : (pc : Int) + off = (tgt : Int)) (kt : w32 z ≤ w32 x → x_Z X cells slots Q M0 M nL lv tgt st) (kf : ¬ (w32 z ≤ w32 x) → x_Z X cells slots Q M0 M nL lv (pc + 3) st) : x_Z X cells slots Q M0 M nL lv pc (vI z :: vI x :: st) := fun H locs ls hP hE hL hl => lv_icmp_ge C.1.1 C.1.2.1 d ht (fun q => kt (x_le.mp q) H locs ls hP hE hL hl) (fun q => kf (fun z => q (x_le.mpr z)) H locs ls hP hE hL hl)
theorem z_ic_gt (C : x_CC X F Lo y cc nL ret hs) {x z : Int} {off : Int} {tgt : Nat} (d : decode cc pc = .ok (.if_icmp .gt off, 3)) (ht : (pc : Int) + off = (tgt : Int)) (kt : w32 z < w32 x → x_Z X cells slots Q M0 M nL lv tgt st) (kf : ¬ (w32 z < w32 x) → x_Z X cells slots Q M0 M nL lv (pc + 3) st) : x_Z X cells slots Q M0 M nL lv pc (vI z :: vI x :: st) := fun H locs ls hP hE hL hl => lv_icmp_gt C.1.1 C.1.2.1 d ht (fun q => kt (x_lt.mp q) H locs ls hP hE hL hl) (fun q => kf (fun z => q (x_lt.mpr z)) H locs ls hP hE hL hl)
theorem z_ic_le (C : x_CC X F Lo y cc nL ret hs) {x z : Int} {off : Int} {tgt : Nat} (d : decode cc pc = .ok (.if_icmp .le off, 3)) (ht : (pc : Int) + off = (tgt : Int)) (kt : w32 x ≤ w32 z → x_Z X cells slots Q M0 M nL lv tgt st) (kf : ¬ (w32 x ≤ w32 z) → x_Z X cells slots Q M0 M nL lv (pc + 3) st) : x_Z X cells slots Q M0 M nL lv pc (vI z :: vI x :: st) := fun H locs ls hP hE hL hl => lv_icmp_le C.1.1 C.1.2.1 d ht (fun q => kt (x_le.mp q) H locs ls hP hE hL hl) (fun q => kf (fun z => q (x_le.mpr z)) H locs ls hP hE hL hl)
theorem z_if_ne (C : x_CC X F Lo y cc nL ret hs) {x : Int} {off : Int} {tgt : Nat} (d : decode cc pc = .ok (.ifCond .ne off, 3)) (ht : (pc : Int) + off = (tgt : Int)) (kt : ¬ w32 x = 0 → x_Z X cells slots Q M0 M nL lv tgt st) (kf : w32 x = 0 → x_Z X cells slots Q M0 M nL lv (pc + 3) st) : x_Z X cells slots Q M0 M nL lv pc (vI x :: st) := fun H locs ls hP hE hL hl => lv_if_ne C.1.1 C.1.2.1 d ht (fun q => kt (fun z => q (x_eq0.mpr z)) H locs ls hP hE hL hl) (fun q => kf (x_eq0.mp q) H locs ls hP hE hL hl)
theorem z_ic_ne (C : x_CC X F Lo y cc nL ret hs) {x z : Int} {off : Int} {tgt : Nat} (d : decode cc pc = .ok (.if_icmp .ne off, 3)) (ht : (pc : Int) + off = (tgt : Int)) (kt : ¬ w32 x = w32 z → x_Z X cells slots Q M0 M nL lv tgt st) (kf : w32 x = w32 z → x_Z X cells slots Q M0 M nL lv (pc + 3) st) : x_Z X cells slots Q M0 M nL lv pc (vI z :: vI x :: st) := fun H locs ls hP hE hL hl => lv_icmp_ne C.1.1 C.1.2.1 d ht (fun q => kt (fun z => q (x_eq.mpr z)) H locs ls hP hE hL hl) (fun q => kf (x_eq.mp q) H locs ls hP hE hL hl)
theorem z_goto (C : x_CC X F Lo y cc nL ret hs) {off : Int} {tgt : Nat} (d : decode cc pc = .ok (.goto off, 3)) (ht : (pc : Int) + off = (tgt : Int)) (k : x_Z X cells slots Q M0 M nL lv tgt st) : x_Z X cells slots Q M0 M nL lv pc st := fun H locs ls hP hE hL hl => lv_goto C.1.1 C.1.2.1 d ht (k H locs ls hP hE hL hl)
theorem z_ac_eq (C : x_CC X F Lo y cc nL ret hs) {a b : Nat} {off : Int} {tgt : Nat} (d : decode cc pc = .ok (.if_acmp .eq off, 3)) (ht : (pc : Int) + off = (tgt : Int)) (kt : a = b → x_Z X cells slots Q M0 M nL lv tgt st) (kf : ¬ a = b → x_Z X cells slots Q M0 M nL lv (pc + 3) st) : x_Z X cells slots Q M0 M nL lv pc (.ref b :: .ref a :: st) := fun H locs ls hP hE hL hl => lv_acmp_eq (rx := some a) (ry := some b) C.1.1 C.1.2.1 d ht (fun q => kt (Option.some.inj q) H locs ls hP hE hL hl) (fun q => kf (fun z => q (by rw [z])) H locs ls hP hE hL hl)
theorem z_ac_ne (C : x_CC X F Lo y cc nL ret hs) {a b : Nat} {off : Int} {tgt : Nat} (d : decode cc pc = .ok (.if_acmp .ne off, 3)) (ht : (pc : Int) + off = (tgt : Int)) (kt : ¬ a = b → x_Z X cells slots Q M0 M nL lv tgt st) (kf : a = b → x_Z X cells slots Q M0 M nL lv (pc + 3) st) : x_Z X cells slots Q M0 M nL lv pc (.ref b :: .ref a :: st) := fun H locs ls hP hE hL hl => lv_acmp_ne (rx := some a) (ry := some b) C.1.1 C.1.2.1 d ht (fun q => kt (fun z => q (by rw [z])) H locs ls hP hE hL hl) (fun q => kf (Option.some.inj q) H locs ls hP hE hL hl)
theorem xg_lt {x z : Int} : lg_cmp (Int64.ofInt x) (Int64.ofInt z) < 0 ↔ w64 x < w64 z := by
  unfold lg_cmp w64
  have e1 := @Int64.lt_iff_toInt_lt (Int64.ofInt z) (Int64.ofInt x)
  have e2 := @Int64.toInt_inj (Int64.ofInt x) (Int64.ofInt z)
  split
  · next h => constructor
              · intro q; exact absurd q (by decide)
              · intro q; have := e1.mp h; omega
  · next h => split
              · next h2 => constructor
                           · intro q; exact absurd q (by decide)
                           · intro q; have := e2.mpr h2; omega
              · next h2 => constructor
                           · intro _
                             have h3 : ¬ _ := fun q => h (e1.mpr q)
                             have h4 : ¬ _ := fun q => h2 (e2.mp q)
                             omega
                           · intro _; decide
theorem xg_eq {x z : Int} : lg_cmp (Int64.ofInt x) (Int64.ofInt z) = 0 ↔ w64 x = w64 z := by
  unfold lg_cmp w64
  have e1 := @Int64.lt_iff_toInt_lt (Int64.ofInt z) (Int64.ofInt x)
  have e2 := @Int64.toInt_inj (Int64.ofInt x) (Int64.ofInt z)
  split
  · next h => constructor
              · intro q; exact absurd q (by decide)
              · intro q; have := e1.mp h; omega
  · next h => split
              · next h2 => exact ⟨fun _ => e2.mpr h2, fun _ => rfl⟩
              · next h2 => constructor
                           · intro q; exact absurd q (by decide)
                           · intro q; exact absurd (e2.mp q) h2
theorem xg_gt {x z : Int} : 0 < lg_cmp (Int64.ofInt x) (Int64.ofInt z) ↔ w64 z < w64 x := by
  unfold lg_cmp w64
  have e1 := @Int64.lt_iff_toInt_lt (Int64.ofInt z) (Int64.ofInt x)
  have e2 := @Int64.toInt_inj (Int64.ofInt x) (Int64.ofInt z)
  split
  · next h => exact ⟨fun _ => e1.mp h, fun _ => by decide⟩
  · next h => have h3 : ¬ _ := fun q => h (e1.mpr q)
              split
              · next h2 => constructor
                           · intro q; exact absurd q (by decide)
                           · intro q; exact absurd q h3
              · next h2 => constructor
                           · intro q; exact absurd q (by decide)
                           · intro q; exact absurd q h3
theorem z_lc_eq (C : x_CC X F Lo y cc nL ret hs) {x z : Int} {off : Int} {tgt : Nat} (d1 : decode cc pc = .ok (.lcmp, 1)) (d : decode cc (pc + 1) = .ok (.ifCond .eq off, 3)) (ht : ((pc + 1 : Nat) : Int) + off = (tgt : Int)) (kt : w64 x = w64 z → x_Z X cells slots Q M0 M nL lv tgt st) (kf : ¬ (w64 x = w64 z) → x_Z X cells slots Q M0 M nL lv (pc + 4) st) : x_Z X cells slots Q M0 M nL lv pc (vL z :: vL x :: st) := fun H locs ls hP hE hL hl => W.lcmp C.1.1 C.1.2.1 d1 (lv_if_eq C.1.1 C.1.2.1 d ht (fun q => kt (xg_eq.mp q) H locs ls hP hE hL hl) (fun q => kf (fun z => q (xg_eq.mpr z)) H locs ls hP hE hL hl))
theorem z_lc_lt (C : x_CC X F Lo y cc nL ret hs) {x z : Int} {off : Int} {tgt : Nat} (d1 : decode cc pc = .ok (.lcmp, 1)) (d : decode cc (pc + 1) = .ok (.ifCond .lt off, 3)) (ht : ((pc + 1 : Nat) : Int) + off = (tgt : Int)) (kt : w64 x < w64 z → x_Z X cells slots Q M0 M nL lv tgt st) (kf : ¬ (w64 x < w64 z) → x_Z X cells slots Q M0 M nL lv (pc + 4) st) : x_Z X cells slots Q M0 M nL lv pc (vL z :: vL x :: st) := fun H locs ls hP hE hL hl => W.lcmp C.1.1 C.1.2.1 d1 (lv_if_lt C.1.1 C.1.2.1 d ht (fun q => kt (xg_lt.mp q) H locs ls hP hE hL hl) (fun q => kf (fun z => q (xg_lt.mpr z)) H locs ls hP hE hL hl))
theorem z_lc_gt (C : x_CC X F Lo y cc nL ret hs) {x z : Int} {off : Int} {tgt : Nat} (d1 : decode cc pc = .ok (.lcmp, 1)) (d : decode cc (pc + 1) = .ok (.ifCond .gt off, 3)) (ht : ((pc + 1 : Nat) : Int) + off = (tgt : Int)) (kt : w64 z < w64 x → x_Z X cells slots Q M0 M nL lv tgt st) (kf : ¬ (w64 z < w64 x) → x_Z X cells slots Q M0 M nL lv (pc + 4) st) : x_Z X cells slots Q M0 M nL lv pc (vL z :: vL x :: st) := fun H locs ls hP hE hL hl => W.lcmp C.1.1 C.1.2.1 d1 (lv_if_gt C.1.1 C.1.2.1 d ht (fun q => kt (xg_gt.mp q) H locs ls hP hE hL hl) (fun q => kf (fun z => q (xg_gt.mpr z)) H locs ls hP hE hL hl))
theorem z_lc_ge (C : x_CC X F Lo y cc nL ret hs) {x z : Int} {off : Int} {tgt : Nat} (d1 : decode cc pc = .ok (.lcmp, 1)) (d : decode cc (pc + 1) = .ok (.ifCond .ge off, 3)) (ht : ((pc + 1 : Nat) : Int) + off = (tgt : Int)) (kt : w64 z ≤ w64 x → x_Z X cells slots Q M0 M nL lv tgt st) (kf : ¬ (w64 z ≤ w64 x) → x_Z X cells slots Q M0 M nL lv (pc + 4) st) : x_Z X cells slots Q M0 M nL lv pc (vL z :: vL x :: st) := fun H locs ls hP hE hL hl => W.lcmp C.1.1 C.1.2.1 d1 (lv_if_ge C.1.1 C.1.2.1 d ht (fun q => kt (Int.not_lt.mp (fun z => absurd (xg_lt.mpr z) (Int32.not_lt.mpr q))) H locs ls hP hE hL hl) (fun q => kf (fun z => q (Int32.not_lt.mp (fun w => absurd (xg_lt.mp w) (Int.not_lt.mpr z)))) H locs ls hP hE hL hl))
theorem z_lc_le (C : x_CC X F Lo y cc nL ret hs) {x z : Int} {off : Int} {tgt : Nat} (d1 : decode cc pc = .ok (.lcmp, 1)) (d : decode cc (pc + 1) = .ok (.ifCond .le off, 3)) (ht : ((pc + 1 : Nat) : Int) + off = (tgt : Int)) (kt : w64 x ≤ w64 z → x_Z X cells slots Q M0 M nL lv tgt st) (kf : ¬ (w64 x ≤ w64 z) → x_Z X cells slots Q M0 M nL lv (pc + 4) st) : x_Z X cells slots Q M0 M nL lv pc (vL z :: vL x :: st) := fun H locs ls hP hE hL hl => W.lcmp C.1.1 C.1.2.1 d1 (lv_if_le C.1.1 C.1.2.1 d ht (fun q => kt (Int.not_lt.mp (fun z => absurd (xg_gt.mpr z) (Int32.not_lt.mpr q))) H locs ls hP hE hL hl) (fun q => kf (fun z => q (Int32.not_lt.mp (fun w => absurd (xg_gt.mp w) (Int.not_lt.mpr z)))) H locs ls hP hE hL hl))
theorem z_lc_ne (C : x_CC X F Lo y cc nL ret hs) {x z : Int} {off : Int} {tgt : Nat} (d1 : decode cc pc = .ok (.lcmp, 1)) (d : decode cc (pc + 1) = .ok (.ifCond .ne off, 3)) (ht : ((pc + 1 : Nat) : Int) + off = (tgt : Int)) (kt : ¬ w64 x = w64 z → x_Z X cells slots Q M0 M nL lv tgt st) (kf : w64 x = w64 z → x_Z X cells slots Q M0 M nL lv (pc + 4) st) : x_Z X cells slots Q M0 M nL lv pc (vL z :: vL x :: st) := fun H locs ls hP hE hL hl => W.lcmp C.1.1 C.1.2.1 d1 (lv_if_ne C.1.1 C.1.2.1 d ht (fun q => kt (fun z => q (xg_eq.mpr z)) H locs ls hP hE hL hl) (fun q => kf (xg_eq.mp q) H locs ls hP hE hL hl))
end XR
