/-! ===== string constants; Math; the four throwing guards ===== -/
set_option maxRecDepth 100000
def x_sz (i : Nat) : Nat := x_sn.getD i 0
def x_ch (i j : Nat) : Int := ((x_sb.getD i []).getD j 0).toInt
theorem x_szlt : ∀ i, i < 23 → x_sz i < 100 := by decide
theorem x_chr : ∀ i, i < 23 → ∀ j, j < x_sz i → 0 ≤ x_ch i j ∧ x_ch i j < 128 := by decide +kernel
section XS
variable {X : x_Ctx} {cells slots c2 s2 : Nat} {Q : State → Prop} {M0 M M1 : Mem} {nL : Nat} {lv lv' : List (Nat × Value)} {pc : Nat} {st st0 st1 : List Value} {y : MethodName} {cc : ByteArray} {ret : Option FieldType} {hs : List (Nat × Nat × Nat × Nat)} {F Lo : Nat}
theorem x_St.at (C : x_CC X F Lo y cc nL ret hs) : x_St (XS X) (XD X) := C.2.1.2.2.2.2.2.2
theorem z_gets (C : x_CC X F Lo y cc nL ret hs) {v : Value} {c n d : String} {idx : Nat} (hZ : va_Z c n d v (x_A (XS X)) (XS X) (XS X).heap) (q : Cond.fieldLink y.cls idx c n d ∈ lw_all) (dd : decode cc pc = .ok (.getstatic idx, 3)) (kk : x_Z X cells slots Q M0 M nL lv (pc + 3) (v :: st)) : x_Z X cells slots Q M0 M nL lv pc st := fun H locs ls hP hE hL hl => by
  obtain ⟨cf, kf, fi, f, a, cell, h1, h2, h3, h4, h5, h6, h7, h8⟩ := (va_Z.moved C.1.2.2.2.2.1.alike hZ).kept (H1 := H) (fun q hq _ => hP.2.2.1 q hq)
  exact W.gets C.1.1 C.1.2.1 C.1.2.2.2.1 (C.hts _ q) h1 h2 h3 h4 h5 (fun e => by rw [e] at h6; cases h6) h7 rfl dd (kk H locs ls hP hE hL hl)
theorem z_getOF (C : x_CC X F Lo y cc nL ret hs) {v : Value} {c n d : String} {idx b : Nat} (hZ : va_OF c n d v b (x_A (XS X)) (XS X) (XS X).heap) (q : Cond.fieldLink y.cls idx c n d ∈ lw_all) (dd : decode cc pc = .ok (.getfield idx, 3)) (kk : x_Z X cells slots Q M0 M nL lv (pc + 3) (v :: st)) : x_Z X cells slots Q M0 M nL lv pc (.ref b :: st) := fun H locs ls hP hE hL hl => by
  obtain ⟨cf, k, fi, f, cell, h1, h2, h3, h4, h5, h6⟩ := (va_OF.moved C.1.2.2.2.2.1.alike hZ).kept (H1 := H) (fun q hq _ => hP.2.2.1 q hq)
  exact W.getf C.1.1 C.1.2.1 C.1.2.2.2.1 (C.hts _ q) h1 h2 h3 h4 (v := v) h5 rfl rfl dd (kk H locs ls hP hE hL hl)
theorem z_tlen (C : x_CC X F Lo y cc nL ret hs) {ty : FieldType} {t N : Nat} {f : Nat → Value} (hZ : va_T ty t N f (x_A (XS X)) (XS X) (XS X).heap) (dd : decode cc pc = .ok (.arraylength, 1)) (kk : x_Z X cells slots Q M0 M nL lv (pc + 1) (vI N :: st)) : x_Z X cells slots Q M0 M nL lv pc (.ref t :: st) := fun H locs ls hP hE hL hl => by
  obtain ⟨cell, h1, h2, h3, h4, h5, h6, h7⟩ := (va_T.moved C.1.2.2.2.2.1.alike hZ).kept (H1 := H) (fun q hq _ => hP.2.2.1 q hq)
  have e : Int32.ofNat N = Int32.ofInt (N : Int) := rfl
  exact W.alen (n := Int32.ofInt (N : Int)) C.1.1 C.1.2.1 h1 h2 (h5.trans e) rfl rfl dd (kk H locs ls hP hE hL hl)
theorem z_tb (C : x_CC X F Lo y cc nL ret hs) {t N : Nat} {f : Nat → Value} {i : Int} {x : Int} (hZ : va_T .byte t N f (x_A (XS X)) (XS X) (XS X).heap) (hin : inb i N) (hx : f (ixn i) = vI x) (dd : decode cc pc = .ok (.baload, 1)) (kk : x_Z X cells slots Q M0 M nL lv (pc + 1) (vI x :: st)) : x_Z X cells slots Q M0 M nL lv pc (vI i :: .ref t :: st) := fun H locs ls hP hE hL hl => by
  obtain ⟨cell, h1, h2, h3, h4, h5, h6, h7⟩ := (va_T.moved C.1.2.2.2.2.1.alike hZ).kept (H1 := H) (fun q hq _ => hP.2.2.1 q hq)
  have hlt : ixn i < N := by have := hin.1; have := hin.2; show (w32 i).toNat < N; omega
  have hin' : ¬ (Int32.ofInt i < 0 ∨ cell.slots.size ≤ (Int32.ofInt i).toNatClampNeg) := by
    intro q
    rcases q with q | q
    · have := Int32.lt_iff_toInt_lt.mp q
      have h0 := hin.1
      unfold w32 at h0
      have e0 : (0 : Int32).toInt = 0 := rfl
      omega
    · have q2 : cell.slots.size ≤ ixn i := q
      omega
  exact W.bald (v := vI x) C.1.1 C.1.2.1 h1 h2 h3 hin' ((h6 _ hlt).trans (congrArg some hx)) rfl rfl dd (kk H locs ls hP hE hL hl)
theorem z_lds (C : x_CC X F Lo y cc nL ret hs) (sid : Nat) (h : sid < 23) (hc : (x_so sid).1 = y.cls) (d : decode cc pc = .ok (.ldc (x_so sid).2.1, 2)) (kk : x_Z X cells slots Q M0 M nL lv (pc + 2) (vS (XD X) sid :: st)) : x_Z X cells slots Q M0 M nL lv pc st := fun H locs ls hP hE hL hl => by
  have hR := vk_R.warm C.1.2.2.2.2.1 ((x_St.at C).1 sid h)
  rw [hc] at hR
  exact va_ldcS C.1.1 C.1.2.1 C.1.2.2.2.1 hR d (kk H locs ls hP hE hL hl)
theorem z_nret (C : x_CC X F Lo y cc nL ret hs) {mc ms : Nat} {x : Int} {ty : FieldType} (hr : ret = some ty) (hx : narrow ty (vI x) = vI x) (h1 : cells ≤ mc) (h2 : slots ≤ ms) (d : decode cc pc = .ok (.ireturn, 1)) : x_Z X cells slots (x_QF X M0 (.returned (some (vI x))) M mc ms) M0 M nL lv pc [vI x] := fun H locs ls hP hE hL hl =>
  W.widen h1 h2 (x_mono (W.zret C.1.1 C.1.2.1 (C.1.2.2.2.2.2.2.1.trans hr) hx (fun t ht _ => ⟨rfl, by rw [ht]; exact ⟨hP, hE⟩⟩) hL d C.1.2.2.2.2.2.1) (fun t h => x_fin h))
variable {y2 : MethodName} {cc2 : ByteArray} {nL2 idx : Nat} {ret2 : Option FieldType} {rm : Room} {av : List Value}
/-- a call of a method of String upon a constant -/
theorem z_callStr (C : x_CC X F Lo y cc nL ret hs) {sid : Nat} {v : Option Value} (h23 : sid < 23) (hC : x_Me (Xl X) (XS X) (XD X) (XA X) y2 cc2 nL2 ret2 [] rm (vS (XD X) sid :: av) M (.returned v) M1) (hw : Cond.code y2 cc2 nL2 ret2 ∈ lw_all) (ql : Cond.methodLink y.cls idx y2 ∈ lw_all) (qm : Cond.instanceMethod y2 ∈ lw_all) (qs : Cond.selects "java/lang/String" y2 y2 ∈ lw_all) (hpl : plainName y2.cls = true) (hy : y2.cls ≠ "java/lang/invoke/MethodHandle" ∧ y2.cls ≠ "java/lang/invoke/VarHandle") (hn : (parseMethodDescriptor y2.desc).map (fun d => d.parameters.length) = some av.length) (hR : x_rm X F Lo rm nL2 cells slots)
    (hst0 : av.reverse ++ vS (XD X) sid :: st = st0) (hst1 : v.toList ++ st = st1) (hsum : (st.map fun v => v.category).sum ≤ 12) (d : decode cc pc = .ok (.invokevirtual idx, 3)) (kk : x_ext M M1 → x_Z X (cells + rm.cells) (slots + rm.slots) Q M0 M1 nL lv (pc + 3) st1) : x_Z X cells slots Q M0 M nL lv pc st0 := by
  intro H locs ls hP hE hL hl T hT S
  subst hT
  obtain ⟨mk, methk, ck, hnm, h1, h2, h3, h4, h5, h6, h7, h8⟩ := x_code C (Or.inl ⟨rfl, hw⟩)
  obtain ⟨cell, q1, q3, q2, -⟩ := (va_O.moved C.1.2.2.2.2.1.alike ((x_St.at C).2.1.1 sid h23).1).kept (H1 := T.heap) (fun q hq _ => hP.2.2.1 q hq)
  obtain ⟨mk2, methM, hnamed, hmethM, hstM, habM⟩ := Cond.instanceMethod_spec (C.hts _ qm)
  cases hnm.symm.trans hnamed
  cases h1.symm.trans hmethM
  obtain ⟨c2', r2, m2, p1, p2, p3, p4, kP, hkP, hkPi⟩ := Cond.selects_spec (C.hts _ qs)
  cases q2.symm.trans p1
  cases (State.methodFound?_of_named hnamed hy).symm.trans p2
  cases hnamed.symm.trans p3
  have hselP : selectMethod (Xe X).platform (Xs X).vm cell.cls mk = .method mk := by rw [Launch.admits_selectMethod S.admits]; exact p4
  have hdc : decode (Xc X).code pc = .ok (.invokevirtual idx, 3) := by rw [C.1.2.1]; exact d
  rw [h8] at hn
  obtain ⟨vm₁, S₁, st₁⟩ := S.invokevirtual C.1.1 C.1.2.2.2.1 (C.hts _ ql) hnm h1 hstM hkP hkPi hy (a := (XD X).2 1000 sid) (cell := cell) q1 (fun z h => by rw [h] at q3; cases q3) hselP h1 habM hkP hkPi (g := F0 (Xm X) pc ls st0) rfl (argsL := av) (rest := st) (Option.some.inj hn).symm hst0.symm hdc
  obtain ⟨T', L, g1, g2, g3, g4, g5⟩ := x_core hC S₁ C.1.1 C.1.2.2.2.2.1 (g := { F0 (Xm X) pc ls st0 with stack := st }) rfl (hl.1.trans C.1.2.2.1.symm) hdc hnm h1 h2 h3 h4 h5 h6 h7 hpl (Nat.le_trans hR.1 C.2.2.1) (Nat.le_trans (by show 2 * 0 + (st.map fun v => v.category).sum + (nL2 + 11) + rm.locals ≤ Lo; have := hR.2.1; omega) C.2.2.2) hR.2.2.1 hR.2.2.2 hP
  exact x_after hst1 (H := T.heap) rfl ⟨T', L, g1, g2, g3, fun v hv => st₁ _ fun acts => by rw [doInvoke_state]; exact g4 v hv, fun x hx => st₁ _ fun acts => by rw [doInvoke_state]; exact g5 x hx⟩ hE hL hl kk
/-! Math -/
def nx32 (x y : Int) : Int := if w32 x < w32 y then y else x
def nm32 (x y : Int) : Int := if w32 y < w32 x then y else x
def nm64 (x y : Int) : Int := if w64 y < w64 x then y else x
def ab32 (x : Int) : Int := if 0 ≤ w32 x then x else -x
theorem x_i32 (x : Int) : w32 x = (Int32.ofInt x).toInt := rfl
theorem z_max (C : x_CC X F Lo y cc nL ret hs) {x z : Int} (q1 : Cond.methodLink y.cls idx ⟨"java/lang/Math", "max", "(II)I"⟩ ∈ lw_all) (q2 : Cond.static ⟨"java/lang/Math", "max", "(II)I"⟩ ∈ lw_all) (q3 : Cond.initialized "java/lang/Math" ∈ lw_all) (q4 : Cond.code ⟨"java/lang/Math", "max", "(II)I"⟩ Lib.Math.max.code 2 (some .int) ∈ lw_all) (hF : 1 ≤ F) (hLo : 30 ≤ Lo) (hc : cells ≤ (XR X).cells) (hsl : slots ≤ (XR X).slots) (hsum : (st.map fun v => v.category).sum ≤ 12) (d : decode cc pc = .ok (.invokestatic idx, 3)) (kk : x_Z X cells slots Q M0 M nL lv (pc + 3) (vI (nx32 x z) :: st)) : x_Z X cells slots Q M0 M nL lv pc (vI z :: vI x :: st) := fun H locs ls hP hE hL hl =>
  va_mmax C.1.1 C.1.2.1 (C.1.2.2.1.trans hl.1.symm) C.1.2.2.2.1 (C.hts _ q1) (C.hts _ q2) (C.hts _ q3) (C.hts _ q4) (Nat.le_trans hF C.2.2.1) (Nat.le_trans (by omega) (Nat.le_trans hLo C.2.2.2)) hc hsl d (by
    have : (if Int32.ofInt x < Int32.ofInt z then Int32.ofInt z else Int32.ofInt x) = Int32.ofInt (nx32 x z) := by
      unfold nx32
      by_cases h : w32 x < w32 z
      · rw [if_pos h, if_pos (Int32.lt_iff_toInt_lt.mpr h)]
      · rw [if_neg h, if_neg (fun q => h (Int32.lt_iff_toInt_lt.mp q))]
    rw [this]; exact kk H locs ls hP hE hL hl)
theorem z_min (C : x_CC X F Lo y cc nL ret hs) {x z : Int} (q1 : Cond.methodLink y.cls idx ⟨"java/lang/Math", "min", "(II)I"⟩ ∈ lw_all) (q2 : Cond.static ⟨"java/lang/Math", "min", "(II)I"⟩ ∈ lw_all) (q3 : Cond.initialized "java/lang/Math" ∈ lw_all) (q4 : Cond.code ⟨"java/lang/Math", "min", "(II)I"⟩ Lib.Math.min.code 2 (some .int) ∈ lw_all) (hF : 1 ≤ F) (hLo : 30 ≤ Lo) (hc : cells ≤ (XR X).cells) (hsl : slots ≤ (XR X).slots) (hsum : (st.map fun v => v.category).sum ≤ 12) (d : decode cc pc = .ok (.invokestatic idx, 3)) (kk : x_Z X cells slots Q M0 M nL lv (pc + 3) (vI (nm32 x z) :: st)) : x_Z X cells slots Q M0 M nL lv pc (vI z :: vI x :: st) := fun H locs ls hP hE hL hl =>
  va_mmin C.1.1 C.1.2.1 (C.1.2.2.1.trans hl.1.symm) C.1.2.2.2.1 (C.hts _ q1) (C.hts _ q2) (C.hts _ q3) (C.hts _ q4) (Nat.le_trans hF C.2.2.1) (Nat.le_trans (by omega) (Nat.le_trans hLo C.2.2.2)) hc hsl d (by
    have : (if Int32.ofInt z < Int32.ofInt x then Int32.ofInt z else Int32.ofInt x) = Int32.ofInt (nm32 x z) := by
      unfold nm32
      by_cases h : w32 z < w32 x
      · rw [if_pos h, if_pos (Int32.lt_iff_toInt_lt.mpr h)]
      · rw [if_neg h, if_neg (fun q => h (Int32.lt_iff_toInt_lt.mp q))]
    rw [this]; exact kk H locs ls hP hE hL hl)
theorem z_minl (C : x_CC X F Lo y cc nL ret hs) {x z : Int} (q1 : Cond.methodLink y.cls idx ⟨"java/lang/Math", "min", "(JJ)J"⟩ ∈ lw_all) (q2 : Cond.static ⟨"java/lang/Math", "min", "(JJ)J"⟩ ∈ lw_all) (q3 : Cond.initialized "java/lang/Math" ∈ lw_all) (q4 : Cond.code ⟨"java/lang/Math", "min", "(JJ)J"⟩ Lib.MathLoose.min_long.code 4 (some .long) ∈ lw_all) (hF : 1 ≤ F) (hLo : 30 ≤ Lo) (hc : cells ≤ (XR X).cells) (hsl : slots ≤ (XR X).slots) (hsum : (st.map fun v => v.category).sum ≤ 12) (d : decode cc pc = .ok (.invokestatic idx, 3)) (kk : x_Z X cells slots Q M0 M nL lv (pc + 3) (vL (nm64 x z) :: st)) : x_Z X cells slots Q M0 M nL lv pc (vL z :: vL x :: st) := fun H locs ls hP hE hL hl =>
  va_mmin_long C.1.1 C.1.2.1 (C.1.2.2.1.trans hl.1.symm) C.1.2.2.2.1 (C.hts _ q1) (C.hts _ q2) (C.hts _ q3) (C.hts _ q4) (Nat.le_trans hF C.2.2.1) (Nat.le_trans (by omega) (Nat.le_trans hLo C.2.2.2)) hc hsl d (by
    have : (if Int64.ofInt z < Int64.ofInt x then Int64.ofInt z else Int64.ofInt x) = Int64.ofInt (nm64 x z) := by
      unfold nm64
      by_cases h : w64 z < w64 x
      · rw [if_pos h, if_pos (Int64.lt_iff_toInt_lt.mpr h)]
      · rw [if_neg h, if_neg (fun q => h (Int64.lt_iff_toInt_lt.mp q))]
    rw [this]; exact kk H locs ls hP hE hL hl)
theorem z_abs (C : x_CC X F Lo y cc nL ret hs) {x : Int} (q1 : Cond.methodLink y.cls idx ⟨"java/lang/Math", "abs", "(I)I"⟩ ∈ lw_all) (q2 : Cond.static ⟨"java/lang/Math", "abs", "(I)I"⟩ ∈ lw_all) (q3 : Cond.initialized "java/lang/Math" ∈ lw_all) (q4 : Cond.code ⟨"java/lang/Math", "abs", "(I)I"⟩ Lib.Math.abs.code 1 (some .int) ∈ lw_all) (hF : 1 ≤ F) (hLo : 30 ≤ Lo) (hc : cells ≤ (XR X).cells) (hsl : slots ≤ (XR X).slots) (hsum : (st.map fun v => v.category).sum ≤ 12) (d : decode cc pc = .ok (.invokestatic idx, 3)) (kk : x_Z X cells slots Q M0 M nL lv (pc + 3) (vI (ab32 x) :: st)) : x_Z X cells slots Q M0 M nL lv pc (vI x :: st) := fun H locs ls hP hE hL hl =>
  va_mabs C.1.1 C.1.2.1 (C.1.2.2.1.trans hl.1.symm) C.1.2.2.2.1 (C.hts _ q1) (C.hts _ q2) (C.hts _ q3) (C.hts _ q4) (Nat.le_trans hF C.2.2.1) (Nat.le_trans (by omega) (Nat.le_trans hLo C.2.2.2)) hc hsl d (by
    have : (if 0 ≤ Int32.ofInt x then Int32.ofInt x else 0 - Int32.ofInt x) = Int32.ofInt (ab32 x) := by
      unfold ab32
      have e0 : (0 : Int32).toInt = 0 := rfl
      by_cases h : 0 ≤ w32 x
      · rw [if_pos h, if_pos (Int32.le_iff_toInt_le.mpr (by rw [e0]; exact h))]
      · rw [if_neg h, if_neg (fun q => h (by have := Int32.le_iff_toInt_le.mp q; rw [e0] at this; exact this)), Int32.zero_sub, Int32.ofInt_neg]
    rw [this]; exact kk H locs ls hP hE hL hl)
end XS
