/-! ===== the law's own rows: the script, the long[1] ===== -/
set_option maxRecDepth 100000
def yL_law : MethodName := ⟨"CensusOfficeLaw", "law", "([I)Z"⟩
section XL
variable {X : x_Ctx} {cells slots c2 s2 : Nat} {Q : State → Prop} {M0 M : Mem} {nL : Nat} {lv lv' : List (Nat × Value)} {pc : Nat} {st : List Value} {y : MethodName} {cc : ByteArray} {ret : Option FieldType} {hs : List (Nat × Nat × Nat × Nat)} {F Lo : Nat}
variable {b L : Nat} {xs : Nat → Int32}
theorem x_X (C : x_CC X F Lo y cc nL ret hs) (hX : va_X b L xs (XS X) (XS X).heap) {H : Heap} (hP : x_P (XS X) (XD X) (XA X) M H) : va_X b L xs (Xs X) H := by
  obtain ⟨scr, h1, h2, h3, h4, h5⟩ := hX
  refine ⟨scr, ?_, ?_, h3, h4, h5⟩
  · rw [hP.2.2.1 b (Array.getElem?_eq_some_iff.mp h1).1]; exact h1
  · exact State.isArrayOf_alike C.1.2.2.2.2.1.alike h2
theorem z_slen (C : x_CC X F Lo y cc nL ret hs) (hX : va_X b L xs (XS X) (XS X).heap) (hL : L < 2 ^ 31) (d : decode cc pc = .ok (.arraylength, 1)) (kk : x_Z X cells slots Q M0 M nL lv (pc + 1) (vI L :: st)) : x_Z X cells slots Q M0 M nL lv pc (.ref b :: st) := fun H locs ls hP hE hL hl => by
  obtain ⟨scr, h1, h2, h3, h4, h5⟩ := x_X C hX hP
  exact W.alen (n := Int32.ofInt (L : Int)) C.1.1 C.1.2.1 h1 h2 (by rw [h4]; rfl) rfl rfl d (kk H locs ls hP hE hL hl)
theorem z_sld (C : x_CC X F Lo y cc nL ret hs) (hX : va_X b L xs (XS X) (XS X).heap) {i : Int} (hin : inb i L) (d : decode cc pc = .ok (.iaload, 1)) (kk : x_Z X cells slots Q M0 M nL lv (pc + 1) (vI (xs (ixn i)).toInt :: st)) : x_Z X cells slots Q M0 M nL lv pc (vI i :: .ref b :: st) := fun H locs ls hP hE hL hl => by
  obtain ⟨scr, h1, h2, h3, h4, h5⟩ := x_X C hX hP
  have hlt : ixn i < L := by have := hin.1; have := hin.2; show (w32 i).toNat < L; omega
  have hin' : ¬ (Int32.ofInt i < 0 ∨ scr.slots.size ≤ (Int32.ofInt i).toNatClampNeg) := by
    intro q
    rcases q with q | q
    · have := Int32.lt_iff_toInt_lt.mp q
      have h0 := hin.1
      unfold w32 at h0
      have e0 : (0 : Int32).toInt = 0 := rfl
      omega
    · have q2 : scr.slots.size ≤ ixn i := q
      omega
  exact W.iald (v := vI (xs (ixn i)).toInt) C.1.1 C.1.2.1 h1 h2 h3 hin' ((h5 _ hlt).trans (by show some (Value.int _) = some (Value.int (Int32.ofInt (Int32.toInt _))); rw [Int32.ofInt_toInt])) rfl rfl d (kk H locs ls hP hE hL hl)
/-- new long[1] -/
theorem z_newo (C : x_CC X F Lo y cc nL ret hs) (hc : c2 ≤ (XR X).cells) (hsl : s2 ≤ (XR X).slots) (d : decode cc pc = .ok (.newarray .long, 2)) (e1 : cells + 1 = c2) (e2 : slots + 1 = s2) {a : Nat} (ha : m_sz M = a)
    (kk : m_kd (m_nw M 19000) a = 19000 → x_kp M (m_nw M 19000) → x_Z X c2 s2 Q M0 (m_nw M 19000) nL lv (pc + 2) (.ref a :: st)) : x_Z X cells slots Q M0 M nL lv pc (vI 1 :: st) := by
  subst e1; subst e2; subst ha
  refine z_kp (kk := 19000) (fun hkp => ?_)
  intro H locs ls hP hE hL hl
  have hA := C.ar (t := 3) (by decide)
  refine va_newaK C.1.1 C.1.2.1 (atype := .long) (C.hts _ q229) rfl d (n := Int32.ofInt 1) rfl (by decide) rfl (by decide) hc hsl hP.1.symm fun H1 cA e1 z1 o1 hAr hNm => ?_
  have hcA : cA = XA X 3 := Option.some.inj (hNm.symm.trans hA.2)
  subst hcA
  have hin' : ∀ a, m_kd M a ≠ 0 → a < m_sz M := fun a h => (hP.lt h).2
  have hz := hP.2.2.2.2.2.1
  have hP1 : x_P (XS X) (XD X) (XA X) (m_nw M 19000) H1 := by
    refine hP.nw (by omega) (by rw [z1, hP.1]) (fun q hq => o1 q (by rw [hP.1]; exact hq)) (fun f' g1 g2 => by omega) ⟨fun k' hk' l1 l2 => ?_, fun f' hf' => ?_⟩
    · unfold x_isK at hk'; rw [m_kd_nw, if_pos rfl] at hk'; omega
    · rw [m_kd_nw, if_pos rfl] at hf'
      have : f' = 9000 := by omega
      subst this
      refine ⟨rfl, Nat.zero_le _, ?_⟩
      rw [e1]
      have hzi : ∀ i, m_i (m_nw M 19000) 9000 (m_sz M - x_off 9000) i = 0 := fun i => (hz _ _ _ (by show m_sz M ≤ m_sz M - 0 + 0; omega)).1
      unfold x_con
      simp only [hzi]
      rfl
  exact kk (by rw [m_kd_nw, if_pos rfl]) hkp H1 locs ls hP1 (hE.trans (x_ext.nw hin')) hL hl
end XL
