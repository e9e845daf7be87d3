/-! ===== switches; the law's own array; small things ===== -/
set_option maxRecDepth 100000
theorem ocN_le {α : Type} {r : α ⊕ Nat} {n a b : Nat} (h1 : n ≤ a) (h2 : n ≤ b) : n ≤ ocN r a b := by cases r <;> assumption
theorem m_i_self (M : Mem) (f b i : Nat) (v : Int) : m_i (m_si M f b i v) f b i = v := by rw [m_i_si, if_pos ⟨rfl, rfl, rfl⟩]
theorem m_i_ne {M : Mem} {f b i : Nat} {v : Int} {f' b' i' : Nat} (h : f' ≠ f) : m_i (m_si M f b i v) f' b' i' = m_i M f' b' i' := by rw [m_i_si, if_neg (fun q => h q.1)]
theorem m_i_sr {M : Mem} {f b i : Nat} {v : Option Nat} {f' b' i' : Nat} : m_i (m_sr M f b i v) f' b' i' = m_i M f' b' i' := rfl
theorem m_i_nw {M : Mem} {k f' b' i' : Nat} : m_i (m_nw M k) f' b' i' = m_i M f' b' i' := rfl
theorem m_i_se {M : Mem} {b k f' b' i' : Nat} : m_i (m_se M b k) f' b' i' = m_i M f' b' i' := rfl
section XW
variable {X : x_Ctx} {cells slots : Nat} {Q : State → Prop} {M0 M : Mem} {nL : Nat} {lv lv' : List (Nat × Value)} {pc : Nat} {st : List Value} {y : MethodName} {cc : ByteArray} {ret : Option FieldType} {hs : List (Nat × Nat × Nat × Nat)} {F Lo : Nat} {x i : Int} {a : Nat}
theorem z_tabI (C : x_CC X F Lo y cc nL ret hs) {dflt lo hi v off : Int} {offs : Array Int} {len tgt : Nat} (d : decode cc pc = .ok (.tableswitch dflt lo hi offs, len)) (hx : w32 x = v) (h1 : ¬ v < lo) (h2 : ¬ hi < v) (ho : offs[(v - lo).toNat]? = some off) (ht : (pc : Int) + off = (tgt : Int)) (kk : x_Z X cells slots Q M0 M nL lv tgt st) : x_Z X cells slots Q M0 M nL lv pc (vI x :: st) := fun H locs ls hP hE hL hl =>
  lv_tableIn C.1.1 C.1.2.1 d (by show ¬ w32 x < lo; rw [hx]; exact h1) (by show ¬ hi < w32 x; rw [hx]; exact h2) (by show offs[(w32 x - lo).toNat]? = _; rw [hx]; exact ho) ht (kk H locs ls hP hE hL hl)
theorem z_tabO (C : x_CC X F Lo y cc nL ret hs) {dflt lo hi : Int} {offs : Array Int} {len tgt : Nat} (d : decode cc pc = .ok (.tableswitch dflt lo hi offs, len)) (h : w32 x < lo ∨ hi < w32 x) (ht : (pc : Int) + dflt = (tgt : Int)) (kk : x_Z X cells slots Q M0 M nL lv tgt st) : x_Z X cells slots Q M0 M nL lv pc (vI x :: st) := fun H locs ls hP hE hL hl =>
  lv_tableOut C.1.1 C.1.2.1 d h ht (kk H locs ls hP hE hL hl)
theorem z_law (C : x_CC X F Lo y cc nL ret hs) (ha : m_kd M a = 19000) (hin : inb i 1) (d : decode cc pc = .ok (.laload, 1)) (kk : x_Z X cells slots Q M0 M nL lv (pc + 1) (vL (m_i M 9000 a (ixn i)) :: st)) : x_Z X cells slots Q M0 M nL lv pc (vI i :: .ref a :: st) := z_lald C (f := 9000) ha rfl rfl rfl hin d kk
theorem z_lsw (C : x_CC X F Lo y cc nL ret hs) (ha : m_kd M a = 19000) (hin : inb i 1) (d : decode cc pc = .ok (.lastore, 1)) (kk : x_Z X cells slots Q M0 (m_si M 9000 a (ixn i) x) nL lv (pc + 1) st) : x_Z X cells slots Q M0 M nL lv pc (vL x :: vI i :: .ref a :: st) := z_last C (f := 9000) ha rfl rfl rfl hin d kk
end XW
