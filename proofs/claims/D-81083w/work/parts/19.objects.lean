/-! ===== objects are made; exceptions leave ===== -/
set_option maxRecDepth 100000
/-- the kinds are kept -/
def x_kp (M M' : Mem) : Prop := ∀ a, m_kd M a ≠ 0 → m_kd M' a = m_kd M a
theorem x_kp.k {M M' : Mem} (h : x_kp M M') {b k : Nat} (e : m_kd M b = k) (hk : k ≠ 0) : m_kd M' b = k := (h b (by omega)).trans e
theorem x_kp.u {M M' : Mem} (h : x_kp M M') {b k : Nat} (hk : k ≠ 0) (e : x_isK M b k) : x_isK M' b k := by
  rcases e with e | e
  · exact Or.inl (h.k e hk)
  · exact Or.inr (h.k e (by omega))
theorem x_IA.kp {M M1 : Mem} {a : Nat} (h : x_IA M a) (e : x_kp M M1) : x_IA M1 a := by
  have := e a (by have := h.1; omega)
  unfold x_IA
  rw [this]
  exact h
/-- an object is whole: all its own arrays lie there -/
def x_whole (M : Mem) (b k : Nat) : Bool := (List.range (x_N k)).all (fun j => !(Nat.beq (x_ft (100 * k + j)) 3) || Nat.beq (m_kd M (b + x_off (100 * k + j))) (10000 + (100 * k + j)))
theorem x_whole.spec {M : Mem} {b k : Nat} (h : x_whole M b k = true) : ∀ j, j < x_N k → x_ft (100 * k + j) = 3 → m_kd M (b + x_off (100 * k + j)) = 10000 + (100 * k + j) := fun j hj hf => by
  have := List.all_eq_true.mp h j (List.mem_range.mpr hj)
  rw [hf] at this
  exact x_beq.mp this
/-- the kinds but that of one -/
def x_sk (k : Nat) (M M' : Mem) : Prop := ∀ a k', m_kd M a = k' → k' ≠ 100 + k → m_kd M' a = k'
theorem x_sk.ia {k : Nat} {M M1 : Mem} {a : Nat} (h : x_IA M a) (e : x_sk k M M1) (hk : k < 100) : x_IA M1 a := by
  have := e a _ rfl (by have := h.1; omega)
  unfold x_IA
  rw [this]
  exact h
theorem x_sk.u {k k2 : Nat} {M M1 : Mem} {a : Nat} (h : x_isK M a k2) (e : x_sk k M M1) (hk : k2 ≠ 100 + k) (hk2 : k2 ≠ k) : x_isK M1 a k2 := by
  rcases h with h | h
  · exact Or.inl (e a _ h hk)
  · exact Or.inr (e a _ h (by omega))
theorem x_rkk {f k : Nat} {M : Mem} {r : Nat} (h : m_kd M r = k) (d : x_rk f k) : x_rk f (m_kd M r) := by rw [h]; exact d
theorem x_rku {f : Nat} (h4 : x_ft f ≠ 4) (hf : f = 311 ∨ f = 403 ∨ f = 604) {M : Mem} {r : Nat} (h : x_isK M r 1) : x_rk f (m_kd M r) := by
  unfold x_rk
  rw [if_neg h4, if_pos hf]
  rcases h with h | h
  · exact ⟨by omega, Or.inl h⟩
  · exact ⟨by omega, Or.inr h⟩
section XB
variable {X : x_Ctx} {cells slots mc ms : Nat} {Q : State → Prop} {M0 M : Mem} {nL : Nat} {lv lv' : List (Nat × Value)} {pc : Nat} {st : List Value} {y : MethodName} {cc : ByteArray} {ret : Option FieldType} {hs : List (Nat × Nat × Nat × Nat)} {F Lo : Nat}
variable {k b : Nat}
theorem z_kp {kk : Nat} (h : x_kp M (m_nw M kk) → x_Z X cells slots Q M0 M nL lv pc st) : x_Z X cells slots Q M0 M nL lv pc st := fun H locs ls hP hE hL hl =>
  h (fun a ha => by rw [m_kd_nw, if_neg]; intro z; have := (hP.lt ha).2; omega) H locs ls hP hE hL hl
theorem z_sealW (b : Nat) (hb : m_kd M b = 100 + k) (h1 : 1 ≤ k) (h2 : k < 100) (hw : x_whole M b k = true) (kk : m_kd (m_se M b k) b = k → x_sk k M (m_se M b k) → x_Z X cells slots Q M0 (m_se M b k) nL lv pc st) : x_Z X cells slots Q M0 M nL lv pc st :=
  z_seal b hb h1 h2 (x_whole.spec hw) (kk (by rw [m_kd_se, if_pos rfl]) (fun a k' ha hk => by
    rw [m_kd_se, if_neg]
    · exact ha
    · intro z; rw [z, hb] at ha; exact hk ha.symm))
/-- an exception that is at hand is thrown, and leaves -/
theorem z_athrow (C : x_CC X F Lo y cc nL ret hs) {a : Nat} (hno : ∀ h ∈ hs, (decide (h.1 ≤ pc) && decide (pc < h.2.1)) = false) (hc : cells ≤ mc) (hsl : slots ≤ ms) (d : decode cc pc = .ok (.athrow, 1)) : x_Z X cells slots (x_QF X M0 (.threw a) M mc ms) M0 M nL lv pc (.ref a :: st) := by
  intro H locs ls hP hE hL hl T hT S
  have hout : ∀ h ∈ (Xc X).exceptionTable.toList, covers h pc = false := fun h hh => by
    have := hno (h.startPc, h.endPc, h.handlerPc, h.catchType) (by rw [← C.1.2.2.2.2.2.2.2.1]; exact List.mem_map.mpr ⟨h, hh, rfl⟩)
    exact this
  obtain ⟨s1, s2, s3, s4, s5⟩ := (stand_widen S hc hsl).athrowLeaves C.1.1 (g := F0 (Xm X) pc ls (.ref a :: st)) rfl rfl rfl hout (a := a) (rest := st) rfl (by rw [C.1.2.1]; exact d) C.1.2.2.2.2.2.1
  refine ⟨_, s1, s2, s3, ?_, locs, ⟨s4, s5⟩, hL⟩
  show x_J _ _ _ _ _ T.heap
  rw [hT]
  exact ⟨hP, hE⟩
end XB
