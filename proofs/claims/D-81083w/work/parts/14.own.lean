/-! ===== arrays of an object's own, int arrays at any address; D's combinators ===== -/
set_option maxRecDepth 100000
def FU : Nat := 1000000000000000000000000000000
def bN {α β : Type} (x : Option (α × Mem)) (k : α → Mem → Option β) : Option β := match x with
  | none => none
  | some q => k q.1 q.2
def bT {α β : Type} (x : Option ((α ⊕ Nat) × Mem)) (k : α → Mem → Option ((β ⊕ Nat) × Mem)) : Option ((β ⊕ Nat) × Mem) := match x with
  | none => none
  | some (.inr a, M) => some (.inr a, M)
  | some (.inl v, M) => k v M
def bR {α β : Type} (x : Option α) (k : α → Option β) : Option β := match x with
  | none => none
  | some q => k q
theorem bNs {α β : Type} {x : Option (α × Mem)} {k : α → Mem → Option β} {r : β} (h : bN x k = some r) : ∃ v M, x = some (v, M) ∧ k v M = some r := by
  unfold bN at h
  split at h
  · cases h
  · next q => exact ⟨q.1, q.2, rfl, h⟩
theorem bRs {α β : Type} {x : Option α} {k : α → Option β} {r : β} (h : bR x k = some r) : ∃ v, x = some v ∧ k v = some r := by
  unfold bR at h
  split at h
  · cases h
  · next q => exact ⟨q, rfl, h⟩
theorem bTs {α β : Type} {x : Option ((α ⊕ Nat) × Mem)} {k : α → Mem → Option ((β ⊕ Nat) × Mem)} {r : β ⊕ Nat} {M' : Mem} (h : bT x k = some (r, M')) : (∃ a, x = some (.inr a, M') ∧ r = .inr a) ∨ ∃ v M, x = some (.inl v, M) ∧ k v M = some (r, M') := by
  unfold bT at h
  split at h
  · cases h
  · next a M => cases h; exact Or.inl ⟨a, rfl, rfl⟩
  · next v M => exact Or.inr ⟨v, M, rfl, h⟩
theorem ifn {c : Prop} [Decidable c] {α : Type} {x : Option α} {r : α} (h : (if c then x else none) = some r) : c ∧ x = some r := by
  split at h
  · next q => exact ⟨q, h⟩
  · cases h
theorem itt {c : Prop} [Decidable c] {α : Sort _} {x y r : α} (q : c) (h : (if c then x else y) = r) : x = r := by rw [if_pos q] at h; exact h
theorem itf {c : Prop} [Decidable c] {α : Sort _} {x y r : α} (q : ¬ c) (h : (if c then x else y) = r) : y = r := by rw [if_neg q] at h; exact h
def ocI (r : Int ⊕ Nat) : Outcome := match r with
  | .inl v => .returned (some (vI v))
  | .inr x => .threw x
def ocR (r : Nat ⊕ Nat) : Outcome := match r with
  | .inl v => .returned (some (.ref v))
  | .inr x => .threw x
def ocV (r : Int ⊕ Nat) : Outcome := match r with
  | .inl _ => .returned none
  | .inr x => .threw x
def ocL (r : Int ⊕ Nat) : Outcome := match r with
  | .inl v => .returned (some (vL v))
  | .inr x => .threw x
/-- by the outcome: this or that -/
def ocN {α : Type} (r : α ⊕ Nat) (a b : Nat) : Nat := match r with
  | .inl _ => a
  | .inr _ => b
/-- an int array at an address -/
abbrev x_IA (M : Mem) (a : Nat) : Prop := 10000 ≤ m_kd M a ∧ x_ft (m_kd M a - 10000) = 3 ∧ x_aty (m_kd M a - 10000) = 0
def p_i (M : Mem) (a i : Nat) : Int := m_i M (m_kd M a - 10000) (a - x_off (m_kd M a - 10000)) i
def p_n (M : Mem) (a : Nat) : Nat := x_len (m_kd M a - 10000)
def p_si (M : Mem) (a i : Nat) (v : Int) : Mem := m_si M (m_kd M a - 10000) (a - x_off (m_kd M a - 10000)) i v
section XO
variable {X : x_Ctx} {cells slots : Nat} {Q : State → Prop} {M0 M : Mem} {nL : Nat} {lv lv' : List (Nat × Value)} {pc : Nat} {st : List Value} {y : MethodName} {cc : ByteArray} {ret : Option FieldType} {hs : List (Nat × Nat × Nat × Nat)} {F Lo : Nat}
variable {k j b n o : Nat} {i x : Int}
theorem x_IA.ext {M M1 : Mem} {a : Nat} (h : x_IA M a) (e : x_ext M M1) : x_IA M1 a := by
  have := e a _ (by have := h.1; omega) (Or.inr h.1) rfl
  unfold x_IA
  rw [this]
  exact h
/-- the field that holds an own array -/
theorem z_getA (C : x_CC X F Lo y cc nL ret hs) {idx : Nat} (q : Cond.fieldLink y.cls idx ((x_C k).2.1 j).1 ((x_C k).2.1 j).2.1 ((x_C k).2.1 j).2.2.1 ∈ lw_all) (hin : ∀ w ∈ u_ws (x_C k).1 (x_C k).2.1 (x_C k).2.2, w ∈ lw_all) (h1 : 1 ≤ k) (h2 : k < 13) (h7 : k ≠ 7) (hj : j < x_N k) (hf : x_ft (100 * k + j) = 3) (ho : x_off (100 * k + j) = o) (hb : m_kd M b = k) (d : decode cc pc = .ok (.getfield idx, 3)) (kk : x_Z X cells slots Q M0 M nL lv (pc + 3) (.ref (b + o) :: st)) : x_Z X cells slots Q M0 M nL lv pc (.ref b :: st) := fun H locs ls hP hE hL hl =>
  z_get C q hin h1 h2 h7 hj (Or.inl hb) (v := .ref (b + o)) (by
    unfold x_fv; rw [hf]; show (if _ then _ else _) = _; rw [if_pos (x_beq.mpr (hP.own hb h1 (by omega) hj hf)), ho]) d kk H locs ls hP hE hL hl
theorem z_getAN (C : x_CC X F Lo y cc nL ret hs) {idx : Nat} {host : String} (q : Cond.fieldLinkNest y.cls idx ((x_C k).2.1 j).1 ((x_C k).2.1 j).2.1 ((x_C k).2.1 j).2.2.1 host ∈ lw_tbl) (hin : ∀ w ∈ u_ws (x_C k).1 (x_C k).2.1 (x_C k).2.2, w ∈ lw_all) (h1 : 1 ≤ k) (h2 : k < 13) (h7 : k ≠ 7) (hj : j < x_N k) (hf : x_ft (100 * k + j) = 3) (ho : x_off (100 * k + j) = o) (hb : m_kd M b = k) (d : decode cc pc = .ok (.getfield idx, 3)) (kk : x_Z X cells slots Q M0 M nL lv (pc + 3) (.ref (b + o) :: st)) : x_Z X cells slots Q M0 M nL lv pc (.ref b :: st) := fun H locs ls hP hE hL hl =>
  z_getN C q hin h1 h2 h7 hj (Or.inl hb) (v := .ref (b + o)) (by
    unfold x_fv; rw [hf]; show (if _ then _ else _) = _; rw [if_pos (x_beq.mpr (hP.own hb h1 (by omega) hj hf)), ho]) d kk H locs ls hP hE hL hl
/-- a field that holds a reference -/
theorem z_getR (C : x_CC X F Lo y cc nL ret hs) {idx r : Nat} (q : Cond.fieldLink y.cls idx ((x_C k).2.1 j).1 ((x_C k).2.1 j).2.1 ((x_C k).2.1 j).2.2.1 ∈ lw_all) (hin : ∀ w ∈ u_ws (x_C k).1 (x_C k).2.1 (x_C k).2.2, w ∈ lw_all) (h1 : 1 ≤ k) (h2 : k < 13) (h7 : k ≠ 7) (hj : j < x_N k) (hf : x_ft (100 * k + j) = 2 ∨ x_ft (100 * k + j) = 4) (hb : x_isK M b k) (hr : m_r M (100 * k + j) b 0 = some r) (d : decode cc pc = .ok (.getfield idx, 3)) (kk : x_rk (100 * k + j) (m_kd M r) → x_Z X cells slots Q M0 M nL lv (pc + 3) (.ref r :: st)) : x_Z X cells slots Q M0 M nL lv pc (.ref b :: st) := fun H locs ls hP hE hL hl =>
  z_get C q hin h1 h2 h7 hj hb (v := .ref r) (by
    unfold x_fv; rcases hf with hf | hf <;> (rw [hf]; show va_rf _ = _; rw [hr]; rfl)) d (kk (hP.2.2.2.2.2.2.2 _ _ _ _ hr)) H locs ls hP hE hL hl
theorem z_getRN (C : x_CC X F Lo y cc nL ret hs) {idx r : Nat} {host : String} (q : Cond.fieldLinkNest y.cls idx ((x_C k).2.1 j).1 ((x_C k).2.1 j).2.1 ((x_C k).2.1 j).2.2.1 host ∈ lw_tbl) (hin : ∀ w ∈ u_ws (x_C k).1 (x_C k).2.1 (x_C k).2.2, w ∈ lw_all) (h1 : 1 ≤ k) (h2 : k < 13) (h7 : k ≠ 7) (hj : j < x_N k) (hf : x_ft (100 * k + j) = 2 ∨ x_ft (100 * k + j) = 4) (hb : x_isK M b k) (hr : m_r M (100 * k + j) b 0 = some r) (d : decode cc pc = .ok (.getfield idx, 3)) (kk : x_rk (100 * k + j) (m_kd M r) → x_Z X cells slots Q M0 M nL lv (pc + 3) (.ref r :: st)) : x_Z X cells slots Q M0 M nL lv pc (.ref b :: st) := fun H locs ls hP hE hL hl =>
  z_getN C q hin h1 h2 h7 hj hb (v := .ref r) (by
    unfold x_fv; rcases hf with hf | hf <;> (rw [hf]; show va_rf _ = _; rw [hr]; rfl)) d (kk (hP.2.2.2.2.2.2.2 _ _ _ _ hr)) H locs ls hP hE hL hl
theorem x_rk.kind {f k : Nat} (h : x_rk f k) (h4 : x_ft f ≠ 4) (h5 : ¬ (f = 311 ∨ f = 403 ∨ f = 604)) {k2 : Nat} (e : x_rc f = k2) : k = k2 := by
  unfold x_rk at h
  rw [if_neg h4, if_neg h5] at h
  rw [← e]; exact h.2.1
/-- what an own array's address is -/
theorem z_ia (f : Nat) (hf' : f = 100 * k + j) (h1 : 1 ≤ k) (h2 : k < 100) (hj : j < x_N k) (hf : x_ft f = 3) (ht : x_aty f = 0) (ho : x_off f = o) (hb : m_kd M b = k) (kk : x_IA M (b + o) ∧ m_kd M (b + o) = 10000 + f → x_Z X cells slots Q M0 M nL lv pc st) : x_Z X cells slots Q M0 M nL lv pc st := fun H locs ls hP hE hL hl => by
  subst hf'
  have h := hP.own hb h1 h2 hj hf
  rw [ho] at h
  refine kk ⟨?_, h⟩ H locs ls hP hE hL hl
  unfold x_IA
  rw [h]
  exact ⟨by omega, by rw [Nat.add_sub_cancel_left]; exact hf, by rw [Nat.add_sub_cancel_left]; exact ht⟩
theorem z_alO (C : x_CC X F Lo y cc nL ret hs) (f : Nat) (hf' : f = 100 * k + j) (h1 : 1 ≤ k) (h2 : k < 100) (hj : j < x_N k) (hf : x_ft f = 3) (ho : x_off f = o) (ht : x_aty f ∈ x_tys) (hn : x_len f = n) (hb : m_kd M b = k) (d : decode cc pc = .ok (.arraylength, 1)) (kk : x_Z X cells slots Q M0 M nL lv (pc + 1) (vI n :: st)) : x_Z X cells slots Q M0 M nL lv pc (.ref (b + o) :: st) := fun H locs ls hP hE hL hl =>
  z_alen C (f := f) (by subst hf'; rw [← ho]; exact hP.own hb h1 h2 hj hf) hn ht d kk H locs ls hP hE hL hl
theorem z_iaO (C : x_CC X F Lo y cc nL ret hs) (f : Nat) (hf' : f = 100 * k + j) (h1 : 1 ≤ k) (h2 : k < 100) (hj : j < x_N k) (hf : x_ft f = 3) (ho : x_off f = o) (ht : x_aty f = 0) (hn : x_len f = n) (hb : m_kd M b = k) (hin : inb i n) (hx : m_i M f b (ixn i) = x) (d : decode cc pc = .ok (.iaload, 1)) (kk : x_Z X cells slots Q M0 M nL lv (pc + 1) (vI x :: st)) : x_Z X cells slots Q M0 M nL lv pc (vI i :: .ref (b + o) :: st) := fun H locs ls hP hE hL hl => by
  subst hx
  exact z_iald C (f := f) (by subst hf'; rw [← ho]; exact hP.own hb h1 h2 hj hf) (by rw [ho]) ht hn hin d kk H locs ls hP hE hL hl
theorem z_zaO (C : x_CC X F Lo y cc nL ret hs) (f : Nat) (hf' : f = 100 * k + j) (h1 : 1 ≤ k) (h2 : k < 100) (hj : j < x_N k) (hf : x_ft f = 3) (ho : x_off f = o) (ht : x_aty f = 1) (hn : x_len f = n) (hb : m_kd M b = k) (hin : inb i n) (hx : m_i M f b (ixn i) = x) (d : decode cc pc = .ok (.baload, 1)) (kk : x_Z X cells slots Q M0 M nL lv (pc + 1) (vI x :: st)) : x_Z X cells slots Q M0 M nL lv pc (vI i :: .ref (b + o) :: st) := fun H locs ls hP hE hL hl => by
  subst hx
  exact z_zald C (f := f) (by subst hf'; rw [← ho]; exact hP.own hb h1 h2 hj hf) (by rw [ho]) ht hn hin d kk H locs ls hP hE hL hl
theorem z_baO (C : x_CC X F Lo y cc nL ret hs) (f : Nat) (hf' : f = 100 * k + j) (h1 : 1 ≤ k) (h2 : k < 100) (hj : j < x_N k) (hf : x_ft f = 3) (ho : x_off f = o) (ht : x_aty f = 2) (hn : x_len f = n) (hb : m_kd M b = k) (hin : inb i n) (hx : m_i M f b (ixn i) = x) (d : decode cc pc = .ok (.baload, 1)) (kk : x_Z X cells slots Q M0 M nL lv (pc + 1) (vI x :: st)) : x_Z X cells slots Q M0 M nL lv pc (vI i :: .ref (b + o) :: st) := fun H locs ls hP hE hL hl => by
  subst hx
  exact z_bald C (f := f) (by subst hf'; rw [← ho]; exact hP.own hb h1 h2 hj hf) (by rw [ho]) ht hn hin d kk H locs ls hP hE hL hl
theorem z_laO (C : x_CC X F Lo y cc nL ret hs) (f : Nat) (hf' : f = 100 * k + j) (h1 : 1 ≤ k) (h2 : k < 100) (hj : j < x_N k) (hf : x_ft f = 3) (ho : x_off f = o) (ht : x_aty f = 3) (hn : x_len f = n) (hb : m_kd M b = k) (hin : inb i n) (hx : m_i M f b (ixn i) = x) (d : decode cc pc = .ok (.laload, 1)) (kk : x_Z X cells slots Q M0 M nL lv (pc + 1) (vL x :: st)) : x_Z X cells slots Q M0 M nL lv pc (vI i :: .ref (b + o) :: st) := fun H locs ls hP hE hL hl => by
  subst hx
  exact z_lald C (f := f) (by subst hf'; rw [← ho]; exact hP.own hb h1 h2 hj hf) (by rw [ho]) ht hn hin d kk H locs ls hP hE hL hl
theorem z_isO (C : x_CC X F Lo y cc nL ret hs) (f : Nat) (hf' : f = 100 * k + j) (h1 : 1 ≤ k) (h2 : k < 100) (hj : j < x_N k) (hf : x_ft f = 3) (ho : x_off f = o) (ht : x_aty f = 0) (hn : x_len f = n) (hb : m_kd M b = k) (hin : inb i n) (d : decode cc pc = .ok (.iastore, 1)) (kk : x_Z X cells slots Q M0 (m_si M f b (ixn i) (x)) nL lv (pc + 1) st) : x_Z X cells slots Q M0 M nL lv pc (vI x :: vI i :: .ref (b + o) :: st) := fun H locs ls hP hE hL hl =>
  z_iast C (f := f) (by subst hf'; rw [← ho]; exact hP.own hb h1 h2 hj hf) (by rw [ho]) ht hn hin d kk H locs ls hP hE hL hl
theorem z_zsO (C : x_CC X F Lo y cc nL ret hs) (f : Nat) (hf' : f = 100 * k + j) (h1 : 1 ≤ k) (h2 : k < 100) (hj : j < x_N k) (hf : x_ft f = 3) (ho : x_off f = o) (ht : x_aty f = 1) (hn : x_len f = n) (hb : m_kd M b = k) (hin : inb i n) (d : decode cc pc = .ok (.bastore, 1)) (kk : x_Z X cells slots Q M0 (m_si M f b (ixn i) (bz x)) nL lv (pc + 1) st) : x_Z X cells slots Q M0 M nL lv pc (vI x :: vI i :: .ref (b + o) :: st) := fun H locs ls hP hE hL hl =>
  z_zast C (f := f) (by subst hf'; rw [← ho]; exact hP.own hb h1 h2 hj hf) (by rw [ho]) ht hn hin d kk H locs ls hP hE hL hl
theorem z_bsO (C : x_CC X F Lo y cc nL ret hs) (f : Nat) (hf' : f = 100 * k + j) (h1 : 1 ≤ k) (h2 : k < 100) (hj : j < x_N k) (hf : x_ft f = 3) (ho : x_off f = o) (ht : x_aty f = 2) (hn : x_len f = n) (hb : m_kd M b = k) (hin : inb i n) (d : decode cc pc = .ok (.bastore, 1)) (kk : x_Z X cells slots Q M0 (m_si M f b (ixn i) (b8 x)) nL lv (pc + 1) st) : x_Z X cells slots Q M0 M nL lv pc (vI x :: vI i :: .ref (b + o) :: st) := fun H locs ls hP hE hL hl =>
  z_bast C (f := f) (by subst hf'; rw [← ho]; exact hP.own hb h1 h2 hj hf) (by rw [ho]) ht hn hin d kk H locs ls hP hE hL hl
theorem z_lsO (C : x_CC X F Lo y cc nL ret hs) (f : Nat) (hf' : f = 100 * k + j) (h1 : 1 ≤ k) (h2 : k < 100) (hj : j < x_N k) (hf : x_ft f = 3) (ho : x_off f = o) (ht : x_aty f = 3) (hn : x_len f = n) (hb : m_kd M b = k) (hin : inb i n) (d : decode cc pc = .ok (.lastore, 1)) (kk : x_Z X cells slots Q M0 (m_si M f b (ixn i) (x)) nL lv (pc + 1) st) : x_Z X cells slots Q M0 M nL lv pc (vL x :: vI i :: .ref (b + o) :: st) := fun H locs ls hP hE hL hl =>
  z_last C (f := f) (by subst hf'; rw [← ho]; exact hP.own hb h1 h2 hj hf) (by rw [ho]) ht hn hin d kk H locs ls hP hE hL hl
theorem z_aaO (C : x_CC X F Lo y cc nL ret hs) (f : Nat) (hf' : f = 100 * k + j) (h1 : 1 ≤ k) (h2 : k < 100) (hj : j < x_N k) (hf : x_ft f = 3) (ho : x_off f = o) (ht : 10 ≤ x_aty f) (hm : x_aty f ∈ x_tys) (hn : x_len f = n) (hb : m_kd M b = k) (hin : inb i n) {r k2 : Nat} (hk2 : x_rc f = k2) (h5 : ¬ (f = 311 ∨ f = 403 ∨ f = 604)) (hr : m_r M f b (ixn i) = some r) (d : decode cc pc = .ok (.aaload, 1)) (kk : m_kd M r = k2 → x_Z X cells slots Q M0 M nL lv (pc + 1) (.ref r :: st)) : x_Z X cells slots Q M0 M nL lv pc (vI i :: .ref (b + o) :: st) := fun H locs ls hP hE hL hl =>
  z_aald C (f := f) (by subst hf'; rw [← ho]; exact hP.own hb h1 h2 hj hf) (by rw [ho]) ht hm hn hin hr d (fun q => kk (x_rk.kind q (by rw [hf]; decide) h5 hk2)) H locs ls hP hE hL hl
theorem z_asO (C : x_CC X F Lo y cc nL ret hs) (f : Nat) (hf' : f = 100 * k + j) (h1 : 1 ≤ k) (h2 : k < 100) (hj : j < x_N k) (hf : x_ft f = 3) (ho : x_off f = o) {k2 r : Nat} (ht : x_aty f = 10 + k2) (hm : x_aty f ∈ x_tys) (hty : x_ty (x_aty f) = .object (x_C k2).1) (k1 : 1 ≤ k2) (k3 : k2 < 13) (k7 : k2 ≠ 7) (hn : x_len f = n) (hb : m_kd M b = k) (hin : inb i n) (hk : m_kd M r = k2) (hrk : x_rk f k2) (d : decode cc pc = .ok (.aastore, 1)) (kk : x_Z X cells slots Q M0 (m_sr M f b (ixn i) (some r)) nL lv (pc + 1) st) : x_Z X cells slots Q M0 M nL lv pc (.ref r :: vI i :: .ref (b + o) :: st) := fun H locs ls hP hE hL hl =>
  z_aast C (f := f) (by subst hf'; rw [← ho]; exact hP.own hb h1 h2 hj hf) (by rw [ho]) ht hm hty k1 k3 k7 hn hin hk hrk (Or.inr trivial) d kk H locs ls hP hE hL hl
theorem z_iaP (C : x_CC X F Lo y cc nL ret hs) {a : Nat} (ha : x_IA M a) (hin : inb i (p_n M a)) (d : decode cc pc = .ok (.iaload, 1)) (kk : x_Z X cells slots Q M0 M nL lv (pc + 1) (vI (p_i M a (ixn i)) :: st)) : x_Z X cells slots Q M0 M nL lv pc (vI i :: .ref a :: st) := fun H locs ls hP hE hL hl => by
  have h : m_kd M a = 10000 + (m_kd M a - 10000) := by have := ha.1; omega
  have g := hP.arr h
  exact z_iald C (f := m_kd M a - 10000) (b := a - x_off (m_kd M a - 10000)) h (by have := g.2.1; omega) ha.2.2 rfl hin d kk H locs ls hP hE hL hl
theorem z_isP (C : x_CC X F Lo y cc nL ret hs) {a : Nat} (ha : x_IA M a) (hin : inb i (p_n M a)) (d : decode cc pc = .ok (.iastore, 1)) (kk : x_Z X cells slots Q M0 (p_si M a (ixn i) x) nL lv (pc + 1) st) : x_Z X cells slots Q M0 M nL lv pc (vI x :: vI i :: .ref a :: st) := fun H locs ls hP hE hL hl => by
  have h : m_kd M a = 10000 + (m_kd M a - 10000) := by have := ha.1; omega
  have g := hP.arr h
  exact z_iast C (f := m_kd M a - 10000) (b := a - x_off (m_kd M a - 10000)) h (by have := g.2.1; omega) ha.2.2 rfl hin d kk H locs ls hP hE hL hl
theorem z_seal (b : Nat) (hb : m_kd M b = 100 + k) (h1 : 1 ≤ k) (h2 : k < 100) (hall : ∀ j, j < x_N k → x_ft (100 * k + j) = 3 → m_kd M (b + x_off (100 * k + j)) = 10000 + (100 * k + j)) (kk : x_Z X cells slots Q M0 (m_se M b k) nL lv pc st) : x_Z X cells slots Q M0 M nL lv pc st := fun H locs ls hP hE hL hl =>
  kk H locs ls (hP.se hb h1 h2 hall) (hE.trans (x_ext.se (by omega))) hL hl
theorem z_obj (C : x_CC X F Lo y cc nL ret hs) {idx : Nat} (q1 : Cond.methodLink y.cls idx Lib.objectInit ∈ lw_all) (q2 : Cond.instanceMethod Lib.objectInit ∈ lw_all) (q3 : Cond.code Lib.objectInit ⟨#[0xb1]⟩ 1 none ∈ lw_all) (hF : 1 ≤ F) (hLo : 24 ≤ Lo) (hsum : (st.map fun v => v.category).sum ≤ 12) (d : decode cc pc = .ok (.invokespecial idx, 3)) (kk : x_Z X cells slots Q M0 M nL lv (pc + 3) st) : x_Z X cells slots Q M0 M nL lv pc (.ref b :: st) := fun H locs ls hP hE hL hl =>
  W.objInit C.1.1 C.1.2.1 C.1.2.2.2.1 (C.hts _ q1) (C.hts _ q2) (C.hts _ q3) rfl (hl.1.trans C.1.2.2.1.symm) rfl d (Nat.le_trans hF C.2.2.1) (Nat.le_trans (by show 2 * 0 + _ + 12 ≤ Lo; omega) C.2.2.2) (kk H locs ls hP hE hL hl)
end XO
