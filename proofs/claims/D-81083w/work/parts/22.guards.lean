def bC {α β : Type} (x : Option ((α ⊕ Nat) × Mem)) (k : α → Mem → Option β) (c : Nat → Mem → Option β) : Option β := match x with
  | none => none
  | some (.inl v, M) => k v M
  | some (.inr a, M) => c a M
theorem bCs {α β : Type} {x : Option ((α ⊕ Nat) × Mem)} {k : α → Mem → Option β} {c : Nat → Mem → Option β} {r : β} (h : bC x k c = some r) : (∃ v M, x = some (.inl v, M) ∧ k v M = some r) ∨ ∃ a M, x = some (.inr a, M) ∧ c a M = some r := by
  unfold bC at h
  split at h
  · cases h
  · next v M => exact Or.inl ⟨v, M, rfl, h⟩
  · next a M => exact Or.inr ⟨a, M, rfl, h⟩
/-! ===== the guards ===== -/
set_option maxRecDepth 100000
theorem x_rki {f : Nat} {M : Mem} {r : Nat} (h4 : x_ft f = 4) (h : x_IA M r) : x_rk f (m_kd M r) := by unfold x_rk; rw [if_pos h4]; exact ⟨by have := h.1; omega, h⟩
def d_X1_need (v0 : Int) (M : Mem) : Option ((Int ⊕ Nat) × Mem) := if w32 v0 = 0 then some (.inr (m_sz M), m_nw M 113) else some (.inl 0, M)
theorem ct_X1_need {l : Launch} {S0 : State} {D : va_G} {cA : Nat → ClassId} (hG : x_G l S0 D cA) (v0 : Int) (M : Mem) (r : Int ⊕ Nat) (M' : Mem) (h : d_X1_need v0 M = some (r, M')) : x_Me l S0 D cA yX1_need cX1_need 1 none [] { frames := 6, cells := ocN r 0 1, slots := ocN r 0 6, locals := 90 } [vI v0] M (ocV r) M' := by
  refine x_begin0 (F := 6) (Lo := 90) (mc := ocN r 0 1) (ms := ocN r 0 6) hG (Nat.le_of_ble_eq_true rfl) (lv := [(0, vI v0)]) rfl rfl rfl rfl rfl (fun X ls e1 e2 e3 e4 e5 C hP hl => ?_)
  unfold d_X1_need at h
  refine lv_iload_n C.1.1 C.1.2.1 dX1_need_0 rfl (lv_at hl 0 rfl) ?_
  refine lv_if_ne C.1.1 C.1.2.1 dX1_need_1 (tgt := 14) (by decide) (fun q => ?_) (fun q => ?_)
  · have h := itf (fun z => q (x_eq0.mpr z)) h
    cases h
    exact z_vret (pc := 14) C rfl (Nat.zero_le _) (Nat.zero_le _) dX1_need_14 _ [] ls hP (x_ext.refl M) (fun q h => by cases h) hl
  · have h := itt (x_eq0.mp q) h
    cases h
    have hR : 1 ≤ (XR X).cells ∧ 6 ≤ (XR X).slots := ⟨Nat.le_of_eq (congrArg Room.cells e5).symm, Nat.le_of_eq (congrArg Room.slots e5).symm⟩
    exact x_throw (k := 13) (w := 2) (sid := 0) C (by decide) (by decide) rfl (by decide) (by decide) (Or.inl rfl) q460 q461 q115 (own_13 C hP.2.2.1) (by decide +kernel) (by decide) rfl rfl rfl hR.1 hR.2 dX1_need_4 dX1_need_7 dX1_need_8 dX1_need_10 dX1_need_13 hl.1 hP
def d_X1_room (v0 : Int) (M : Mem) : Option ((Int ⊕ Nat) × Mem) := if w32 v0 = 0 then some (.inr (m_sz M), m_nw M 114) else some (.inl 0, M)
theorem ct_X1_room {l : Launch} {S0 : State} {D : va_G} {cA : Nat → ClassId} (hG : x_G l S0 D cA) (v0 : Int) (M : Mem) (r : Int ⊕ Nat) (M' : Mem) (h : d_X1_room v0 M = some (r, M')) : x_Me l S0 D cA yX1_room cX1_room 1 none [] { frames := 6, cells := ocN r 0 1, slots := ocN r 0 6, locals := 90 } [vI v0] M (ocV r) M' := by
  refine x_begin0 (F := 6) (Lo := 90) (mc := ocN r 0 1) (ms := ocN r 0 6) hG (Nat.le_of_ble_eq_true rfl) (lv := [(0, vI v0)]) rfl rfl rfl rfl rfl (fun X ls e1 e2 e3 e4 e5 C hP hl => ?_)
  unfold d_X1_room at h
  refine lv_iload_n C.1.1 C.1.2.1 dX1_room_0 rfl (lv_at hl 0 rfl) ?_
  refine lv_if_ne C.1.1 C.1.2.1 dX1_room_1 (tgt := 14) (by decide) (fun q => ?_) (fun q => ?_)
  · have h := itf (fun z => q (x_eq0.mpr z)) h
    cases h
    exact z_vret (pc := 14) C rfl (Nat.zero_le _) (Nat.zero_le _) dX1_room_14 _ [] ls hP (x_ext.refl M) (fun q h => by cases h) hl
  · have h := itt (x_eq0.mp q) h
    cases h
    have hR : 1 ≤ (XR X).cells ∧ 6 ≤ (XR X).slots := ⟨Nat.le_of_eq (congrArg Room.cells e5).symm, Nat.le_of_eq (congrArg Room.slots e5).symm⟩
    exact x_throw (k := 14) (w := 2) (sid := 1) C (by decide) (by decide) rfl (by decide) (by decide) (Or.inl rfl) q541 q542 q116 (own_14 C hP.2.2.1) (by decide +kernel) (by decide) rfl rfl rfl hR.1 hR.2 dX1_room_4 dX1_room_7 dX1_room_8 dX1_room_10 dX1_room_13 hl.1 hP
def d_X1_inside (v0 : Int) (M : Mem) : Option ((Int ⊕ Nat) × Mem) := if w32 v0 = 0 then some (.inr (m_sz M), m_nw M 115) else some (.inl 0, M)
theorem ct_X1_inside {l : Launch} {S0 : State} {D : va_G} {cA : Nat → ClassId} (hG : x_G l S0 D cA) (v0 : Int) (M : Mem) (r : Int ⊕ Nat) (M' : Mem) (h : d_X1_inside v0 M = some (r, M')) : x_Me l S0 D cA yX1_inside cX1_inside 1 none [] { frames := 6, cells := ocN r 0 1, slots := ocN r 0 6, locals := 90 } [vI v0] M (ocV r) M' := by
  refine x_begin0 (F := 6) (Lo := 90) (mc := ocN r 0 1) (ms := ocN r 0 6) hG (Nat.le_of_ble_eq_true rfl) (lv := [(0, vI v0)]) rfl rfl rfl rfl rfl (fun X ls e1 e2 e3 e4 e5 C hP hl => ?_)
  unfold d_X1_inside at h
  refine lv_iload_n C.1.1 C.1.2.1 dX1_inside_0 rfl (lv_at hl 0 rfl) ?_
  refine lv_if_ne C.1.1 C.1.2.1 dX1_inside_1 (tgt := 14) (by decide) (fun q => ?_) (fun q => ?_)
  · have h := itf (fun z => q (x_eq0.mpr z)) h
    cases h
    exact z_vret (pc := 14) C rfl (Nat.zero_le _) (Nat.zero_le _) dX1_inside_14 _ [] ls hP (x_ext.refl M) (fun q h => by cases h) hl
  · have h := itt (x_eq0.mp q) h
    cases h
    have hR : 1 ≤ (XR X).cells ∧ 6 ≤ (XR X).slots := ⟨Nat.le_of_eq (congrArg Room.cells e5).symm, Nat.le_of_eq (congrArg Room.slots e5).symm⟩
    exact x_throw (k := 15) (w := 2) (sid := 2) C (by decide) (by decide) rfl (by decide) (by decide) (Or.inl rfl) q596 q597 q117 (own_15 C hP.2.2.1) (by decide +kernel) (by decide) rfl rfl rfl hR.1 hR.2 dX1_inside_4 dX1_inside_7 dX1_inside_8 dX1_inside_10 dX1_inside_13 hl.1 hP
def d_X1_may (v0 : Int) (M : Mem) : Option ((Int ⊕ Nat) × Mem) := if w32 v0 = 0 then some (.inr (m_sz M), m_nw M 116) else some (.inl 0, M)
theorem ct_X1_may {l : Launch} {S0 : State} {D : va_G} {cA : Nat → ClassId} (hG : x_G l S0 D cA) (v0 : Int) (M : Mem) (r : Int ⊕ Nat) (M' : Mem) (h : d_X1_may v0 M = some (r, M')) : x_Me l S0 D cA yX1_may cX1_may 1 none [] { frames := 6, cells := ocN r 0 1, slots := ocN r 0 6, locals := 90 } [vI v0] M (ocV r) M' := by
  refine x_begin0 (F := 6) (Lo := 90) (mc := ocN r 0 1) (ms := ocN r 0 6) hG (Nat.le_of_ble_eq_true rfl) (lv := [(0, vI v0)]) rfl rfl rfl rfl rfl (fun X ls e1 e2 e3 e4 e5 C hP hl => ?_)
  unfold d_X1_may at h
  refine lv_iload_n C.1.1 C.1.2.1 dX1_may_0 rfl (lv_at hl 0 rfl) ?_
  refine lv_if_ne C.1.1 C.1.2.1 dX1_may_1 (tgt := 14) (by decide) (fun q => ?_) (fun q => ?_)
  · have h := itf (fun z => q (x_eq0.mpr z)) h
    cases h
    exact z_vret (pc := 14) C rfl (Nat.zero_le _) (Nat.zero_le _) dX1_may_14 _ [] ls hP (x_ext.refl M) (fun q h => by cases h) hl
  · have h := itt (x_eq0.mp q) h
    cases h
    have hR : 1 ≤ (XR X).cells ∧ 6 ≤ (XR X).slots := ⟨Nat.le_of_eq (congrArg Room.cells e5).symm, Nat.le_of_eq (congrArg Room.slots e5).symm⟩
    exact x_throw (k := 16) (w := 2) (sid := 3) C (by decide) (by decide) rfl (by decide) (by decide) (Or.inl rfl) q618 q619 q120 (own_16 C hP.2.2.1) (by decide +kernel) (by decide) rfl rfl rfl hR.1 hR.2 dX1_may_4 dX1_may_7 dX1_may_8 dX1_may_10 dX1_may_13 hl.1 hP
