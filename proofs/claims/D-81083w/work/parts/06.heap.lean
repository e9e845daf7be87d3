/-! ===== how the memory's picture of the heap is kept ===== -/
set_option maxRecDepth 100000
theorem x_N_lt : ∀ k, k < 13 → x_N k < 100 := by decide
theorem x_ft_706 : x_ft 706 = 0 := rfl
theorem x_isK.eq {M : Mem} {b k k' : Nat} (h : x_isK M b k) (h' : x_isK M b k') (l : k < 100) (l' : k' < 100) : k' = k := by
  rcases h with h | h <;> rcases h' with h' | h' <;> omega
section XP
variable {S0 : State} {D : va_G} {cA : Nat → ClassId} {M M' : Mem} {H H' : Heap} {a b f i j k : Nat}
theorem x_P.obj (hP : x_P S0 D cA M H) (hk : x_isK M b k) (h1 : 1 ≤ k) (h2 : k < 13) (h7 : k ≠ 7) : t_OB b (D.1 k) (x_N k) (D.2 k) H (fun j => x_fv M b (100 * k + j)) := by
  have h := (hP.2.2.2.2.1 b).1 k hk h1 (by omega)
  unfold x_obj at h
  rw [if_pos ⟨h2, h7⟩] at h
  exact h
theorem x_P.arr (hP : x_P S0 D cA M H) (hk : m_kd M a = 10000 + f) : x_ft f = 3 ∧ x_off f ≤ a ∧ H[a]? = some (vp_cell (cA (x_aty f)) (x_len f, x_con M f (a - x_off f))) := (hP.2.2.2.2.1 a).2 f hk
theorem x_P.own (hP : x_P S0 D cA M H) (hk : m_kd M b = k) (h1 : 1 ≤ k) (h2 : k < 100) (hj : j < x_N k) (hf : x_ft (100 * k + j) = 3) : m_kd M (b + x_off (100 * k + j)) = 10000 + (100 * k + j) := hP.2.2.2.2.2.2.1 b k hk h1 h2 j hj hf
theorem x_P.lt (hP : x_P S0 D cA M H) (hk : m_kd M a ≠ 0) : S0.heap.size ≤ a ∧ a < m_sz M := hP.2.2.2.1 a hk
theorem x_fv_eq (hkd : ∀ f', x_ft f' = 3 → f' / 100 < 13 → (m_kd M' (a + x_off f') = 10000 + f' ↔ m_kd M (a + x_off f') = 10000 + f')) (hi : x_ft f ≠ 3 → m_i M' f a 0 = m_i M f a 0) (hr : x_ft f ≠ 3 → m_r M' f a 0 = m_r M f a 0) (hf : f / 100 < 13) : x_fv M' a f = x_fv M a f := by
  unfold x_fv
  split
  · next h => rw [hi (by rw [h]; decide)]
  · next h => rw [hi (by rw [h]; decide)]
  · next h =>
    have := hkd f h hf
    by_cases q : m_kd M (a + x_off f) = 10000 + f
    · rw [if_pos (x_beq.mpr (this.mpr q)), if_pos (x_beq.mpr q)]
    · rw [if_neg (fun z => q (this.mp (x_beq.mp z))), if_neg (fun z => q (x_beq.mp z))]
  · next h1 h2 h3 => rw [hr h3]
theorem x_obj_eq {k : Nat} (h : x_obj D M k a H) (hq : H'[a]? = H[a]?) (hkd : ∀ f', x_ft f' = 3 → f' / 100 < 13 → (m_kd M' (a + x_off f') = 10000 + f' ↔ m_kd M (a + x_off f') = 10000 + f')) (hi : ∀ f, x_ft f ≠ 3 → m_i M' f a 0 = m_i M f a 0) (hr : ∀ f, x_ft f ≠ 3 → m_r M' f a 0 = m_r M f a 0) : x_obj D M' k a H' := by
  unfold x_obj at h ⊢
  split
  · next hk =>
    rw [if_pos hk] at h
    refine (h.kept hq).to (fun j hj => ?_)
    have := x_N_lt k hk.1
    exact (x_fv_eq hkd (hi _) (hr _) (by omega)).symm
  · next hk =>
    rw [if_neg hk] at h
    obtain ⟨V, h1, h2⟩ := h
    exact ⟨V, h1.kept hq, fun h7 => by rw [h2 h7, hi 706 (by decide)]⟩
theorem x_con_eq (hi : ∀ i, m_i M' f b i = m_i M f b i) (hr : ∀ i, m_r M' f b i = m_r M f b i) : x_con M' f b = x_con M f b := by
  unfold x_con
  simp only [hi, hr]
theorem x_cell_eq (h : x_cell D cA M a H) (hq : H'[a]? = H[a]?) (hka : m_kd M' a = m_kd M a) (hkd : ∀ f', x_ft f' = 3 → f' / 100 < 13 → (m_kd M' (a + x_off f') = 10000 + f' ↔ m_kd M (a + x_off f') = 10000 + f')) (hi : ∀ f, x_ft f ≠ 3 → m_i M' f a 0 = m_i M f a 0) (hr : ∀ f, x_ft f ≠ 3 → m_r M' f a 0 = m_r M f a 0)
    (ai : ∀ f i, x_ft f = 3 → m_kd M a = 10000 + f → m_i M' f (a - x_off f) i = m_i M f (a - x_off f) i) (ar : ∀ f i, x_ft f = 3 → m_kd M a = 10000 + f → m_r M' f (a - x_off f) i = m_r M f (a - x_off f) i) : x_cell D cA M' a H' := by
  refine ⟨fun k hk h1 h2 => x_obj_eq (h.1 k (by unfold x_isK at hk ⊢; rw [← hka]; exact hk) h1 h2) hq hkd hi hr, fun f hf => ?_⟩
  rw [hka] at hf
  obtain ⟨g1, g2, g3⟩ := h.2 f hf
  exact ⟨g1, g2, by rw [hq, x_con_eq (ai f · g1 hf) (ar f · g1 hf)]; exact g3⟩
/-- one scalar field of one object has changed -/
theorem x_P.put (hP : x_P S0 D cA M H) (hk : x_isK M b k) (h1 : 1 ≤ k) (h2 : k < 13) (h7 : k ≠ 7) (hsz : m_sz M' = m_sz M) (hkd : m_kd M' = m_kd M) (hf : x_ft f ≠ 3)
    (hi : ∀ f' b' i', ¬ (f' = f ∧ b' = b) → m_i M' f' b' i' = m_i M f' b' i') (hr : ∀ f' b' i', ¬ (f' = f ∧ b' = b) → m_r M' f' b' i' = m_r M f' b' i') (hWT : x_WT M') (hz : H'.size = H.size) (ho : ∀ q : Nat, q ≠ b → H'[q]? = H[q]?)
    (hob : t_OB b (D.1 k) (x_N k) (D.2 k) H' (fun j => x_fv M' b (100 * k + j))) : x_P S0 D cA M' H' := by
  have hb0 : m_kd M b ≠ 0 := by rcases hk with h | h <;> omega
  have hb := hP.lt hb0
  refine ⟨by rw [hsz, hz]; exact hP.1, by rw [hz]; exact hP.2.1, fun q hq => ?_, fun a ha => ?_, fun a => ?_, hWT⟩
  · rw [ho q (by omega)]; exact hP.2.2.1 q hq
  · rw [hsz]; rw [hkd] at ha; exact hP.lt ha
  · by_cases hab : a = b
    · subst hab
      refine ⟨fun k' hk' l1 l2 => ?_, fun f' hf' => ?_⟩
      · have hk2 : x_isK M a k' := by unfold x_isK at hk' ⊢; rw [← hkd]; exact hk'
        have := hk.eq hk2 (by omega) l2
        subst this
        unfold x_obj
        rw [if_pos ⟨h2, h7⟩]
        exact hob
      · rw [hkd] at hf'
        rcases hk with h | h <;> omega
    · refine x_cell_eq (hP.2.2.2.2.1 a) (ho a hab) (by rw [hkd]) (fun f' _ _ => by rw [hkd]) (fun f' _ => hi _ _ _ (fun z => hab z.2)) (fun f' _ => hr _ _ _ (fun z => hab z.2)) (fun f' i g _ => hi _ _ _ (fun z => ?_)) (fun f' i g _ => hr _ _ _ (fun z => ?_))
      · rw [z.1] at g; exact hf g
      · rw [z.1] at g; exact hf g
/-- one array has changed -/
theorem x_P.puta (hP : x_P S0 D cA M H) (ha : m_kd M a = 10000 + f) (hsz : m_sz M' = m_sz M) (hkd : m_kd M' = m_kd M)
    (hi : ∀ f' b' i', ¬ (f' = f ∧ b' = a - x_off f) → m_i M' f' b' i' = m_i M f' b' i') (hr : ∀ f' b' i', ¬ (f' = f ∧ b' = a - x_off f) → m_r M' f' b' i' = m_r M f' b' i') (hWT : x_WT M') (hz : H'.size = H.size) (ho : ∀ q : Nat, q ≠ a → H'[q]? = H[q]?)
    (hc : H'[a]? = some (vp_cell (cA (x_aty f)) (x_len f, x_con M' f (a - x_off f)))) : x_P S0 D cA M' H' := by
  have hb := hP.lt (a := a) (by omega)
  obtain ⟨g1, g2, g3⟩ := hP.arr ha
  refine ⟨by rw [hsz, hz]; exact hP.1, by rw [hz]; exact hP.2.1, fun q hq => ?_, fun q hq => ?_, fun q => ?_, hWT⟩
  · rw [ho q (by omega)]; exact hP.2.2.1 q hq
  · rw [hsz]; rw [hkd] at hq; exact hP.lt hq
  · by_cases hab : q = a
    · subst hab
      refine ⟨fun k' hk' l1 l2 => ?_, fun f' hf' => ?_⟩
      · unfold x_isK at hk'; rw [hkd] at hk'; omega
      · rw [hkd] at hf'
        have : f' = f := by omega
        subst this
        exact ⟨g1, g2, hc⟩
    · refine x_cell_eq (hP.2.2.2.2.1 q) (ho q hab) (by rw [hkd]) (fun f' _ _ => by rw [hkd]) (fun f' g => hi _ _ _ (fun z => g (z.1 ▸ g1))) (fun f' g => hr _ _ _ (fun z => g (z.1 ▸ g1))) (fun f' i g hq2 => hi _ _ _ (fun z => ?_)) (fun f' i g hq2 => hr _ _ _ (fun z => ?_))
      · obtain ⟨z1, z2⟩ := z
        subst z1
        have := (hP.arr hq2).2.1
        omega
      · obtain ⟨z1, z2⟩ := z
        subst z1
        have := (hP.arr hq2).2.1
        omega
theorem x_WT.si (h : x_WT M) (hb : b + x_off f < m_sz M) (v : Int) : x_WT (m_si M f b i v) := by
  refine ⟨fun f' b' i' hz => ?_, h.2.1, h.2.2⟩
  have hz' : m_sz M ≤ b' + x_off f' := hz
  refine ⟨?_, (h.1 f' b' i' hz').2⟩
  rw [m_i_si, if_neg (fun q => by rw [q.1, q.2.1] at hz'; omega)]
  exact (h.1 f' b' i' hz').1
theorem x_WT.sr (h : x_WT M) (hb : b + x_off f < m_sz M) {v : Option Nat} (hv : ∀ a, v = some a → x_rk f (m_kd M a)) : x_WT (m_sr M f b i v) := by
  refine ⟨fun f' b' i' hz => ?_, h.2.1, fun f' b' i' a ha => ?_⟩
  · have hz' : m_sz M ≤ b' + x_off f' := hz
    refine ⟨(h.1 f' b' i' hz').1, ?_⟩
    rw [m_r_sr, if_neg (fun q => by rw [q.1, q.2.1] at hz'; omega)]
    exact (h.1 f' b' i' hz').2
  · rw [m_r_sr] at ha
    split at ha
    · next q => rw [q.1]; exact hv a ha
    · exact h.2.2 f' b' i' a ha
/-- a cell is laid at the end; no array field of an object looks there -/
theorem x_WT.nw (h : x_WT M) (hin : ∀ a, m_kd M a ≠ 0 → a < m_sz M) {kk : Nat} (hk : 100 ≤ kk) : x_WT (m_nw M kk) := by
  refine ⟨fun f' b' i' hz => h.1 f' b' i' (by have : m_sz M + 1 ≤ _ := hz; omega), fun b k hb l1 l2 j hj hf => ?_, fun f' b' i' a ha => ?_⟩
  · rw [m_kd_nw] at hb ⊢
    split at hb
    · omega
    · have := h.2.1 b k hb l1 l2 j hj hf
      have := hin (b + x_off (100 * k + j)) (by omega)
      rw [if_neg (by omega)]
      assumption
  · have h3 := h.2.2 f' b' i' a ha
    have := hin a (by have := h3.1; omega)
    rw [m_kd_nw, if_neg (by omega)]
    exact h3
theorem x_P.nw (hP : x_P S0 D cA M H) {kk : Nat} (hk : 100 ≤ kk) (hz : H'.size = H.size + 1) (ho : ∀ q : Nat, q < H.size → H'[q]? = H[q]?) (hkk : ∀ f', x_ft f' = 3 → f' / 100 < 13 → kk ≠ 10000 + f') (hc : x_cell D cA (m_nw M kk) (m_sz M) H') : x_P S0 D cA (m_nw M kk) H' := by
  have hin : ∀ a, m_kd M a ≠ 0 → a < m_sz M := fun a h => (hP.lt h).2
  have hs := hP.1
  have h0 := hP.2.1
  refine ⟨by show m_sz M + 1 = _; omega, by omega, fun q hq => ?_, fun a ha => ?_, fun a => ?_, hP.2.2.2.2.2.nw hin hk⟩
  · rw [ho q (by omega)]; exact hP.2.2.1 q hq
  · rw [m_kd_nw] at ha
    show _ ∧ a < m_sz M + 1
    split at ha
    · omega
    · have := hP.lt ha; omega
  · by_cases hab : a = m_sz M
    · subst hab; exact hc
    · have hka : m_kd (m_nw M kk) a = m_kd M a := by rw [m_kd_nw, if_neg hab]
      by_cases h00 : m_kd M a = 0
      · refine ⟨fun k hk l1 l2 => ?_, fun f hf => ?_⟩
        · unfold x_isK at hk; rw [hka] at hk; omega
        · rw [hka] at hf; omega
      · refine x_cell_eq (hP.2.2.2.2.1 a) (ho a (by have := hin a h00; omega)) hka (fun f' g1 g2 => ?_) (fun _ _ => rfl) (fun _ _ => rfl) (fun _ _ _ _ => rfl) (fun _ _ _ _ => rfl)
        rw [m_kd_nw]
        split
        · next q =>
          rw [q]
          have hsz0 : m_kd M (m_sz M) = 0 := Classical.byContradiction (fun z => by have := hin _ z; omega)
          constructor
          · intro z; exact absurd z (hkk f' g1 g2)
          · intro z; omega
        · exact Iff.rfl
/-- an object is whole -/
theorem x_P.se (hP : x_P S0 D cA M H) (hb : m_kd M b = 100 + k) (h1 : 1 ≤ k) (h2 : k < 100) (hall : ∀ j, j < x_N k → x_ft (100 * k + j) = 3 → m_kd M (b + x_off (100 * k + j)) = 10000 + (100 * k + j)) : x_P S0 D cA (m_se M b k) H := by
  have hne : ∀ x y, m_kd (m_se M b k) x = 10000 + y ↔ m_kd M x = 10000 + y := fun x y => by
    rw [m_kd_se]; split
    · next q => subst q; constructor <;> intro z <;> omega
    · exact Iff.rfl
  refine ⟨hP.1, hP.2.1, hP.2.2.1, fun a ha => ?_, fun a => ?_, hP.2.2.2.2.2.1, fun b' k' hb' l1 l2 j hj hf => ?_, fun f' b' i' a ha => ?_⟩
  · rw [m_kd_se] at ha
    split at ha
    · next q => subst q; exact hP.lt (by omega)
    · exact hP.lt ha
  · by_cases hab : a = b
    · subst hab
      refine ⟨fun k' hk' l1 l2 => ?_, fun f' hf' => ?_⟩
      · unfold x_isK at hk'
        rw [m_kd_se, if_pos rfl] at hk'
        have : k' = k := by omega
        subst this
        exact x_obj_eq ((hP.2.2.2.2.1 a).1 k' (Or.inr hb) l1 l2) rfl (fun f' _ _ => hne _ _) (fun _ _ => rfl) (fun _ _ => rfl)
      · rw [m_kd_se, if_pos rfl] at hf'; omega
    · exact x_cell_eq (hP.2.2.2.2.1 a) rfl (by rw [m_kd_se, if_neg hab]) (fun f' _ _ => hne _ _) (fun _ _ => rfl) (fun _ _ => rfl) (fun _ _ _ _ => rfl) (fun _ _ _ _ => rfl)
  · rw [hne]
    rw [m_kd_se] at hb'
    split at hb'
    · next q => subst q; subst hb'; exact hall j hj hf
    · exact hP.2.2.2.2.2.2.1 b' k' hb' l1 l2 j hj hf
  · have h3 := hP.2.2.2.2.2.2.2 f' b' i' a ha
    rw [m_kd_se]
    split
    · next q =>
      subst q
      rw [hb] at h3
      obtain ⟨h3, h4⟩ := h3
      refine ⟨h1, ?_⟩
      split at h4
      · omega
      · split at h4
        · next q1 q2 => rw [if_neg q1, if_pos q2]; omega
        · omega
    · exact h3
end XP
theorem x_ext.refl (M : Mem) : x_ext M M := fun _ _ _ _ h => h
theorem x_ext.trans {M M1 M2 : Mem} (h : x_ext M M1) (h' : x_ext M1 M2) : x_ext M M2 := fun a k l1 l2 q => h' a k l1 l2 (h a k l1 l2 q)
theorem x_ext.nw {M : Mem} {kk : Nat} (h : ∀ a, m_kd M a ≠ 0 → a < m_sz M) : x_ext M (m_nw M kk) := fun a k l1 _ q => by
  rw [m_kd_nw, if_neg (by have := h a (by omega); omega)]; exact q
theorem x_ext.se {M : Mem} {b k : Nat} (hb : 100 ≤ m_kd M b ∧ m_kd M b < 10000) : x_ext M (m_se M b k) := fun a k' _ l2 q => by
  rw [m_kd_se]; split
  · next z => subst z; omega
  · exact q
