/-! ===== new cells, ends, calls ===== -/
set_option maxRecDepth 100000
section XN
variable {X : x_Ctx} {cells slots : Nat} {Q : State → Prop} {M0 M : Mem} {nL : Nat} {lv lv' : List (Nat × Value)} {pc : Nat} {st : List Value} {y : MethodName} {cc : ByteArray} {ret : Option FieldType} {hs : List (Nat × Nat × Nat × Nat)} {F Lo : Nat}
variable {k j idx b f a n : Nat}
/-- what a fresh object's fields hold -/
def x_def (k : Nat) (ty : Nat → FieldType) : Prop := ∀ j, j < x_N k → (x_ft (100 * k + j) = 0 ∧ defaultValue (ty j) = .int 0) ∨ (x_ft (100 * k + j) = 1 ∧ defaultValue (ty j) = .long 0) ∨ (x_ft (100 * k + j) = 3 ∧ 1 ≤ x_off (100 * k + j) ∧ defaultValue (ty j) = .null) ∨ ((x_ft (100 * k + j) = 2 ∨ x_ft (100 * k + j) = 4) ∧ defaultValue (ty j) = .null)
theorem z_new (C : x_CC X F Lo y cc nL ret hs) (q1 : Cond.classLink y.cls idx (x_C k).1 ∈ lw_all) (q2 : Cond.instantiable (x_C k).1 n ∈ lw_all) (q3 : Cond.initialized (x_C k).1 ∈ lw_all) (hin : ∀ w ∈ u_ws (x_C k).1 (x_C k).2.1 (x_C k).2.2, w ∈ lw_all) (ty : Nat → FieldType) (hty : ∀ j, j < x_N k → parseFieldDescriptor ((x_C k).2.1 j).2.2.1 = some (ty j)) (hdef : x_def k ty) (h1 : 1 ≤ k) (h2 : k < 13) (hc : cells + 1 ≤ (XR X).cells) (hsl : slots + n ≤ (XR X).slots) (d : decode cc pc = .ok (.new idx, 3))
    (kk : x_Z X (cells + 1) (slots + n) Q M0 (m_nw M (100 + k)) nL lv (pc + 3) (.ref (m_sz M) :: st)) : x_Z X cells slots Q M0 M nL lv pc st := by
  intro H locs ls hP hE hL hl
  have hKn := C.kn h1 (by omega)
  refine W.newcK C.1.1 C.1.2.1 C.1.2.2.2.1 (C.hts _ q1) (C.hts _ q2) (C.hts _ q3) rfl d hc hsl hKn.2.1 hP.1.symm fun H1 kC hkC e1 z1 o1 => ?_
  have hb := u_born ty C.hts hin hKn hkC e1 hty
  have hin' : ∀ a, m_kd M a ≠ 0 → a < m_sz M := fun a h => (hP.lt h).2
  have hkd : ∀ a, m_kd (m_nw M (100 + k)) (m_sz M + (a + 1)) = 0 := fun a => by
    rw [m_kd_nw, if_neg (by omega)]
    exact Classical.byContradiction (fun z => by have := hin' _ z; omega)
  have hz := hP.2.2.2.2.2.1
  have hP1 : x_P (XS X) (XD X) (XA X) (m_nw M (100 + k)) H1 := by
    refine hP.nw (by omega) (by rw [z1, hP.1]) (fun q hq => o1 q (by rw [hP.1]; exact hq)) (fun f' g1 g2 => by omega) ⟨fun k' hk' l1 l2 => ?_, fun f' hf' => ?_⟩
    · unfold x_isK at hk'
      rw [m_kd_nw, if_pos rfl] at hk'
      have : k' = k := by omega
      subst this
      unfold x_obj
      have hV : ∀ j, j < x_N k' → defaultValue (ty j) = x_fv (m_nw M (100 + k')) (m_sz M) (100 * k' + j) := fun j hj => by
        unfold x_fv
        have hi : m_i (m_nw M (100 + k')) (100 * k' + j) (m_sz M) 0 = 0 := (hz (100 * k' + j) (m_sz M) 0 (by omega)).1
        have hr : m_r (m_nw M (100 + k')) (100 * k' + j) (m_sz M) 0 = none := (hz (100 * k' + j) (m_sz M) 0 (by omega)).2
        rcases hdef j hj with ⟨g, e⟩ | ⟨g, e⟩ | ⟨g, g2, e⟩ | ⟨g, e⟩
        · rw [g, e]; show _ = vI _; rw [hi]; rfl
        · rw [g, e]; show _ = vL _; rw [hi]; rfl
        · rw [g, e]
          show Value.null = if _ then _ else _
          rw [if_neg]
          intro z
          obtain ⟨w, hw⟩ : ∃ w, x_off (100 * k' + j) = w + 1 := ⟨x_off (100 * k' + j) - 1, by omega⟩
          rw [hw, hkd] at z
          have := x_beq.mp z
          omega
        · rw [e]
          rcases g with g | g <;> (rw [g]; show _ = va_rf _; rw [hr]; rfl)
      split
      · exact hb.to hV
      · next hno =>
        refine ⟨_, hb, fun h7 => ?_⟩
        subst h7
        rw [hV 6 (by decide)]
        rfl
    · rw [m_kd_nw, if_pos rfl] at hf'; omega
  exact kk H1 locs ls hP1 (hE.trans (x_ext.nw hin')) hL hl
/-- what a field's slot gives inside its class's constructor -/
theorem x_finslot (C : x_CC X F Lo y cc nL ret hs) (hin : ∀ w ∈ u_ws (x_C k).1 (x_C k).2.1 (x_C k).2.2, w ∈ lw_all) (h1 : 1 ≤ k) (h2 : k < 17) (hj : j < x_N k) (hfin : ((x_C k).2.1 j).2.2.2 = true) (hdec : ((x_C k).2.1 j).1 = y.cls) : True := trivial
/-- an array is made and laid into its own field, in the constructor -/
theorem z_newa (C : x_CC X F Lo y cc nL ret hs) {atype : ArrayType} {len : Nat} (qa : Cond.arrayClass (newarray.typeOf atype) ∈ lw_all) (hat : newarray.typeOf atype = x_ty (x_aty (100 * k + j))) (hm : x_aty (100 * k + j) ∈ x_tys) (hm3 : x_aty (100 * k + j) < 4) (hlen : x_len (100 * k + j) = len) (hl31 : len < 2 ^ 20)
    (q : Cond.fieldLink y.cls idx ((x_C k).2.1 j).1 ((x_C k).2.1 j).2.1 ((x_C k).2.1 j).2.2.1 ∈ lw_all) (hin : ∀ w ∈ u_ws (x_C k).1 (x_C k).2.1 (x_C k).2.2, w ∈ lw_all) (ty : Nat → FieldType) (hty : ∀ j, j < x_N k → parseFieldDescriptor ((x_C k).2.1 j).2.2.1 = some (ty j)) (hnm : ∀ a, a < x_N k → ∀ b, b < x_N k → a ≠ b → ((x_C k).2.1 a).2.1 ≠ ((x_C k).2.1 b).2.1) (h1 : 1 ≤ k) (h2 : k < 13) (h7 : k ≠ 7) (hj : j < x_N k) (hfin : ((x_C k).2.1 j).2.2.2 = true) (hini : y.name = "<init>") (hdec : ((x_C k).2.1 j).1 = y.cls) (hf3 : x_ft (100 * k + j) = 3) (hfit : ∀ x, fits (ty j) (.ref x) = true) (hnar : ∀ x, narrow (ty j) (.ref x) = .ref x)
    (hb : m_kd M b = 100 + k) (hsz : m_sz M = b + x_off (100 * k + j)) (hc : cells + 1 ≤ (XR X).cells) (hsl : slots + len ≤ (XR X).slots) (d : decode cc pc = .ok (.newarray atype, 2)) (d2 : decode cc (pc + 2) = .ok (.putfield idx, 3))
    (kk : x_Z X (cells + 1) (slots + len) Q M0 (m_nw M (10000 + (100 * k + j))) nL lv (pc + 5) st) : x_Z X cells slots Q M0 M nL lv pc (vI len :: .ref b :: st) := by
  intro H locs ls hP hE hL hl
  have hap := x_apart C hin ty hty hnm h1 (by omega)
  obtain ⟨cell, q1, q2, q3, q4⟩ := hP.obj (Or.inr hb) h1 h2 h7
  obtain ⟨hS, hfc, kC, hkC, hkind⟩ := C.kn h1 (by omega)
  obtain ⟨cf, kf, fi, fd, hi, hsl2⟩ := hS j hj
  have hlay := C.hts _ (hin _ (u_in_lay hj))
  unfold u_lay at hlay
  rw [if_pos hfin] at hlay
  have hst := (u_facts hfc hkC (u_lays C.hts hin hj) hi).1
  have hcf : (Xm X).cls = cf := by
    obtain ⟨_, _, c', _, _, _, -, -, hf', -, -, -, hown2, -⟩ := Cond.laysFinal_spec hlay
    have e1 : c' = cf := by have := hi.symm.trans hf'; simp at this; exact this.1.symm
    rw [hdec] at hown2
    rw [← e1]; exact Option.some.inj (C.1.2.2.2.1.symm.trans hown2)
  have hblt := hP.lt (a := b) (by omega)
  have hnn : ¬ (Int32.ofInt (len : Int)) < 0 := nI_pos (n := len) (by omega)
  have hcl : (Int32.ofInt (len : Int)).toNatClampNeg = len := nI_clamp (n := len) (by omega)
  have hA := C.ar hm
  refine va_newaK C.1.1 C.1.2.1 (C.hts _ qa) rfl d rfl hnn hcl (by have : componentBytes (newarray.typeOf atype) ≤ 8 := (by cases atype <;> decide); calc len * componentBytes (newarray.typeOf atype) ≤ len * 8 := Nat.mul_le_mul_left _ this
      _ ≤ 536870912 := by omega) hc hsl hP.1.symm fun H1 cA e1 z1 o1 hAr hNm => ?_
  have hcA : cA = XA X (x_aty (100 * k + j)) := by
    rw [hat] at hNm
    have h3 := hA.2
    generalize x_aty (100 * k + j) = t at h3 hm3 hNm
    have : t = 0 ∨ t = 1 ∨ t = 2 ∨ t = 3 := by omega
    rcases this with rfl | rfl | rfl | rfl <;> exact Option.some.inj (hNm.symm.trans h3)
  subst hcA
  have h6 := u_fits hfc hkC hkind (Or.inr hlay) hi (hty j hj) (hnar (m_sz M)) (hfit (m_sz M))
  have q1' : H1[b]? = some cell := by rw [o1 b hblt.2]; exact q1
  refine W.putFinK C.1.1 C.1.2.1 C.1.2.2.2.1 (C.hts _ q) hi hst hcf (C.1.2.2.2.2.2.2.2.2.trans hini) (by rw [q2]; exact h6) q1' q3 (by rw [hsl2]; exact k2_hasslot (q4 j hj)) rfl rfl d2 fun H2 e2 z2 o2 => ?_
  rw [hsl2] at e2 ⊢
  have hin' : ∀ a, m_kd M a ≠ 0 → a < m_sz M := fun a h => (hP.lt h).2
  have hsz0 : m_kd M (m_sz M) = 0 := Classical.byContradiction (fun z => by have := hin' _ z; omega)
  have hz0 := hP.2.2.2.2.2.1
  have hne : b ≠ m_sz M := by omega
  have hk0 : ∀ a, a ≠ m_sz M → m_kd (m_nw M (10000 + (100 * k + j))) a = m_kd M a := fun a h => by rw [m_kd_nw, if_neg h]
  have hkN := x_N_lt k h2
  have hP2 : x_P (XS X) (XD X) (XA X) (m_nw M (10000 + (100 * k + j))) H2 := by
    refine ⟨by show m_sz M + 1 = _; rw [z2, z1], by have := hP.2.1; rw [z2, z1]; have := hP.1; omega, fun q hq => ?_, fun a ha => ?_, fun a => ?_, hP.2.2.2.2.2.nw hin' (by omega)⟩
    · have hq1 : q ≠ b := by intro z; rw [z] at hq; exact absurd hblt.1 (Nat.not_le.mpr hq)
      have hq2 : q < m_sz M := by rw [hP.1]; exact Nat.lt_of_lt_of_le hq hP.2.1
      rw [o2 q hq1, o1 q hq2]; exact hP.2.2.1 q hq
    · show _ ∧ a < m_sz M + 1
      by_cases h : a = m_sz M
      · have := hP.1; have := hP.2.1; omega
      · rw [hk0 a h] at ha; have := hP.lt ha; omega
    · by_cases has : a = m_sz M
      · subst has
        refine ⟨fun k' hk' l1 l2 => ?_, fun f' hf' => ?_⟩
        · unfold x_isK at hk'; rw [m_kd_nw, if_pos rfl] at hk'; omega
        · rw [m_kd_nw, if_pos rfl] at hf'
          have : f' = 100 * k + j := by omega
          subst this
          refine ⟨hf3, by omega, ?_⟩
          rw [o2 _ (Ne.symm hne), e1, show m_sz M - x_off (100 * k + j) = b by omega, hlen]
          congr 1
          have hzi : ∀ i, m_i (m_nw M (10000 + (100 * k + j))) (100 * k + j) b i = 0 := fun i => (hz0 _ _ _ (by omega)).1
          unfold x_con
          simp only [hzi]
          rw [hat]
          generalize x_aty (100 * k + j) = t at hm3
          have : t = 0 ∨ t = 1 ∨ t = 2 ∨ t = 3 := by omega
          rcases this with rfl | rfl | rfl | rfl <;> rfl
      · by_cases hab : a = b
        · subst hab
          refine ⟨fun k' hk' l1 l2 => ?_, fun f' hf' => ?_⟩
          · unfold x_isK at hk'
            rw [hk0 a has, hb] at hk'
            have : k' = k := by omega
            subst this
            unfold x_obj
            rw [if_pos ⟨h2, h7⟩]
            refine ⟨_, e2, q2, q3, fun i hi' => ?_⟩
            have hs2 := t_set q4 hap hj (.ref (m_sz M)) i hi'
            rw [hs2]
            unfold updV
            by_cases hij : i = j
            · subst hij
              rw [if_pos rfl]
              show some (Value.ref (m_sz M)) = some (x_fv _ a (100 * k' + i))
              unfold x_fv
              rw [hf3]
              show _ = some (if _ then _ else _)
              rw [if_pos (x_beq.mpr (by rw [← hsz, m_kd_nw, if_pos rfl])), hsz]
            · rw [if_neg hij]
              show some (x_fv M a (100 * k' + i)) = some (x_fv _ a (100 * k' + i))
              congr 1
              unfold x_fv
              split
              · rfl
              · rfl
              · have : a + x_off (100 * k' + i) = m_sz M → False ∨ True := fun _ => Or.inr trivial
                by_cases hq : a + x_off (100 * k' + i) = m_sz M
                · rw [hq, hsz0, m_kd_nw, if_pos rfl]
                  rw [if_neg (fun z => by have := x_beq.mp z; omega), if_neg (fun z => by have := x_beq.mp z; omega)]
                · rw [hk0 _ hq]
              · rfl
          · rw [hk0 a has, hb] at hf'; omega
        · by_cases h00 : m_kd M a = 0
          · refine ⟨fun k' hk' l1 l2 => ?_, fun f' hf' => ?_⟩
            · unfold x_isK at hk'; rw [hk0 a has] at hk'; omega
            · rw [hk0 a has] at hf'; omega
          · have halt := hin' a h00
            refine x_cell_eq (hP.2.2.2.2.1 a) (by rw [o2 a hab, o1 a halt]) (hk0 a has) (fun f' g1 g2 => ?_) (fun _ _ => rfl) (fun _ _ => rfl) (fun _ _ _ _ => rfl) (fun _ _ _ _ => rfl)
            by_cases hq : a + x_off f' = m_sz M
            · rw [hq, hsz0, m_kd_nw, if_pos rfl]
              constructor
              · intro z
                have : f' = 100 * k + j := by omega
                subst this
                omega
              · intro z; omega
            · rw [hk0 _ hq]
  exact kk H2 _ ls hP2 (hE.trans (x_ext.nw hin')) (x_hL hL hblt.1) hl
end XN
