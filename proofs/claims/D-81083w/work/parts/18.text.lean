/-! ===== String.length and String.charAt upon constants ===== -/
set_option maxRecDepth 100000
section XS
variable {l : Launch} {S0 : State} {D : va_G} {cA : Nat → ClassId}
theorem ct_coder (hG : x_G l S0 D cA) (i : Nat) (hi : i < 23) (M : Mem) : x_Me l S0 D cA yJ7_coder cJ7_coder 1 (some .byte) [] { frames := 1, cells := 0, slots := 0, locals := 24 } [vS D i] M (.returned (some (vI 0))) M := by
  refine x_begin (F := 1) (Lo := 24) (mc := 0) (ms := 0) hG (Nat.le_of_ble_eq_true rfl) (lv := [(0, vS D i)]) rfl rfl rfl rfl rfl (fun X e1 e2 e3 e4 e5 C => ?_)
  subst e3
  refine z_gets (pc := 0) (v := vI 1) C (x_St.at C).2.2.1 q787 dJ7_coder_0 ?_
  refine z_if_eq (pc := 3) C dJ7_coder_3 (tgt := 13) (by decide) (fun h => absurd h (by decide)) (fun _ => ?_)
  refine z_aload_n (pc := 6) C 0 rfl dJ7_coder_6 ?_
  refine z_getOF (pc := 7) (v := vI 0) C ((x_St.at C).2.1.1 i hi).2.1 q2167 dJ7_coder_7 ?_
  refine z_goto (pc := 10) C dJ7_coder_10 (tgt := 14) (by decide) ?_
  exact z_nret (pc := 14) C rfl rfl (Nat.le_refl _) (Nat.le_refl _) dJ7_coder_14
theorem ct_isLatin1 (hG : x_G l S0 D cA) (i : Nat) (hi : i < 23) (M : Mem) : x_Me l S0 D cA yJ7_isLatin1 cJ7_isLatin1 1 (some .boolean) [] { frames := 1, cells := 0, slots := 0, locals := 24 } [vS D i] M (.returned (some (vI 1))) M := by
  refine x_begin (F := 1) (Lo := 24) (mc := 0) (ms := 0) hG (Nat.le_of_ble_eq_true rfl) (lv := [(0, vS D i)]) rfl rfl rfl rfl rfl (fun X e1 e2 e3 e4 e5 C => ?_)
  subst e3
  refine z_gets (pc := 0) (v := vI 1) C (x_St.at C).2.2.1 q787 dJ7_isLatin1_0 ?_
  refine z_if_eq (pc := 3) C dJ7_isLatin1_3 (tgt := 17) (by decide) (fun h => absurd h (by decide)) (fun _ => ?_)
  refine z_aload_n (pc := 6) C 0 rfl dJ7_isLatin1_6 ?_
  refine z_getOF (pc := 7) (v := vI 0) C ((x_St.at C).2.1.1 i hi).2.1 q2167 dJ7_isLatin1_7 ?_
  refine z_if_ne (pc := 10) C dJ7_isLatin1_10 (tgt := 17) (by decide) (fun h => absurd rfl h) (fun _ => ?_)
  refine z_iconst (pc := 13) C dJ7_isLatin1_13 ?_
  refine z_goto (pc := 14) C dJ7_isLatin1_14 (tgt := 18) (by decide) ?_
  exact z_nret (pc := 18) C rfl rfl (Nat.le_refl _) (Nat.le_refl _) dJ7_isLatin1_18
theorem x_shr0 {n : Nat} (h : n < 100) : Int32.ofInt (s32 (n : Int) 0) = Int32.ofInt (n : Int) := by
  revert h; revert n; decide +kernel
theorem ct_length (hG : x_G l S0 D cA) (i : Nat) (hi : i < 23) (M : Mem) : x_Me l S0 D cA yJ7_length cJ7_length 1 (some .int) [] { frames := 2, cells := 0, slots := 0, locals := 48 } [vS D i] M (.returned (some (vI (x_sz i)))) M := by
  refine x_begin (F := 2) (Lo := 48) (mc := 0) (ms := 0) hG (Nat.le_of_ble_eq_true rfl) (lv := [(0, vS D i)]) rfl rfl rfl rfl rfl (fun X e1 e2 e3 e4 e5 C => ?_)
  subst e3
  refine z_aload_n (pc := 0) C 0 rfl dJ7_length_0 ?_
  refine z_getOF (pc := 1) C ((x_St.at C).2.1.1 i hi).2.2.1 q2166 dJ7_length_1 ?_
  refine z_tlen (pc := 4) C ((x_St.at C).2.1.1 i hi).2.2.2 dJ7_length_4 ?_
  refine z_aload_n (pc := 5) C 0 rfl dJ7_length_5 ?_
  refine z_callStr (pc := 6) C hi (ct_coder C.2.1 i hi M) q786 q783 q784 q785 (by decide +kernel) ⟨by decide +kernel, by decide +kernel⟩ (by decide +kernel) ⟨by decide, by decide, Nat.zero_le _, Nat.zero_le _⟩ rfl rfl (Nat.le_of_ble_eq_true rfl) dJ7_length_6 (fun _ => ?_)
  refine z_ishr (pc := 9) C dJ7_length_9 ?_
  rw [show vI (s32 ((x_sn.getD i 0 : Nat) : Int) 0) = vI (x_sz i) from congrArg Value.int (x_shr0 (x_szlt i hi))]
  exact z_iret (pc := 10) C rfl (Nat.le_refl _) (Nat.le_refl _) dJ7_length_10
theorem ct_pcheck (hG : x_G l S0 D cA) (i n : Int) (v : Value) (hv : v.isRef = true) (hn : 0 ≤ w32 i ∧ w32 i < w32 n) (M : Mem) : x_Me l S0 D cA yJ10_checkIndex cJ10_checkIndex 3 (some .int) [] { frames := 1, cells := 0, slots := 0, locals := 24 } [vI i, vI n, v] M (.returned (some (vI i))) M := by
  have hc : v.category = 1 := by cases v <;> first | rfl | cases hv
  refine x_begin (F := 1) (Lo := 24) (mc := 0) (ms := 0) hG (by cases v <;> first | exact Nat.le_of_ble_eq_true rfl | cases hv) (lv := [(0, vI i), (1, vI n), (2, v)]) rfl rfl rfl rfl rfl (fun X e1 e2 e3 e4 e5 C => ?_)
  refine z_iload_n (pc := 0) C 0 rfl dJ10_checkIndex_0 ?_
  refine z_if_lt (pc := 1) C dJ10_checkIndex_1 (tgt := 9) (by decide) (fun h => absurd h (by omega)) (fun _ => ?_)
  refine z_iload_n (pc := 4) C 0 rfl dJ10_checkIndex_4 ?_
  refine z_iload_n (pc := 5) C 1 rfl dJ10_checkIndex_5 ?_
  refine z_ic_lt (pc := 6) C dJ10_checkIndex_6 (tgt := 16) (by decide) (fun _ => ?_) (fun h => absurd hn.2 h)
  refine z_iload_n (pc := 16) C 0 rfl dJ10_checkIndex_16 ?_
  exact z_iret (pc := 17) C rfl (Nat.le_refl _) (Nat.le_refl _) dJ10_checkIndex_17
theorem ct_scheck (hG : x_G l S0 D cA) (i n : Int) (hn : 0 ≤ w32 i ∧ w32 i < w32 n) (M : Mem) : x_Me l S0 D cA yJ7_checkIndex cJ7_checkIndex 2 none [] { frames := 2, cells := 0, slots := 0, locals := 50 } [vI i, vI n] M (.returned none) M := by
  refine x_begin (F := 2) (Lo := 50) (mc := 0) (ms := 0) hG (Nat.le_of_ble_eq_true rfl) (lv := [(0, vI i), (1, vI n)]) rfl rfl rfl rfl rfl (fun X e1 e2 e3 e4 e5 C => ?_)
  obtain ⟨v, hv, hZ⟩ := (x_St.at C).2.2.2.1
  refine z_iload_n (pc := 0) C 0 rfl dJ7_checkIndex_0 ?_
  refine z_iload_n (pc := 1) C 1 rfl dJ7_checkIndex_1 ?_
  refine z_gets (pc := 2) C hZ q803 dJ7_checkIndex_2 ?_
  refine z_callS (pc := 5) C (ct_pcheck C.2.1 i n v hv hn M) (Or.inl ⟨rfl, q807⟩) q805 q806 q124 (by decide +kernel) ⟨by decide +kernel, by decide +kernel⟩ (show (parseMethodDescriptor yJ10_checkIndex.desc).map (fun d => d.parameters.length) = some 3 from by decide +kernel) ⟨by decide, by decide, Nat.zero_le _, Nat.zero_le _⟩ (st := []) rfl rfl (Nat.le_of_ble_eq_true rfl) dJ7_checkIndex_5 (fun _ => ?_)
  refine z_pop (pc := 8) C rfl dJ7_checkIndex_8 ?_
  exact z_vret (pc := 9) C rfl (Nat.le_refl _) (Nat.le_refl _) dJ7_checkIndex_9
theorem x_len32 {n : Nat} (h : n < 100) : w32 (n : Int) = n := by revert h; revert n; decide +kernel
theorem x_msk {x : Int} (h : 0 ≤ x ∧ x < 128) : ((Int32.ofInt (a32 x 255)).toUInt32 % 65536).toInt32 = Int32.ofInt x := by
  have : ∀ n : Nat, n < 128 → ((Int32.ofInt (a32 (n : Int) 255)).toUInt32 % 65536).toInt32 = Int32.ofInt (n : Int) := by decide +kernel
  have h2 := this x.toNat (by omega)
  rw [Int.toNat_of_nonneg h.1] at h2
  exact h2
theorem x_chn {x : Int} (h : 0 ≤ x ∧ x < 128) : narrow .char (vI x) = vI x := by
  have : ∀ n : Nat, n < 128 → narrow .char (vI (n : Int)) = vI (n : Int) := by decide +kernel
  have h2 := this x.toNat (by omega)
  rw [Int.toNat_of_nonneg h.1] at h2
  exact h2
theorem ct_lcharAt (hG : x_G l S0 D cA) (i : Nat) (hi : i < 23) (j : Int) (hj : inb j (x_sz i)) (M : Mem) : x_Me l S0 D cA yJ9_charAt cJ9_charAt 2 (some .char) [] { frames := 3, cells := 0, slots := 0, locals := 76 } [.ref (D.2 1001 i), vI j] M (.returned (some (vI (x_ch i (ixn j))))) M := by
  refine x_begin (F := 3) (Lo := 76) (mc := 0) (ms := 0) hG (Nat.le_of_ble_eq_true rfl) (lv := [(0, .ref (D.2 1001 i)), (1, vI j)]) rfl rfl rfl rfl rfl (fun X e1 e2 e3 e4 e5 C => ?_)
  subst e3
  have hT := ((x_St.at C).2.1.1 i hi).2.2.2
  have hlt : ixn j < x_sz i := by have := hj.1; have := hj.2; show (w32 j).toNat < x_sz i; omega
  have hx := x_chr i hi (ixn j) hlt
  refine z_iload_n (pc := 0) C 1 rfl dJ9_charAt_0 ?_
  refine z_aload_n (pc := 1) C 0 rfl dJ9_charAt_1 ?_
  refine z_tlen (pc := 2) C hT dJ9_charAt_2 ?_
  refine z_callS (pc := 3) C (ct_scheck C.2.1 j (x_sz i) (by rw [x_len32 (x_szlt i hi)]; exact hj) M) (Or.inl ⟨rfl, q802⟩) q800 q801 q119 (by decide +kernel) ⟨by decide +kernel, by decide +kernel⟩ (show (parseMethodDescriptor yJ7_checkIndex.desc).map (fun d => d.parameters.length) = some 2 from by decide +kernel) ⟨by decide, by decide, Nat.zero_le _, Nat.zero_le _⟩ (st := []) rfl rfl (Nat.le_of_ble_eq_true rfl) dJ9_charAt_3 (fun _ => ?_)
  refine z_aload_n (pc := 6) C 0 rfl dJ9_charAt_6 ?_
  refine z_iload_n (pc := 7) C 1 rfl dJ9_charAt_7 ?_
  refine z_tb (pc := 8) (x := x_ch i (ixn j)) C hT hj (by show Value.int _ = Value.int (Int32.ofInt (Int32.toInt _)); rw [Int32.ofInt_toInt]) dJ9_charAt_8 ?_
  refine z_sipush (pc := 9) C (by decide +kernel) dJ9_charAt_9 ?_
  refine z_iand (pc := 12) C dJ9_charAt_12 ?_
  intro H locs ls hP hE hL hl
  refine lv_i2c C.1.1 C.1.2.1 dJ9_charAt_13 (x_msk hx) ?_
  exact z_nret (pc := 14) C rfl (x_chn hx) (Nat.le_refl _) (Nat.le_refl _) dJ9_charAt_14 H locs ls hP hE hL hl
theorem ct_charAt (hG : x_G l S0 D cA) (i : Nat) (hi : i < 23) (j : Int) (hj : inb j (x_sz i)) (M : Mem) : x_Me l S0 D cA yJ7_charAt cJ7_charAt 2 (some .char) [] { frames := 4, cells := 0, slots := 0, locals := 101 } [vS D i, vI j] M (.returned (some (vI (x_ch i (ixn j))))) M := by
  refine x_begin (F := 4) (Lo := 101) (mc := 0) (ms := 0) hG (Nat.le_of_ble_eq_true rfl) (lv := [(0, vS D i), (1, vI j)]) rfl rfl rfl rfl rfl (fun X e1 e2 e3 e4 e5 C => ?_)
  subst e3
  have hlt : ixn j < x_sz i := by have := hj.1; have := hj.2; show (w32 j).toNat < x_sz i; omega
  have hx := x_chr i hi (ixn j) hlt
  refine z_aload_n (pc := 0) C 0 rfl dJ7_charAt_0 ?_
  refine z_callStr (pc := 1) C hi (ct_isLatin1 C.2.1 i hi M) q796 q793 q794 q795 (by decide +kernel) ⟨by decide +kernel, by decide +kernel⟩ (by decide +kernel) ⟨by decide, by decide, Nat.zero_le _, Nat.zero_le _⟩ rfl rfl (Nat.le_of_ble_eq_true rfl) dJ7_charAt_1 (fun _ => ?_)
  refine z_if_eq (pc := 4) C dJ7_charAt_4 (tgt := 16) (by decide) (fun h => absurd h (by decide)) (fun _ => ?_)
  refine z_aload_n (pc := 7) C 0 rfl dJ7_charAt_7 ?_
  refine z_getOF (pc := 8) C ((x_St.at C).2.1.1 i hi).2.2.1 q2166 dJ7_charAt_8 ?_
  refine z_iload_n (pc := 11) C 1 rfl dJ7_charAt_11 ?_
  refine z_callS (pc := 12) C (ct_lcharAt C.2.1 i hi j hj M) (Or.inl ⟨rfl, q799⟩) q797 q798 q123 (by decide +kernel) ⟨by decide +kernel, by decide +kernel⟩ (show (parseMethodDescriptor yJ9_charAt.desc).map (fun d => d.parameters.length) = some 2 from by decide +kernel) ⟨by decide, by decide, Nat.zero_le _, Nat.zero_le _⟩ (st := []) rfl rfl (Nat.le_of_ble_eq_true rfl) dJ7_charAt_12 (fun _ => ?_)
  exact z_nret (pc := 15) C rfl (x_chn hx) (Nat.le_refl _) (Nat.le_refl _) dJ7_charAt_15
end XS
