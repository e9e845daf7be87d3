set_option maxRecDepth 100000
theorem cB_L_law_3074 {X : x_Ctx} {M0 : Mem} {L : Nat} {xs : Nat → Int32} {cb sb : Nat} (C : x_CC X 108 3296 yL_law cL_law 7 (some .boolean) []) {k23 : Nat → Nat → Nat → Nat → Int → Mem → Option (Int × Mem)} (hk23 : ∀ (v0 : Nat) (v1 : Nat) (v2 : Nat) (v3 : Nat) (v4 : Int) (M : Mem) (r : Int) (M' : Mem), (va_X v0 L xs (XS X) (XS X).heap ∧ L < 2 ^ 31) → m_kd M v1 = 1 → m_kd M v2 = 5 → m_kd M v3 = 19000 → k23 v0 v1 v2 v3 v4 M = some (r, M') → cb + 14 ≤ (XR X).cells ∧ sb + 3829 ≤ (XR X).slots → x_Z X (cb + 14) (sb + 3829) (x_QF X M0 (.returned (some (vI r))) M' (XR X).cells (XR X).slots) M0 M 7 [(0, .ref v0), (1, .ref v1), (2, .ref v2), (3, .ref v3), (4, vI v4)] 23 []) (v0 : Nat) (v1 : Nat) (v2 : Nat) (v3 : Nat) (v4 : Int) (M : Mem) (r : Int) (M' : Mem) (hv0 : (va_X v0 L xs (XS X) (XS X).heap ∧ L < 2 ^ 31)) (hv1 : m_kd M v1 = 1) (hv2 : m_kd M v2 = 5) (hv3 : m_kd M v3 = 19000) (h : B_L_law_3074 L xs k23 v0 v1 v2 v3 v4 M = some (r, M')) (hR : cb + 14 ≤ (XR X).cells ∧ sb + 3829 ≤ (XR X).slots) : x_Z X (cb + 14) (sb + 3829) (x_QF X M0 (.returned (some (vI r))) M' (XR X).cells (XR X).slots) M0 M 7 [(0, .ref v0), (1, .ref v1), (2, .ref v2), (3, .ref v3), (4, vI v4)] 3074 [] := by
  unfold B_L_law_3074 at h
  refine z_iinc (pc := 3074) C (lv' := [(0, .ref v0), (1, .ref v1), (2, .ref v2), (3, .ref v3), (4, vI (v4 + 7))]) 4 rfl (by decide) rfl dL_law_3074 ?_
  refine z_goto (pc := 3077) C dL_law_3077 (tgt := 23) (by decide) ?_
  exact hk23 v0 v1 v2 v3 (v4 + 7) M _ _ hv0 hv1 hv2 hv3 h hR
theorem cB_L_law_208 {X : x_Ctx} {M0 : Mem} {L : Nat} {xs : Nat → Int32} {cb sb : Nat} (C : x_CC X 108 3296 yL_law cL_law 7 (some .boolean) []) {k23 : Nat → Nat → Nat → Nat → Int → Mem → Option (Int × Mem)} (hk23 : ∀ (v0 : Nat) (v1 : Nat) (v2 : Nat) (v3 : Nat) (v4 : Int) (M : Mem) (r : Int) (M' : Mem), (va_X v0 L xs (XS X) (XS X).heap ∧ L < 2 ^ 31) → m_kd M v1 = 1 → m_kd M v2 = 5 → m_kd M v3 = 19000 → k23 v0 v1 v2 v3 v4 M = some (r, M') → cb + 14 ≤ (XR X).cells ∧ sb + 3829 ≤ (XR X).slots → x_Z X (cb + 14) (sb + 3829) (x_QF X M0 (.returned (some (vI r))) M' (XR X).cells (XR X).slots) M0 M 7 [(0, .ref v0), (1, .ref v1), (2, .ref v2), (3, .ref v3), (4, vI v4)] 23 []) (v0 : Nat) (v1 : Nat) (v2 : Nat) (v3 : Nat) (v4 : Int) (M : Mem) (r : Int) (M' : Mem) (hv0 : (va_X v0 L xs (XS X) (XS X).heap ∧ L < 2 ^ 31)) (hv1 : m_kd M v1 = 1) (hv2 : m_kd M v2 = 5) (hv3 : m_kd M v3 = 19000) (h : B_L_law_208 L xs k23 v0 v1 v2 v3 v4 M = some (r, M')) (hR : cb + 14 ≤ (XR X).cells ∧ sb + 3829 ≤ (XR X).slots) : x_Z X (cb + 0) (sb + 0) (x_QF X M0 (.returned (some (vI r))) M' (XR X).cells (XR X).slots) M0 M 7 [(0, .ref v0), (1, .ref v1), (2, .ref v2), (3, .ref v3), (4, vI v4)] 208 [] := by
  unfold B_L_law_208 at h
  refine z_aload_n (pc := 208) C 1 rfl dL_law_208 ?_
  refine z_aload_n (pc := 209) C 0 rfl dL_law_209 ?_
  refine z_iload (pc := 210) C 4 rfl dL_law_210 ?_
  refine z_iconst (pc := 212) C dL_law_212 ?_
  refine z_iadd (pc := 213) C dL_law_213 ?_
  obtain ⟨c24, h⟩ := ifn h
  refine z_sld (pc := 214) C hv0.1 c24 dL_law_214 ?_
  refine z_aload_n (pc := 215) C 3 rfl dL_law_215 ?_
  obtain ⟨r25, M26, e27, h⟩ := bNs h
  refine cX0_145 (pc := 216) (st := []) (st1 := [vI r25]) C rfl (rm := { frames := 8, cells := 1, slots := 6, locals := 139 }) (ct_X0_tick C.2.1 v1 ((xs (ixn (v4 + 1))).toInt) v3 M _ _ hv1 hv3 e27) ⟨by decide, by decide, Nat.le_trans (show cb + 1 ≤ cb + 14 from by omega) hR.1, Nat.le_trans (show sb + 6 ≤ sb + 3829 from by omega) hR.2⟩ rfl (Nat.le_of_ble_eq_true rfl) dL_law_216 (c2 := cb + 1) (s2 := sb + 6) rfl rfl (fun x28 => ?_)
  have k29 := x28 _ 1 (by decide) (Or.inl (by decide)) hv1
  have k30 := x28 _ 5 (by decide) (Or.inl (by decide)) hv2
  have k31 := x28 _ 19000 (by decide) (Or.inr (by decide)) hv3
  refine z_istore (pc := 219) C (lv' := [(0, .ref v0), (1, .ref v1), (2, .ref v2), (3, .ref v3), (4, vI v4), (5, vI r25)]) (by decide) rfl dL_law_219 ?_
  refine z_aload_n (pc := 221) C 2 rfl dL_law_221 ?_
  refine z_aload_n (pc := 222) C 0 rfl dL_law_222 ?_
  refine z_iload (pc := 223) C 4 rfl dL_law_223 ?_
  refine z_iconst (pc := 225) C dL_law_225 ?_
  refine z_iadd (pc := 226) C dL_law_226 ?_
  refine z_sld (pc := 227) C hv0.1 c24 dL_law_227 ?_
  obtain ⟨r32, M33, e34, h⟩ := bNs h
  refine cX0_150 (pc := 228) (st := []) (st1 := [vI r32]) C rfl (rm := { frames := 2, cells := 0, slots := 0, locals := 53 }) (ct_X5_tick C.2.1 v2 ((xs (ixn (v4 + 1))).toInt) M26 _ _ k30 e34) ⟨by decide, by decide, Nat.le_trans (show cb + 1 ≤ cb + 14 from by omega) hR.1, Nat.le_trans (show sb + 6 ≤ sb + 3829 from by omega) hR.2⟩ (Or.inl k30) rfl (Nat.le_of_ble_eq_true rfl) dL_law_228 (c2 := cb + 1) (s2 := sb + 6) rfl rfl (fun x35 => ?_)
  have k36 := x35 _ 1 (by decide) (Or.inl (by decide)) k29
  have k37 := x35 _ 5 (by decide) (Or.inl (by decide)) k30
  have k38 := x35 _ 19000 (by decide) (Or.inr (by decide)) k31
  refine z_istore (pc := 231) C (lv' := [(0, .ref v0), (1, .ref v1), (2, .ref v2), (3, .ref v3), (4, vI v4), (5, vI r25), (6, vI r32)]) (by decide) rfl dL_law_231 ?_
  refine z_aload_n (pc := 233) C 2 rfl dL_law_233 ?_
  refine cX0_151 (pc := 234) (st := []) (st1 := [vI (d_X5_thrown v2 M33)]) C rfl (rm := { frames := 1, cells := 0, slots := 0, locals := 24 }) (ct_X5_thrown C.2.1 v2 M33 _ k37 rfl) ⟨by decide, by decide, Nat.le_trans (show cb + 1 ≤ cb + 14 from by omega) hR.1, Nat.le_trans (show sb + 6 ≤ sb + 3829 from by omega) hR.2⟩ (Or.inl k37) rfl (Nat.le_of_ble_eq_true rfl) dL_law_234 (c2 := cb + 1) (s2 := sb + 6) rfl rfl (fun _ => ?_)
  refine z_iload (pc := 237) C 5 rfl dL_law_237 ?_
  refine z_ic_eq (pc := 239) C dL_law_239 (tgt := 244) (by decide) (fun c40 => ?_) (fun c40 => ?_)
  · have h := itt c40 h
    refine z_iload (pc := 244) C 5 rfl dL_law_244 ?_
    refine z_if_ne (pc := 246) C dL_law_246 (tgt := 261) (by decide) (fun c41 => ?_) (fun c41 => ?_)
    · have h := itf c41 h
      refine z_goto (pc := 261) C dL_law_261 (tgt := 3074) (by decide) ?_
      exact z_wide (show cb + 1 ≤ cb + 14 from by omega) (show sb + 6 ≤ sb + 3829 from by omega) <| z_lv [0, 1, 2, 3, 4] rfl <| cB_L_law_3074 C hk23 v0 v1 v2 v3 v4 M33 _ _ hv0 k36 k37 k38 h hR
    · have h := itt c41 h
      refine z_aload_n (pc := 249) C 3 rfl dL_law_249 ?_
      refine z_iconst (pc := 250) C dL_law_250 ?_
      refine z_law (pc := 251) C k38 (by decide +kernel) dL_law_251 ?_
      refine z_iload (pc := 252) C 6 rfl dL_law_252 ?_
      refine z_i2l (pc := 254) C dL_law_254 ?_
      refine z_lc_eq (pc := 255) C dL_law_255 dL_law_256 (tgt := 261) (by decide) (fun c42 => ?_) (fun c42 => ?_)
      · have h := itt c42 h
        refine z_goto (pc := 261) C dL_law_261 (tgt := 3074) (by decide) ?_
        exact z_wide (show cb + 1 ≤ cb + 14 from by omega) (show sb + 6 ≤ sb + 3829 from by omega) <| z_lv [0, 1, 2, 3, 4] rfl <| cB_L_law_3074 C hk23 v0 v1 v2 v3 v4 M33 _ _ hv0 k36 k37 k38 h hR
      · have h := itf c42 h
        refine z_iconst (pc := 259) C dL_law_259 ?_
        cases h
        exact z_zret (pc := 260) C rfl (Or.inl rfl) (Nat.le_trans (show cb + 1 ≤ cb + 14 from by omega) hR.1) (Nat.le_trans (show sb + 6 ≤ sb + 3829 from by omega) hR.2) dL_law_260
  · have h := itf c40 h
    refine z_iconst (pc := 242) C dL_law_242 ?_
    cases h
    exact z_zret (pc := 243) C rfl (Or.inl rfl) (Nat.le_trans (show cb + 1 ≤ cb + 14 from by omega) hR.1) (Nat.le_trans (show sb + 6 ≤ sb + 3829 from by omega) hR.2) dL_law_243
theorem cB_L_law_264 {X : x_Ctx} {M0 : Mem} {L : Nat} {xs : Nat → Int32} {cb sb : Nat} (C : x_CC X 108 3296 yL_law cL_law 7 (some .boolean) []) {k23 : Nat → Nat → Nat → Nat → Int → Mem → Option (Int × Mem)} (hk23 : ∀ (v0 : Nat) (v1 : Nat) (v2 : Nat) (v3 : Nat) (v4 : Int) (M : Mem) (r : Int) (M' : Mem), (va_X v0 L xs (XS X) (XS X).heap ∧ L < 2 ^ 31) → m_kd M v1 = 1 → m_kd M v2 = 5 → m_kd M v3 = 19000 → k23 v0 v1 v2 v3 v4 M = some (r, M') → cb + 14 ≤ (XR X).cells ∧ sb + 3829 ≤ (XR X).slots → x_Z X (cb + 14) (sb + 3829) (x_QF X M0 (.returned (some (vI r))) M' (XR X).cells (XR X).slots) M0 M 7 [(0, .ref v0), (1, .ref v1), (2, .ref v2), (3, .ref v3), (4, vI v4)] 23 []) (v0 : Nat) (v1 : Nat) (v2 : Nat) (v3 : Nat) (v4 : Int) (M : Mem) (r : Int) (M' : Mem) (hv0 : (va_X v0 L xs (XS X) (XS X).heap ∧ L < 2 ^ 31)) (hv1 : m_kd M v1 = 1) (hv2 : m_kd M v2 = 5) (hv3 : m_kd M v3 = 19000) (h : B_L_law_264 L xs k23 v0 v1 v2 v3 v4 M = some (r, M')) (hR : cb + 14 ≤ (XR X).cells ∧ sb + 3829 ≤ (XR X).slots) : x_Z X (cb + 0) (sb + 0) (x_QF X M0 (.returned (some (vI r))) M' (XR X).cells (XR X).slots) M0 M 7 [(0, .ref v0), (1, .ref v1), (2, .ref v2), (3, .ref v3), (4, vI v4)] 264 [] := by
  unfold B_L_law_264 at h
  refine z_aload_n (pc := 264) C 1 rfl dL_law_264 ?_
  refine z_aload_n (pc := 265) C 3 rfl dL_law_265 ?_
  obtain ⟨r44, M45, e46, h⟩ := bNs h
  refine cX0_154 (pc := 266) (st := []) (st1 := [vI r44]) C rfl (rm := { frames := 8, cells := 1, slots := 6, locals := 138 }) (ct_X0_unit C.2.1 v1 v3 M _ _ hv1 hv3 e46) ⟨by decide, by decide, Nat.le_trans (show cb + 1 ≤ cb + 14 from by omega) hR.1, Nat.le_trans (show sb + 6 ≤ sb + 3829 from by omega) hR.2⟩ rfl (Nat.le_of_ble_eq_true rfl) dL_law_266 (c2 := cb + 1) (s2 := sb + 6) rfl rfl (fun x47 => ?_)
  have k48 := x47 _ 1 (by decide) (Or.inl (by decide)) hv1
  have k49 := x47 _ 5 (by decide) (Or.inl (by decide)) hv2
  have k50 := x47 _ 19000 (by decide) (Or.inr (by decide)) hv3
  refine z_istore (pc := 269) C (lv' := [(0, .ref v0), (1, .ref v1), (2, .ref v2), (3, .ref v3), (4, vI v4), (5, vI r44)]) (by decide) rfl dL_law_269 ?_
  refine z_aload_n (pc := 271) C 2 rfl dL_law_271 ?_
  obtain ⟨r51, M52, e53, h⟩ := bNs h
  refine cX0_157 (pc := 272) (st := []) (st1 := [vI r51]) C rfl (rm := { frames := 2, cells := 0, slots := 0, locals := 49 }) (ct_X5_unit C.2.1 v2 M45 _ _ k49 e53) ⟨by decide, by decide, Nat.le_trans (show cb + 1 ≤ cb + 14 from by omega) hR.1, Nat.le_trans (show sb + 6 ≤ sb + 3829 from by omega) hR.2⟩ (Or.inl k49) rfl (Nat.le_of_ble_eq_true rfl) dL_law_272 (c2 := cb + 1) (s2 := sb + 6) rfl rfl (fun x54 => ?_)
  have k55 := x54 _ 1 (by decide) (Or.inl (by decide)) k48
  have k56 := x54 _ 5 (by decide) (Or.inl (by decide)) k49
  have k57 := x54 _ 19000 (by decide) (Or.inr (by decide)) k50
  refine z_istore (pc := 275) C (lv' := [(0, .ref v0), (1, .ref v1), (2, .ref v2), (3, .ref v3), (4, vI v4), (5, vI r44), (6, vI r51)]) (by decide) rfl dL_law_275 ?_
  refine z_aload_n (pc := 277) C 2 rfl dL_law_277 ?_
  refine cX0_151 (pc := 278) (st := []) (st1 := [vI (d_X5_thrown v2 M52)]) C rfl (rm := { frames := 1, cells := 0, slots := 0, locals := 24 }) (ct_X5_thrown C.2.1 v2 M52 _ k56 rfl) ⟨by decide, by decide, Nat.le_trans (show cb + 1 ≤ cb + 14 from by omega) hR.1, Nat.le_trans (show sb + 6 ≤ sb + 3829 from by omega) hR.2⟩ (Or.inl k56) rfl (Nat.le_of_ble_eq_true rfl) dL_law_278 (c2 := cb + 1) (s2 := sb + 6) rfl rfl (fun _ => ?_)
  refine z_iload (pc := 281) C 5 rfl dL_law_281 ?_
  refine z_ic_eq (pc := 283) C dL_law_283 (tgt := 288) (by decide) (fun c59 => ?_) (fun c59 => ?_)
  · have h := itt c59 h
    refine z_iload (pc := 288) C 5 rfl dL_law_288 ?_
    refine z_if_ne (pc := 290) C dL_law_290 (tgt := 305) (by decide) (fun c60 => ?_) (fun c60 => ?_)
    · have h := itf c60 h
      refine z_goto (pc := 305) C dL_law_305 (tgt := 3074) (by decide) ?_
      exact z_wide (show cb + 1 ≤ cb + 14 from by omega) (show sb + 6 ≤ sb + 3829 from by omega) <| z_lv [0, 1, 2, 3, 4] rfl <| cB_L_law_3074 C hk23 v0 v1 v2 v3 v4 M52 _ _ hv0 k55 k56 k57 h hR
    · have h := itt c60 h
      refine z_aload_n (pc := 293) C 3 rfl dL_law_293 ?_
      refine z_iconst (pc := 294) C dL_law_294 ?_
      refine z_law (pc := 295) C k57 (by decide +kernel) dL_law_295 ?_
      refine z_iload (pc := 296) C 6 rfl dL_law_296 ?_
      refine z_i2l (pc := 298) C dL_law_298 ?_
      refine z_lc_eq (pc := 299) C dL_law_299 dL_law_300 (tgt := 305) (by decide) (fun c61 => ?_) (fun c61 => ?_)
      · have h := itt c61 h
        refine z_goto (pc := 305) C dL_law_305 (tgt := 3074) (by decide) ?_
        exact z_wide (show cb + 1 ≤ cb + 14 from by omega) (show sb + 6 ≤ sb + 3829 from by omega) <| z_lv [0, 1, 2, 3, 4] rfl <| cB_L_law_3074 C hk23 v0 v1 v2 v3 v4 M52 _ _ hv0 k55 k56 k57 h hR
      · have h := itf c61 h
        refine z_iconst (pc := 303) C dL_law_303 ?_
        cases h
        exact z_zret (pc := 304) C rfl (Or.inl rfl) (Nat.le_trans (show cb + 1 ≤ cb + 14 from by omega) hR.1) (Nat.le_trans (show sb + 6 ≤ sb + 3829 from by omega) hR.2) dL_law_304
  · have h := itf c59 h
    refine z_iconst (pc := 286) C dL_law_286 ?_
    cases h
    exact z_zret (pc := 287) C rfl (Or.inl rfl) (Nat.le_trans (show cb + 1 ≤ cb + 14 from by omega) hR.1) (Nat.le_trans (show sb + 6 ≤ sb + 3829 from by omega) hR.2) dL_law_287
theorem cB_L_law_308 {X : x_Ctx} {M0 : Mem} {L : Nat} {xs : Nat → Int32} {cb sb : Nat} (C : x_CC X 108 3296 yL_law cL_law 7 (some .boolean) []) {k23 : Nat → Nat → Nat → Nat → Int → Mem → Option (Int × Mem)} (hk23 : ∀ (v0 : Nat) (v1 : Nat) (v2 : Nat) (v3 : Nat) (v4 : Int) (M : Mem) (r : Int) (M' : Mem), (va_X v0 L xs (XS X) (XS X).heap ∧ L < 2 ^ 31) → m_kd M v1 = 1 → m_kd M v2 = 5 → m_kd M v3 = 19000 → k23 v0 v1 v2 v3 v4 M = some (r, M') → cb + 14 ≤ (XR X).cells ∧ sb + 3829 ≤ (XR X).slots → x_Z X (cb + 14) (sb + 3829) (x_QF X M0 (.returned (some (vI r))) M' (XR X).cells (XR X).slots) M0 M 7 [(0, .ref v0), (1, .ref v1), (2, .ref v2), (3, .ref v3), (4, vI v4)] 23 []) (v0 : Nat) (v1 : Nat) (v2 : Nat) (v3 : Nat) (v4 : Int) (M : Mem) (r : Int) (M' : Mem) (hv0 : (va_X v0 L xs (XS X) (XS X).heap ∧ L < 2 ^ 31)) (hv1 : m_kd M v1 = 1) (hv2 : m_kd M v2 = 5) (hv3 : m_kd M v3 = 19000) (h : B_L_law_308 L xs k23 v0 v1 v2 v3 v4 M = some (r, M')) (hR : cb + 14 ≤ (XR X).cells ∧ sb + 3829 ≤ (XR X).slots) : x_Z X (cb + 0) (sb + 0) (x_QF X M0 (.returned (some (vI r))) M' (XR X).cells (XR X).slots) M0 M 7 [(0, .ref v0), (1, .ref v1), (2, .ref v2), (3, .ref v3), (4, vI v4)] 308 [] := by
  unfold B_L_law_308 at h
  refine z_aload_n (pc := 308) C 1 rfl dL_law_308 ?_
  refine z_aload_n (pc := 309) C 0 rfl dL_law_309 ?_
  refine z_iload (pc := 310) C 4 rfl dL_law_310 ?_
  refine z_iconst (pc := 312) C dL_law_312 ?_
  refine z_iadd (pc := 313) C dL_law_313 ?_
  obtain ⟨c63, h⟩ := ifn h
  refine z_sld (pc := 314) C hv0.1 c63 dL_law_314 ?_
  refine z_aload_n (pc := 315) C 0 rfl dL_law_315 ?_
  refine z_iload (pc := 316) C 4 rfl dL_law_316 ?_
  refine z_iconst (pc := 318) C dL_law_318 ?_
  refine z_iadd (pc := 319) C dL_law_319 ?_
  obtain ⟨c64, h⟩ := ifn h
  refine z_sld (pc := 320) C hv0.1 c64 dL_law_320 ?_
  refine z_aload_n (pc := 321) C 0 rfl dL_law_321 ?_
  refine z_iload (pc := 322) C 4 rfl dL_law_322 ?_
  refine z_iconst (pc := 324) C dL_law_324 ?_
  refine z_iadd (pc := 325) C dL_law_325 ?_
  obtain ⟨c65, h⟩ := ifn h
  refine z_sld (pc := 326) C hv0.1 c65 dL_law_326 ?_
  refine z_aload_n (pc := 327) C 0 rfl dL_law_327 ?_
  refine z_iload (pc := 328) C 4 rfl dL_law_328 ?_
  refine z_iconst (pc := 330) C dL_law_330 ?_
  refine z_iadd (pc := 331) C dL_law_331 ?_
  obtain ⟨c66, h⟩ := ifn h
  refine z_sld (pc := 332) C hv0.1 c66 dL_law_332 ?_
  refine z_aload_n (pc := 333) C 3 rfl dL_law_333 ?_
  obtain ⟨r67, M68, e69, h⟩ := bNs h
  refine cX0_158 (pc := 334) (st := []) (st1 := [vI r67]) C rfl (rm := { frames := 9, cells := 1, slots := 6, locals := 168 }) (ct_X0_tell C.2.1 v1 ((xs (ixn (v4 + 1))).toInt) ((xs (ixn (v4 + 2))).toInt) ((xs (ixn (v4 + 3))).toInt) ((xs (ixn (v4 + 4))).toInt) v3 M _ _ hv1 hv3 e69) ⟨by decide, by decide, Nat.le_trans (show cb + 1 ≤ cb + 14 from by omega) hR.1, Nat.le_trans (show sb + 6 ≤ sb + 3829 from by omega) hR.2⟩ rfl (Nat.le_of_ble_eq_true rfl) dL_law_334 (c2 := cb + 1) (s2 := sb + 6) rfl rfl (fun x70 => ?_)
  have k71 := x70 _ 1 (by decide) (Or.inl (by decide)) hv1
  have k72 := x70 _ 5 (by decide) (Or.inl (by decide)) hv2
  have k73 := x70 _ 19000 (by decide) (Or.inr (by decide)) hv3
  refine z_istore (pc := 337) C (lv' := [(0, .ref v0), (1, .ref v1), (2, .ref v2), (3, .ref v3), (4, vI v4), (5, vI r67)]) (by decide) rfl dL_law_337 ?_
  refine z_aload_n (pc := 339) C 2 rfl dL_law_339 ?_
  refine z_aload_n (pc := 340) C 0 rfl dL_law_340 ?_
  refine z_iload (pc := 341) C 4 rfl dL_law_341 ?_
  refine z_iconst (pc := 343) C dL_law_343 ?_
  refine z_iadd (pc := 344) C dL_law_344 ?_
  refine z_sld (pc := 345) C hv0.1 c63 dL_law_345 ?_
  refine z_aload_n (pc := 346) C 0 rfl dL_law_346 ?_
  refine z_iload (pc := 347) C 4 rfl dL_law_347 ?_
  refine z_iconst (pc := 349) C dL_law_349 ?_
  refine z_iadd (pc := 350) C dL_law_350 ?_
  refine z_sld (pc := 351) C hv0.1 c64 dL_law_351 ?_
  refine z_aload_n (pc := 352) C 0 rfl dL_law_352 ?_
  refine z_iload (pc := 353) C 4 rfl dL_law_353 ?_
  refine z_iconst (pc := 355) C dL_law_355 ?_
  refine z_iadd (pc := 356) C dL_law_356 ?_
  refine z_sld (pc := 357) C hv0.1 c65 dL_law_357 ?_
  refine z_aload_n (pc := 358) C 0 rfl dL_law_358 ?_
  refine z_iload (pc := 359) C 4 rfl dL_law_359 ?_
  refine z_iconst (pc := 361) C dL_law_361 ?_
  refine z_iadd (pc := 362) C dL_law_362 ?_
  refine z_sld (pc := 363) C hv0.1 c66 dL_law_363 ?_
  obtain ⟨r74, M75, e76, h⟩ := bNs h
  refine cX0_161 (pc := 364) (st := []) (st1 := [vI r74]) C rfl (rm := { frames := 3, cells := 0, slots := 0, locals := 78 }) (ct_X5_tell C.2.1 v2 ((xs (ixn (v4 + 1))).toInt) ((xs (ixn (v4 + 2))).toInt) ((xs (ixn (v4 + 3))).toInt) ((xs (ixn (v4 + 4))).toInt) M68 _ _ k72 e76) ⟨by decide, by decide, Nat.le_trans (show cb + 1 ≤ cb + 14 from by omega) hR.1, Nat.le_trans (show sb + 6 ≤ sb + 3829 from by omega) hR.2⟩ (Or.inl k72) rfl (Nat.le_of_ble_eq_true rfl) dL_law_364 (c2 := cb + 1) (s2 := sb + 6) rfl rfl (fun x77 => ?_)
  have k78 := x77 _ 1 (by decide) (Or.inl (by decide)) k71
  have k79 := x77 _ 5 (by decide) (Or.inl (by decide)) k72
  have k80 := x77 _ 19000 (by decide) (Or.inr (by decide)) k73
  refine z_istore (pc := 367) C (lv' := [(0, .ref v0), (1, .ref v1), (2, .ref v2), (3, .ref v3), (4, vI v4), (5, vI r67), (6, vI r74)]) (by decide) rfl dL_law_367 ?_
  refine z_aload_n (pc := 369) C 2 rfl dL_law_369 ?_
  refine cX0_151 (pc := 370) (st := []) (st1 := [vI (d_X5_thrown v2 M75)]) C rfl (rm := { frames := 1, cells := 0, slots := 0, locals := 24 }) (ct_X5_thrown C.2.1 v2 M75 _ k79 rfl) ⟨by decide, by decide, Nat.le_trans (show cb + 1 ≤ cb + 14 from by omega) hR.1, Nat.le_trans (show sb + 6 ≤ sb + 3829 from by omega) hR.2⟩ (Or.inl k79) rfl (Nat.le_of_ble_eq_true rfl) dL_law_370 (c2 := cb + 1) (s2 := sb + 6) rfl rfl (fun _ => ?_)
  refine z_iload (pc := 373) C 5 rfl dL_law_373 ?_
  refine z_ic_eq (pc := 375) C dL_law_375 (tgt := 380) (by decide) (fun c82 => ?_) (fun c82 => ?_)
  · have h := itt c82 h
    refine z_iload (pc := 380) C 5 rfl dL_law_380 ?_
    refine z_if_ne (pc := 382) C dL_law_382 (tgt := 397) (by decide) (fun c83 => ?_) (fun c83 => ?_)
    · have h := itf c83 h
      refine z_goto (pc := 397) C dL_law_397 (tgt := 3074) (by decide) ?_
      exact z_wide (show cb + 1 ≤ cb + 14 from by omega) (show sb + 6 ≤ sb + 3829 from by omega) <| z_lv [0, 1, 2, 3, 4] rfl <| cB_L_law_3074 C hk23 v0 v1 v2 v3 v4 M75 _ _ hv0 k78 k79 k80 h hR
    · have h := itt c83 h
      refine z_aload_n (pc := 385) C 3 rfl dL_law_385 ?_
      refine z_iconst (pc := 386) C dL_law_386 ?_
      refine z_law (pc := 387) C k80 (by decide +kernel) dL_law_387 ?_
      refine z_iload (pc := 388) C 6 rfl dL_law_388 ?_
      refine z_i2l (pc := 390) C dL_law_390 ?_
      refine z_lc_eq (pc := 391) C dL_law_391 dL_law_392 (tgt := 397) (by decide) (fun c84 => ?_) (fun c84 => ?_)
      · have h := itt c84 h
        refine z_goto (pc := 397) C dL_law_397 (tgt := 3074) (by decide) ?_
        exact z_wide (show cb + 1 ≤ cb + 14 from by omega) (show sb + 6 ≤ sb + 3829 from by omega) <| z_lv [0, 1, 2, 3, 4] rfl <| cB_L_law_3074 C hk23 v0 v1 v2 v3 v4 M75 _ _ hv0 k78 k79 k80 h hR
      · have h := itf c84 h
        refine z_iconst (pc := 395) C dL_law_395 ?_
        cases h
        exact z_zret (pc := 396) C rfl (Or.inl rfl) (Nat.le_trans (show cb + 1 ≤ cb + 14 from by omega) hR.1) (Nat.le_trans (show sb + 6 ≤ sb + 3829 from by omega) hR.2) dL_law_396
  · have h := itf c82 h
    refine z_iconst (pc := 378) C dL_law_378 ?_
    cases h
    exact z_zret (pc := 379) C rfl (Or.inl rfl) (Nat.le_trans (show cb + 1 ≤ cb + 14 from by omega) hR.1) (Nat.le_trans (show sb + 6 ≤ sb + 3829 from by omega) hR.2) dL_law_379
theorem cB_L_law_400 {X : x_Ctx} {M0 : Mem} {L : Nat} {xs : Nat → Int32} {cb sb : Nat} (C : x_CC X 108 3296 yL_law cL_law 7 (some .boolean) []) {k23 : Nat → Nat → Nat → Nat → Int → Mem → Option (Int × Mem)} (hk23 : ∀ (v0 : Nat) (v1 : Nat) (v2 : Nat) (v3 : Nat) (v4 : Int) (M : Mem) (r : Int) (M' : Mem), (va_X v0 L xs (XS X) (XS X).heap ∧ L < 2 ^ 31) → m_kd M v1 = 1 → m_kd M v2 = 5 → m_kd M v3 = 19000 → k23 v0 v1 v2 v3 v4 M = some (r, M') → cb + 14 ≤ (XR X).cells ∧ sb + 3829 ≤ (XR X).slots → x_Z X (cb + 14) (sb + 3829) (x_QF X M0 (.returned (some (vI r))) M' (XR X).cells (XR X).slots) M0 M 7 [(0, .ref v0), (1, .ref v1), (2, .ref v2), (3, .ref v3), (4, vI v4)] 23 []) (v0 : Nat) (v1 : Nat) (v2 : Nat) (v3 : Nat) (v4 : Int) (M : Mem) (r : Int) (M' : Mem) (hv0 : (va_X v0 L xs (XS X) (XS X).heap ∧ L < 2 ^ 31)) (hv1 : m_kd M v1 = 1) (hv2 : m_kd M v2 = 5) (hv3 : m_kd M v3 = 19000) (h : B_L_law_400 L xs k23 v0 v1 v2 v3 v4 M = some (r, M')) (hR : cb + 14 ≤ (XR X).cells ∧ sb + 3829 ≤ (XR X).slots) : x_Z X (cb + 0) (sb + 0) (x_QF X M0 (.returned (some (vI r))) M' (XR X).cells (XR X).slots) M0 M 7 [(0, .ref v0), (1, .ref v1), (2, .ref v2), (3, .ref v3), (4, vI v4)] 400 [] := by
  unfold B_L_law_400 at h
  refine z_aload_n (pc := 400) C 1 rfl dL_law_400 ?_
  refine z_aload_n (pc := 401) C 0 rfl dL_law_401 ?_
  refine z_iload (pc := 402) C 4 rfl dL_law_402 ?_
  refine z_iconst (pc := 404) C dL_law_404 ?_
  refine z_iadd (pc := 405) C dL_law_405 ?_
  obtain ⟨c86, h⟩ := ifn h
  refine z_sld (pc := 406) C hv0.1 c86 dL_law_406 ?_
  refine z_aload_n (pc := 407) C 0 rfl dL_law_407 ?_
  refine z_iload (pc := 408) C 4 rfl dL_law_408 ?_
  refine z_iconst (pc := 410) C dL_law_410 ?_
  refine z_iadd (pc := 411) C dL_law_411 ?_
  obtain ⟨c87, h⟩ := ifn h
  refine z_sld (pc := 412) C hv0.1 c87 dL_law_412 ?_
  refine z_aload_n (pc := 413) C 3 rfl dL_law_413 ?_
  obtain ⟨r88, M89, e90, h⟩ := bNs h
  refine cX0_162 (pc := 414) (st := []) (st1 := [vI r88]) C rfl (rm := { frames := 9, cells := 1, slots := 6, locals := 166 }) (ct_X0_merge C.2.1 v1 ((xs (ixn (v4 + 1))).toInt) ((xs (ixn (v4 + 2))).toInt) v3 M _ _ hv1 hv3 e90) ⟨by decide, by decide, Nat.le_trans (show cb + 1 ≤ cb + 14 from by omega) hR.1, Nat.le_trans (show sb + 6 ≤ sb + 3829 from by omega) hR.2⟩ rfl (Nat.le_of_ble_eq_true rfl) dL_law_414 (c2 := cb + 1) (s2 := sb + 6) rfl rfl (fun x91 => ?_)
  have k92 := x91 _ 1 (by decide) (Or.inl (by decide)) hv1
  have k93 := x91 _ 5 (by decide) (Or.inl (by decide)) hv2
  have k94 := x91 _ 19000 (by decide) (Or.inr (by decide)) hv3
  refine z_istore (pc := 417) C (lv' := [(0, .ref v0), (1, .ref v1), (2, .ref v2), (3, .ref v3), (4, vI v4), (5, vI r88)]) (by decide) rfl dL_law_417 ?_
  refine z_aload_n (pc := 419) C 2 rfl dL_law_419 ?_
  refine z_aload_n (pc := 420) C 0 rfl dL_law_420 ?_
  refine z_iload (pc := 421) C 4 rfl dL_law_421 ?_
  refine z_iconst (pc := 423) C dL_law_423 ?_
  refine z_iadd (pc := 424) C dL_law_424 ?_
  refine z_sld (pc := 425) C hv0.1 c86 dL_law_425 ?_
  refine z_aload_n (pc := 426) C 0 rfl dL_law_426 ?_
  refine z_iload (pc := 427) C 4 rfl dL_law_427 ?_
  refine z_iconst (pc := 429) C dL_law_429 ?_
  refine z_iadd (pc := 430) C dL_law_430 ?_
  refine z_sld (pc := 431) C hv0.1 c87 dL_law_431 ?_
  obtain ⟨r95, M96, e97, h⟩ := bNs h
  refine cX0_165 (pc := 432) (st := []) (st1 := [vI r95]) C rfl (rm := { frames := 3, cells := 0, slots := 0, locals := 78 }) (ct_X5_merge C.2.1 v2 ((xs (ixn (v4 + 1))).toInt) ((xs (ixn (v4 + 2))).toInt) M89 _ _ k93 e97) ⟨by decide, by decide, Nat.le_trans (show cb + 1 ≤ cb + 14 from by omega) hR.1, Nat.le_trans (show sb + 6 ≤ sb + 3829 from by omega) hR.2⟩ (Or.inl k93) rfl (Nat.le_of_ble_eq_true rfl) dL_law_432 (c2 := cb + 1) (s2 := sb + 6) rfl rfl (fun x98 => ?_)
  have k99 := x98 _ 1 (by decide) (Or.inl (by decide)) k92
  have k100 := x98 _ 5 (by decide) (Or.inl (by decide)) k93
  have k101 := x98 _ 19000 (by decide) (Or.inr (by decide)) k94
  refine z_istore (pc := 435) C (lv' := [(0, .ref v0), (1, .ref v1), (2, .ref v2), (3, .ref v3), (4, vI v4), (5, vI r88), (6, vI r95)]) (by decide) rfl dL_law_435 ?_
  refine z_aload_n (pc := 437) C 2 rfl dL_law_437 ?_
  refine cX0_151 (pc := 438) (st := []) (st1 := [vI (d_X5_thrown v2 M96)]) C rfl (rm := { frames := 1, cells := 0, slots := 0, locals := 24 }) (ct_X5_thrown C.2.1 v2 M96 _ k100 rfl) ⟨by decide, by decide, Nat.le_trans (show cb + 1 ≤ cb + 14 from by omega) hR.1, Nat.le_trans (show sb + 6 ≤ sb + 3829 from by omega) hR.2⟩ (Or.inl k100) rfl (Nat.le_of_ble_eq_true rfl) dL_law_438 (c2 := cb + 1) (s2 := sb + 6) rfl rfl (fun _ => ?_)
  refine z_iload (pc := 441) C 5 rfl dL_law_441 ?_
  refine z_ic_eq (pc := 443) C dL_law_443 (tgt := 448) (by decide) (fun c103 => ?_) (fun c103 => ?_)
  · have h := itt c103 h
    refine z_iload (pc := 448) C 5 rfl dL_law_448 ?_
    refine z_if_ne (pc := 450) C dL_law_450 (tgt := 465) (by decide) (fun c104 => ?_) (fun c104 => ?_)
    · have h := itf c104 h
      refine z_goto (pc := 465) C dL_law_465 (tgt := 3074) (by decide) ?_
      exact z_wide (show cb + 1 ≤ cb + 14 from by omega) (show sb + 6 ≤ sb + 3829 from by omega) <| z_lv [0, 1, 2, 3, 4] rfl <| cB_L_law_3074 C hk23 v0 v1 v2 v3 v4 M96 _ _ hv0 k99 k100 k101 h hR
    · have h := itt c104 h
      refine z_aload_n (pc := 453) C 3 rfl dL_law_453 ?_
      refine z_iconst (pc := 454) C dL_law_454 ?_
      refine z_law (pc := 455) C k101 (by decide +kernel) dL_law_455 ?_
      refine z_iload (pc := 456) C 6 rfl dL_law_456 ?_
      refine z_i2l (pc := 458) C dL_law_458 ?_
      refine z_lc_eq (pc := 459) C dL_law_459 dL_law_460 (tgt := 465) (by decide) (fun c105 => ?_) (fun c105 => ?_)
      · have h := itt c105 h
        refine z_goto (pc := 465) C dL_law_465 (tgt := 3074) (by decide) ?_
        exact z_wide (show cb + 1 ≤ cb + 14 from by omega) (show sb + 6 ≤ sb + 3829 from by omega) <| z_lv [0, 1, 2, 3, 4] rfl <| cB_L_law_3074 C hk23 v0 v1 v2 v3 v4 M96 _ _ hv0 k99 k100 k101 h hR
      · have h := itf c105 h
        refine z_iconst (pc := 463) C dL_law_463 ?_
        cases h
        exact z_zret (pc := 464) C rfl (Or.inl rfl) (Nat.le_trans (show cb + 1 ≤ cb + 14 from by omega) hR.1) (Nat.le_trans (show sb + 6 ≤ sb + 3829 from by omega) hR.2) dL_law_464
  · have h := itf c103 h
    refine z_iconst (pc := 446) C dL_law_446 ?_
    cases h
    exact z_zret (pc := 447) C rfl (Or.inl rfl) (Nat.le_trans (show cb + 1 ≤ cb + 14 from by omega) hR.1) (Nat.le_trans (show sb + 6 ≤ sb + 3829 from by omega) hR.2) dL_law_447
theorem cB_L_law_468 {X : x_Ctx} {M0 : Mem} {L : Nat} {xs : Nat → Int32} {cb sb : Nat} (C : x_CC X 108 3296 yL_law cL_law 7 (some .boolean) []) {k23 : Nat → Nat → Nat → Nat → Int → Mem → Option (Int × Mem)} (hk23 : ∀ (v0 : Nat) (v1 : Nat) (v2 : Nat) (v3 : Nat) (v4 : Int) (M : Mem) (r : Int) (M' : Mem), (va_X v0 L xs (XS X) (XS X).heap ∧ L < 2 ^ 31) → m_kd M v1 = 1 → m_kd M v2 = 5 → m_kd M v3 = 19000 → k23 v0 v1 v2 v3 v4 M = some (r, M') → cb + 14 ≤ (XR X).cells ∧ sb + 3829 ≤ (XR X).slots → x_Z X (cb + 14) (sb + 3829) (x_QF X M0 (.returned (some (vI r))) M' (XR X).cells (XR X).slots) M0 M 7 [(0, .ref v0), (1, .ref v1), (2, .ref v2), (3, .ref v3), (4, vI v4)] 23 []) (v0 : Nat) (v1 : Nat) (v2 : Nat) (v3 : Nat) (v4 : Int) (M : Mem) (r : Int) (M' : Mem) (hv0 : (va_X v0 L xs (XS X) (XS X).heap ∧ L < 2 ^ 31)) (hv1 : m_kd M v1 = 1) (hv2 : m_kd M v2 = 5) (hv3 : m_kd M v3 = 19000) (h : B_L_law_468 L xs k23 v0 v1 v2 v3 v4 M = some (r, M')) (hR : cb + 14 ≤ (XR X).cells ∧ sb + 3829 ≤ (XR X).slots) : x_Z X (cb + 0) (sb + 0) (x_QF X M0 (.returned (some (vI r))) M' (XR X).cells (XR X).slots) M0 M 7 [(0, .ref v0), (1, .ref v1), (2, .ref v2), (3, .ref v3), (4, vI v4)] 468 [] := by
  unfold B_L_law_468 at h
  refine z_aload_n (pc := 468) C 1 rfl dL_law_468 ?_
  refine z_aload_n (pc := 469) C 0 rfl dL_law_469 ?_
  refine z_iload (pc := 470) C 4 rfl dL_law_470 ?_
  refine z_iconst (pc := 472) C dL_law_472 ?_
  refine z_iadd (pc := 473) C dL_law_473 ?_
  obtain ⟨c107, h⟩ := ifn h
  refine z_sld (pc := 474) C hv0.1 c107 dL_law_474 ?_
  refine z_aload_n (pc := 475) C 0 rfl dL_law_475 ?_
  refine z_iload (pc := 476) C 4 rfl dL_law_476 ?_
  refine z_iconst (pc := 478) C dL_law_478 ?_
  refine z_iadd (pc := 479) C dL_law_479 ?_
  obtain ⟨c108, h⟩ := ifn h
  refine z_sld (pc := 480) C hv0.1 c108 dL_law_480 ?_
  refine z_aload_n (pc := 481) C 0 rfl dL_law_481 ?_
  refine z_iload (pc := 482) C 4 rfl dL_law_482 ?_
  refine z_iconst (pc := 484) C dL_law_484 ?_
  refine z_iadd (pc := 485) C dL_law_485 ?_
  obtain ⟨c109, h⟩ := ifn h
  refine z_sld (pc := 486) C hv0.1 c109 dL_law_486 ?_
  refine z_aload_n (pc := 487) C 0 rfl dL_law_487 ?_
  refine z_iload (pc := 488) C 4 rfl dL_law_488 ?_
  refine z_iconst (pc := 490) C dL_law_490 ?_
  refine z_iadd (pc := 491) C dL_law_491 ?_
  obtain ⟨c110, h⟩ := ifn h
  refine z_sld (pc := 492) C hv0.1 c110 dL_law_492 ?_
  refine z_aload_n (pc := 493) C 3 rfl dL_law_493 ?_
  obtain ⟨r111, M112, e113, h⟩ := bNs h
  refine cX0_166 (pc := 494) (st := []) (st1 := [vI r111]) C rfl (rm := { frames := 9, cells := 1, slots := 6, locals := 167 }) (ct_X0_value C.2.1 v1 ((xs (ixn (v4 + 1))).toInt) ((xs (ixn (v4 + 2))).toInt) ((xs (ixn (v4 + 3))).toInt) ((xs (ixn (v4 + 4))).toInt) v3 M _ _ hv1 hv3 e113) ⟨by decide, by decide, Nat.le_trans (show cb + 1 ≤ cb + 14 from by omega) hR.1, Nat.le_trans (show sb + 6 ≤ sb + 3829 from by omega) hR.2⟩ rfl (Nat.le_of_ble_eq_true rfl) dL_law_494 (c2 := cb + 1) (s2 := sb + 6) rfl rfl (fun x114 => ?_)
  have k115 := x114 _ 1 (by decide) (Or.inl (by decide)) hv1
  have k116 := x114 _ 5 (by decide) (Or.inl (by decide)) hv2
  have k117 := x114 _ 19000 (by decide) (Or.inr (by decide)) hv3
  refine z_istore (pc := 497) C (lv' := [(0, .ref v0), (1, .ref v1), (2, .ref v2), (3, .ref v3), (4, vI v4), (5, vI r111)]) (by decide) rfl dL_law_497 ?_
  refine z_aload_n (pc := 499) C 2 rfl dL_law_499 ?_
  refine z_aload_n (pc := 500) C 0 rfl dL_law_500 ?_
  refine z_iload (pc := 501) C 4 rfl dL_law_501 ?_
  refine z_iconst (pc := 503) C dL_law_503 ?_
  refine z_iadd (pc := 504) C dL_law_504 ?_
  refine z_sld (pc := 505) C hv0.1 c107 dL_law_505 ?_
  refine z_aload_n (pc := 506) C 0 rfl dL_law_506 ?_
  refine z_iload (pc := 507) C 4 rfl dL_law_507 ?_
  refine z_iconst (pc := 509) C dL_law_509 ?_
  refine z_iadd (pc := 510) C dL_law_510 ?_
  refine z_sld (pc := 511) C hv0.1 c108 dL_law_511 ?_
  refine z_aload_n (pc := 512) C 0 rfl dL_law_512 ?_
  refine z_iload (pc := 513) C 4 rfl dL_law_513 ?_
  refine z_iconst (pc := 515) C dL_law_515 ?_
  refine z_iadd (pc := 516) C dL_law_516 ?_
  refine z_sld (pc := 517) C hv0.1 c109 dL_law_517 ?_
  refine z_aload_n (pc := 518) C 0 rfl dL_law_518 ?_
  refine z_iload (pc := 519) C 4 rfl dL_law_519 ?_
  refine z_iconst (pc := 521) C dL_law_521 ?_
  refine z_iadd (pc := 522) C dL_law_522 ?_
  refine z_sld (pc := 523) C hv0.1 c110 dL_law_523 ?_
  obtain ⟨r118, M119, e120, h⟩ := bNs h
  refine cX0_168 (pc := 524) (st := []) (st1 := [vI r118]) C rfl (rm := { frames := 3, cells := 0, slots := 0, locals := 82 }) (ct_X5_value C.2.1 v2 ((xs (ixn (v4 + 1))).toInt) ((xs (ixn (v4 + 2))).toInt) ((xs (ixn (v4 + 3))).toInt) ((xs (ixn (v4 + 4))).toInt) M112 _ _ k116 e120) ⟨by decide, by decide, Nat.le_trans (show cb + 1 ≤ cb + 14 from by omega) hR.1, Nat.le_trans (show sb + 6 ≤ sb + 3829 from by omega) hR.2⟩ (Or.inl k116) rfl (Nat.le_of_ble_eq_true rfl) dL_law_524 (c2 := cb + 1) (s2 := sb + 6) rfl rfl (fun x121 => ?_)
  have k122 := x121 _ 1 (by decide) (Or.inl (by decide)) k115
  have k123 := x121 _ 5 (by decide) (Or.inl (by decide)) k116
  have k124 := x121 _ 19000 (by decide) (Or.inr (by decide)) k117
  refine z_istore (pc := 527) C (lv' := [(0, .ref v0), (1, .ref v1), (2, .ref v2), (3, .ref v3), (4, vI v4), (5, vI r111), (6, vI r118)]) (by decide) rfl dL_law_527 ?_
  refine z_aload_n (pc := 529) C 2 rfl dL_law_529 ?_
  refine cX0_151 (pc := 530) (st := []) (st1 := [vI (d_X5_thrown v2 M119)]) C rfl (rm := { frames := 1, cells := 0, slots := 0, locals := 24 }) (ct_X5_thrown C.2.1 v2 M119 _ k123 rfl) ⟨by decide, by decide, Nat.le_trans (show cb + 1 ≤ cb + 14 from by omega) hR.1, Nat.le_trans (show sb + 6 ≤ sb + 3829 from by omega) hR.2⟩ (Or.inl k123) rfl (Nat.le_of_ble_eq_true rfl) dL_law_530 (c2 := cb + 1) (s2 := sb + 6) rfl rfl (fun _ => ?_)
  refine z_iload (pc := 533) C 5 rfl dL_law_533 ?_
  refine z_ic_eq (pc := 535) C dL_law_535 (tgt := 540) (by decide) (fun c126 => ?_) (fun c126 => ?_)
  · have h := itt c126 h
    refine z_iload (pc := 540) C 5 rfl dL_law_540 ?_
    refine z_if_ne (pc := 542) C dL_law_542 (tgt := 557) (by decide) (fun c127 => ?_) (fun c127 => ?_)
    · have h := itf c127 h
      refine z_goto (pc := 557) C dL_law_557 (tgt := 3074) (by decide) ?_
      exact z_wide (show cb + 1 ≤ cb + 14 from by omega) (show sb + 6 ≤ sb + 3829 from by omega) <| z_lv [0, 1, 2, 3, 4] rfl <| cB_L_law_3074 C hk23 v0 v1 v2 v3 v4 M119 _ _ hv0 k122 k123 k124 h hR
    · have h := itt c127 h
      refine z_aload_n (pc := 545) C 3 rfl dL_law_545 ?_
      refine z_iconst (pc := 546) C dL_law_546 ?_
      refine z_law (pc := 547) C k124 (by decide +kernel) dL_law_547 ?_
      refine z_iload (pc := 548) C 6 rfl dL_law_548 ?_
      refine z_i2l (pc := 550) C dL_law_550 ?_
      refine z_lc_eq (pc := 551) C dL_law_551 dL_law_552 (tgt := 557) (by decide) (fun c128 => ?_) (fun c128 => ?_)
      · have h := itt c128 h
        refine z_goto (pc := 557) C dL_law_557 (tgt := 3074) (by decide) ?_
        exact z_wide (show cb + 1 ≤ cb + 14 from by omega) (show sb + 6 ≤ sb + 3829 from by omega) <| z_lv [0, 1, 2, 3, 4] rfl <| cB_L_law_3074 C hk23 v0 v1 v2 v3 v4 M119 _ _ hv0 k122 k123 k124 h hR
      · have h := itf c128 h
        refine z_iconst (pc := 555) C dL_law_555 ?_
        cases h
        exact z_zret (pc := 556) C rfl (Or.inl rfl) (Nat.le_trans (show cb + 1 ≤ cb + 14 from by omega) hR.1) (Nat.le_trans (show sb + 6 ≤ sb + 3829 from by omega) hR.2) dL_law_556
  · have h := itf c126 h
    refine z_iconst (pc := 538) C dL_law_538 ?_
    cases h
    exact z_zret (pc := 539) C rfl (Or.inl rfl) (Nat.le_trans (show cb + 1 ≤ cb + 14 from by omega) hR.1) (Nat.le_trans (show sb + 6 ≤ sb + 3829 from by omega) hR.2) dL_law_539
theorem cB_L_law_560 {X : x_Ctx} {M0 : Mem} {L : Nat} {xs : Nat → Int32} {cb sb : Nat} (C : x_CC X 108 3296 yL_law cL_law 7 (some .boolean) []) {k23 : Nat → Nat → Nat → Nat → Int → Mem → Option (Int × Mem)} (hk23 : ∀ (v0 : Nat) (v1 : Nat) (v2 : Nat) (v3 : Nat) (v4 : Int) (M : Mem) (r : Int) (M' : Mem), (va_X v0 L xs (XS X) (XS X).heap ∧ L < 2 ^ 31) → m_kd M v1 = 1 → m_kd M v2 = 5 → m_kd M v3 = 19000 → k23 v0 v1 v2 v3 v4 M = some (r, M') → cb + 14 ≤ (XR X).cells ∧ sb + 3829 ≤ (XR X).slots → x_Z X (cb + 14) (sb + 3829) (x_QF X M0 (.returned (some (vI r))) M' (XR X).cells (XR X).slots) M0 M 7 [(0, .ref v0), (1, .ref v1), (2, .ref v2), (3, .ref v3), (4, vI v4)] 23 []) (v0 : Nat) (v1 : Nat) (v2 : Nat) (v3 : Nat) (v4 : Int) (M : Mem) (r : Int) (M' : Mem) (hv0 : (va_X v0 L xs (XS X) (XS X).heap ∧ L < 2 ^ 31)) (hv1 : m_kd M v1 = 1) (hv2 : m_kd M v2 = 5) (hv3 : m_kd M v3 = 19000) (h : B_L_law_560 L xs k23 v0 v1 v2 v3 v4 M = some (r, M')) (hR : cb + 14 ≤ (XR X).cells ∧ sb + 3829 ≤ (XR X).slots) : x_Z X (cb + 0) (sb + 0) (x_QF X M0 (.returned (some (vI r))) M' (XR X).cells (XR X).slots) M0 M 7 [(0, .ref v0), (1, .ref v1), (2, .ref v2), (3, .ref v3), (4, vI v4)] 560 [] := by
  unfold B_L_law_560 at h
  refine z_aload_n (pc := 560) C 1 rfl dL_law_560 ?_
  refine z_aload_n (pc := 561) C 0 rfl dL_law_561 ?_
  refine z_iload (pc := 562) C 4 rfl dL_law_562 ?_
  refine z_iconst (pc := 564) C dL_law_564 ?_
  refine z_iadd (pc := 565) C dL_law_565 ?_
  obtain ⟨c130, h⟩ := ifn h
  refine z_sld (pc := 566) C hv0.1 c130 dL_law_566 ?_
  refine z_aload_n (pc := 567) C 3 rfl dL_law_567 ?_
  obtain ⟨r131, M132, e133, h⟩ := bNs h
  refine cX0_169 (pc := 568) (st := []) (st1 := [vI r131]) C rfl (rm := { frames := 9, cells := 1, slots := 6, locals := 164 }) (ct_X0_last C.2.1 v1 ((xs (ixn (v4 + 1))).toInt) v3 M _ _ hv1 hv3 e133) ⟨by decide, by decide, Nat.le_trans (show cb + 1 ≤ cb + 14 from by omega) hR.1, Nat.le_trans (show sb + 6 ≤ sb + 3829 from by omega) hR.2⟩ rfl (Nat.le_of_ble_eq_true rfl) dL_law_568 (c2 := cb + 1) (s2 := sb + 6) rfl rfl (fun x134 => ?_)
  have k135 := x134 _ 1 (by decide) (Or.inl (by decide)) hv1
  have k136 := x134 _ 5 (by decide) (Or.inl (by decide)) hv2
  have k137 := x134 _ 19000 (by decide) (Or.inr (by decide)) hv3
  refine z_istore (pc := 571) C (lv' := [(0, .ref v0), (1, .ref v1), (2, .ref v2), (3, .ref v3), (4, vI v4), (5, vI r131)]) (by decide) rfl dL_law_571 ?_
  refine z_aload_n (pc := 573) C 2 rfl dL_law_573 ?_
  refine z_aload_n (pc := 574) C 0 rfl dL_law_574 ?_
  refine z_iload (pc := 575) C 4 rfl dL_law_575 ?_
  refine z_iconst (pc := 577) C dL_law_577 ?_
  refine z_iadd (pc := 578) C dL_law_578 ?_
  refine z_sld (pc := 579) C hv0.1 c130 dL_law_579 ?_
  obtain ⟨r138, M139, e140, h⟩ := bNs h
  refine cX0_171 (pc := 580) (st := []) (st1 := [vI r138]) C rfl (rm := { frames := 3, cells := 0, slots := 0, locals := 78 }) (ct_X5_last C.2.1 v2 ((xs (ixn (v4 + 1))).toInt) M132 _ _ k136 e140) ⟨by decide, by decide, Nat.le_trans (show cb + 1 ≤ cb + 14 from by omega) hR.1, Nat.le_trans (show sb + 6 ≤ sb + 3829 from by omega) hR.2⟩ (Or.inl k136) rfl (Nat.le_of_ble_eq_true rfl) dL_law_580 (c2 := cb + 1) (s2 := sb + 6) rfl rfl (fun x141 => ?_)
  have k142 := x141 _ 1 (by decide) (Or.inl (by decide)) k135
  have k143 := x141 _ 5 (by decide) (Or.inl (by decide)) k136
  have k144 := x141 _ 19000 (by decide) (Or.inr (by decide)) k137
  refine z_istore (pc := 583) C (lv' := [(0, .ref v0), (1, .ref v1), (2, .ref v2), (3, .ref v3), (4, vI v4), (5, vI r131), (6, vI r138)]) (by decide) rfl dL_law_583 ?_
  refine z_aload_n (pc := 585) C 2 rfl dL_law_585 ?_
  refine cX0_151 (pc := 586) (st := []) (st1 := [vI (d_X5_thrown v2 M139)]) C rfl (rm := { frames := 1, cells := 0, slots := 0, locals := 24 }) (ct_X5_thrown C.2.1 v2 M139 _ k143 rfl) ⟨by decide, by decide, Nat.le_trans (show cb + 1 ≤ cb + 14 from by omega) hR.1, Nat.le_trans (show sb + 6 ≤ sb + 3829 from by omega) hR.2⟩ (Or.inl k143) rfl (Nat.le_of_ble_eq_true rfl) dL_law_586 (c2 := cb + 1) (s2 := sb + 6) rfl rfl (fun _ => ?_)
  refine z_iload (pc := 589) C 5 rfl dL_law_589 ?_
  refine z_ic_eq (pc := 591) C dL_law_591 (tgt := 596) (by decide) (fun c146 => ?_) (fun c146 => ?_)
  · have h := itt c146 h
    refine z_iload (pc := 596) C 5 rfl dL_law_596 ?_
    refine z_if_ne (pc := 598) C dL_law_598 (tgt := 613) (by decide) (fun c147 => ?_) (fun c147 => ?_)
    · have h := itf c147 h
      refine z_goto (pc := 613) C dL_law_613 (tgt := 3074) (by decide) ?_
      exact z_wide (show cb + 1 ≤ cb + 14 from by omega) (show sb + 6 ≤ sb + 3829 from by omega) <| z_lv [0, 1, 2, 3, 4] rfl <| cB_L_law_3074 C hk23 v0 v1 v2 v3 v4 M139 _ _ hv0 k142 k143 k144 h hR
    · have h := itt c147 h
      refine z_aload_n (pc := 601) C 3 rfl dL_law_601 ?_
      refine z_iconst (pc := 602) C dL_law_602 ?_
      refine z_law (pc := 603) C k144 (by decide +kernel) dL_law_603 ?_
      refine z_iload (pc := 604) C 6 rfl dL_law_604 ?_
      refine z_i2l (pc := 606) C dL_law_606 ?_
      refine z_lc_eq (pc := 607) C dL_law_607 dL_law_608 (tgt := 613) (by decide) (fun c148 => ?_) (fun c148 => ?_)
      · have h := itt c148 h
        refine z_goto (pc := 613) C dL_law_613 (tgt := 3074) (by decide) ?_
        exact z_wide (show cb + 1 ≤ cb + 14 from by omega) (show sb + 6 ≤ sb + 3829 from by omega) <| z_lv [0, 1, 2, 3, 4] rfl <| cB_L_law_3074 C hk23 v0 v1 v2 v3 v4 M139 _ _ hv0 k142 k143 k144 h hR
      · have h := itf c148 h
        refine z_iconst (pc := 611) C dL_law_611 ?_
        cases h
        exact z_zret (pc := 612) C rfl (Or.inl rfl) (Nat.le_trans (show cb + 1 ≤ cb + 14 from by omega) hR.1) (Nat.le_trans (show sb + 6 ≤ sb + 3829 from by omega) hR.2) dL_law_612
  · have h := itf c146 h
    refine z_iconst (pc := 594) C dL_law_594 ?_
    cases h
    exact z_zret (pc := 595) C rfl (Or.inl rfl) (Nat.le_trans (show cb + 1 ≤ cb + 14 from by omega) hR.1) (Nat.le_trans (show sb + 6 ≤ sb + 3829 from by omega) hR.2) dL_law_595
theorem cB_L_law_616 {X : x_Ctx} {M0 : Mem} {L : Nat} {xs : Nat → Int32} {cb sb : Nat} (C : x_CC X 108 3296 yL_law cL_law 7 (some .boolean) []) {k23 : Nat → Nat → Nat → Nat → Int → Mem → Option (Int × Mem)} (hk23 : ∀ (v0 : Nat) (v1 : Nat) (v2 : Nat) (v3 : Nat) (v4 : Int) (M : Mem) (r : Int) (M' : Mem), (va_X v0 L xs (XS X) (XS X).heap ∧ L < 2 ^ 31) → m_kd M v1 = 1 → m_kd M v2 = 5 → m_kd M v3 = 19000 → k23 v0 v1 v2 v3 v4 M = some (r, M') → cb + 14 ≤ (XR X).cells ∧ sb + 3829 ≤ (XR X).slots → x_Z X (cb + 14) (sb + 3829) (x_QF X M0 (.returned (some (vI r))) M' (XR X).cells (XR X).slots) M0 M 7 [(0, .ref v0), (1, .ref v1), (2, .ref v2), (3, .ref v3), (4, vI v4)] 23 []) (v0 : Nat) (v1 : Nat) (v2 : Nat) (v3 : Nat) (v4 : Int) (M : Mem) (r : Int) (M' : Mem) (hv0 : (va_X v0 L xs (XS X) (XS X).heap ∧ L < 2 ^ 31)) (hv1 : m_kd M v1 = 1) (hv2 : m_kd M v2 = 5) (hv3 : m_kd M v3 = 19000) (h : B_L_law_616 L xs k23 v0 v1 v2 v3 v4 M = some (r, M')) (hR : cb + 14 ≤ (XR X).cells ∧ sb + 3829 ≤ (XR X).slots) : x_Z X (cb + 0) (sb + 0) (x_QF X M0 (.returned (some (vI r))) M' (XR X).cells (XR X).slots) M0 M 7 [(0, .ref v0), (1, .ref v1), (2, .ref v2), (3, .ref v3), (4, vI v4)] 616 [] := by
  unfold B_L_law_616 at h
  refine z_aload_n (pc := 616) C 1 rfl dL_law_616 ?_
  refine z_aload_n (pc := 617) C 0 rfl dL_law_617 ?_
  refine z_iload (pc := 618) C 4 rfl dL_law_618 ?_
  refine z_iconst (pc := 620) C dL_law_620 ?_
  refine z_iadd (pc := 621) C dL_law_621 ?_
  obtain ⟨c150, h⟩ := ifn h
  refine z_sld (pc := 622) C hv0.1 c150 dL_law_622 ?_
  refine z_aload_n (pc := 623) C 0 rfl dL_law_623 ?_
  refine z_iload (pc := 624) C 4 rfl dL_law_624 ?_
  refine z_iconst (pc := 626) C dL_law_626 ?_
  refine z_iadd (pc := 627) C dL_law_627 ?_
  obtain ⟨c151, h⟩ := ifn h
  refine z_sld (pc := 628) C hv0.1 c151 dL_law_628 ?_
  refine z_aload_n (pc := 629) C 0 rfl dL_law_629 ?_
  refine z_iload (pc := 630) C 4 rfl dL_law_630 ?_
  refine z_iconst (pc := 632) C dL_law_632 ?_
  refine z_iadd (pc := 633) C dL_law_633 ?_
  obtain ⟨c152, h⟩ := ifn h
  refine z_sld (pc := 634) C hv0.1 c152 dL_law_634 ?_
  refine z_aload_n (pc := 635) C 0 rfl dL_law_635 ?_
  refine z_iload (pc := 636) C 4 rfl dL_law_636 ?_
  refine z_iconst (pc := 638) C dL_law_638 ?_
  refine z_iadd (pc := 639) C dL_law_639 ?_
  obtain ⟨c153, h⟩ := ifn h
  refine z_sld (pc := 640) C hv0.1 c153 dL_law_640 ?_
  refine z_aload_n (pc := 641) C 0 rfl dL_law_641 ?_
  refine z_iload (pc := 642) C 4 rfl dL_law_642 ?_
  refine z_iconst (pc := 644) C dL_law_644 ?_
  refine z_iadd (pc := 645) C dL_law_645 ?_
  obtain ⟨c154, h⟩ := ifn h
  refine z_sld (pc := 646) C hv0.1 c154 dL_law_646 ?_
  refine z_aload_n (pc := 647) C 3 rfl dL_law_647 ?_
  obtain ⟨r155, M156, e157, h⟩ := bNs h
  refine cX0_172 (pc := 648) (st := []) (st1 := [vI r155]) C rfl (rm := { frames := 8, cells := 1, slots := 6, locals := 145 }) (ct_X0_feed C.2.1 v1 ((xs (ixn (v4 + 1))).toInt) ((xs (ixn (v4 + 2))).toInt) ((xs (ixn (v4 + 3))).toInt) ((xs (ixn (v4 + 4))).toInt) ((xs (ixn (v4 + 5))).toInt) v3 M _ _ hv1 hv3 e157) ⟨by decide, by decide, Nat.le_trans (show cb + 1 ≤ cb + 14 from by omega) hR.1, Nat.le_trans (show sb + 6 ≤ sb + 3829 from by omega) hR.2⟩ rfl (Nat.le_of_ble_eq_true rfl) dL_law_648 (c2 := cb + 1) (s2 := sb + 6) rfl rfl (fun x158 => ?_)
  have k159 := x158 _ 1 (by decide) (Or.inl (by decide)) hv1
  have k160 := x158 _ 5 (by decide) (Or.inl (by decide)) hv2
  have k161 := x158 _ 19000 (by decide) (Or.inr (by decide)) hv3
  refine z_istore (pc := 651) C (lv' := [(0, .ref v0), (1, .ref v1), (2, .ref v2), (3, .ref v3), (4, vI v4), (5, vI r155)]) (by decide) rfl dL_law_651 ?_
  refine z_aload_n (pc := 653) C 2 rfl dL_law_653 ?_
  refine z_aload_n (pc := 654) C 0 rfl dL_law_654 ?_
  refine z_iload (pc := 655) C 4 rfl dL_law_655 ?_
  refine z_iconst (pc := 657) C dL_law_657 ?_
  refine z_iadd (pc := 658) C dL_law_658 ?_
  refine z_sld (pc := 659) C hv0.1 c150 dL_law_659 ?_
  refine z_aload_n (pc := 660) C 0 rfl dL_law_660 ?_
  refine z_iload (pc := 661) C 4 rfl dL_law_661 ?_
  refine z_iconst (pc := 663) C dL_law_663 ?_
  refine z_iadd (pc := 664) C dL_law_664 ?_
  refine z_sld (pc := 665) C hv0.1 c151 dL_law_665 ?_
  refine z_aload_n (pc := 666) C 0 rfl dL_law_666 ?_
  refine z_iload (pc := 667) C 4 rfl dL_law_667 ?_
  refine z_iconst (pc := 669) C dL_law_669 ?_
  refine z_iadd (pc := 670) C dL_law_670 ?_
  refine z_sld (pc := 671) C hv0.1 c152 dL_law_671 ?_
  refine z_aload_n (pc := 672) C 0 rfl dL_law_672 ?_
  refine z_iload (pc := 673) C 4 rfl dL_law_673 ?_
  refine z_iconst (pc := 675) C dL_law_675 ?_
  refine z_iadd (pc := 676) C dL_law_676 ?_
  refine z_sld (pc := 677) C hv0.1 c153 dL_law_677 ?_
  refine z_aload_n (pc := 678) C 0 rfl dL_law_678 ?_
  refine z_iload (pc := 679) C 4 rfl dL_law_679 ?_
  refine z_iconst (pc := 681) C dL_law_681 ?_
  refine z_iadd (pc := 682) C dL_law_682 ?_
  refine z_sld (pc := 683) C hv0.1 c154 dL_law_683 ?_
  obtain ⟨r162, M163, e164, h⟩ := bNs h
  refine cX0_175 (pc := 684) (st := []) (st1 := [vI r162]) C rfl (rm := { frames := 2, cells := 0, slots := 0, locals := 49 }) (ct_X5_feed C.2.1 v2 ((xs (ixn (v4 + 1))).toInt) ((xs (ixn (v4 + 2))).toInt) ((xs (ixn (v4 + 3))).toInt) ((xs (ixn (v4 + 4))).toInt) ((xs (ixn (v4 + 5))).toInt) M156 _ _ k160 e164) ⟨by decide, by decide, Nat.le_trans (show cb + 1 ≤ cb + 14 from by omega) hR.1, Nat.le_trans (show sb + 6 ≤ sb + 3829 from by omega) hR.2⟩ (Or.inl k160) rfl (Nat.le_of_ble_eq_true rfl) dL_law_684 (c2 := cb + 1) (s2 := sb + 6) rfl rfl (fun x165 => ?_)
  have k166 := x165 _ 1 (by decide) (Or.inl (by decide)) k159
  have k167 := x165 _ 5 (by decide) (Or.inl (by decide)) k160
  have k168 := x165 _ 19000 (by decide) (Or.inr (by decide)) k161
  refine z_istore (pc := 687) C (lv' := [(0, .ref v0), (1, .ref v1), (2, .ref v2), (3, .ref v3), (4, vI v4), (5, vI r155), (6, vI r162)]) (by decide) rfl dL_law_687 ?_
  refine z_aload_n (pc := 689) C 2 rfl dL_law_689 ?_
  refine cX0_151 (pc := 690) (st := []) (st1 := [vI (d_X5_thrown v2 M163)]) C rfl (rm := { frames := 1, cells := 0, slots := 0, locals := 24 }) (ct_X5_thrown C.2.1 v2 M163 _ k167 rfl) ⟨by decide, by decide, Nat.le_trans (show cb + 1 ≤ cb + 14 from by omega) hR.1, Nat.le_trans (show sb + 6 ≤ sb + 3829 from by omega) hR.2⟩ (Or.inl k167) rfl (Nat.le_of_ble_eq_true rfl) dL_law_690 (c2 := cb + 1) (s2 := sb + 6) rfl rfl (fun _ => ?_)
  refine z_iload (pc := 693) C 5 rfl dL_law_693 ?_
  refine z_ic_eq (pc := 695) C dL_law_695 (tgt := 700) (by decide) (fun c170 => ?_) (fun c170 => ?_)
  · have h := itt c170 h
    refine z_iload (pc := 700) C 5 rfl dL_law_700 ?_
    refine z_if_ne (pc := 702) C dL_law_702 (tgt := 717) (by decide) (fun c171 => ?_) (fun c171 => ?_)
    · have h := itf c171 h
      refine z_goto (pc := 717) C dL_law_717 (tgt := 3074) (by decide) ?_
      exact z_wide (show cb + 1 ≤ cb + 14 from by omega) (show sb + 6 ≤ sb + 3829 from by omega) <| z_lv [0, 1, 2, 3, 4] rfl <| cB_L_law_3074 C hk23 v0 v1 v2 v3 v4 M163 _ _ hv0 k166 k167 k168 h hR
    · have h := itt c171 h
      refine z_aload_n (pc := 705) C 3 rfl dL_law_705 ?_
      refine z_iconst (pc := 706) C dL_law_706 ?_
      refine z_law (pc := 707) C k168 (by decide +kernel) dL_law_707 ?_
      refine z_iload (pc := 708) C 6 rfl dL_law_708 ?_
      refine z_i2l (pc := 710) C dL_law_710 ?_
      refine z_lc_eq (pc := 711) C dL_law_711 dL_law_712 (tgt := 717) (by decide) (fun c172 => ?_) (fun c172 => ?_)
      · have h := itt c172 h
        refine z_goto (pc := 717) C dL_law_717 (tgt := 3074) (by decide) ?_
        exact z_wide (show cb + 1 ≤ cb + 14 from by omega) (show sb + 6 ≤ sb + 3829 from by omega) <| z_lv [0, 1, 2, 3, 4] rfl <| cB_L_law_3074 C hk23 v0 v1 v2 v3 v4 M163 _ _ hv0 k166 k167 k168 h hR
      · have h := itf c172 h
        refine z_iconst (pc := 715) C dL_law_715 ?_
        cases h
        exact z_zret (pc := 716) C rfl (Or.inl rfl) (Nat.le_trans (show cb + 1 ≤ cb + 14 from by omega) hR.1) (Nat.le_trans (show sb + 6 ≤ sb + 3829 from by omega) hR.2) dL_law_716
  · have h := itf c170 h
    refine z_iconst (pc := 698) C dL_law_698 ?_
    cases h
    exact z_zret (pc := 699) C rfl (Or.inl rfl) (Nat.le_trans (show cb + 1 ≤ cb + 14 from by omega) hR.1) (Nat.le_trans (show sb + 6 ≤ sb + 3829 from by omega) hR.2) dL_law_699
theorem cB_L_law_720 {X : x_Ctx} {M0 : Mem} {L : Nat} {xs : Nat → Int32} {cb sb : Nat} (C : x_CC X 108 3296 yL_law cL_law 7 (some .boolean) []) {k23 : Nat → Nat → Nat → Nat → Int → Mem → Option (Int × Mem)} (hk23 : ∀ (v0 : Nat) (v1 : Nat) (v2 : Nat) (v3 : Nat) (v4 : Int) (M : Mem) (r : Int) (M' : Mem), (va_X v0 L xs (XS X) (XS X).heap ∧ L < 2 ^ 31) → m_kd M v1 = 1 → m_kd M v2 = 5 → m_kd M v3 = 19000 → k23 v0 v1 v2 v3 v4 M = some (r, M') → cb + 14 ≤ (XR X).cells ∧ sb + 3829 ≤ (XR X).slots → x_Z X (cb + 14) (sb + 3829) (x_QF X M0 (.returned (some (vI r))) M' (XR X).cells (XR X).slots) M0 M 7 [(0, .ref v0), (1, .ref v1), (2, .ref v2), (3, .ref v3), (4, vI v4)] 23 []) (v0 : Nat) (v1 : Nat) (v2 : Nat) (v3 : Nat) (v4 : Int) (M : Mem) (r : Int) (M' : Mem) (hv0 : (va_X v0 L xs (XS X) (XS X).heap ∧ L < 2 ^ 31)) (hv1 : m_kd M v1 = 1) (hv2 : m_kd M v2 = 5) (hv3 : m_kd M v3 = 19000) (h : B_L_law_720 L xs k23 v0 v1 v2 v3 v4 M = some (r, M')) (hR : cb + 14 ≤ (XR X).cells ∧ sb + 3829 ≤ (XR X).slots) : x_Z X (cb + 0) (sb + 0) (x_QF X M0 (.returned (some (vI r))) M' (XR X).cells (XR X).slots) M0 M 7 [(0, .ref v0), (1, .ref v1), (2, .ref v2), (3, .ref v3), (4, vI v4)] 720 [] := by
  unfold B_L_law_720 at h
  refine z_aload_n (pc := 720) C 1 rfl dL_law_720 ?_
  refine z_aload_n (pc := 721) C 0 rfl dL_law_721 ?_
  refine z_iload (pc := 722) C 4 rfl dL_law_722 ?_
  refine z_iconst (pc := 724) C dL_law_724 ?_
  refine z_iadd (pc := 725) C dL_law_725 ?_
  obtain ⟨c174, h⟩ := ifn h
  refine z_sld (pc := 726) C hv0.1 c174 dL_law_726 ?_
  refine z_aload_n (pc := 727) C 3 rfl dL_law_727 ?_
  obtain ⟨r175, M176, e177, h⟩ := bNs h
  refine cX0_176 (pc := 728) (st := []) (st1 := [vI r175]) C rfl (rm := { frames := 8, cells := 1, slots := 6, locals := 140 }) (ct_X0_trim C.2.1 v1 ((xs (ixn (v4 + 1))).toInt) v3 M _ _ hv1 hv3 e177) ⟨by decide, by decide, Nat.le_trans (show cb + 1 ≤ cb + 14 from by omega) hR.1, Nat.le_trans (show sb + 6 ≤ sb + 3829 from by omega) hR.2⟩ rfl (Nat.le_of_ble_eq_true rfl) dL_law_728 (c2 := cb + 1) (s2 := sb + 6) rfl rfl (fun x178 => ?_)
  have k179 := x178 _ 1 (by decide) (Or.inl (by decide)) hv1
  have k180 := x178 _ 5 (by decide) (Or.inl (by decide)) hv2
  have k181 := x178 _ 19000 (by decide) (Or.inr (by decide)) hv3
  refine z_istore (pc := 731) C (lv' := [(0, .ref v0), (1, .ref v1), (2, .ref v2), (3, .ref v3), (4, vI v4), (5, vI r175)]) (by decide) rfl dL_law_731 ?_
  refine z_aload_n (pc := 733) C 2 rfl dL_law_733 ?_
  refine z_aload_n (pc := 734) C 0 rfl dL_law_734 ?_
  refine z_iload (pc := 735) C 4 rfl dL_law_735 ?_
  refine z_iconst (pc := 737) C dL_law_737 ?_
  refine z_iadd (pc := 738) C dL_law_738 ?_
  refine z_sld (pc := 739) C hv0.1 c174 dL_law_739 ?_
  obtain ⟨r182, M183, e184, h⟩ := bNs h
  refine cX0_178 (pc := 740) (st := []) (st1 := [vI r182]) C rfl (rm := { frames := 2, cells := 0, slots := 0, locals := 53 }) (ct_X5_trim C.2.1 v2 ((xs (ixn (v4 + 1))).toInt) M176 _ _ k180 e184) ⟨by decide, by decide, Nat.le_trans (show cb + 1 ≤ cb + 14 from by omega) hR.1, Nat.le_trans (show sb + 6 ≤ sb + 3829 from by omega) hR.2⟩ (Or.inl k180) rfl (Nat.le_of_ble_eq_true rfl) dL_law_740 (c2 := cb + 1) (s2 := sb + 6) rfl rfl (fun x185 => ?_)
  have k186 := x185 _ 1 (by decide) (Or.inl (by decide)) k179
  have k187 := x185 _ 5 (by decide) (Or.inl (by decide)) k180
  have k188 := x185 _ 19000 (by decide) (Or.inr (by decide)) k181
  refine z_istore (pc := 743) C (lv' := [(0, .ref v0), (1, .ref v1), (2, .ref v2), (3, .ref v3), (4, vI v4), (5, vI r175), (6, vI r182)]) (by decide) rfl dL_law_743 ?_
  refine z_aload_n (pc := 745) C 2 rfl dL_law_745 ?_
  refine cX0_151 (pc := 746) (st := []) (st1 := [vI (d_X5_thrown v2 M183)]) C rfl (rm := { frames := 1, cells := 0, slots := 0, locals := 24 }) (ct_X5_thrown C.2.1 v2 M183 _ k187 rfl) ⟨by decide, by decide, Nat.le_trans (show cb + 1 ≤ cb + 14 from by omega) hR.1, Nat.le_trans (show sb + 6 ≤ sb + 3829 from by omega) hR.2⟩ (Or.inl k187) rfl (Nat.le_of_ble_eq_true rfl) dL_law_746 (c2 := cb + 1) (s2 := sb + 6) rfl rfl (fun _ => ?_)
  refine z_iload (pc := 749) C 5 rfl dL_law_749 ?_
  refine z_ic_eq (pc := 751) C dL_law_751 (tgt := 756) (by decide) (fun c190 => ?_) (fun c190 => ?_)
  · have h := itt c190 h
    refine z_iload (pc := 756) C 5 rfl dL_law_756 ?_
    refine z_if_ne (pc := 758) C dL_law_758 (tgt := 773) (by decide) (fun c191 => ?_) (fun c191 => ?_)
    · have h := itf c191 h
      refine z_goto (pc := 773) C dL_law_773 (tgt := 3074) (by decide) ?_
      exact z_wide (show cb + 1 ≤ cb + 14 from by omega) (show sb + 6 ≤ sb + 3829 from by omega) <| z_lv [0, 1, 2, 3, 4] rfl <| cB_L_law_3074 C hk23 v0 v1 v2 v3 v4 M183 _ _ hv0 k186 k187 k188 h hR
    · have h := itt c191 h
      refine z_aload_n (pc := 761) C 3 rfl dL_law_761 ?_
      refine z_iconst (pc := 762) C dL_law_762 ?_
      refine z_law (pc := 763) C k188 (by decide +kernel) dL_law_763 ?_
      refine z_iload (pc := 764) C 6 rfl dL_law_764 ?_
      refine z_i2l (pc := 766) C dL_law_766 ?_
      refine z_lc_eq (pc := 767) C dL_law_767 dL_law_768 (tgt := 773) (by decide) (fun c192 => ?_) (fun c192 => ?_)
      · have h := itt c192 h
        refine z_goto (pc := 773) C dL_law_773 (tgt := 3074) (by decide) ?_
        exact z_wide (show cb + 1 ≤ cb + 14 from by omega) (show sb + 6 ≤ sb + 3829 from by omega) <| z_lv [0, 1, 2, 3, 4] rfl <| cB_L_law_3074 C hk23 v0 v1 v2 v3 v4 M183 _ _ hv0 k186 k187 k188 h hR
      · have h := itf c192 h
        refine z_iconst (pc := 771) C dL_law_771 ?_
        cases h
        exact z_zret (pc := 772) C rfl (Or.inl rfl) (Nat.le_trans (show cb + 1 ≤ cb + 14 from by omega) hR.1) (Nat.le_trans (show sb + 6 ≤ sb + 3829 from by omega) hR.2) dL_law_772
  · have h := itf c190 h
    refine z_iconst (pc := 754) C dL_law_754 ?_
    cases h
    exact z_zret (pc := 755) C rfl (Or.inl rfl) (Nat.le_trans (show cb + 1 ≤ cb + 14 from by omega) hR.1) (Nat.le_trans (show sb + 6 ≤ sb + 3829 from by omega) hR.2) dL_law_755
theorem cB_L_law_776 {X : x_Ctx} {M0 : Mem} {L : Nat} {xs : Nat → Int32} {cb sb : Nat} (C : x_CC X 108 3296 yL_law cL_law 7 (some .boolean) []) {k23 : Nat → Nat → Nat → Nat → Int → Mem → Option (Int × Mem)} (hk23 : ∀ (v0 : Nat) (v1 : Nat) (v2 : Nat) (v3 : Nat) (v4 : Int) (M : Mem) (r : Int) (M' : Mem), (va_X v0 L xs (XS X) (XS X).heap ∧ L < 2 ^ 31) → m_kd M v1 = 1 → m_kd M v2 = 5 → m_kd M v3 = 19000 → k23 v0 v1 v2 v3 v4 M = some (r, M') → cb + 14 ≤ (XR X).cells ∧ sb + 3829 ≤ (XR X).slots → x_Z X (cb + 14) (sb + 3829) (x_QF X M0 (.returned (some (vI r))) M' (XR X).cells (XR X).slots) M0 M 7 [(0, .ref v0), (1, .ref v1), (2, .ref v2), (3, .ref v3), (4, vI v4)] 23 []) (v0 : Nat) (v1 : Nat) (v2 : Nat) (v3 : Nat) (v4 : Int) (M : Mem) (r : Int) (M' : Mem) (hv0 : (va_X v0 L xs (XS X) (XS X).heap ∧ L < 2 ^ 31)) (hv1 : m_kd M v1 = 1) (hv2 : m_kd M v2 = 5) (hv3 : m_kd M v3 = 19000) (h : B_L_law_776 L xs k23 v0 v1 v2 v3 v4 M = some (r, M')) (hR : cb + 14 ≤ (XR X).cells ∧ sb + 3829 ≤ (XR X).slots) : x_Z X (cb + 0) (sb + 0) (x_QF X M0 (.returned (some (vI r))) M' (XR X).cells (XR X).slots) M0 M 7 [(0, .ref v0), (1, .ref v1), (2, .ref v2), (3, .ref v3), (4, vI v4)] 776 [] := by
  unfold B_L_law_776 at h
  refine z_aload_n (pc := 776) C 1 rfl dL_law_776 ?_
  refine z_aload_n (pc := 777) C 3 rfl dL_law_777 ?_
  obtain ⟨r194, M195, e196, h⟩ := bNs h
  refine cX0_179 (pc := 778) (st := []) (st1 := [vI r194]) C rfl (rm := { frames := 16, cells := 14, slots := 3829, locals := 495 }) (ct_X0_form C.2.1 v1 v3 M _ _ hv1 hv3 e196) ⟨by decide, by decide, Nat.le_trans (show cb + 14 ≤ cb + 14 from by omega) hR.1, Nat.le_trans (show sb + 3829 ≤ sb + 3829 from by omega) hR.2⟩ rfl (Nat.le_of_ble_eq_true rfl) dL_law_778 (c2 := cb + 14) (s2 := sb + 3829) rfl rfl (fun x197 => ?_)
  have k198 := x197 _ 1 (by decide) (Or.inl (by decide)) hv1
  have k199 := x197 _ 5 (by decide) (Or.inl (by decide)) hv2
  have k200 := x197 _ 19000 (by decide) (Or.inr (by decide)) hv3
  refine z_istore (pc := 781) C (lv' := [(0, .ref v0), (1, .ref v1), (2, .ref v2), (3, .ref v3), (4, vI v4), (5, vI r194)]) (by decide) rfl dL_law_781 ?_
  refine z_aload_n (pc := 783) C 2 rfl dL_law_783 ?_
  obtain ⟨r201, M202, e203, h⟩ := bNs h
  refine cX0_181 (pc := 784) (st := []) (st1 := [vI r201]) C rfl (rm := { frames := 8, cells := 0, slots := 0, locals := 202 }) (ct_X5_form C.2.1 v2 M195 _ _ k199 e203) ⟨by decide, by decide, Nat.le_trans (show cb + 14 ≤ cb + 14 from by omega) hR.1, Nat.le_trans (show sb + 3829 ≤ sb + 3829 from by omega) hR.2⟩ (Or.inl k199) rfl (Nat.le_of_ble_eq_true rfl) dL_law_784 (c2 := cb + 14) (s2 := sb + 3829) rfl rfl (fun x204 => ?_)
  have k205 := x204 _ 1 (by decide) (Or.inl (by decide)) k198
  have k206 := x204 _ 5 (by decide) (Or.inl (by decide)) k199
  have k207 := x204 _ 19000 (by decide) (Or.inr (by decide)) k200
  refine z_istore (pc := 787) C (lv' := [(0, .ref v0), (1, .ref v1), (2, .ref v2), (3, .ref v3), (4, vI v4), (5, vI r194), (6, vI r201)]) (by decide) rfl dL_law_787 ?_
  refine z_aload_n (pc := 789) C 2 rfl dL_law_789 ?_
  refine cX0_151 (pc := 790) (st := []) (st1 := [vI (d_X5_thrown v2 M202)]) C rfl (rm := { frames := 1, cells := 0, slots := 0, locals := 24 }) (ct_X5_thrown C.2.1 v2 M202 _ k206 rfl) ⟨by decide, by decide, Nat.le_trans (show cb + 14 ≤ cb + 14 from by omega) hR.1, Nat.le_trans (show sb + 3829 ≤ sb + 3829 from by omega) hR.2⟩ (Or.inl k206) rfl (Nat.le_of_ble_eq_true rfl) dL_law_790 (c2 := cb + 14) (s2 := sb + 3829) rfl rfl (fun _ => ?_)
  refine z_iload (pc := 793) C 5 rfl dL_law_793 ?_
  refine z_ic_eq (pc := 795) C dL_law_795 (tgt := 800) (by decide) (fun c209 => ?_) (fun c209 => ?_)
  · have h := itt c209 h
    refine z_iload (pc := 800) C 5 rfl dL_law_800 ?_
    refine z_if_ne (pc := 802) C dL_law_802 (tgt := 817) (by decide) (fun c210 => ?_) (fun c210 => ?_)
    · have h := itf c210 h
      refine z_goto (pc := 817) C dL_law_817 (tgt := 3074) (by decide) ?_
      exact z_lv [0, 1, 2, 3, 4] rfl <| cB_L_law_3074 C hk23 v0 v1 v2 v3 v4 M202 _ _ hv0 k205 k206 k207 h hR
    · have h := itt c210 h
      refine z_aload_n (pc := 805) C 3 rfl dL_law_805 ?_
      refine z_iconst (pc := 806) C dL_law_806 ?_
      refine z_law (pc := 807) C k207 (by decide +kernel) dL_law_807 ?_
      refine z_iload (pc := 808) C 6 rfl dL_law_808 ?_
      refine z_i2l (pc := 810) C dL_law_810 ?_
      refine z_lc_eq (pc := 811) C dL_law_811 dL_law_812 (tgt := 817) (by decide) (fun c211 => ?_) (fun c211 => ?_)
      · have h := itt c211 h
        refine z_goto (pc := 817) C dL_law_817 (tgt := 3074) (by decide) ?_
        exact z_lv [0, 1, 2, 3, 4] rfl <| cB_L_law_3074 C hk23 v0 v1 v2 v3 v4 M202 _ _ hv0 k205 k206 k207 h hR
      · have h := itf c211 h
        refine z_iconst (pc := 815) C dL_law_815 ?_
        cases h
        exact z_zret (pc := 816) C rfl (Or.inl rfl) (Nat.le_trans (show cb + 14 ≤ cb + 14 from by omega) hR.1) (Nat.le_trans (show sb + 3829 ≤ sb + 3829 from by omega) hR.2) dL_law_816
  · have h := itf c209 h
    refine z_iconst (pc := 798) C dL_law_798 ?_
    cases h
    exact z_zret (pc := 799) C rfl (Or.inl rfl) (Nat.le_trans (show cb + 14 ≤ cb + 14 from by omega) hR.1) (Nat.le_trans (show sb + 3829 ≤ sb + 3829 from by omega) hR.2) dL_law_799
theorem cB_L_law_820 {X : x_Ctx} {M0 : Mem} {L : Nat} {xs : Nat → Int32} {cb sb : Nat} (C : x_CC X 108 3296 yL_law cL_law 7 (some .boolean) []) {k23 : Nat → Nat → Nat → Nat → Int → Mem → Option (Int × Mem)} (hk23 : ∀ (v0 : Nat) (v1 : Nat) (v2 : Nat) (v3 : Nat) (v4 : Int) (M : Mem) (r : Int) (M' : Mem), (va_X v0 L xs (XS X) (XS X).heap ∧ L < 2 ^ 31) → m_kd M v1 = 1 → m_kd M v2 = 5 → m_kd M v3 = 19000 → k23 v0 v1 v2 v3 v4 M = some (r, M') → cb + 14 ≤ (XR X).cells ∧ sb + 3829 ≤ (XR X).slots → x_Z X (cb + 14) (sb + 3829) (x_QF X M0 (.returned (some (vI r))) M' (XR X).cells (XR X).slots) M0 M 7 [(0, .ref v0), (1, .ref v1), (2, .ref v2), (3, .ref v3), (4, vI v4)] 23 []) (v0 : Nat) (v1 : Nat) (v2 : Nat) (v3 : Nat) (v4 : Int) (M : Mem) (r : Int) (M' : Mem) (hv0 : (va_X v0 L xs (XS X) (XS X).heap ∧ L < 2 ^ 31)) (hv1 : m_kd M v1 = 1) (hv2 : m_kd M v2 = 5) (hv3 : m_kd M v3 = 19000) (h : B_L_law_820 L xs k23 v0 v1 v2 v3 v4 M = some (r, M')) (hR : cb + 14 ≤ (XR X).cells ∧ sb + 3829 ≤ (XR X).slots) : x_Z X (cb + 0) (sb + 0) (x_QF X M0 (.returned (some (vI r))) M' (XR X).cells (XR X).slots) M0 M 7 [(0, .ref v0), (1, .ref v1), (2, .ref v2), (3, .ref v3), (4, vI v4)] 820 [] := by
  unfold B_L_law_820 at h
  refine z_aload_n (pc := 820) C 1 rfl dL_law_820 ?_
  refine z_aload_n (pc := 821) C 0 rfl dL_law_821 ?_
  refine z_iload (pc := 822) C 4 rfl dL_law_822 ?_
  refine z_iconst (pc := 824) C dL_law_824 ?_
  refine z_iadd (pc := 825) C dL_law_825 ?_
  obtain ⟨c213, h⟩ := ifn h
  refine z_sld (pc := 826) C hv0.1 c213 dL_law_826 ?_
  refine z_aload_n (pc := 827) C 0 rfl dL_law_827 ?_
  refine z_iload (pc := 828) C 4 rfl dL_law_828 ?_
  refine z_iconst (pc := 830) C dL_law_830 ?_
  refine z_iadd (pc := 831) C dL_law_831 ?_
  obtain ⟨c214, h⟩ := ifn h
  refine z_sld (pc := 832) C hv0.1 c214 dL_law_832 ?_
  refine z_aload_n (pc := 833) C 0 rfl dL_law_833 ?_
  refine z_iload (pc := 834) C 4 rfl dL_law_834 ?_
  refine z_iconst (pc := 836) C dL_law_836 ?_
  refine z_iadd (pc := 837) C dL_law_837 ?_
  obtain ⟨c215, h⟩ := ifn h
  refine z_sld (pc := 838) C hv0.1 c215 dL_law_838 ?_
  refine z_aload_n (pc := 839) C 3 rfl dL_law_839 ?_
  obtain ⟨r216, M217, e218, h⟩ := bNs h
  refine cX0_182 (pc := 840) (st := []) (st1 := [vI r216]) C rfl (rm := { frames := 9, cells := 1, slots := 6, locals := 167 }) (ct_X0_statement C.2.1 v1 ((xs (ixn (v4 + 1))).toInt) ((xs (ixn (v4 + 2))).toInt) ((xs (ixn (v4 + 3))).toInt) v3 M _ _ hv1 hv3 e218) ⟨by decide, by decide, Nat.le_trans (show cb + 1 ≤ cb + 14 from by omega) hR.1, Nat.le_trans (show sb + 6 ≤ sb + 3829 from by omega) hR.2⟩ rfl (Nat.le_of_ble_eq_true rfl) dL_law_840 (c2 := cb + 1) (s2 := sb + 6) rfl rfl (fun x219 => ?_)
  have k220 := x219 _ 1 (by decide) (Or.inl (by decide)) hv1
  have k221 := x219 _ 5 (by decide) (Or.inl (by decide)) hv2
  have k222 := x219 _ 19000 (by decide) (Or.inr (by decide)) hv3
  refine z_istore (pc := 843) C (lv' := [(0, .ref v0), (1, .ref v1), (2, .ref v2), (3, .ref v3), (4, vI v4), (5, vI r216)]) (by decide) rfl dL_law_843 ?_
  refine z_aload_n (pc := 845) C 2 rfl dL_law_845 ?_
  refine z_aload_n (pc := 846) C 0 rfl dL_law_846 ?_
  refine z_iload (pc := 847) C 4 rfl dL_law_847 ?_
  refine z_iconst (pc := 849) C dL_law_849 ?_
  refine z_iadd (pc := 850) C dL_law_850 ?_
  refine z_sld (pc := 851) C hv0.1 c213 dL_law_851 ?_
  refine z_aload_n (pc := 852) C 0 rfl dL_law_852 ?_
  refine z_iload (pc := 853) C 4 rfl dL_law_853 ?_
  refine z_iconst (pc := 855) C dL_law_855 ?_
  refine z_iadd (pc := 856) C dL_law_856 ?_
  refine z_sld (pc := 857) C hv0.1 c214 dL_law_857 ?_
  refine z_aload_n (pc := 858) C 0 rfl dL_law_858 ?_
  refine z_iload (pc := 859) C 4 rfl dL_law_859 ?_
  refine z_iconst (pc := 861) C dL_law_861 ?_
  refine z_iadd (pc := 862) C dL_law_862 ?_
  refine z_sld (pc := 863) C hv0.1 c215 dL_law_863 ?_
  obtain ⟨r223, M224, e225, h⟩ := bNs h
  refine cX0_185 (pc := 864) (st := []) (st1 := [vI r223]) C rfl (rm := { frames := 4, cells := 0, slots := 0, locals := 104 }) (ct_X5_statement C.2.1 v2 ((xs (ixn (v4 + 1))).toInt) ((xs (ixn (v4 + 2))).toInt) ((xs (ixn (v4 + 3))).toInt) M217 _ _ k221 e225) ⟨by decide, by decide, Nat.le_trans (show cb + 1 ≤ cb + 14 from by omega) hR.1, Nat.le_trans (show sb + 6 ≤ sb + 3829 from by omega) hR.2⟩ (Or.inl k221) rfl (Nat.le_of_ble_eq_true rfl) dL_law_864 (c2 := cb + 1) (s2 := sb + 6) rfl rfl (fun x226 => ?_)
  have k227 := x226 _ 1 (by decide) (Or.inl (by decide)) k220
  have k228 := x226 _ 5 (by decide) (Or.inl (by decide)) k221
  have k229 := x226 _ 19000 (by decide) (Or.inr (by decide)) k222
  refine z_istore (pc := 867) C (lv' := [(0, .ref v0), (1, .ref v1), (2, .ref v2), (3, .ref v3), (4, vI v4), (5, vI r216), (6, vI r223)]) (by decide) rfl dL_law_867 ?_
  refine z_aload_n (pc := 869) C 2 rfl dL_law_869 ?_
  refine cX0_151 (pc := 870) (st := []) (st1 := [vI (d_X5_thrown v2 M224)]) C rfl (rm := { frames := 1, cells := 0, slots := 0, locals := 24 }) (ct_X5_thrown C.2.1 v2 M224 _ k228 rfl) ⟨by decide, by decide, Nat.le_trans (show cb + 1 ≤ cb + 14 from by omega) hR.1, Nat.le_trans (show sb + 6 ≤ sb + 3829 from by omega) hR.2⟩ (Or.inl k228) rfl (Nat.le_of_ble_eq_true rfl) dL_law_870 (c2 := cb + 1) (s2 := sb + 6) rfl rfl (fun _ => ?_)
  refine z_iload (pc := 873) C 5 rfl dL_law_873 ?_
  refine z_ic_eq (pc := 875) C dL_law_875 (tgt := 880) (by decide) (fun c231 => ?_) (fun c231 => ?_)
  · have h := itt c231 h
    refine z_iload (pc := 880) C 5 rfl dL_law_880 ?_
    refine z_if_ne (pc := 882) C dL_law_882 (tgt := 897) (by decide) (fun c232 => ?_) (fun c232 => ?_)
    · have h := itf c232 h
      refine z_goto (pc := 897) C dL_law_897 (tgt := 3074) (by decide) ?_
      exact z_wide (show cb + 1 ≤ cb + 14 from by omega) (show sb + 6 ≤ sb + 3829 from by omega) <| z_lv [0, 1, 2, 3, 4] rfl <| cB_L_law_3074 C hk23 v0 v1 v2 v3 v4 M224 _ _ hv0 k227 k228 k229 h hR
    · have h := itt c232 h
      refine z_aload_n (pc := 885) C 3 rfl dL_law_885 ?_
      refine z_iconst (pc := 886) C dL_law_886 ?_
      refine z_law (pc := 887) C k229 (by decide +kernel) dL_law_887 ?_
      refine z_iload (pc := 888) C 6 rfl dL_law_888 ?_
      refine z_i2l (pc := 890) C dL_law_890 ?_
      refine z_lc_eq (pc := 891) C dL_law_891 dL_law_892 (tgt := 897) (by decide) (fun c233 => ?_) (fun c233 => ?_)
      · have h := itt c233 h
        refine z_goto (pc := 897) C dL_law_897 (tgt := 3074) (by decide) ?_
        exact z_wide (show cb + 1 ≤ cb + 14 from by omega) (show sb + 6 ≤ sb + 3829 from by omega) <| z_lv [0, 1, 2, 3, 4] rfl <| cB_L_law_3074 C hk23 v0 v1 v2 v3 v4 M224 _ _ hv0 k227 k228 k229 h hR
      · have h := itf c233 h
        refine z_iconst (pc := 895) C dL_law_895 ?_
        cases h
        exact z_zret (pc := 896) C rfl (Or.inl rfl) (Nat.le_trans (show cb + 1 ≤ cb + 14 from by omega) hR.1) (Nat.le_trans (show sb + 6 ≤ sb + 3829 from by omega) hR.2) dL_law_896
  · have h := itf c231 h
    refine z_iconst (pc := 878) C dL_law_878 ?_
    cases h
    exact z_zret (pc := 879) C rfl (Or.inl rfl) (Nat.le_trans (show cb + 1 ≤ cb + 14 from by omega) hR.1) (Nat.le_trans (show sb + 6 ≤ sb + 3829 from by omega) hR.2) dL_law_879
theorem cB_L_law_900 {X : x_Ctx} {M0 : Mem} {L : Nat} {xs : Nat → Int32} {cb sb : Nat} (C : x_CC X 108 3296 yL_law cL_law 7 (some .boolean) []) {k23 : Nat → Nat → Nat → Nat → Int → Mem → Option (Int × Mem)} (hk23 : ∀ (v0 : Nat) (v1 : Nat) (v2 : Nat) (v3 : Nat) (v4 : Int) (M : Mem) (r : Int) (M' : Mem), (va_X v0 L xs (XS X) (XS X).heap ∧ L < 2 ^ 31) → m_kd M v1 = 1 → m_kd M v2 = 5 → m_kd M v3 = 19000 → k23 v0 v1 v2 v3 v4 M = some (r, M') → cb + 14 ≤ (XR X).cells ∧ sb + 3829 ≤ (XR X).slots → x_Z X (cb + 14) (sb + 3829) (x_QF X M0 (.returned (some (vI r))) M' (XR X).cells (XR X).slots) M0 M 7 [(0, .ref v0), (1, .ref v1), (2, .ref v2), (3, .ref v3), (4, vI v4)] 23 []) (v0 : Nat) (v1 : Nat) (v2 : Nat) (v3 : Nat) (v4 : Int) (M : Mem) (r : Int) (M' : Mem) (hv0 : (va_X v0 L xs (XS X) (XS X).heap ∧ L < 2 ^ 31)) (hv1 : m_kd M v1 = 1) (hv2 : m_kd M v2 = 5) (hv3 : m_kd M v3 = 19000) (h : B_L_law_900 L xs k23 v0 v1 v2 v3 v4 M = some (r, M')) (hR : cb + 14 ≤ (XR X).cells ∧ sb + 3829 ≤ (XR X).slots) : x_Z X (cb + 0) (sb + 0) (x_QF X M0 (.returned (some (vI r))) M' (XR X).cells (XR X).slots) M0 M 7 [(0, .ref v0), (1, .ref v1), (2, .ref v2), (3, .ref v3), (4, vI v4)] 900 [] := by
  unfold B_L_law_900 at h
  refine z_aload_n (pc := 900) C 1 rfl dL_law_900 ?_
  refine z_aload_n (pc := 901) C 0 rfl dL_law_901 ?_
  refine z_iload (pc := 902) C 4 rfl dL_law_902 ?_
  refine z_iconst (pc := 904) C dL_law_904 ?_
  refine z_iadd (pc := 905) C dL_law_905 ?_
  obtain ⟨c235, h⟩ := ifn h
  refine z_sld (pc := 906) C hv0.1 c235 dL_law_906 ?_
  refine z_aload_n (pc := 907) C 0 rfl dL_law_907 ?_
  refine z_iload (pc := 908) C 4 rfl dL_law_908 ?_
  refine z_iconst (pc := 910) C dL_law_910 ?_
  refine z_iadd (pc := 911) C dL_law_911 ?_
  obtain ⟨c236, h⟩ := ifn h
  refine z_sld (pc := 912) C hv0.1 c236 dL_law_912 ?_
  refine z_aload_n (pc := 913) C 3 rfl dL_law_913 ?_
  obtain ⟨r237, M238, e239, h⟩ := bNs h
  refine cX0_186 (pc := 914) (st := []) (st1 := [vI r237]) C rfl (rm := { frames := 9, cells := 6, slots := 99, locals := 201 }) (ct_X0_open C.2.1 v1 ((xs (ixn (v4 + 1))).toInt) ((xs (ixn (v4 + 2))).toInt) v3 M _ _ hv1 hv3 e239) ⟨by decide, by decide, Nat.le_trans (show cb + 6 ≤ cb + 14 from by omega) hR.1, Nat.le_trans (show sb + 99 ≤ sb + 3829 from by omega) hR.2⟩ rfl (Nat.le_of_ble_eq_true rfl) dL_law_914 (c2 := cb + 6) (s2 := sb + 99) rfl rfl (fun x240 => ?_)
  have k241 := x240 _ 1 (by decide) (Or.inl (by decide)) hv1
  have k242 := x240 _ 5 (by decide) (Or.inl (by decide)) hv2
  have k243 := x240 _ 19000 (by decide) (Or.inr (by decide)) hv3
  refine z_istore (pc := 917) C (lv' := [(0, .ref v0), (1, .ref v1), (2, .ref v2), (3, .ref v3), (4, vI v4), (5, vI r237)]) (by decide) rfl dL_law_917 ?_
  refine z_aload_n (pc := 919) C 2 rfl dL_law_919 ?_
  refine z_aload_n (pc := 920) C 0 rfl dL_law_920 ?_
  refine z_iload (pc := 921) C 4 rfl dL_law_921 ?_
  refine z_iconst (pc := 923) C dL_law_923 ?_
  refine z_iadd (pc := 924) C dL_law_924 ?_
  refine z_sld (pc := 925) C hv0.1 c235 dL_law_925 ?_
  refine z_aload_n (pc := 926) C 0 rfl dL_law_926 ?_
  refine z_iload (pc := 927) C 4 rfl dL_law_927 ?_
  refine z_iconst (pc := 929) C dL_law_929 ?_
  refine z_iadd (pc := 930) C dL_law_930 ?_
  refine z_sld (pc := 931) C hv0.1 c236 dL_law_931 ?_
  obtain ⟨r244, M245, e246, h⟩ := bNs h
  refine cX0_188 (pc := 932) (st := []) (st1 := [vI r244]) C rfl (rm := { frames := 3, cells := 0, slots := 0, locals := 82 }) (ct_X5_open C.2.1 v2 ((xs (ixn (v4 + 1))).toInt) ((xs (ixn (v4 + 2))).toInt) M238 _ _ k242 e246) ⟨by decide, by decide, Nat.le_trans (show cb + 6 ≤ cb + 14 from by omega) hR.1, Nat.le_trans (show sb + 99 ≤ sb + 3829 from by omega) hR.2⟩ (Or.inl k242) rfl (Nat.le_of_ble_eq_true rfl) dL_law_932 (c2 := cb + 6) (s2 := sb + 99) rfl rfl (fun x247 => ?_)
  have k248 := x247 _ 1 (by decide) (Or.inl (by decide)) k241
  have k249 := x247 _ 5 (by decide) (Or.inl (by decide)) k242
  have k250 := x247 _ 19000 (by decide) (Or.inr (by decide)) k243
  refine z_istore (pc := 935) C (lv' := [(0, .ref v0), (1, .ref v1), (2, .ref v2), (3, .ref v3), (4, vI v4), (5, vI r237), (6, vI r244)]) (by decide) rfl dL_law_935 ?_
  refine z_aload_n (pc := 937) C 2 rfl dL_law_937 ?_
  refine cX0_151 (pc := 938) (st := []) (st1 := [vI (d_X5_thrown v2 M245)]) C rfl (rm := { frames := 1, cells := 0, slots := 0, locals := 24 }) (ct_X5_thrown C.2.1 v2 M245 _ k249 rfl) ⟨by decide, by decide, Nat.le_trans (show cb + 6 ≤ cb + 14 from by omega) hR.1, Nat.le_trans (show sb + 99 ≤ sb + 3829 from by omega) hR.2⟩ (Or.inl k249) rfl (Nat.le_of_ble_eq_true rfl) dL_law_938 (c2 := cb + 6) (s2 := sb + 99) rfl rfl (fun _ => ?_)
  refine z_iload (pc := 941) C 5 rfl dL_law_941 ?_
  refine z_ic_eq (pc := 943) C dL_law_943 (tgt := 948) (by decide) (fun c252 => ?_) (fun c252 => ?_)
  · have h := itt c252 h
    refine z_iload (pc := 948) C 5 rfl dL_law_948 ?_
    refine z_if_ne (pc := 950) C dL_law_950 (tgt := 965) (by decide) (fun c253 => ?_) (fun c253 => ?_)
    · have h := itf c253 h
      refine z_goto (pc := 965) C dL_law_965 (tgt := 3074) (by decide) ?_
      exact z_wide (show cb + 6 ≤ cb + 14 from by omega) (show sb + 99 ≤ sb + 3829 from by omega) <| z_lv [0, 1, 2, 3, 4] rfl <| cB_L_law_3074 C hk23 v0 v1 v2 v3 v4 M245 _ _ hv0 k248 k249 k250 h hR
    · have h := itt c253 h
      refine z_aload_n (pc := 953) C 3 rfl dL_law_953 ?_
      refine z_iconst (pc := 954) C dL_law_954 ?_
      refine z_law (pc := 955) C k250 (by decide +kernel) dL_law_955 ?_
      refine z_iload (pc := 956) C 6 rfl dL_law_956 ?_
      refine z_i2l (pc := 958) C dL_law_958 ?_
      refine z_lc_eq (pc := 959) C dL_law_959 dL_law_960 (tgt := 965) (by decide) (fun c254 => ?_) (fun c254 => ?_)
      · have h := itt c254 h
        refine z_goto (pc := 965) C dL_law_965 (tgt := 3074) (by decide) ?_
        exact z_wide (show cb + 6 ≤ cb + 14 from by omega) (show sb + 99 ≤ sb + 3829 from by omega) <| z_lv [0, 1, 2, 3, 4] rfl <| cB_L_law_3074 C hk23 v0 v1 v2 v3 v4 M245 _ _ hv0 k248 k249 k250 h hR
      · have h := itf c254 h
        refine z_iconst (pc := 963) C dL_law_963 ?_
        cases h
        exact z_zret (pc := 964) C rfl (Or.inl rfl) (Nat.le_trans (show cb + 6 ≤ cb + 14 from by omega) hR.1) (Nat.le_trans (show sb + 99 ≤ sb + 3829 from by omega) hR.2) dL_law_964
  · have h := itf c252 h
    refine z_iconst (pc := 946) C dL_law_946 ?_
    cases h
    exact z_zret (pc := 947) C rfl (Or.inl rfl) (Nat.le_trans (show cb + 6 ≤ cb + 14 from by omega) hR.1) (Nat.le_trans (show sb + 99 ≤ sb + 3829 from by omega) hR.2) dL_law_947
theorem cB_L_law_968 {X : x_Ctx} {M0 : Mem} {L : Nat} {xs : Nat → Int32} {cb sb : Nat} (C : x_CC X 108 3296 yL_law cL_law 7 (some .boolean) []) {k23 : Nat → Nat → Nat → Nat → Int → Mem → Option (Int × Mem)} (hk23 : ∀ (v0 : Nat) (v1 : Nat) (v2 : Nat) (v3 : Nat) (v4 : Int) (M : Mem) (r : Int) (M' : Mem), (va_X v0 L xs (XS X) (XS X).heap ∧ L < 2 ^ 31) → m_kd M v1 = 1 → m_kd M v2 = 5 → m_kd M v3 = 19000 → k23 v0 v1 v2 v3 v4 M = some (r, M') → cb + 14 ≤ (XR X).cells ∧ sb + 3829 ≤ (XR X).slots → x_Z X (cb + 14) (sb + 3829) (x_QF X M0 (.returned (some (vI r))) M' (XR X).cells (XR X).slots) M0 M 7 [(0, .ref v0), (1, .ref v1), (2, .ref v2), (3, .ref v3), (4, vI v4)] 23 []) (v0 : Nat) (v1 : Nat) (v2 : Nat) (v3 : Nat) (v4 : Int) (M : Mem) (r : Int) (M' : Mem) (hv0 : (va_X v0 L xs (XS X) (XS X).heap ∧ L < 2 ^ 31)) (hv1 : m_kd M v1 = 1) (hv2 : m_kd M v2 = 5) (hv3 : m_kd M v3 = 19000) (h : B_L_law_968 L xs k23 v0 v1 v2 v3 v4 M = some (r, M')) (hR : cb + 14 ≤ (XR X).cells ∧ sb + 3829 ≤ (XR X).slots) : x_Z X (cb + 0) (sb + 0) (x_QF X M0 (.returned (some (vI r))) M' (XR X).cells (XR X).slots) M0 M 7 [(0, .ref v0), (1, .ref v1), (2, .ref v2), (3, .ref v3), (4, vI v4)] 968 [] := by
  unfold B_L_law_968 at h
  refine z_aload_n (pc := 968) C 1 rfl dL_law_968 ?_
  refine z_aload_n (pc := 969) C 0 rfl dL_law_969 ?_
  refine z_iload (pc := 970) C 4 rfl dL_law_970 ?_
  refine z_iconst (pc := 972) C dL_law_972 ?_
  refine z_iadd (pc := 973) C dL_law_973 ?_
  obtain ⟨c256, h⟩ := ifn h
  refine z_sld (pc := 974) C hv0.1 c256 dL_law_974 ?_
  refine z_aload_n (pc := 975) C 3 rfl dL_law_975 ?_
  obtain ⟨r257, M258, e259, h⟩ := bNs h
  refine cX0_189 (pc := 976) (st := []) (st1 := [vI r257]) C rfl (rm := { frames := 9, cells := 1, slots := 6, locals := 165 }) (ct_X0_question C.2.1 v1 ((xs (ixn (v4 + 1))).toInt) v3 M _ _ hv1 hv3 e259) ⟨by decide, by decide, Nat.le_trans (show cb + 1 ≤ cb + 14 from by omega) hR.1, Nat.le_trans (show sb + 6 ≤ sb + 3829 from by omega) hR.2⟩ rfl (Nat.le_of_ble_eq_true rfl) dL_law_976 (c2 := cb + 1) (s2 := sb + 6) rfl rfl (fun x260 => ?_)
  have k261 := x260 _ 1 (by decide) (Or.inl (by decide)) hv1
  have k262 := x260 _ 5 (by decide) (Or.inl (by decide)) hv2
  have k263 := x260 _ 19000 (by decide) (Or.inr (by decide)) hv3
  refine z_istore (pc := 979) C (lv' := [(0, .ref v0), (1, .ref v1), (2, .ref v2), (3, .ref v3), (4, vI v4), (5, vI r257)]) (by decide) rfl dL_law_979 ?_
  refine z_aload_n (pc := 981) C 2 rfl dL_law_981 ?_
  refine z_aload_n (pc := 982) C 0 rfl dL_law_982 ?_
  refine z_iload (pc := 983) C 4 rfl dL_law_983 ?_
  refine z_iconst (pc := 985) C dL_law_985 ?_
  refine z_iadd (pc := 986) C dL_law_986 ?_
  refine z_sld (pc := 987) C hv0.1 c256 dL_law_987 ?_
  obtain ⟨r264, M265, e266, h⟩ := bNs h
  refine cX0_191 (pc := 988) (st := []) (st1 := [vI r264]) C rfl (rm := { frames := 6, cells := 0, slots := 0, locals := 172 }) (ct_X5_question C.2.1 v2 ((xs (ixn (v4 + 1))).toInt) M258 _ _ k262 e266) ⟨by decide, by decide, Nat.le_trans (show cb + 1 ≤ cb + 14 from by omega) hR.1, Nat.le_trans (show sb + 6 ≤ sb + 3829 from by omega) hR.2⟩ (Or.inl k262) rfl (Nat.le_of_ble_eq_true rfl) dL_law_988 (c2 := cb + 1) (s2 := sb + 6) rfl rfl (fun x267 => ?_)
  have k268 := x267 _ 1 (by decide) (Or.inl (by decide)) k261
  have k269 := x267 _ 5 (by decide) (Or.inl (by decide)) k262
  have k270 := x267 _ 19000 (by decide) (Or.inr (by decide)) k263
  refine z_istore (pc := 991) C (lv' := [(0, .ref v0), (1, .ref v1), (2, .ref v2), (3, .ref v3), (4, vI v4), (5, vI r257), (6, vI r264)]) (by decide) rfl dL_law_991 ?_
  refine z_aload_n (pc := 993) C 2 rfl dL_law_993 ?_
  refine cX0_151 (pc := 994) (st := []) (st1 := [vI (d_X5_thrown v2 M265)]) C rfl (rm := { frames := 1, cells := 0, slots := 0, locals := 24 }) (ct_X5_thrown C.2.1 v2 M265 _ k269 rfl) ⟨by decide, by decide, Nat.le_trans (show cb + 1 ≤ cb + 14 from by omega) hR.1, Nat.le_trans (show sb + 6 ≤ sb + 3829 from by omega) hR.2⟩ (Or.inl k269) rfl (Nat.le_of_ble_eq_true rfl) dL_law_994 (c2 := cb + 1) (s2 := sb + 6) rfl rfl (fun _ => ?_)
  refine z_iload (pc := 997) C 5 rfl dL_law_997 ?_
  refine z_ic_eq (pc := 999) C dL_law_999 (tgt := 1004) (by decide) (fun c272 => ?_) (fun c272 => ?_)
  · have h := itt c272 h
    refine z_iload (pc := 1004) C 5 rfl dL_law_1004 ?_
    refine z_if_ne (pc := 1006) C dL_law_1006 (tgt := 1021) (by decide) (fun c273 => ?_) (fun c273 => ?_)
    · have h := itf c273 h
      refine z_goto (pc := 1021) C dL_law_1021 (tgt := 3074) (by decide) ?_
      exact z_wide (show cb + 1 ≤ cb + 14 from by omega) (show sb + 6 ≤ sb + 3829 from by omega) <| z_lv [0, 1, 2, 3, 4] rfl <| cB_L_law_3074 C hk23 v0 v1 v2 v3 v4 M265 _ _ hv0 k268 k269 k270 h hR
    · have h := itt c273 h
      refine z_aload_n (pc := 1009) C 3 rfl dL_law_1009 ?_
      refine z_iconst (pc := 1010) C dL_law_1010 ?_
      refine z_law (pc := 1011) C k270 (by decide +kernel) dL_law_1011 ?_
      refine z_iload (pc := 1012) C 6 rfl dL_law_1012 ?_
      refine z_i2l (pc := 1014) C dL_law_1014 ?_
      refine z_lc_eq (pc := 1015) C dL_law_1015 dL_law_1016 (tgt := 1021) (by decide) (fun c274 => ?_) (fun c274 => ?_)
      · have h := itt c274 h
        refine z_goto (pc := 1021) C dL_law_1021 (tgt := 3074) (by decide) ?_
        exact z_wide (show cb + 1 ≤ cb + 14 from by omega) (show sb + 6 ≤ sb + 3829 from by omega) <| z_lv [0, 1, 2, 3, 4] rfl <| cB_L_law_3074 C hk23 v0 v1 v2 v3 v4 M265 _ _ hv0 k268 k269 k270 h hR
      · have h := itf c274 h
        refine z_iconst (pc := 1019) C dL_law_1019 ?_
        cases h
        exact z_zret (pc := 1020) C rfl (Or.inl rfl) (Nat.le_trans (show cb + 1 ≤ cb + 14 from by omega) hR.1) (Nat.le_trans (show sb + 6 ≤ sb + 3829 from by omega) hR.2) dL_law_1020
  · have h := itf c272 h
    refine z_iconst (pc := 1002) C dL_law_1002 ?_
    cases h
    exact z_zret (pc := 1003) C rfl (Or.inl rfl) (Nat.le_trans (show cb + 1 ≤ cb + 14 from by omega) hR.1) (Nat.le_trans (show sb + 6 ≤ sb + 3829 from by omega) hR.2) dL_law_1003
theorem cB_L_law_1024 {X : x_Ctx} {M0 : Mem} {L : Nat} {xs : Nat → Int32} {cb sb : Nat} (C : x_CC X 108 3296 yL_law cL_law 7 (some .boolean) []) {k23 : Nat → Nat → Nat → Nat → Int → Mem → Option (Int × Mem)} (hk23 : ∀ (v0 : Nat) (v1 : Nat) (v2 : Nat) (v3 : Nat) (v4 : Int) (M : Mem) (r : Int) (M' : Mem), (va_X v0 L xs (XS X) (XS X).heap ∧ L < 2 ^ 31) → m_kd M v1 = 1 → m_kd M v2 = 5 → m_kd M v3 = 19000 → k23 v0 v1 v2 v3 v4 M = some (r, M') → cb + 14 ≤ (XR X).cells ∧ sb + 3829 ≤ (XR X).slots → x_Z X (cb + 14) (sb + 3829) (x_QF X M0 (.returned (some (vI r))) M' (XR X).cells (XR X).slots) M0 M 7 [(0, .ref v0), (1, .ref v1), (2, .ref v2), (3, .ref v3), (4, vI v4)] 23 []) (v0 : Nat) (v1 : Nat) (v2 : Nat) (v3 : Nat) (v4 : Int) (M : Mem) (r : Int) (M' : Mem) (hv0 : (va_X v0 L xs (XS X) (XS X).heap ∧ L < 2 ^ 31)) (hv1 : m_kd M v1 = 1) (hv2 : m_kd M v2 = 5) (hv3 : m_kd M v3 = 19000) (h : B_L_law_1024 L xs k23 v0 v1 v2 v3 v4 M = some (r, M')) (hR : cb + 14 ≤ (XR X).cells ∧ sb + 3829 ≤ (XR X).slots) : x_Z X (cb + 0) (sb + 0) (x_QF X M0 (.returned (some (vI r))) M' (XR X).cells (XR X).slots) M0 M 7 [(0, .ref v0), (1, .ref v1), (2, .ref v2), (3, .ref v3), (4, vI v4)] 1024 [] := by
  unfold B_L_law_1024 at h
  refine z_aload_n (pc := 1024) C 1 rfl dL_law_1024 ?_
  refine z_aload_n (pc := 1025) C 0 rfl dL_law_1025 ?_
  refine z_iload (pc := 1026) C 4 rfl dL_law_1026 ?_
  refine z_iconst (pc := 1028) C dL_law_1028 ?_
  refine z_iadd (pc := 1029) C dL_law_1029 ?_
  obtain ⟨c276, h⟩ := ifn h
  refine z_sld (pc := 1030) C hv0.1 c276 dL_law_1030 ?_
  refine z_aload_n (pc := 1031) C 0 rfl dL_law_1031 ?_
  refine z_iload (pc := 1032) C 4 rfl dL_law_1032 ?_
  refine z_iconst (pc := 1034) C dL_law_1034 ?_
  refine z_iadd (pc := 1035) C dL_law_1035 ?_
  obtain ⟨c277, h⟩ := ifn h
  refine z_sld (pc := 1036) C hv0.1 c277 dL_law_1036 ?_
  refine z_aload_n (pc := 1037) C 3 rfl dL_law_1037 ?_
  obtain ⟨r278, M279, e280, h⟩ := bNs h
  refine cX0_192 (pc := 1038) (st := []) (st1 := [vI r278]) C rfl (rm := { frames := 9, cells := 1, slots := 6, locals := 256 }) (ct_X0_answer C.2.1 v1 ((xs (ixn (v4 + 1))).toInt) ((xs (ixn (v4 + 2))).toInt) v3 M _ _ hv1 hv3 e280) ⟨by decide, by decide, Nat.le_trans (show cb + 1 ≤ cb + 14 from by omega) hR.1, Nat.le_trans (show sb + 6 ≤ sb + 3829 from by omega) hR.2⟩ rfl (Nat.le_of_ble_eq_true rfl) dL_law_1038 (c2 := cb + 1) (s2 := sb + 6) rfl rfl (fun x281 => ?_)
  have k282 := x281 _ 1 (by decide) (Or.inl (by decide)) hv1
  have k283 := x281 _ 5 (by decide) (Or.inl (by decide)) hv2
  have k284 := x281 _ 19000 (by decide) (Or.inr (by decide)) hv3
  refine z_istore (pc := 1041) C (lv' := [(0, .ref v0), (1, .ref v1), (2, .ref v2), (3, .ref v3), (4, vI v4), (5, vI r278)]) (by decide) rfl dL_law_1041 ?_
  refine z_aload_n (pc := 1043) C 2 rfl dL_law_1043 ?_
  refine z_aload_n (pc := 1044) C 0 rfl dL_law_1044 ?_
  refine z_iload (pc := 1045) C 4 rfl dL_law_1045 ?_
  refine z_iconst (pc := 1047) C dL_law_1047 ?_
  refine z_iadd (pc := 1048) C dL_law_1048 ?_
  refine z_sld (pc := 1049) C hv0.1 c276 dL_law_1049 ?_
  refine z_aload_n (pc := 1050) C 0 rfl dL_law_1050 ?_
  refine z_iload (pc := 1051) C 4 rfl dL_law_1051 ?_
  refine z_iconst (pc := 1053) C dL_law_1053 ?_
  refine z_iadd (pc := 1054) C dL_law_1054 ?_
  refine z_sld (pc := 1055) C hv0.1 c277 dL_law_1055 ?_
  obtain ⟨r285, M286, e287, h⟩ := bNs h
  refine cX0_194 (pc := 1056) (st := []) (st1 := [vI r285]) C rfl (rm := { frames := 7, cells := 0, slots := 0, locals := 198 }) (ct_X5_answer C.2.1 v2 ((xs (ixn (v4 + 1))).toInt) ((xs (ixn (v4 + 2))).toInt) M279 _ _ k283 e287) ⟨by decide, by decide, Nat.le_trans (show cb + 1 ≤ cb + 14 from by omega) hR.1, Nat.le_trans (show sb + 6 ≤ sb + 3829 from by omega) hR.2⟩ (Or.inl k283) rfl (Nat.le_of_ble_eq_true rfl) dL_law_1056 (c2 := cb + 1) (s2 := sb + 6) rfl rfl (fun x288 => ?_)
  have k289 := x288 _ 1 (by decide) (Or.inl (by decide)) k282
  have k290 := x288 _ 5 (by decide) (Or.inl (by decide)) k283
  have k291 := x288 _ 19000 (by decide) (Or.inr (by decide)) k284
  refine z_istore (pc := 1059) C (lv' := [(0, .ref v0), (1, .ref v1), (2, .ref v2), (3, .ref v3), (4, vI v4), (5, vI r278), (6, vI r285)]) (by decide) rfl dL_law_1059 ?_
  refine z_aload_n (pc := 1061) C 2 rfl dL_law_1061 ?_
  refine cX0_151 (pc := 1062) (st := []) (st1 := [vI (d_X5_thrown v2 M286)]) C rfl (rm := { frames := 1, cells := 0, slots := 0, locals := 24 }) (ct_X5_thrown C.2.1 v2 M286 _ k290 rfl) ⟨by decide, by decide, Nat.le_trans (show cb + 1 ≤ cb + 14 from by omega) hR.1, Nat.le_trans (show sb + 6 ≤ sb + 3829 from by omega) hR.2⟩ (Or.inl k290) rfl (Nat.le_of_ble_eq_true rfl) dL_law_1062 (c2 := cb + 1) (s2 := sb + 6) rfl rfl (fun _ => ?_)
  refine z_iload (pc := 1065) C 5 rfl dL_law_1065 ?_
  refine z_ic_eq (pc := 1067) C dL_law_1067 (tgt := 1072) (by decide) (fun c293 => ?_) (fun c293 => ?_)
  · have h := itt c293 h
    refine z_iload (pc := 1072) C 5 rfl dL_law_1072 ?_
    refine z_if_ne (pc := 1074) C dL_law_1074 (tgt := 1089) (by decide) (fun c294 => ?_) (fun c294 => ?_)
    · have h := itf c294 h
      refine z_goto (pc := 1089) C dL_law_1089 (tgt := 3074) (by decide) ?_
      exact z_wide (show cb + 1 ≤ cb + 14 from by omega) (show sb + 6 ≤ sb + 3829 from by omega) <| z_lv [0, 1, 2, 3, 4] rfl <| cB_L_law_3074 C hk23 v0 v1 v2 v3 v4 M286 _ _ hv0 k289 k290 k291 h hR
    · have h := itt c294 h
      refine z_aload_n (pc := 1077) C 3 rfl dL_law_1077 ?_
      refine z_iconst (pc := 1078) C dL_law_1078 ?_
      refine z_law (pc := 1079) C k291 (by decide +kernel) dL_law_1079 ?_
      refine z_iload (pc := 1080) C 6 rfl dL_law_1080 ?_
      refine z_i2l (pc := 1082) C dL_law_1082 ?_
      refine z_lc_eq (pc := 1083) C dL_law_1083 dL_law_1084 (tgt := 1089) (by decide) (fun c295 => ?_) (fun c295 => ?_)
      · have h := itt c295 h
        refine z_goto (pc := 1089) C dL_law_1089 (tgt := 3074) (by decide) ?_
        exact z_wide (show cb + 1 ≤ cb + 14 from by omega) (show sb + 6 ≤ sb + 3829 from by omega) <| z_lv [0, 1, 2, 3, 4] rfl <| cB_L_law_3074 C hk23 v0 v1 v2 v3 v4 M286 _ _ hv0 k289 k290 k291 h hR
      · have h := itf c295 h
        refine z_iconst (pc := 1087) C dL_law_1087 ?_
        cases h
        exact z_zret (pc := 1088) C rfl (Or.inl rfl) (Nat.le_trans (show cb + 1 ≤ cb + 14 from by omega) hR.1) (Nat.le_trans (show sb + 6 ≤ sb + 3829 from by omega) hR.2) dL_law_1088
  · have h := itf c293 h
    refine z_iconst (pc := 1070) C dL_law_1070 ?_
    cases h
    exact z_zret (pc := 1071) C rfl (Or.inl rfl) (Nat.le_trans (show cb + 1 ≤ cb + 14 from by omega) hR.1) (Nat.le_trans (show sb + 6 ≤ sb + 3829 from by omega) hR.2) dL_law_1071
theorem cB_L_law_1092 {X : x_Ctx} {M0 : Mem} {L : Nat} {xs : Nat → Int32} {cb sb : Nat} (C : x_CC X 108 3296 yL_law cL_law 7 (some .boolean) []) {k23 : Nat → Nat → Nat → Nat → Int → Mem → Option (Int × Mem)} (hk23 : ∀ (v0 : Nat) (v1 : Nat) (v2 : Nat) (v3 : Nat) (v4 : Int) (M : Mem) (r : Int) (M' : Mem), (va_X v0 L xs (XS X) (XS X).heap ∧ L < 2 ^ 31) → m_kd M v1 = 1 → m_kd M v2 = 5 → m_kd M v3 = 19000 → k23 v0 v1 v2 v3 v4 M = some (r, M') → cb + 14 ≤ (XR X).cells ∧ sb + 3829 ≤ (XR X).slots → x_Z X (cb + 14) (sb + 3829) (x_QF X M0 (.returned (some (vI r))) M' (XR X).cells (XR X).slots) M0 M 7 [(0, .ref v0), (1, .ref v1), (2, .ref v2), (3, .ref v3), (4, vI v4)] 23 []) (v0 : Nat) (v1 : Nat) (v2 : Nat) (v3 : Nat) (v4 : Int) (M : Mem) (r : Int) (M' : Mem) (hv0 : (va_X v0 L xs (XS X) (XS X).heap ∧ L < 2 ^ 31)) (hv1 : m_kd M v1 = 1) (hv2 : m_kd M v2 = 5) (hv3 : m_kd M v3 = 19000) (h : B_L_law_1092 L xs k23 v0 v1 v2 v3 v4 M = some (r, M')) (hR : cb + 14 ≤ (XR X).cells ∧ sb + 3829 ≤ (XR X).slots) : x_Z X (cb + 0) (sb + 0) (x_QF X M0 (.returned (some (vI r))) M' (XR X).cells (XR X).slots) M0 M 7 [(0, .ref v0), (1, .ref v1), (2, .ref v2), (3, .ref v3), (4, vI v4)] 1092 [] := by
  unfold B_L_law_1092 at h
  refine z_aload_n (pc := 1092) C 1 rfl dL_law_1092 ?_
  refine z_aload_n (pc := 1093) C 0 rfl dL_law_1093 ?_
  refine z_iload (pc := 1094) C 4 rfl dL_law_1094 ?_
  refine z_iconst (pc := 1096) C dL_law_1096 ?_
  refine z_iadd (pc := 1097) C dL_law_1097 ?_
  obtain ⟨c297, h⟩ := ifn h
  refine z_sld (pc := 1098) C hv0.1 c297 dL_law_1098 ?_
  refine z_aload_n (pc := 1099) C 3 rfl dL_law_1099 ?_
  obtain ⟨r298, M299, e300, h⟩ := bNs h
  refine cX0_195 (pc := 1100) (st := []) (st1 := [vI r298]) C rfl (rm := { frames := 9, cells := 1, slots := 6, locals := 225 }) (ct_X0_back C.2.1 v1 ((xs (ixn (v4 + 1))).toInt) v3 M _ _ hv1 hv3 e300) ⟨by decide, by decide, Nat.le_trans (show cb + 1 ≤ cb + 14 from by omega) hR.1, Nat.le_trans (show sb + 6 ≤ sb + 3829 from by omega) hR.2⟩ rfl (Nat.le_of_ble_eq_true rfl) dL_law_1100 (c2 := cb + 1) (s2 := sb + 6) rfl rfl (fun x301 => ?_)
  have k302 := x301 _ 1 (by decide) (Or.inl (by decide)) hv1
  have k303 := x301 _ 5 (by decide) (Or.inl (by decide)) hv2
  have k304 := x301 _ 19000 (by decide) (Or.inr (by decide)) hv3
  refine z_istore (pc := 1103) C (lv' := [(0, .ref v0), (1, .ref v1), (2, .ref v2), (3, .ref v3), (4, vI v4), (5, vI r298)]) (by decide) rfl dL_law_1103 ?_
  refine z_aload_n (pc := 1105) C 2 rfl dL_law_1105 ?_
  refine z_aload_n (pc := 1106) C 0 rfl dL_law_1106 ?_
  refine z_iload (pc := 1107) C 4 rfl dL_law_1107 ?_
  refine z_iconst (pc := 1109) C dL_law_1109 ?_
  refine z_iadd (pc := 1110) C dL_law_1110 ?_
  refine z_sld (pc := 1111) C hv0.1 c297 dL_law_1111 ?_
  obtain ⟨r305, M306, e307, h⟩ := bNs h
  refine cX0_197 (pc := 1112) (st := []) (st1 := [vI r305]) C rfl (rm := { frames := 6, cells := 0, slots := 0, locals := 172 }) (ct_X5_back C.2.1 v2 ((xs (ixn (v4 + 1))).toInt) M299 _ _ k303 e307) ⟨by decide, by decide, Nat.le_trans (show cb + 1 ≤ cb + 14 from by omega) hR.1, Nat.le_trans (show sb + 6 ≤ sb + 3829 from by omega) hR.2⟩ (Or.inl k303) rfl (Nat.le_of_ble_eq_true rfl) dL_law_1112 (c2 := cb + 1) (s2 := sb + 6) rfl rfl (fun x308 => ?_)
  have k309 := x308 _ 1 (by decide) (Or.inl (by decide)) k302
  have k310 := x308 _ 5 (by decide) (Or.inl (by decide)) k303
  have k311 := x308 _ 19000 (by decide) (Or.inr (by decide)) k304
  refine z_istore (pc := 1115) C (lv' := [(0, .ref v0), (1, .ref v1), (2, .ref v2), (3, .ref v3), (4, vI v4), (5, vI r298), (6, vI r305)]) (by decide) rfl dL_law_1115 ?_
  refine z_aload_n (pc := 1117) C 2 rfl dL_law_1117 ?_
  refine cX0_151 (pc := 1118) (st := []) (st1 := [vI (d_X5_thrown v2 M306)]) C rfl (rm := { frames := 1, cells := 0, slots := 0, locals := 24 }) (ct_X5_thrown C.2.1 v2 M306 _ k310 rfl) ⟨by decide, by decide, Nat.le_trans (show cb + 1 ≤ cb + 14 from by omega) hR.1, Nat.le_trans (show sb + 6 ≤ sb + 3829 from by omega) hR.2⟩ (Or.inl k310) rfl (Nat.le_of_ble_eq_true rfl) dL_law_1118 (c2 := cb + 1) (s2 := sb + 6) rfl rfl (fun _ => ?_)
  refine z_iload (pc := 1121) C 5 rfl dL_law_1121 ?_
  refine z_ic_eq (pc := 1123) C dL_law_1123 (tgt := 1128) (by decide) (fun c313 => ?_) (fun c313 => ?_)
  · have h := itt c313 h
    refine z_iload (pc := 1128) C 5 rfl dL_law_1128 ?_
    refine z_if_ne (pc := 1130) C dL_law_1130 (tgt := 1145) (by decide) (fun c314 => ?_) (fun c314 => ?_)
    · have h := itf c314 h
      refine z_goto (pc := 1145) C dL_law_1145 (tgt := 3074) (by decide) ?_
      exact z_wide (show cb + 1 ≤ cb + 14 from by omega) (show sb + 6 ≤ sb + 3829 from by omega) <| z_lv [0, 1, 2, 3, 4] rfl <| cB_L_law_3074 C hk23 v0 v1 v2 v3 v4 M306 _ _ hv0 k309 k310 k311 h hR
    · have h := itt c314 h
      refine z_aload_n (pc := 1133) C 3 rfl dL_law_1133 ?_
      refine z_iconst (pc := 1134) C dL_law_1134 ?_
      refine z_law (pc := 1135) C k311 (by decide +kernel) dL_law_1135 ?_
      refine z_iload (pc := 1136) C 6 rfl dL_law_1136 ?_
      refine z_i2l (pc := 1138) C dL_law_1138 ?_
      refine z_lc_eq (pc := 1139) C dL_law_1139 dL_law_1140 (tgt := 1145) (by decide) (fun c315 => ?_) (fun c315 => ?_)
      · have h := itt c315 h
        refine z_goto (pc := 1145) C dL_law_1145 (tgt := 3074) (by decide) ?_
        exact z_wide (show cb + 1 ≤ cb + 14 from by omega) (show sb + 6 ≤ sb + 3829 from by omega) <| z_lv [0, 1, 2, 3, 4] rfl <| cB_L_law_3074 C hk23 v0 v1 v2 v3 v4 M306 _ _ hv0 k309 k310 k311 h hR
      · have h := itf c315 h
        refine z_iconst (pc := 1143) C dL_law_1143 ?_
        cases h
        exact z_zret (pc := 1144) C rfl (Or.inl rfl) (Nat.le_trans (show cb + 1 ≤ cb + 14 from by omega) hR.1) (Nat.le_trans (show sb + 6 ≤ sb + 3829 from by omega) hR.2) dL_law_1144
  · have h := itf c313 h
    refine z_iconst (pc := 1126) C dL_law_1126 ?_
    cases h
    exact z_zret (pc := 1127) C rfl (Or.inl rfl) (Nat.le_trans (show cb + 1 ≤ cb + 14 from by omega) hR.1) (Nat.le_trans (show sb + 6 ≤ sb + 3829 from by omega) hR.2) dL_law_1127
theorem cB_L_law_1208 {X : x_Ctx} {M0 : Mem} {L : Nat} {xs : Nat → Int32} {cb sb : Nat} (C : x_CC X 108 3296 yL_law cL_law 7 (some .boolean) []) {k23 : Nat → Nat → Nat → Nat → Int → Mem → Option (Int × Mem)} (hk23 : ∀ (v0 : Nat) (v1 : Nat) (v2 : Nat) (v3 : Nat) (v4 : Int) (M : Mem) (r : Int) (M' : Mem), (va_X v0 L xs (XS X) (XS X).heap ∧ L < 2 ^ 31) → m_kd M v1 = 1 → m_kd M v2 = 5 → m_kd M v3 = 19000 → k23 v0 v1 v2 v3 v4 M = some (r, M') → cb + 14 ≤ (XR X).cells ∧ sb + 3829 ≤ (XR X).slots → x_Z X (cb + 14) (sb + 3829) (x_QF X M0 (.returned (some (vI r))) M' (XR X).cells (XR X).slots) M0 M 7 [(0, .ref v0), (1, .ref v1), (2, .ref v2), (3, .ref v3), (4, vI v4)] 23 []) (v0 : Nat) (v1 : Nat) (v2 : Nat) (v3 : Nat) (v4 : Int) (v5 : Int) (s0 : Nat) (s1 : Int) (s2 : Int) (s3 : Int) (M : Mem) (r : Int) (M' : Mem) (hv0 : (va_X v0 L xs (XS X) (XS X).heap ∧ L < 2 ^ 31)) (hv1 : m_kd M v1 = 1) (hv2 : m_kd M v2 = 5) (hv3 : m_kd M v3 = 19000) (hs0 : m_kd M s0 = 5) (h : B_L_law_1208 L xs k23 v0 v1 v2 v3 v4 v5 s0 s1 s2 s3 M = some (r, M')) (hR : cb + 14 ≤ (XR X).cells ∧ sb + 3829 ≤ (XR X).slots) : x_Z X (cb + 1) (sb + 6) (x_QF X M0 (.returned (some (vI r))) M' (XR X).cells (XR X).slots) M0 M 7 [(0, .ref v0), (1, .ref v1), (2, .ref v2), (3, .ref v3), (4, vI v4), (5, vI v5)] 1208 [vI s3, vI s2, vI s1, .ref s0] := by
  unfold B_L_law_1208 at h
  obtain ⟨r332, M333, e334, h⟩ := bNs h
  refine cX0_201 (pc := 1208) (st := []) (st1 := [vI r332]) C rfl (rm := { frames := 5, cells := 0, slots := 0, locals := 147 }) (ct_X5_given C.2.1 s0 s1 s2 s3 M _ _ hs0 e334) ⟨by decide, by decide, Nat.le_trans (show cb + 1 ≤ cb + 14 from by omega) hR.1, Nat.le_trans (show sb + 6 ≤ sb + 3829 from by omega) hR.2⟩ (Or.inl hs0) rfl (Nat.le_of_ble_eq_true rfl) dL_law_1208 (c2 := cb + 1) (s2 := sb + 6) rfl rfl (fun x335 => ?_)
  have k336 := x335 _ 1 (by decide) (Or.inl (by decide)) hv1
  have k337 := x335 _ 5 (by decide) (Or.inl (by decide)) hv2
  have k338 := x335 _ 19000 (by decide) (Or.inr (by decide)) hv3
  refine z_istore (pc := 1211) C (lv' := [(0, .ref v0), (1, .ref v1), (2, .ref v2), (3, .ref v3), (4, vI v4), (5, vI v5), (6, vI r332)]) (by decide) rfl dL_law_1211 ?_
  refine z_aload_n (pc := 1213) C 2 rfl dL_law_1213 ?_
  refine cX0_151 (pc := 1214) (st := []) (st1 := [vI (d_X5_thrown v2 M333)]) C rfl (rm := { frames := 1, cells := 0, slots := 0, locals := 24 }) (ct_X5_thrown C.2.1 v2 M333 _ k337 rfl) ⟨by decide, by decide, Nat.le_trans (show cb + 1 ≤ cb + 14 from by omega) hR.1, Nat.le_trans (show sb + 6 ≤ sb + 3829 from by omega) hR.2⟩ (Or.inl k337) rfl (Nat.le_of_ble_eq_true rfl) dL_law_1214 (c2 := cb + 1) (s2 := sb + 6) rfl rfl (fun _ => ?_)
  refine z_iload (pc := 1217) C 5 rfl dL_law_1217 ?_
  refine z_ic_eq (pc := 1219) C dL_law_1219 (tgt := 1224) (by decide) (fun c340 => ?_) (fun c340 => ?_)
  · have h := itt c340 h
    refine z_iload (pc := 1224) C 5 rfl dL_law_1224 ?_
    refine z_if_ne (pc := 1226) C dL_law_1226 (tgt := 1241) (by decide) (fun c341 => ?_) (fun c341 => ?_)
    · have h := itf c341 h
      refine z_goto (pc := 1241) C dL_law_1241 (tgt := 3074) (by decide) ?_
      exact z_wide (show cb + 1 ≤ cb + 14 from by omega) (show sb + 6 ≤ sb + 3829 from by omega) <| z_lv [0, 1, 2, 3, 4] rfl <| cB_L_law_3074 C hk23 v0 v1 v2 v3 v4 M333 _ _ hv0 k336 k337 k338 h hR
    · have h := itt c341 h
      refine z_aload_n (pc := 1229) C 3 rfl dL_law_1229 ?_
      refine z_iconst (pc := 1230) C dL_law_1230 ?_
      refine z_law (pc := 1231) C k338 (by decide +kernel) dL_law_1231 ?_
      refine z_iload (pc := 1232) C 6 rfl dL_law_1232 ?_
      refine z_i2l (pc := 1234) C dL_law_1234 ?_
      refine z_lc_eq (pc := 1235) C dL_law_1235 dL_law_1236 (tgt := 1241) (by decide) (fun c342 => ?_) (fun c342 => ?_)
      · have h := itt c342 h
        refine z_goto (pc := 1241) C dL_law_1241 (tgt := 3074) (by decide) ?_
        exact z_wide (show cb + 1 ≤ cb + 14 from by omega) (show sb + 6 ≤ sb + 3829 from by omega) <| z_lv [0, 1, 2, 3, 4] rfl <| cB_L_law_3074 C hk23 v0 v1 v2 v3 v4 M333 _ _ hv0 k336 k337 k338 h hR
      · have h := itf c342 h
        refine z_iconst (pc := 1239) C dL_law_1239 ?_
        cases h
        exact z_zret (pc := 1240) C rfl (Or.inl rfl) (Nat.le_trans (show cb + 1 ≤ cb + 14 from by omega) hR.1) (Nat.le_trans (show sb + 6 ≤ sb + 3829 from by omega) hR.2) dL_law_1240
  · have h := itf c340 h
    refine z_iconst (pc := 1222) C dL_law_1222 ?_
    cases h
    exact z_zret (pc := 1223) C rfl (Or.inl rfl) (Nat.le_trans (show cb + 1 ≤ cb + 14 from by omega) hR.1) (Nat.le_trans (show sb + 6 ≤ sb + 3829 from by omega) hR.2) dL_law_1223
theorem cB_L_law_1175 {X : x_Ctx} {M0 : Mem} {L : Nat} {xs : Nat → Int32} {cb sb : Nat} (C : x_CC X 108 3296 yL_law cL_law 7 (some .boolean) []) {k23 : Nat → Nat → Nat → Nat → Int → Mem → Option (Int × Mem)} (hk23 : ∀ (v0 : Nat) (v1 : Nat) (v2 : Nat) (v3 : Nat) (v4 : Int) (M : Mem) (r : Int) (M' : Mem), (va_X v0 L xs (XS X) (XS X).heap ∧ L < 2 ^ 31) → m_kd M v1 = 1 → m_kd M v2 = 5 → m_kd M v3 = 19000 → k23 v0 v1 v2 v3 v4 M = some (r, M') → cb + 14 ≤ (XR X).cells ∧ sb + 3829 ≤ (XR X).slots → x_Z X (cb + 14) (sb + 3829) (x_QF X M0 (.returned (some (vI r))) M' (XR X).cells (XR X).slots) M0 M 7 [(0, .ref v0), (1, .ref v1), (2, .ref v2), (3, .ref v3), (4, vI v4)] 23 []) (v0 : Nat) (v1 : Nat) (v2 : Nat) (v3 : Nat) (v4 : Int) (s0 : Nat) (s1 : Int) (s2 : Int) (s3 : Int) (M : Mem) (r : Int) (M' : Mem) (hv0 : (va_X v0 L xs (XS X) (XS X).heap ∧ L < 2 ^ 31)) (hv1 : m_kd M v1 = 1) (hv2 : m_kd M v2 = 5) (hv3 : m_kd M v3 = 19000) (hs0 : m_kd M s0 = 1) (h : B_L_law_1175 L xs k23 v0 v1 v2 v3 v4 s0 s1 s2 s3 M = some (r, M')) (hR : cb + 14 ≤ (XR X).cells ∧ sb + 3829 ≤ (XR X).slots) : x_Z X (cb + 0) (sb + 0) (x_QF X M0 (.returned (some (vI r))) M' (XR X).cells (XR X).slots) M0 M 7 [(0, .ref v0), (1, .ref v1), (2, .ref v2), (3, .ref v3), (4, vI v4)] 1175 [vI s3, vI s2, vI s1, .ref s0] := by
  unfold B_L_law_1175 at h
  refine z_aload_n (pc := 1175) C 3 rfl dL_law_1175 ?_
  obtain ⟨r321, M322, e323, h⟩ := bNs h
  refine cX0_198 (pc := 1176) (st := []) (st1 := [vI r321]) C rfl (rm := { frames := 9, cells := 1, slots := 6, locals := 167 }) (ct_X0_given C.2.1 s0 s1 s2 s3 v3 M _ _ hs0 hv3 e323) ⟨by decide, by decide, Nat.le_trans (show cb + 1 ≤ cb + 14 from by omega) hR.1, Nat.le_trans (show sb + 6 ≤ sb + 3829 from by omega) hR.2⟩ rfl (Nat.le_of_ble_eq_true rfl) dL_law_1176 (c2 := cb + 1) (s2 := sb + 6) rfl rfl (fun x324 => ?_)
  have k325 := x324 _ 1 (by decide) (Or.inl (by decide)) hv1
  have k326 := x324 _ 5 (by decide) (Or.inl (by decide)) hv2
  have k327 := x324 _ 19000 (by decide) (Or.inr (by decide)) hv3
  refine z_istore (pc := 1179) C (lv' := [(0, .ref v0), (1, .ref v1), (2, .ref v2), (3, .ref v3), (4, vI v4), (5, vI r321)]) (by decide) rfl dL_law_1179 ?_
  refine z_aload_n (pc := 1181) C 2 rfl dL_law_1181 ?_
  refine z_aload_n (pc := 1182) C 0 rfl dL_law_1182 ?_
  refine z_iload (pc := 1183) C 4 rfl dL_law_1183 ?_
  refine z_iconst (pc := 1185) C dL_law_1185 ?_
  refine z_iadd (pc := 1186) C dL_law_1186 ?_
  obtain ⟨c328, h⟩ := ifn h
  refine z_sld (pc := 1187) C hv0.1 c328 dL_law_1187 ?_
  refine z_aload_n (pc := 1188) C 0 rfl dL_law_1188 ?_
  refine z_iload (pc := 1189) C 4 rfl dL_law_1189 ?_
  refine z_iconst (pc := 1191) C dL_law_1191 ?_
  refine z_iadd (pc := 1192) C dL_law_1192 ?_
  obtain ⟨c329, h⟩ := ifn h
  refine z_sld (pc := 1193) C hv0.1 c329 dL_law_1193 ?_
  refine z_aload_n (pc := 1194) C 0 rfl dL_law_1194 ?_
  refine z_iload (pc := 1195) C 4 rfl dL_law_1195 ?_
  refine z_iconst (pc := 1197) C dL_law_1197 ?_
  refine z_iadd (pc := 1198) C dL_law_1198 ?_
  obtain ⟨c330, h⟩ := ifn h
  refine z_sld (pc := 1199) C hv0.1 c330 dL_law_1199 ?_
  refine z_if_eq (pc := 1200) C dL_law_1200 (tgt := 1207) (by decide) (fun c331 => ?_) (fun c331 => ?_)
  · have h := itt c331 h
    refine z_iconst (pc := 1207) C dL_law_1207 ?_
    exact cB_L_law_1208 C hk23 v0 v1 v2 v3 v4 r321 v2 ((xs (ixn (v4 + 1))).toInt) ((xs (ixn (v4 + 2))).toInt) 0 M322 _ _ hv0 k325 k326 k327 k326 h hR
  · have h := itf c331 h
    refine z_iconst (pc := 1203) C dL_law_1203 ?_
    refine z_goto (pc := 1204) C dL_law_1204 (tgt := 1208) (by decide) ?_
    exact cB_L_law_1208 C hk23 v0 v1 v2 v3 v4 r321 v2 ((xs (ixn (v4 + 1))).toInt) ((xs (ixn (v4 + 2))).toInt) 1 M322 _ _ hv0 k325 k326 k327 k326 h hR
theorem cB_L_law_1148 {X : x_Ctx} {M0 : Mem} {L : Nat} {xs : Nat → Int32} {cb sb : Nat} (C : x_CC X 108 3296 yL_law cL_law 7 (some .boolean) []) {k23 : Nat → Nat → Nat → Nat → Int → Mem → Option (Int × Mem)} (hk23 : ∀ (v0 : Nat) (v1 : Nat) (v2 : Nat) (v3 : Nat) (v4 : Int) (M : Mem) (r : Int) (M' : Mem), (va_X v0 L xs (XS X) (XS X).heap ∧ L < 2 ^ 31) → m_kd M v1 = 1 → m_kd M v2 = 5 → m_kd M v3 = 19000 → k23 v0 v1 v2 v3 v4 M = some (r, M') → cb + 14 ≤ (XR X).cells ∧ sb + 3829 ≤ (XR X).slots → x_Z X (cb + 14) (sb + 3829) (x_QF X M0 (.returned (some (vI r))) M' (XR X).cells (XR X).slots) M0 M 7 [(0, .ref v0), (1, .ref v1), (2, .ref v2), (3, .ref v3), (4, vI v4)] 23 []) (v0 : Nat) (v1 : Nat) (v2 : Nat) (v3 : Nat) (v4 : Int) (M : Mem) (r : Int) (M' : Mem) (hv0 : (va_X v0 L xs (XS X) (XS X).heap ∧ L < 2 ^ 31)) (hv1 : m_kd M v1 = 1) (hv2 : m_kd M v2 = 5) (hv3 : m_kd M v3 = 19000) (h : B_L_law_1148 L xs k23 v0 v1 v2 v3 v4 M = some (r, M')) (hR : cb + 14 ≤ (XR X).cells ∧ sb + 3829 ≤ (XR X).slots) : x_Z X (cb + 0) (sb + 0) (x_QF X M0 (.returned (some (vI r))) M' (XR X).cells (XR X).slots) M0 M 7 [(0, .ref v0), (1, .ref v1), (2, .ref v2), (3, .ref v3), (4, vI v4)] 1148 [] := by
  unfold B_L_law_1148 at h
  refine z_aload_n (pc := 1148) C 1 rfl dL_law_1148 ?_
  refine z_aload_n (pc := 1149) C 0 rfl dL_law_1149 ?_
  refine z_iload (pc := 1150) C 4 rfl dL_law_1150 ?_
  refine z_iconst (pc := 1152) C dL_law_1152 ?_
  refine z_iadd (pc := 1153) C dL_law_1153 ?_
  obtain ⟨c317, h⟩ := ifn h
  refine z_sld (pc := 1154) C hv0.1 c317 dL_law_1154 ?_
  refine z_aload_n (pc := 1155) C 0 rfl dL_law_1155 ?_
  refine z_iload (pc := 1156) C 4 rfl dL_law_1156 ?_
  refine z_iconst (pc := 1158) C dL_law_1158 ?_
  refine z_iadd (pc := 1159) C dL_law_1159 ?_
  obtain ⟨c318, h⟩ := ifn h
  refine z_sld (pc := 1160) C hv0.1 c318 dL_law_1160 ?_
  refine z_aload_n (pc := 1161) C 0 rfl dL_law_1161 ?_
  refine z_iload (pc := 1162) C 4 rfl dL_law_1162 ?_
  refine z_iconst (pc := 1164) C dL_law_1164 ?_
  refine z_iadd (pc := 1165) C dL_law_1165 ?_
  obtain ⟨c319, h⟩ := ifn h
  refine z_sld (pc := 1166) C hv0.1 c319 dL_law_1166 ?_
  refine z_if_eq (pc := 1167) C dL_law_1167 (tgt := 1174) (by decide) (fun c320 => ?_) (fun c320 => ?_)
  · have h := itt c320 h
    refine z_iconst (pc := 1174) C dL_law_1174 ?_
    exact cB_L_law_1175 C hk23 v0 v1 v2 v3 v4 v1 ((xs (ixn (v4 + 1))).toInt) ((xs (ixn (v4 + 2))).toInt) 0 M _ _ hv0 hv1 hv2 hv3 hv1 h hR
  · have h := itf c320 h
    refine z_iconst (pc := 1170) C dL_law_1170 ?_
    refine z_goto (pc := 1171) C dL_law_1171 (tgt := 1175) (by decide) ?_
    exact cB_L_law_1175 C hk23 v0 v1 v2 v3 v4 v1 ((xs (ixn (v4 + 1))).toInt) ((xs (ixn (v4 + 2))).toInt) 1 M _ _ hv0 hv1 hv2 hv3 hv1 h hR
theorem cB_L_law_1244 {X : x_Ctx} {M0 : Mem} {L : Nat} {xs : Nat → Int32} {cb sb : Nat} (C : x_CC X 108 3296 yL_law cL_law 7 (some .boolean) []) {k23 : Nat → Nat → Nat → Nat → Int → Mem → Option (Int × Mem)} (hk23 : ∀ (v0 : Nat) (v1 : Nat) (v2 : Nat) (v3 : Nat) (v4 : Int) (M : Mem) (r : Int) (M' : Mem), (va_X v0 L xs (XS X) (XS X).heap ∧ L < 2 ^ 31) → m_kd M v1 = 1 → m_kd M v2 = 5 → m_kd M v3 = 19000 → k23 v0 v1 v2 v3 v4 M = some (r, M') → cb + 14 ≤ (XR X).cells ∧ sb + 3829 ≤ (XR X).slots → x_Z X (cb + 14) (sb + 3829) (x_QF X M0 (.returned (some (vI r))) M' (XR X).cells (XR X).slots) M0 M 7 [(0, .ref v0), (1, .ref v1), (2, .ref v2), (3, .ref v3), (4, vI v4)] 23 []) (v0 : Nat) (v1 : Nat) (v2 : Nat) (v3 : Nat) (v4 : Int) (M : Mem) (r : Int) (M' : Mem) (hv0 : (va_X v0 L xs (XS X) (XS X).heap ∧ L < 2 ^ 31)) (hv1 : m_kd M v1 = 1) (hv2 : m_kd M v2 = 5) (hv3 : m_kd M v3 = 19000) (h : B_L_law_1244 L xs k23 v0 v1 v2 v3 v4 M = some (r, M')) (hR : cb + 14 ≤ (XR X).cells ∧ sb + 3829 ≤ (XR X).slots) : x_Z X (cb + 0) (sb + 0) (x_QF X M0 (.returned (some (vI r))) M' (XR X).cells (XR X).slots) M0 M 7 [(0, .ref v0), (1, .ref v1), (2, .ref v2), (3, .ref v3), (4, vI v4)] 1244 [] := by
  unfold B_L_law_1244 at h
  refine z_aload_n (pc := 1244) C 1 rfl dL_law_1244 ?_
  refine z_aload_n (pc := 1245) C 0 rfl dL_law_1245 ?_
  refine z_iload (pc := 1246) C 4 rfl dL_law_1246 ?_
  refine z_iconst (pc := 1248) C dL_law_1248 ?_
  refine z_iadd (pc := 1249) C dL_law_1249 ?_
  obtain ⟨c344, h⟩ := ifn h
  refine z_sld (pc := 1250) C hv0.1 c344 dL_law_1250 ?_
  refine z_aload_n (pc := 1251) C 3 rfl dL_law_1251 ?_
  obtain ⟨r345, M346, e347, h⟩ := bNs h
  refine cX0_202 (pc := 1252) (st := []) (st1 := [vI r345]) C rfl (rm := { frames := 9, cells := 3, slots := 44, locals := 165 }) (ct_X0_close C.2.1 v1 ((xs (ixn (v4 + 1))).toInt) v3 M _ _ hv1 hv3 e347) ⟨by decide, by decide, Nat.le_trans (show cb + 3 ≤ cb + 14 from by omega) hR.1, Nat.le_trans (show sb + 44 ≤ sb + 3829 from by omega) hR.2⟩ rfl (Nat.le_of_ble_eq_true rfl) dL_law_1252 (c2 := cb + 3) (s2 := sb + 44) rfl rfl (fun x348 => ?_)
  have k349 := x348 _ 1 (by decide) (Or.inl (by decide)) hv1
  have k350 := x348 _ 5 (by decide) (Or.inl (by decide)) hv2
  have k351 := x348 _ 19000 (by decide) (Or.inr (by decide)) hv3
  refine z_istore (pc := 1255) C (lv' := [(0, .ref v0), (1, .ref v1), (2, .ref v2), (3, .ref v3), (4, vI v4), (5, vI r345)]) (by decide) rfl dL_law_1255 ?_
  refine z_aload_n (pc := 1257) C 2 rfl dL_law_1257 ?_
  refine z_aload_n (pc := 1258) C 0 rfl dL_law_1258 ?_
  refine z_iload (pc := 1259) C 4 rfl dL_law_1259 ?_
  refine z_iconst (pc := 1261) C dL_law_1261 ?_
  refine z_iadd (pc := 1262) C dL_law_1262 ?_
  refine z_sld (pc := 1263) C hv0.1 c344 dL_law_1263 ?_
  obtain ⟨r352, M353, e354, h⟩ := bNs h
  refine cX0_204 (pc := 1264) (st := []) (st1 := [vI r352]) C rfl (rm := { frames := 6, cells := 0, slots := 0, locals := 172 }) (ct_X5_close C.2.1 v2 ((xs (ixn (v4 + 1))).toInt) M346 _ _ k350 e354) ⟨by decide, by decide, Nat.le_trans (show cb + 3 ≤ cb + 14 from by omega) hR.1, Nat.le_trans (show sb + 44 ≤ sb + 3829 from by omega) hR.2⟩ (Or.inl k350) rfl (Nat.le_of_ble_eq_true rfl) dL_law_1264 (c2 := cb + 3) (s2 := sb + 44) rfl rfl (fun x355 => ?_)
  have k356 := x355 _ 1 (by decide) (Or.inl (by decide)) k349
  have k357 := x355 _ 5 (by decide) (Or.inl (by decide)) k350
  have k358 := x355 _ 19000 (by decide) (Or.inr (by decide)) k351
  refine z_istore (pc := 1267) C (lv' := [(0, .ref v0), (1, .ref v1), (2, .ref v2), (3, .ref v3), (4, vI v4), (5, vI r345), (6, vI r352)]) (by decide) rfl dL_law_1267 ?_
  refine z_aload_n (pc := 1269) C 2 rfl dL_law_1269 ?_
  refine cX0_151 (pc := 1270) (st := []) (st1 := [vI (d_X5_thrown v2 M353)]) C rfl (rm := { frames := 1, cells := 0, slots := 0, locals := 24 }) (ct_X5_thrown C.2.1 v2 M353 _ k357 rfl) ⟨by decide, by decide, Nat.le_trans (show cb + 3 ≤ cb + 14 from by omega) hR.1, Nat.le_trans (show sb + 44 ≤ sb + 3829 from by omega) hR.2⟩ (Or.inl k357) rfl (Nat.le_of_ble_eq_true rfl) dL_law_1270 (c2 := cb + 3) (s2 := sb + 44) rfl rfl (fun _ => ?_)
  refine z_iload (pc := 1273) C 5 rfl dL_law_1273 ?_
  refine z_ic_eq (pc := 1275) C dL_law_1275 (tgt := 1280) (by decide) (fun c360 => ?_) (fun c360 => ?_)
  · have h := itt c360 h
    refine z_iload (pc := 1280) C 5 rfl dL_law_1280 ?_
    refine z_if_ne (pc := 1282) C dL_law_1282 (tgt := 1297) (by decide) (fun c361 => ?_) (fun c361 => ?_)
    · have h := itf c361 h
      refine z_goto (pc := 1297) C dL_law_1297 (tgt := 3074) (by decide) ?_
      exact z_wide (show cb + 3 ≤ cb + 14 from by omega) (show sb + 44 ≤ sb + 3829 from by omega) <| z_lv [0, 1, 2, 3, 4] rfl <| cB_L_law_3074 C hk23 v0 v1 v2 v3 v4 M353 _ _ hv0 k356 k357 k358 h hR
    · have h := itt c361 h
      refine z_aload_n (pc := 1285) C 3 rfl dL_law_1285 ?_
      refine z_iconst (pc := 1286) C dL_law_1286 ?_
      refine z_law (pc := 1287) C k358 (by decide +kernel) dL_law_1287 ?_
      refine z_iload (pc := 1288) C 6 rfl dL_law_1288 ?_
      refine z_i2l (pc := 1290) C dL_law_1290 ?_
      refine z_lc_eq (pc := 1291) C dL_law_1291 dL_law_1292 (tgt := 1297) (by decide) (fun c362 => ?_) (fun c362 => ?_)
      · have h := itt c362 h
        refine z_goto (pc := 1297) C dL_law_1297 (tgt := 3074) (by decide) ?_
        exact z_wide (show cb + 3 ≤ cb + 14 from by omega) (show sb + 44 ≤ sb + 3829 from by omega) <| z_lv [0, 1, 2, 3, 4] rfl <| cB_L_law_3074 C hk23 v0 v1 v2 v3 v4 M353 _ _ hv0 k356 k357 k358 h hR
      · have h := itf c362 h
        refine z_iconst (pc := 1295) C dL_law_1295 ?_
        cases h
        exact z_zret (pc := 1296) C rfl (Or.inl rfl) (Nat.le_trans (show cb + 3 ≤ cb + 14 from by omega) hR.1) (Nat.le_trans (show sb + 44 ≤ sb + 3829 from by omega) hR.2) dL_law_1296
  · have h := itf c360 h
    refine z_iconst (pc := 1278) C dL_law_1278 ?_
    cases h
    exact z_zret (pc := 1279) C rfl (Or.inl rfl) (Nat.le_trans (show cb + 3 ≤ cb + 14 from by omega) hR.1) (Nat.le_trans (show sb + 44 ≤ sb + 3829 from by omega) hR.2) dL_law_1279
theorem cB_L_law_1300 {X : x_Ctx} {M0 : Mem} {L : Nat} {xs : Nat → Int32} {cb sb : Nat} (C : x_CC X 108 3296 yL_law cL_law 7 (some .boolean) []) {k23 : Nat → Nat → Nat → Nat → Int → Mem → Option (Int × Mem)} (hk23 : ∀ (v0 : Nat) (v1 : Nat) (v2 : Nat) (v3 : Nat) (v4 : Int) (M : Mem) (r : Int) (M' : Mem), (va_X v0 L xs (XS X) (XS X).heap ∧ L < 2 ^ 31) → m_kd M v1 = 1 → m_kd M v2 = 5 → m_kd M v3 = 19000 → k23 v0 v1 v2 v3 v4 M = some (r, M') → cb + 14 ≤ (XR X).cells ∧ sb + 3829 ≤ (XR X).slots → x_Z X (cb + 14) (sb + 3829) (x_QF X M0 (.returned (some (vI r))) M' (XR X).cells (XR X).slots) M0 M 7 [(0, .ref v0), (1, .ref v1), (2, .ref v2), (3, .ref v3), (4, vI v4)] 23 []) (v0 : Nat) (v1 : Nat) (v2 : Nat) (v3 : Nat) (v4 : Int) (M : Mem) (r : Int) (M' : Mem) (hv0 : (va_X v0 L xs (XS X) (XS X).heap ∧ L < 2 ^ 31)) (hv1 : m_kd M v1 = 1) (hv2 : m_kd M v2 = 5) (hv3 : m_kd M v3 = 19000) (h : B_L_law_1300 L xs k23 v0 v1 v2 v3 v4 M = some (r, M')) (hR : cb + 14 ≤ (XR X).cells ∧ sb + 3829 ≤ (XR X).slots) : x_Z X (cb + 0) (sb + 0) (x_QF X M0 (.returned (some (vI r))) M' (XR X).cells (XR X).slots) M0 M 7 [(0, .ref v0), (1, .ref v1), (2, .ref v2), (3, .ref v3), (4, vI v4)] 1300 [] := by
  unfold B_L_law_1300 at h
  refine z_aload_n (pc := 1300) C 1 rfl dL_law_1300 ?_
  refine z_aload_n (pc := 1301) C 0 rfl dL_law_1301 ?_
  refine z_iload (pc := 1302) C 4 rfl dL_law_1302 ?_
  refine z_iconst (pc := 1304) C dL_law_1304 ?_
  refine z_iadd (pc := 1305) C dL_law_1305 ?_
  obtain ⟨c364, h⟩ := ifn h
  refine z_sld (pc := 1306) C hv0.1 c364 dL_law_1306 ?_
  refine z_aload_n (pc := 1307) C 0 rfl dL_law_1307 ?_
  refine z_iload (pc := 1308) C 4 rfl dL_law_1308 ?_
  refine z_iconst (pc := 1310) C dL_law_1310 ?_
  refine z_iadd (pc := 1311) C dL_law_1311 ?_
  obtain ⟨c365, h⟩ := ifn h
  refine z_sld (pc := 1312) C hv0.1 c365 dL_law_1312 ?_
  refine z_aload_n (pc := 1313) C 3 rfl dL_law_1313 ?_
  obtain ⟨r366, M367, e368, h⟩ := bNs h
  refine cX0_205 (pc := 1314) (st := []) (st1 := [vI r366]) C rfl (rm := { frames := 9, cells := 1, slots := 6, locals := 166 }) (ct_X0_item C.2.1 v1 ((xs (ixn (v4 + 1))).toInt) ((xs (ixn (v4 + 2))).toInt) v3 M _ _ hv1 hv3 e368) ⟨by decide, by decide, Nat.le_trans (show cb + 1 ≤ cb + 14 from by omega) hR.1, Nat.le_trans (show sb + 6 ≤ sb + 3829 from by omega) hR.2⟩ rfl (Nat.le_of_ble_eq_true rfl) dL_law_1314 (c2 := cb + 1) (s2 := sb + 6) rfl rfl (fun x369 => ?_)
  have k370 := x369 _ 1 (by decide) (Or.inl (by decide)) hv1
  have k371 := x369 _ 5 (by decide) (Or.inl (by decide)) hv2
  have k372 := x369 _ 19000 (by decide) (Or.inr (by decide)) hv3
  refine z_istore (pc := 1317) C (lv' := [(0, .ref v0), (1, .ref v1), (2, .ref v2), (3, .ref v3), (4, vI v4), (5, vI r366)]) (by decide) rfl dL_law_1317 ?_
  refine z_aload_n (pc := 1319) C 2 rfl dL_law_1319 ?_
  refine z_aload_n (pc := 1320) C 0 rfl dL_law_1320 ?_
  refine z_iload (pc := 1321) C 4 rfl dL_law_1321 ?_
  refine z_iconst (pc := 1323) C dL_law_1323 ?_
  refine z_iadd (pc := 1324) C dL_law_1324 ?_
  refine z_sld (pc := 1325) C hv0.1 c364 dL_law_1325 ?_
  refine z_aload_n (pc := 1326) C 0 rfl dL_law_1326 ?_
  refine z_iload (pc := 1327) C 4 rfl dL_law_1327 ?_
  refine z_iconst (pc := 1329) C dL_law_1329 ?_
  refine z_iadd (pc := 1330) C dL_law_1330 ?_
  refine z_sld (pc := 1331) C hv0.1 c365 dL_law_1331 ?_
  obtain ⟨r373, M374, e375, h⟩ := bNs h
  refine cX0_207 (pc := 1332) (st := []) (st1 := [vI r373]) C rfl (rm := { frames := 3, cells := 0, slots := 0, locals := 79 }) (ct_X5_item C.2.1 v2 ((xs (ixn (v4 + 1))).toInt) ((xs (ixn (v4 + 2))).toInt) M367 _ _ k371 e375) ⟨by decide, by decide, Nat.le_trans (show cb + 1 ≤ cb + 14 from by omega) hR.1, Nat.le_trans (show sb + 6 ≤ sb + 3829 from by omega) hR.2⟩ (Or.inl k371) rfl (Nat.le_of_ble_eq_true rfl) dL_law_1332 (c2 := cb + 1) (s2 := sb + 6) rfl rfl (fun x376 => ?_)
  have k377 := x376 _ 1 (by decide) (Or.inl (by decide)) k370
  have k378 := x376 _ 5 (by decide) (Or.inl (by decide)) k371
  have k379 := x376 _ 19000 (by decide) (Or.inr (by decide)) k372
  refine z_istore (pc := 1335) C (lv' := [(0, .ref v0), (1, .ref v1), (2, .ref v2), (3, .ref v3), (4, vI v4), (5, vI r366), (6, vI r373)]) (by decide) rfl dL_law_1335 ?_
  refine z_aload_n (pc := 1337) C 2 rfl dL_law_1337 ?_
  refine cX0_151 (pc := 1338) (st := []) (st1 := [vI (d_X5_thrown v2 M374)]) C rfl (rm := { frames := 1, cells := 0, slots := 0, locals := 24 }) (ct_X5_thrown C.2.1 v2 M374 _ k378 rfl) ⟨by decide, by decide, Nat.le_trans (show cb + 1 ≤ cb + 14 from by omega) hR.1, Nat.le_trans (show sb + 6 ≤ sb + 3829 from by omega) hR.2⟩ (Or.inl k378) rfl (Nat.le_of_ble_eq_true rfl) dL_law_1338 (c2 := cb + 1) (s2 := sb + 6) rfl rfl (fun _ => ?_)
  refine z_iload (pc := 1341) C 5 rfl dL_law_1341 ?_
  refine z_ic_eq (pc := 1343) C dL_law_1343 (tgt := 1348) (by decide) (fun c381 => ?_) (fun c381 => ?_)
  · have h := itt c381 h
    refine z_iload (pc := 1348) C 5 rfl dL_law_1348 ?_
    refine z_if_ne (pc := 1350) C dL_law_1350 (tgt := 1365) (by decide) (fun c382 => ?_) (fun c382 => ?_)
    · have h := itf c382 h
      refine z_goto (pc := 1365) C dL_law_1365 (tgt := 3074) (by decide) ?_
      exact z_wide (show cb + 1 ≤ cb + 14 from by omega) (show sb + 6 ≤ sb + 3829 from by omega) <| z_lv [0, 1, 2, 3, 4] rfl <| cB_L_law_3074 C hk23 v0 v1 v2 v3 v4 M374 _ _ hv0 k377 k378 k379 h hR
    · have h := itt c382 h
      refine z_aload_n (pc := 1353) C 3 rfl dL_law_1353 ?_
      refine z_iconst (pc := 1354) C dL_law_1354 ?_
      refine z_law (pc := 1355) C k379 (by decide +kernel) dL_law_1355 ?_
      refine z_iload (pc := 1356) C 6 rfl dL_law_1356 ?_
      refine z_i2l (pc := 1358) C dL_law_1358 ?_
      refine z_lc_eq (pc := 1359) C dL_law_1359 dL_law_1360 (tgt := 1365) (by decide) (fun c383 => ?_) (fun c383 => ?_)
      · have h := itt c383 h
        refine z_goto (pc := 1365) C dL_law_1365 (tgt := 3074) (by decide) ?_
        exact z_wide (show cb + 1 ≤ cb + 14 from by omega) (show sb + 6 ≤ sb + 3829 from by omega) <| z_lv [0, 1, 2, 3, 4] rfl <| cB_L_law_3074 C hk23 v0 v1 v2 v3 v4 M374 _ _ hv0 k377 k378 k379 h hR
      · have h := itf c383 h
        refine z_iconst (pc := 1363) C dL_law_1363 ?_
        cases h
        exact z_zret (pc := 1364) C rfl (Or.inl rfl) (Nat.le_trans (show cb + 1 ≤ cb + 14 from by omega) hR.1) (Nat.le_trans (show sb + 6 ≤ sb + 3829 from by omega) hR.2) dL_law_1364
  · have h := itf c381 h
    refine z_iconst (pc := 1346) C dL_law_1346 ?_
    cases h
    exact z_zret (pc := 1347) C rfl (Or.inl rfl) (Nat.le_trans (show cb + 1 ≤ cb + 14 from by omega) hR.1) (Nat.le_trans (show sb + 6 ≤ sb + 3829 from by omega) hR.2) dL_law_1347
theorem cB_L_law_1368 {X : x_Ctx} {M0 : Mem} {L : Nat} {xs : Nat → Int32} {cb sb : Nat} (C : x_CC X 108 3296 yL_law cL_law 7 (some .boolean) []) {k23 : Nat → Nat → Nat → Nat → Int → Mem → Option (Int × Mem)} (hk23 : ∀ (v0 : Nat) (v1 : Nat) (v2 : Nat) (v3 : Nat) (v4 : Int) (M : Mem) (r : Int) (M' : Mem), (va_X v0 L xs (XS X) (XS X).heap ∧ L < 2 ^ 31) → m_kd M v1 = 1 → m_kd M v2 = 5 → m_kd M v3 = 19000 → k23 v0 v1 v2 v3 v4 M = some (r, M') → cb + 14 ≤ (XR X).cells ∧ sb + 3829 ≤ (XR X).slots → x_Z X (cb + 14) (sb + 3829) (x_QF X M0 (.returned (some (vI r))) M' (XR X).cells (XR X).slots) M0 M 7 [(0, .ref v0), (1, .ref v1), (2, .ref v2), (3, .ref v3), (4, vI v4)] 23 []) (v0 : Nat) (v1 : Nat) (v2 : Nat) (v3 : Nat) (v4 : Int) (M : Mem) (r : Int) (M' : Mem) (hv0 : (va_X v0 L xs (XS X) (XS X).heap ∧ L < 2 ^ 31)) (hv1 : m_kd M v1 = 1) (hv2 : m_kd M v2 = 5) (hv3 : m_kd M v3 = 19000) (h : B_L_law_1368 L xs k23 v0 v1 v2 v3 v4 M = some (r, M')) (hR : cb + 14 ≤ (XR X).cells ∧ sb + 3829 ≤ (XR X).slots) : x_Z X (cb + 0) (sb + 0) (x_QF X M0 (.returned (some (vI r))) M' (XR X).cells (XR X).slots) M0 M 7 [(0, .ref v0), (1, .ref v1), (2, .ref v2), (3, .ref v3), (4, vI v4)] 1368 [] := by
  unfold B_L_law_1368 at h
  refine z_aload_n (pc := 1368) C 1 rfl dL_law_1368 ?_
  refine z_aload_n (pc := 1369) C 0 rfl dL_law_1369 ?_
  refine z_iload (pc := 1370) C 4 rfl dL_law_1370 ?_
  refine z_iconst (pc := 1372) C dL_law_1372 ?_
  refine z_iadd (pc := 1373) C dL_law_1373 ?_
  obtain ⟨c385, h⟩ := ifn h
  refine z_sld (pc := 1374) C hv0.1 c385 dL_law_1374 ?_
  refine z_aload_n (pc := 1375) C 0 rfl dL_law_1375 ?_
  refine z_iload (pc := 1376) C 4 rfl dL_law_1376 ?_
  refine z_iconst (pc := 1378) C dL_law_1378 ?_
  refine z_iadd (pc := 1379) C dL_law_1379 ?_
  obtain ⟨c386, h⟩ := ifn h
  refine z_sld (pc := 1380) C hv0.1 c386 dL_law_1380 ?_
  refine z_aload_n (pc := 1381) C 3 rfl dL_law_1381 ?_
  obtain ⟨r387, M388, e389, h⟩ := bNs h
  refine cX0_208 (pc := 1382) (st := []) (st1 := [vI r387]) C rfl (rm := { frames := 9, cells := 1, slots := 6, locals := 166 }) (ct_X0_mark C.2.1 v1 ((xs (ixn (v4 + 1))).toInt) ((xs (ixn (v4 + 2))).toInt) v3 M _ _ hv1 hv3 e389) ⟨by decide, by decide, Nat.le_trans (show cb + 1 ≤ cb + 14 from by omega) hR.1, Nat.le_trans (show sb + 6 ≤ sb + 3829 from by omega) hR.2⟩ rfl (Nat.le_of_ble_eq_true rfl) dL_law_1382 (c2 := cb + 1) (s2 := sb + 6) rfl rfl (fun x390 => ?_)
  have k391 := x390 _ 1 (by decide) (Or.inl (by decide)) hv1
  have k392 := x390 _ 5 (by decide) (Or.inl (by decide)) hv2
  have k393 := x390 _ 19000 (by decide) (Or.inr (by decide)) hv3
  refine z_istore (pc := 1385) C (lv' := [(0, .ref v0), (1, .ref v1), (2, .ref v2), (3, .ref v3), (4, vI v4), (5, vI r387)]) (by decide) rfl dL_law_1385 ?_
  refine z_aload_n (pc := 1387) C 2 rfl dL_law_1387 ?_
  refine z_aload_n (pc := 1388) C 0 rfl dL_law_1388 ?_
  refine z_iload (pc := 1389) C 4 rfl dL_law_1389 ?_
  refine z_iconst (pc := 1391) C dL_law_1391 ?_
  refine z_iadd (pc := 1392) C dL_law_1392 ?_
  refine z_sld (pc := 1393) C hv0.1 c385 dL_law_1393 ?_
  refine z_aload_n (pc := 1394) C 0 rfl dL_law_1394 ?_
  refine z_iload (pc := 1395) C 4 rfl dL_law_1395 ?_
  refine z_iconst (pc := 1397) C dL_law_1397 ?_
  refine z_iadd (pc := 1398) C dL_law_1398 ?_
  refine z_sld (pc := 1399) C hv0.1 c386 dL_law_1399 ?_
  obtain ⟨r394, M395, e396, h⟩ := bNs h
  refine cX0_210 (pc := 1400) (st := []) (st1 := [vI r394]) C rfl (rm := { frames := 3, cells := 0, slots := 0, locals := 79 }) (ct_X5_mark C.2.1 v2 ((xs (ixn (v4 + 1))).toInt) ((xs (ixn (v4 + 2))).toInt) M388 _ _ k392 e396) ⟨by decide, by decide, Nat.le_trans (show cb + 1 ≤ cb + 14 from by omega) hR.1, Nat.le_trans (show sb + 6 ≤ sb + 3829 from by omega) hR.2⟩ (Or.inl k392) rfl (Nat.le_of_ble_eq_true rfl) dL_law_1400 (c2 := cb + 1) (s2 := sb + 6) rfl rfl (fun x397 => ?_)
  have k398 := x397 _ 1 (by decide) (Or.inl (by decide)) k391
  have k399 := x397 _ 5 (by decide) (Or.inl (by decide)) k392
  have k400 := x397 _ 19000 (by decide) (Or.inr (by decide)) k393
  refine z_istore (pc := 1403) C (lv' := [(0, .ref v0), (1, .ref v1), (2, .ref v2), (3, .ref v3), (4, vI v4), (5, vI r387), (6, vI r394)]) (by decide) rfl dL_law_1403 ?_
  refine z_aload_n (pc := 1405) C 2 rfl dL_law_1405 ?_
  refine cX0_151 (pc := 1406) (st := []) (st1 := [vI (d_X5_thrown v2 M395)]) C rfl (rm := { frames := 1, cells := 0, slots := 0, locals := 24 }) (ct_X5_thrown C.2.1 v2 M395 _ k399 rfl) ⟨by decide, by decide, Nat.le_trans (show cb + 1 ≤ cb + 14 from by omega) hR.1, Nat.le_trans (show sb + 6 ≤ sb + 3829 from by omega) hR.2⟩ (Or.inl k399) rfl (Nat.le_of_ble_eq_true rfl) dL_law_1406 (c2 := cb + 1) (s2 := sb + 6) rfl rfl (fun _ => ?_)
  refine z_iload (pc := 1409) C 5 rfl dL_law_1409 ?_
  refine z_ic_eq (pc := 1411) C dL_law_1411 (tgt := 1416) (by decide) (fun c402 => ?_) (fun c402 => ?_)
  · have h := itt c402 h
    refine z_iload (pc := 1416) C 5 rfl dL_law_1416 ?_
    refine z_if_ne (pc := 1418) C dL_law_1418 (tgt := 1433) (by decide) (fun c403 => ?_) (fun c403 => ?_)
    · have h := itf c403 h
      refine z_goto (pc := 1433) C dL_law_1433 (tgt := 3074) (by decide) ?_
      exact z_wide (show cb + 1 ≤ cb + 14 from by omega) (show sb + 6 ≤ sb + 3829 from by omega) <| z_lv [0, 1, 2, 3, 4] rfl <| cB_L_law_3074 C hk23 v0 v1 v2 v3 v4 M395 _ _ hv0 k398 k399 k400 h hR
    · have h := itt c403 h
      refine z_aload_n (pc := 1421) C 3 rfl dL_law_1421 ?_
      refine z_iconst (pc := 1422) C dL_law_1422 ?_
      refine z_law (pc := 1423) C k400 (by decide +kernel) dL_law_1423 ?_
      refine z_iload (pc := 1424) C 6 rfl dL_law_1424 ?_
      refine z_i2l (pc := 1426) C dL_law_1426 ?_
      refine z_lc_eq (pc := 1427) C dL_law_1427 dL_law_1428 (tgt := 1433) (by decide) (fun c404 => ?_) (fun c404 => ?_)
      · have h := itt c404 h
        refine z_goto (pc := 1433) C dL_law_1433 (tgt := 3074) (by decide) ?_
        exact z_wide (show cb + 1 ≤ cb + 14 from by omega) (show sb + 6 ≤ sb + 3829 from by omega) <| z_lv [0, 1, 2, 3, 4] rfl <| cB_L_law_3074 C hk23 v0 v1 v2 v3 v4 M395 _ _ hv0 k398 k399 k400 h hR
      · have h := itf c404 h
        refine z_iconst (pc := 1431) C dL_law_1431 ?_
        cases h
        exact z_zret (pc := 1432) C rfl (Or.inl rfl) (Nat.le_trans (show cb + 1 ≤ cb + 14 from by omega) hR.1) (Nat.le_trans (show sb + 6 ≤ sb + 3829 from by omega) hR.2) dL_law_1432
  · have h := itf c402 h
    refine z_iconst (pc := 1414) C dL_law_1414 ?_
    cases h
    exact z_zret (pc := 1415) C rfl (Or.inl rfl) (Nat.le_trans (show cb + 1 ≤ cb + 14 from by omega) hR.1) (Nat.le_trans (show sb + 6 ≤ sb + 3829 from by omega) hR.2) dL_law_1415
