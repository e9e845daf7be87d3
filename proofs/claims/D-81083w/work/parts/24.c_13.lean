set_option maxRecDepth 100000
def d_X5_init (v0 : Nat) (M : Mem) : Option (Int × Mem) :=
  if m_sz M + 0 = v0 + 1 then 
  if x_whole (m_nw (m_nw (m_nw (m_nw (m_nw (m_nw (m_nw (m_nw (m_nw (m_nw (m_nw (m_nw (m_nw (m_nw (m_nw (m_nw (m_nw (m_nw (m_nw (m_nw (m_nw (m_nw (m_nw (m_nw (m_nw (m_nw (m_nw (m_nw (m_nw (m_nw (m_nw (m_nw (m_nw (m_nw (m_nw (m_nw (m_nw (m_nw (m_nw (m_nw (m_nw (m_nw (m_nw (m_nw (m_nw (m_nw (m_nw (m_nw (m_nw (m_nw (m_nw (m_nw (m_nw (m_nw (m_nw (m_nw (m_nw (m_nw (m_nw (m_nw (m_nw (m_nw M 10503) 10504) 10507) 10508) 10509) 10510) 10511) 10512) 10515) 10516) 10517) 10518) 10519) 10520) 10521) 10522) 10523) 10524) 10525) 10526) 10534) 10535) 10539) 10540) 10541) 10542) 10543) 10544) 10545) 10546) 10547) 10548) 10549) 10554) 10555) 10556) 10557) 10558) 10559) 10560) 10561) 10565) 10566) 10567) 10568) 10570) 10571) 10572) 10573) 10574) 10575) 10576) 10577) 10578) 10581) 10583) 10584) 10585) 10586) 10587) 10588) 10590) v0 5 = true then 
  some (0, (m_se (m_nw (m_nw (m_nw (m_nw (m_nw (m_nw (m_nw (m_nw (m_nw (m_nw (m_nw (m_nw (m_nw (m_nw (m_nw (m_nw (m_nw (m_nw (m_nw (m_nw (m_nw (m_nw (m_nw (m_nw (m_nw (m_nw (m_nw (m_nw (m_nw (m_nw (m_nw (m_nw (m_nw (m_nw (m_nw (m_nw (m_nw (m_nw (m_nw (m_nw (m_nw (m_nw (m_nw (m_nw (m_nw (m_nw (m_nw (m_nw (m_nw (m_nw (m_nw (m_nw (m_nw (m_nw (m_nw (m_nw (m_nw (m_nw (m_nw (m_nw (m_nw (m_nw M 10503) 10504) 10507) 10508) 10509) 10510) 10511) 10512) 10515) 10516) 10517) 10518) 10519) 10520) 10521) 10522) 10523) 10524) 10525) 10526) 10534) 10535) 10539) 10540) 10541) 10542) 10543) 10544) 10545) 10546) 10547) 10548) 10549) 10554) 10555) 10556) 10557) 10558) 10559) 10560) 10561) 10565) 10566) 10567) 10568) 10570) 10571) 10572) 10573) 10574) 10575) 10576) 10577) 10578) 10581) 10583) 10584) 10585) 10586) 10587) 10588) 10590) v0 5)) else none else none
theorem ct_X5_init {l : Launch} {S0 : State} {D : va_G} {cA : Nat → ClassId} (hG : x_G l S0 D cA) (v0 : Nat) (M : Mem) (r : Int) (M' : Mem) (hv0 : m_kd M v0 = 105) (h : d_X5_init v0 M = some (r, M')) : x_Me l S0 D cA yX5_init cX5_init 1 none [] ({ frames := 1, cells := 62, slots := 41398, locals := 24 }) [.ref v0] M (.returned none) M' := by
  refine x_begin (F := 1) (Lo := 24) (mc := 62) (ms := 41398) hG (Nat.le_of_ble_eq_true rfl) (lv := [(0, .ref v0)]) rfl rfl rfl rfl rfl (fun X e1 e2 e3 e4 e5 C => ?_)
  have hR : _ ∧ _ := ⟨Nat.le_of_eq (congrArg Room.cells e5).symm, Nat.le_of_eq (congrArg Room.slots e5).symm⟩
  unfold d_X5_init at h
  refine z_aload_n (pc := 0) C 0 rfl dX5_init_0 ?_
  refine z_obj (pc := 1) C q1502 q139 q140 (by decide) (by decide) (by decide) dX5_init_1 ?_
  refine z_aload_n (pc := 4) C 0 rfl dX5_init_4 ?_
  refine z_bipush (pc := 5) C (by decide +kernel) dX5_init_5 ?_
  obtain ⟨c1, h⟩ := ifn h
  refine aX5_503 (pc := 7) C rfl rfl hv0 (show m_sz M + 0 = v0 + 1 from by have := c1; omega) (Nat.le_trans (show 1 ≤ 62 from by decide) hR.1) (Nat.le_trans (show 100 ≤ 41398 from by decide) hR.2) dX5_init_7 dX5_init_9 (c2 := 1) (s2 := 100) rfl rfl (fun x2 => ?_)
  have k3 := x2.k hv0 (by decide)
  refine z_aload_n (pc := 12) C 0 rfl dX5_init_12 ?_
  refine z_bipush (pc := 13) C (by decide +kernel) dX5_init_13 ?_
  refine aX5_504 (pc := 15) C rfl rfl k3 (show m_sz M + 1 = v0 + 2 from by have := c1; omega) (Nat.le_trans (show 2 ≤ 62 from by decide) hR.1) (Nat.le_trans (show 200 ≤ 41398 from by decide) hR.2) dX5_init_15 dX5_init_17 (c2 := 2) (s2 := 200) rfl rfl (fun x4 => ?_)
  have k5 := x4.k k3 (by decide)
  refine z_aload_n (pc := 20) C 0 rfl dX5_init_20 ?_
  refine z_sipush (pc := 21) C (by decide +kernel) dX5_init_21 ?_
  refine aX5_507 (pc := 24) C rfl rfl k5 (show m_sz M + 2 = v0 + 3 from by have := c1; omega) (Nat.le_trans (show 3 ≤ 62 from by decide) hR.1) (Nat.le_trans (show 1700 ≤ 41398 from by decide) hR.2) dX5_init_24 dX5_init_26 (c2 := 3) (s2 := 1700) rfl rfl (fun x6 => ?_)
  have k7 := x6.k k5 (by decide)
  refine z_aload_n (pc := 29) C 0 rfl dX5_init_29 ?_
  refine z_sipush (pc := 30) C (by decide +kernel) dX5_init_30 ?_
  refine aX5_508 (pc := 33) C rfl rfl k7 (show m_sz M + 3 = v0 + 4 from by have := c1; omega) (Nat.le_trans (show 4 ≤ 62 from by decide) hR.1) (Nat.le_trans (show 3200 ≤ 41398 from by decide) hR.2) dX5_init_33 dX5_init_35 (c2 := 4) (s2 := 3200) rfl rfl (fun x8 => ?_)
  have k9 := x8.k k7 (by decide)
  refine z_aload_n (pc := 38) C 0 rfl dX5_init_38 ?_
  refine z_sipush (pc := 39) C (by decide +kernel) dX5_init_39 ?_
  refine aX5_509 (pc := 42) C rfl rfl k9 (show m_sz M + 4 = v0 + 5 from by have := c1; omega) (Nat.le_trans (show 5 ≤ 62 from by decide) hR.1) (Nat.le_trans (show 4700 ≤ 41398 from by decide) hR.2) dX5_init_42 dX5_init_44 (c2 := 5) (s2 := 4700) rfl rfl (fun x10 => ?_)
  have k11 := x10.k k9 (by decide)
  refine z_aload_n (pc := 47) C 0 rfl dX5_init_47 ?_
  refine z_sipush (pc := 48) C (by decide +kernel) dX5_init_48 ?_
  refine aX5_510 (pc := 51) C rfl rfl k11 (show m_sz M + 5 = v0 + 6 from by have := c1; omega) (Nat.le_trans (show 6 ≤ 62 from by decide) hR.1) (Nat.le_trans (show 6200 ≤ 41398 from by decide) hR.2) dX5_init_51 dX5_init_53 (c2 := 6) (s2 := 6200) rfl rfl (fun x12 => ?_)
  have k13 := x12.k k11 (by decide)
  refine z_aload_n (pc := 56) C 0 rfl dX5_init_56 ?_
  refine z_sipush (pc := 57) C (by decide +kernel) dX5_init_57 ?_
  refine aX5_511 (pc := 60) C rfl rfl k13 (show m_sz M + 6 = v0 + 7 from by have := c1; omega) (Nat.le_trans (show 7 ≤ 62 from by decide) hR.1) (Nat.le_trans (show 7700 ≤ 41398 from by decide) hR.2) dX5_init_60 dX5_init_62 (c2 := 7) (s2 := 7700) rfl rfl (fun x14 => ?_)
  have k15 := x14.k k13 (by decide)
  refine z_aload_n (pc := 65) C 0 rfl dX5_init_65 ?_
  refine z_sipush (pc := 66) C (by decide +kernel) dX5_init_66 ?_
  refine aX5_512 (pc := 69) C rfl rfl k15 (show m_sz M + 7 = v0 + 8 from by have := c1; omega) (Nat.le_trans (show 8 ≤ 62 from by decide) hR.1) (Nat.le_trans (show 8900 ≤ 41398 from by decide) hR.2) dX5_init_69 dX5_init_71 (c2 := 8) (s2 := 8900) rfl rfl (fun x16 => ?_)
  have k17 := x16.k k15 (by decide)
  refine z_aload_n (pc := 74) C 0 rfl dX5_init_74 ?_
  refine z_bipush (pc := 75) C (by decide +kernel) dX5_init_75 ?_
  refine aX5_515 (pc := 77) C rfl rfl k17 (show m_sz M + 8 = v0 + 9 from by have := c1; omega) (Nat.le_trans (show 9 ≤ 62 from by decide) hR.1) (Nat.le_trans (show 8906 ≤ 41398 from by decide) hR.2) dX5_init_77 dX5_init_79 (c2 := 9) (s2 := 8906) rfl rfl (fun x18 => ?_)
  have k19 := x18.k k17 (by decide)
  refine z_aload_n (pc := 82) C 0 rfl dX5_init_82 ?_
  refine z_bipush (pc := 83) C (by decide +kernel) dX5_init_83 ?_
  refine aX5_516 (pc := 85) C rfl rfl k19 (show m_sz M + 9 = v0 + 10 from by have := c1; omega) (Nat.le_trans (show 10 ≤ 62 from by decide) hR.1) (Nat.le_trans (show 9026 ≤ 41398 from by decide) hR.2) dX5_init_85 dX5_init_87 (c2 := 10) (s2 := 9026) rfl rfl (fun x20 => ?_)
  have k21 := x20.k k19 (by decide)
  refine z_aload_n (pc := 90) C 0 rfl dX5_init_90 ?_
  refine z_bipush (pc := 91) C (by decide +kernel) dX5_init_91 ?_
  refine aX5_517 (pc := 93) C rfl rfl k21 (show m_sz M + 10 = v0 + 11 from by have := c1; omega) (Nat.le_trans (show 11 ≤ 62 from by decide) hR.1) (Nat.le_trans (show 9146 ≤ 41398 from by decide) hR.2) dX5_init_93 dX5_init_95 (c2 := 11) (s2 := 9146) rfl rfl (fun x22 => ?_)
  have k23 := x22.k k21 (by decide)
  refine z_aload_n (pc := 98) C 0 rfl dX5_init_98 ?_
  refine z_bipush (pc := 99) C (by decide +kernel) dX5_init_99 ?_
  refine aX5_518 (pc := 101) C rfl rfl k23 (show m_sz M + 11 = v0 + 12 from by have := c1; omega) (Nat.le_trans (show 12 ≤ 62 from by decide) hR.1) (Nat.le_trans (show 9266 ≤ 41398 from by decide) hR.2) dX5_init_101 dX5_init_103 (c2 := 12) (s2 := 9266) rfl rfl (fun x24 => ?_)
  have k25 := x24.k k23 (by decide)
  refine z_aload_n (pc := 106) C 0 rfl dX5_init_106 ?_
  refine z_bipush (pc := 107) C (by decide +kernel) dX5_init_107 ?_
  refine aX5_519 (pc := 109) C rfl rfl k25 (show m_sz M + 12 = v0 + 13 from by have := c1; omega) (Nat.le_trans (show 13 ≤ 62 from by decide) hR.1) (Nat.le_trans (show 9386 ≤ 41398 from by decide) hR.2) dX5_init_109 dX5_init_111 (c2 := 13) (s2 := 9386) rfl rfl (fun x26 => ?_)
  have k27 := x26.k k25 (by decide)
  refine z_aload_n (pc := 114) C 0 rfl dX5_init_114 ?_
  refine z_bipush (pc := 115) C (by decide +kernel) dX5_init_115 ?_
  refine aX5_520 (pc := 117) C rfl rfl k27 (show m_sz M + 13 = v0 + 14 from by have := c1; omega) (Nat.le_trans (show 14 ≤ 62 from by decide) hR.1) (Nat.le_trans (show 9506 ≤ 41398 from by decide) hR.2) dX5_init_117 dX5_init_119 (c2 := 14) (s2 := 9506) rfl rfl (fun x28 => ?_)
  have k29 := x28.k k27 (by decide)
  refine z_aload_n (pc := 122) C 0 rfl dX5_init_122 ?_
  refine z_bipush (pc := 123) C (by decide +kernel) dX5_init_123 ?_
  refine aX5_521 (pc := 125) C rfl rfl k29 (show m_sz M + 14 = v0 + 15 from by have := c1; omega) (Nat.le_trans (show 15 ≤ 62 from by decide) hR.1) (Nat.le_trans (show 9626 ≤ 41398 from by decide) hR.2) dX5_init_125 dX5_init_127 (c2 := 15) (s2 := 9626) rfl rfl (fun x30 => ?_)
  have k31 := x30.k k29 (by decide)
  refine z_aload_n (pc := 130) C 0 rfl dX5_init_130 ?_
  refine z_bipush (pc := 131) C (by decide +kernel) dX5_init_131 ?_
  refine aX5_522 (pc := 133) C rfl rfl k31 (show m_sz M + 15 = v0 + 16 from by have := c1; omega) (Nat.le_trans (show 16 ≤ 62 from by decide) hR.1) (Nat.le_trans (show 9746 ≤ 41398 from by decide) hR.2) dX5_init_133 dX5_init_135 (c2 := 16) (s2 := 9746) rfl rfl (fun x32 => ?_)
  have k33 := x32.k k31 (by decide)
  refine z_aload_n (pc := 138) C 0 rfl dX5_init_138 ?_
  refine z_bipush (pc := 139) C (by decide +kernel) dX5_init_139 ?_
  refine aX5_523 (pc := 141) C rfl rfl k33 (show m_sz M + 16 = v0 + 17 from by have := c1; omega) (Nat.le_trans (show 17 ≤ 62 from by decide) hR.1) (Nat.le_trans (show 9866 ≤ 41398 from by decide) hR.2) dX5_init_141 dX5_init_143 (c2 := 17) (s2 := 9866) rfl rfl (fun x34 => ?_)
  have k35 := x34.k k33 (by decide)
  refine z_aload_n (pc := 146) C 0 rfl dX5_init_146 ?_
  refine z_bipush (pc := 147) C (by decide +kernel) dX5_init_147 ?_
  refine aX5_524 (pc := 149) C rfl rfl k35 (show m_sz M + 17 = v0 + 18 from by have := c1; omega) (Nat.le_trans (show 18 ≤ 62 from by decide) hR.1) (Nat.le_trans (show 9986 ≤ 41398 from by decide) hR.2) dX5_init_149 dX5_init_151 (c2 := 18) (s2 := 9986) rfl rfl (fun x36 => ?_)
  have k37 := x36.k k35 (by decide)
  refine z_aload_n (pc := 154) C 0 rfl dX5_init_154 ?_
  refine z_sipush (pc := 155) C (by decide +kernel) dX5_init_155 ?_
  refine aX5_525 (pc := 158) C rfl rfl k37 (show m_sz M + 18 = v0 + 19 from by have := c1; omega) (Nat.le_trans (show 19 ≤ 62 from by decide) hR.1) (Nat.le_trans (show 17186 ≤ 41398 from by decide) hR.2) dX5_init_158 dX5_init_160 (c2 := 19) (s2 := 17186) rfl rfl (fun x38 => ?_)
  have k39 := x38.k k37 (by decide)
  refine z_aload_n (pc := 163) C 0 rfl dX5_init_163 ?_
  refine z_sipush (pc := 164) C (by decide +kernel) dX5_init_164 ?_
  refine aX5_526 (pc := 167) C rfl rfl k39 (show m_sz M + 19 = v0 + 20 from by have := c1; omega) (Nat.le_trans (show 20 ≤ 62 from by decide) hR.1) (Nat.le_trans (show 24386 ≤ 41398 from by decide) hR.2) dX5_init_167 dX5_init_169 (c2 := 20) (s2 := 24386) rfl rfl (fun x40 => ?_)
  have k41 := x40.k k39 (by decide)
  refine z_aload_n (pc := 172) C 0 rfl dX5_init_172 ?_
  refine z_bipush (pc := 173) C (by decide +kernel) dX5_init_173 ?_
  refine aX5_534 (pc := 175) C rfl rfl k41 (show m_sz M + 20 = v0 + 21 from by have := c1; omega) (Nat.le_trans (show 21 ≤ 62 from by decide) hR.1) (Nat.le_trans (show 24406 ≤ 41398 from by decide) hR.2) dX5_init_175 dX5_init_177 (c2 := 21) (s2 := 24406) rfl rfl (fun x42 => ?_)
  have k43 := x42.k k41 (by decide)
  refine z_aload_n (pc := 180) C 0 rfl dX5_init_180 ?_
  refine z_bipush (pc := 181) C (by decide +kernel) dX5_init_181 ?_
  refine aX5_535 (pc := 183) C rfl rfl k43 (show m_sz M + 21 = v0 + 22 from by have := c1; omega) (Nat.le_trans (show 22 ≤ 62 from by decide) hR.1) (Nat.le_trans (show 24412 ≤ 41398 from by decide) hR.2) dX5_init_183 dX5_init_185 (c2 := 22) (s2 := 24412) rfl rfl (fun x44 => ?_)
  have k45 := x44.k k43 (by decide)
  refine z_aload_n (pc := 188) C 0 rfl dX5_init_188 ?_
  refine z_bipush (pc := 189) C (by decide +kernel) dX5_init_189 ?_
  refine aX5_539 (pc := 191) C rfl rfl k45 (show m_sz M + 22 = v0 + 23 from by have := c1; omega) (Nat.le_trans (show 23 ≤ 62 from by decide) hR.1) (Nat.le_trans (show 24472 ≤ 41398 from by decide) hR.2) dX5_init_191 dX5_init_193 (c2 := 23) (s2 := 24472) rfl rfl (fun x46 => ?_)
  have k47 := x46.k k45 (by decide)
  refine z_aload_n (pc := 196) C 0 rfl dX5_init_196 ?_
  refine z_bipush (pc := 197) C (by decide +kernel) dX5_init_197 ?_
  refine aX5_540 (pc := 199) C rfl rfl k47 (show m_sz M + 23 = v0 + 24 from by have := c1; omega) (Nat.le_trans (show 24 ≤ 62 from by decide) hR.1) (Nat.le_trans (show 24532 ≤ 41398 from by decide) hR.2) dX5_init_199 dX5_init_201 (c2 := 24) (s2 := 24532) rfl rfl (fun x48 => ?_)
  have k49 := x48.k k47 (by decide)
  refine z_aload_n (pc := 204) C 0 rfl dX5_init_204 ?_
  refine z_sipush (pc := 205) C (by decide +kernel) dX5_init_205 ?_
  refine aX5_541 (pc := 208) C rfl rfl k49 (show m_sz M + 24 = v0 + 25 from by have := c1; omega) (Nat.le_trans (show 25 ≤ 62 from by decide) hR.1) (Nat.le_trans (show 24892 ≤ 41398 from by decide) hR.2) dX5_init_208 dX5_init_210 (c2 := 25) (s2 := 24892) rfl rfl (fun x50 => ?_)
  have k51 := x50.k k49 (by decide)
  refine z_aload_n (pc := 213) C 0 rfl dX5_init_213 ?_
  refine z_bipush (pc := 214) C (by decide +kernel) dX5_init_214 ?_
  refine aX5_542 (pc := 216) C rfl rfl k51 (show m_sz M + 25 = v0 + 26 from by have := c1; omega) (Nat.le_trans (show 26 ≤ 62 from by decide) hR.1) (Nat.le_trans (show 24952 ≤ 41398 from by decide) hR.2) dX5_init_216 dX5_init_218 (c2 := 26) (s2 := 24952) rfl rfl (fun x52 => ?_)
  have k53 := x52.k k51 (by decide)
  refine z_aload_n (pc := 221) C 0 rfl dX5_init_221 ?_
  refine z_sipush (pc := 222) C (by decide +kernel) dX5_init_222 ?_
  refine aX5_543 (pc := 225) C rfl rfl k53 (show m_sz M + 26 = v0 + 27 from by have := c1; omega) (Nat.le_trans (show 27 ≤ 62 from by decide) hR.1) (Nat.le_trans (show 26152 ≤ 41398 from by decide) hR.2) dX5_init_225 dX5_init_227 (c2 := 27) (s2 := 26152) rfl rfl (fun x54 => ?_)
  have k55 := x54.k k53 (by decide)
  refine z_aload_n (pc := 230) C 0 rfl dX5_init_230 ?_
  refine z_sipush (pc := 231) C (by decide +kernel) dX5_init_231 ?_
  refine aX5_544 (pc := 234) C rfl rfl k55 (show m_sz M + 27 = v0 + 28 from by have := c1; omega) (Nat.le_trans (show 28 ≤ 62 from by decide) hR.1) (Nat.le_trans (show 27352 ≤ 41398 from by decide) hR.2) dX5_init_234 dX5_init_236 (c2 := 28) (s2 := 27352) rfl rfl (fun x56 => ?_)
  have k57 := x56.k k55 (by decide)
  refine z_aload_n (pc := 239) C 0 rfl dX5_init_239 ?_
  refine z_sipush (pc := 240) C (by decide +kernel) dX5_init_240 ?_
  refine aX5_545 (pc := 243) C rfl rfl k57 (show m_sz M + 28 = v0 + 29 from by have := c1; omega) (Nat.le_trans (show 29 ≤ 62 from by decide) hR.1) (Nat.le_trans (show 28552 ≤ 41398 from by decide) hR.2) dX5_init_243 dX5_init_245 (c2 := 29) (s2 := 28552) rfl rfl (fun x58 => ?_)
  have k59 := x58.k k57 (by decide)
  refine z_aload_n (pc := 248) C 0 rfl dX5_init_248 ?_
  refine z_sipush (pc := 249) C (by decide +kernel) dX5_init_249 ?_
  refine aX5_546 (pc := 252) C rfl rfl k59 (show m_sz M + 29 = v0 + 30 from by have := c1; omega) (Nat.le_trans (show 30 ≤ 62 from by decide) hR.1) (Nat.le_trans (show 29752 ≤ 41398 from by decide) hR.2) dX5_init_252 dX5_init_254 (c2 := 30) (s2 := 29752) rfl rfl (fun x60 => ?_)
  have k61 := x60.k k59 (by decide)
  refine z_aload_n (pc := 257) C 0 rfl dX5_init_257 ?_
  refine z_sipush (pc := 258) C (by decide +kernel) dX5_init_258 ?_
  refine aX5_547 (pc := 261) C rfl rfl k61 (show m_sz M + 30 = v0 + 31 from by have := c1; omega) (Nat.le_trans (show 31 ≤ 62 from by decide) hR.1) (Nat.le_trans (show 30952 ≤ 41398 from by decide) hR.2) dX5_init_261 dX5_init_263 (c2 := 31) (s2 := 30952) rfl rfl (fun x62 => ?_)
  have k63 := x62.k k61 (by decide)
  refine z_aload_n (pc := 266) C 0 rfl dX5_init_266 ?_
  refine z_bipush (pc := 267) C (by decide +kernel) dX5_init_267 ?_
  refine aX5_548 (pc := 269) C rfl rfl k63 (show m_sz M + 31 = v0 + 32 from by have := c1; omega) (Nat.le_trans (show 32 ≤ 62 from by decide) hR.1) (Nat.le_trans (show 31012 ≤ 41398 from by decide) hR.2) dX5_init_269 dX5_init_271 (c2 := 32) (s2 := 31012) rfl rfl (fun x64 => ?_)
  have k65 := x64.k k63 (by decide)
  refine z_aload_n (pc := 274) C 0 rfl dX5_init_274 ?_
  refine z_bipush (pc := 275) C (by decide +kernel) dX5_init_275 ?_
  refine aX5_549 (pc := 277) C rfl rfl k65 (show m_sz M + 32 = v0 + 33 from by have := c1; omega) (Nat.le_trans (show 33 ≤ 62 from by decide) hR.1) (Nat.le_trans (show 31072 ≤ 41398 from by decide) hR.2) dX5_init_277 dX5_init_279 (c2 := 33) (s2 := 31072) rfl rfl (fun x66 => ?_)
  have k67 := x66.k k65 (by decide)
  refine z_aload_n (pc := 282) C 0 rfl dX5_init_282 ?_
  refine z_bipush (pc := 283) C (by decide +kernel) dX5_init_283 ?_
  refine aX5_554 (pc := 285) C rfl rfl k67 (show m_sz M + 33 = v0 + 34 from by have := c1; omega) (Nat.le_trans (show 34 ≤ 62 from by decide) hR.1) (Nat.le_trans (show 31132 ≤ 41398 from by decide) hR.2) dX5_init_285 dX5_init_287 (c2 := 34) (s2 := 31132) rfl rfl (fun x68 => ?_)
  have k69 := x68.k k67 (by decide)
  refine z_aload_n (pc := 290) C 0 rfl dX5_init_290 ?_
  refine z_sipush (pc := 291) C (by decide +kernel) dX5_init_291 ?_
  refine aX5_555 (pc := 294) C rfl rfl k69 (show m_sz M + 34 = v0 + 35 from by have := c1; omega) (Nat.le_trans (show 35 ≤ 62 from by decide) hR.1) (Nat.le_trans (show 32332 ≤ 41398 from by decide) hR.2) dX5_init_294 dX5_init_296 (c2 := 35) (s2 := 32332) rfl rfl (fun x70 => ?_)
  have k71 := x70.k k69 (by decide)
  refine z_aload_n (pc := 299) C 0 rfl dX5_init_299 ?_
  refine z_sipush (pc := 300) C (by decide +kernel) dX5_init_300 ?_
  refine aX5_556 (pc := 303) C rfl rfl k71 (show m_sz M + 35 = v0 + 36 from by have := c1; omega) (Nat.le_trans (show 36 ≤ 62 from by decide) hR.1) (Nat.le_trans (show 33532 ≤ 41398 from by decide) hR.2) dX5_init_303 dX5_init_305 (c2 := 36) (s2 := 33532) rfl rfl (fun x72 => ?_)
  have k73 := x72.k k71 (by decide)
  refine z_aload_n (pc := 308) C 0 rfl dX5_init_308 ?_
  refine z_bipush (pc := 309) C (by decide +kernel) dX5_init_309 ?_
  refine aX5_557 (pc := 311) C rfl rfl k73 (show m_sz M + 36 = v0 + 37 from by have := c1; omega) (Nat.le_trans (show 37 ≤ 62 from by decide) hR.1) (Nat.le_trans (show 33538 ≤ 41398 from by decide) hR.2) dX5_init_311 dX5_init_313 (c2 := 37) (s2 := 33538) rfl rfl (fun x74 => ?_)
  have k75 := x74.k k73 (by decide)
  refine z_aload_n (pc := 316) C 0 rfl dX5_init_316 ?_
  refine z_bipush (pc := 317) C (by decide +kernel) dX5_init_317 ?_
  refine aX5_558 (pc := 319) C rfl rfl k75 (show m_sz M + 37 = v0 + 38 from by have := c1; omega) (Nat.le_trans (show 38 ≤ 62 from by decide) hR.1) (Nat.le_trans (show 33634 ≤ 41398 from by decide) hR.2) dX5_init_319 dX5_init_321 (c2 := 38) (s2 := 33634) rfl rfl (fun x76 => ?_)
  have k77 := x76.k k75 (by decide)
  refine z_aload_n (pc := 324) C 0 rfl dX5_init_324 ?_
  refine z_bipush (pc := 325) C (by decide +kernel) dX5_init_325 ?_
  refine aX5_559 (pc := 327) C rfl rfl k77 (show m_sz M + 38 = v0 + 39 from by have := c1; omega) (Nat.le_trans (show 39 ≤ 62 from by decide) hR.1) (Nat.le_trans (show 33730 ≤ 41398 from by decide) hR.2) dX5_init_327 dX5_init_329 (c2 := 39) (s2 := 33730) rfl rfl (fun x78 => ?_)
  have k79 := x78.k k77 (by decide)
  refine z_aload_n (pc := 332) C 0 rfl dX5_init_332 ?_
  refine z_bipush (pc := 333) C (by decide +kernel) dX5_init_333 ?_
  refine aX5_560 (pc := 335) C rfl rfl k79 (show m_sz M + 39 = v0 + 40 from by have := c1; omega) (Nat.le_trans (show 40 ≤ 62 from by decide) hR.1) (Nat.le_trans (show 33826 ≤ 41398 from by decide) hR.2) dX5_init_335 dX5_init_337 (c2 := 40) (s2 := 33826) rfl rfl (fun x80 => ?_)
  have k81 := x80.k k79 (by decide)
  refine z_aload_n (pc := 340) C 0 rfl dX5_init_340 ?_
  refine z_bipush (pc := 341) C (by decide +kernel) dX5_init_341 ?_
  refine aX5_561 (pc := 343) C rfl rfl k81 (show m_sz M + 40 = v0 + 41 from by have := c1; omega) (Nat.le_trans (show 41 ≤ 62 from by decide) hR.1) (Nat.le_trans (show 33846 ≤ 41398 from by decide) hR.2) dX5_init_343 dX5_init_345 (c2 := 41) (s2 := 33846) rfl rfl (fun x82 => ?_)
  have k83 := x82.k k81 (by decide)
  refine z_aload_n (pc := 348) C 0 rfl dX5_init_348 ?_
  refine z_sipush (pc := 349) C (by decide +kernel) dX5_init_349 ?_
  refine aX5_565 (pc := 352) C rfl rfl k83 (show m_sz M + 41 = v0 + 42 from by have := c1; omega) (Nat.le_trans (show 42 ≤ 62 from by decide) hR.1) (Nat.le_trans (show 35046 ≤ 41398 from by decide) hR.2) dX5_init_352 dX5_init_354 (c2 := 42) (s2 := 35046) rfl rfl (fun x84 => ?_)
  have k85 := x84.k k83 (by decide)
  refine z_aload_n (pc := 357) C 0 rfl dX5_init_357 ?_
  refine z_sipush (pc := 358) C (by decide +kernel) dX5_init_358 ?_
  refine aX5_566 (pc := 361) C rfl rfl k85 (show m_sz M + 42 = v0 + 43 from by have := c1; omega) (Nat.le_trans (show 43 ≤ 62 from by decide) hR.1) (Nat.le_trans (show 36246 ≤ 41398 from by decide) hR.2) dX5_init_361 dX5_init_363 (c2 := 43) (s2 := 36246) rfl rfl (fun x86 => ?_)
  have k87 := x86.k k85 (by decide)
  refine z_aload_n (pc := 366) C 0 rfl dX5_init_366 ?_
  refine z_sipush (pc := 367) C (by decide +kernel) dX5_init_367 ?_
  refine aX5_567 (pc := 370) C rfl rfl k87 (show m_sz M + 43 = v0 + 44 from by have := c1; omega) (Nat.le_trans (show 44 ≤ 62 from by decide) hR.1) (Nat.le_trans (show 37446 ≤ 41398 from by decide) hR.2) dX5_init_370 dX5_init_372 (c2 := 44) (s2 := 37446) rfl rfl (fun x88 => ?_)
  have k89 := x88.k k87 (by decide)
  refine z_aload_n (pc := 375) C 0 rfl dX5_init_375 ?_
  refine z_bipush (pc := 376) C (by decide +kernel) dX5_init_376 ?_
  refine aX5_568 (pc := 378) C rfl rfl k89 (show m_sz M + 44 = v0 + 45 from by have := c1; omega) (Nat.le_trans (show 45 ≤ 62 from by decide) hR.1) (Nat.le_trans (show 37546 ≤ 41398 from by decide) hR.2) dX5_init_378 dX5_init_380 (c2 := 45) (s2 := 37546) rfl rfl (fun x90 => ?_)
  have k91 := x90.k k89 (by decide)
  refine z_aload_n (pc := 383) C 0 rfl dX5_init_383 ?_
  refine z_bipush (pc := 384) C (by decide +kernel) dX5_init_384 ?_
  refine aX5_570 (pc := 386) C rfl rfl k91 (show m_sz M + 45 = v0 + 46 from by have := c1; omega) (Nat.le_trans (show 46 ≤ 62 from by decide) hR.1) (Nat.le_trans (show 37558 ≤ 41398 from by decide) hR.2) dX5_init_386 dX5_init_388 (c2 := 46) (s2 := 37558) rfl rfl (fun x92 => ?_)
  have k93 := x92.k k91 (by decide)
  refine z_aload_n (pc := 391) C 0 rfl dX5_init_391 ?_
  refine z_bipush (pc := 392) C (by decide +kernel) dX5_init_392 ?_
  refine aX5_571 (pc := 394) C rfl rfl k93 (show m_sz M + 46 = v0 + 47 from by have := c1; omega) (Nat.le_trans (show 47 ≤ 62 from by decide) hR.1) (Nat.le_trans (show 37570 ≤ 41398 from by decide) hR.2) dX5_init_394 dX5_init_396 (c2 := 47) (s2 := 37570) rfl rfl (fun x94 => ?_)
  have k95 := x94.k k93 (by decide)
  refine z_aload_n (pc := 399) C 0 rfl dX5_init_399 ?_
  refine z_sipush (pc := 400) C (by decide +kernel) dX5_init_400 ?_
  refine aX5_572 (pc := 403) C rfl rfl k95 (show m_sz M + 47 = v0 + 48 from by have := c1; omega) (Nat.le_trans (show 48 ≤ 62 from by decide) hR.1) (Nat.le_trans (show 37714 ≤ 41398 from by decide) hR.2) dX5_init_403 dX5_init_405 (c2 := 48) (s2 := 37714) rfl rfl (fun x96 => ?_)
  have k97 := x96.k k95 (by decide)
  refine z_aload_n (pc := 408) C 0 rfl dX5_init_408 ?_
  refine z_sipush (pc := 409) C (by decide +kernel) dX5_init_409 ?_
  refine aX5_573 (pc := 412) C rfl rfl k97 (show m_sz M + 48 = v0 + 49 from by have := c1; omega) (Nat.le_trans (show 49 ≤ 62 from by decide) hR.1) (Nat.le_trans (show 37858 ≤ 41398 from by decide) hR.2) dX5_init_412 dX5_init_414 (c2 := 49) (s2 := 37858) rfl rfl (fun x98 => ?_)
  have k99 := x98.k k97 (by decide)
  refine z_aload_n (pc := 417) C 0 rfl dX5_init_417 ?_
  refine z_sipush (pc := 418) C (by decide +kernel) dX5_init_418 ?_
  refine aX5_574 (pc := 421) C rfl rfl k99 (show m_sz M + 49 = v0 + 50 from by have := c1; omega) (Nat.le_trans (show 50 ≤ 62 from by decide) hR.1) (Nat.le_trans (show 38002 ≤ 41398 from by decide) hR.2) dX5_init_421 dX5_init_423 (c2 := 50) (s2 := 38002) rfl rfl (fun x100 => ?_)
  have k101 := x100.k k99 (by decide)
  refine z_aload_n (pc := 426) C 0 rfl dX5_init_426 ?_
  refine z_sipush (pc := 427) C (by decide +kernel) dX5_init_427 ?_
  refine aX5_575 (pc := 430) C rfl rfl k101 (show m_sz M + 50 = v0 + 51 from by have := c1; omega) (Nat.le_trans (show 51 ≤ 62 from by decide) hR.1) (Nat.le_trans (show 38146 ≤ 41398 from by decide) hR.2) dX5_init_430 dX5_init_432 (c2 := 51) (s2 := 38146) rfl rfl (fun x102 => ?_)
  have k103 := x102.k k101 (by decide)
  refine z_aload_n (pc := 435) C 0 rfl dX5_init_435 ?_
  refine z_bipush (pc := 436) C (by decide +kernel) dX5_init_436 ?_
  refine aX5_576 (pc := 438) C rfl rfl k103 (show m_sz M + 51 = v0 + 52 from by have := c1; omega) (Nat.le_trans (show 52 ≤ 62 from by decide) hR.1) (Nat.le_trans (show 38158 ≤ 41398 from by decide) hR.2) dX5_init_438 dX5_init_440 (c2 := 52) (s2 := 38158) rfl rfl (fun x104 => ?_)
  have k105 := x104.k k103 (by decide)
  refine z_aload_n (pc := 443) C 0 rfl dX5_init_443 ?_
  refine z_bipush (pc := 444) C (by decide +kernel) dX5_init_444 ?_
  refine aX5_577 (pc := 446) C rfl rfl k105 (show m_sz M + 52 = v0 + 53 from by have := c1; omega) (Nat.le_trans (show 53 ≤ 62 from by decide) hR.1) (Nat.le_trans (show 38170 ≤ 41398 from by decide) hR.2) dX5_init_446 dX5_init_448 (c2 := 53) (s2 := 38170) rfl rfl (fun x106 => ?_)
  have k107 := x106.k k105 (by decide)
  refine z_aload_n (pc := 451) C 0 rfl dX5_init_451 ?_
  refine z_bipush (pc := 452) C (by decide +kernel) dX5_init_452 ?_
  refine aX5_578 (pc := 454) C rfl rfl k107 (show m_sz M + 53 = v0 + 54 from by have := c1; omega) (Nat.le_trans (show 54 ≤ 62 from by decide) hR.1) (Nat.le_trans (show 38182 ≤ 41398 from by decide) hR.2) dX5_init_454 dX5_init_456 (c2 := 54) (s2 := 38182) rfl rfl (fun x108 => ?_)
  have k109 := x108.k k107 (by decide)
  refine z_aload_n (pc := 459) C 0 rfl dX5_init_459 ?_
  refine z_bipush (pc := 460) C (by decide +kernel) dX5_init_460 ?_
  refine aX5_581 (pc := 462) C rfl rfl k109 (show m_sz M + 54 = v0 + 55 from by have := c1; omega) (Nat.le_trans (show 55 ≤ 62 from by decide) hR.1) (Nat.le_trans (show 38194 ≤ 41398 from by decide) hR.2) dX5_init_462 dX5_init_464 (c2 := 55) (s2 := 38194) rfl rfl (fun x110 => ?_)
  have k111 := x110.k k109 (by decide)
  refine z_aload_n (pc := 467) C 0 rfl dX5_init_467 ?_
  refine z_bipush (pc := 468) C (by decide +kernel) dX5_init_468 ?_
  refine aX5_583 (pc := 470) C rfl rfl k111 (show m_sz M + 55 = v0 + 56 from by have := c1; omega) (Nat.le_trans (show 56 ≤ 62 from by decide) hR.1) (Nat.le_trans (show 38206 ≤ 41398 from by decide) hR.2) dX5_init_470 dX5_init_472 (c2 := 56) (s2 := 38206) rfl rfl (fun x112 => ?_)
  have k113 := x112.k k111 (by decide)
  refine z_aload_n (pc := 475) C 0 rfl dX5_init_475 ?_
  refine z_bipush (pc := 476) C (by decide +kernel) dX5_init_476 ?_
  refine aX5_584 (pc := 478) C rfl rfl k113 (show m_sz M + 56 = v0 + 57 from by have := c1; omega) (Nat.le_trans (show 57 ≤ 62 from by decide) hR.1) (Nat.le_trans (show 38218 ≤ 41398 from by decide) hR.2) dX5_init_478 dX5_init_480 (c2 := 57) (s2 := 38218) rfl rfl (fun x114 => ?_)
  have k115 := x114.k k113 (by decide)
  refine z_aload_n (pc := 483) C 0 rfl dX5_init_483 ?_
  refine z_bipush (pc := 484) C (by decide +kernel) dX5_init_484 ?_
  refine aX5_585 (pc := 486) C rfl rfl k115 (show m_sz M + 57 = v0 + 58 from by have := c1; omega) (Nat.le_trans (show 58 ≤ 62 from by decide) hR.1) (Nat.le_trans (show 38230 ≤ 41398 from by decide) hR.2) dX5_init_486 dX5_init_488 (c2 := 58) (s2 := 38230) rfl rfl (fun x116 => ?_)
  have k117 := x116.k k115 (by decide)
  refine z_aload_n (pc := 491) C 0 rfl dX5_init_491 ?_
  refine z_bipush (pc := 492) C (by decide +kernel) dX5_init_492 ?_
  refine aX5_586 (pc := 494) C rfl rfl k117 (show m_sz M + 58 = v0 + 59 from by have := c1; omega) (Nat.le_trans (show 59 ≤ 62 from by decide) hR.1) (Nat.le_trans (show 38242 ≤ 41398 from by decide) hR.2) dX5_init_494 dX5_init_496 (c2 := 59) (s2 := 38242) rfl rfl (fun x118 => ?_)
  have k119 := x118.k k117 (by decide)
  refine z_aload_n (pc := 499) C 0 rfl dX5_init_499 ?_
  refine z_bipush (pc := 500) C (by decide +kernel) dX5_init_500 ?_
  refine aX5_587 (pc := 502) C rfl rfl k119 (show m_sz M + 59 = v0 + 60 from by have := c1; omega) (Nat.le_trans (show 60 ≤ 62 from by decide) hR.1) (Nat.le_trans (show 38254 ≤ 41398 from by decide) hR.2) dX5_init_502 dX5_init_504 (c2 := 60) (s2 := 38254) rfl rfl (fun x120 => ?_)
  have k121 := x120.k k119 (by decide)
  refine z_aload_n (pc := 507) C 0 rfl dX5_init_507 ?_
  refine z_sipush (pc := 508) C (by decide +kernel) dX5_init_508 ?_
  refine aX5_588 (pc := 511) C rfl rfl k121 (show m_sz M + 60 = v0 + 61 from by have := c1; omega) (Nat.le_trans (show 61 ≤ 62 from by decide) hR.1) (Nat.le_trans (show 38398 ≤ 41398 from by decide) hR.2) dX5_init_511 dX5_init_513 (c2 := 61) (s2 := 38398) rfl rfl (fun x122 => ?_)
  have k123 := x122.k k121 (by decide)
  refine z_aload_n (pc := 516) C 0 rfl dX5_init_516 ?_
  refine z_sipush (pc := 517) C (by decide +kernel) dX5_init_517 ?_
  refine aX5_590 (pc := 520) C rfl rfl k123 (show m_sz M + 61 = v0 + 62 from by have := c1; omega) (Nat.le_trans (show 62 ≤ 62 from by decide) hR.1) (Nat.le_trans (show 41398 ≤ 41398 from by decide) hR.2) dX5_init_520 dX5_init_522 (c2 := 62) (s2 := 41398) rfl rfl (fun x124 => ?_)
  have k125 := x124.k k123 (by decide)
  obtain ⟨c126, h⟩ := ifn h
  refine z_sealW (k := 5) v0 k125 (by decide) (by decide) c126 (fun k127 x128 => ?_)
  cases h
  exact z_vret (pc := 525) C rfl (show 62 ≤ 62 from by decide) (show 41398 ≤ 41398 from by decide) dX5_init_525
