set_option maxRecDepth 100000
def B_L_law_3074 (L : Nat) (xs : Nat → Int32) (k23 : Nat → Nat → Nat → Nat → Int → Mem → Option (Int × Mem)) (v0 : Nat) (v1 : Nat) (v2 : Nat) (v3 : Nat) (v4 : Int) (M : Mem) : Option (Int × Mem) :=
  k23 v0 v1 v2 v3 (v4 + 7) M
def B_L_law_208 (L : Nat) (xs : Nat → Int32) (k23 : Nat → Nat → Nat → Nat → Int → Mem → Option (Int × Mem)) (v0 : Nat) (v1 : Nat) (v2 : Nat) (v3 : Nat) (v4 : Int) (M : Mem) : Option (Int × Mem) :=
  if inb (v4 + 1) L then 
  bN (d_X0_tick v1 ((xs (ixn (v4 + 1))).toInt) v3 M) fun r25 M26 => 
  bN (d_X5_tick v2 ((xs (ixn (v4 + 1))).toInt) M26) fun r32 M33 => 
  if w32 (d_X5_thrown v2 M33) = w32 r25 then
    if w32 r25 = 0 then
      if w64 (m_i M33 9000 v3 (ixn 0)) = w64 (w32 r32) then
        B_L_law_3074 L xs k23 v0 v1 v2 v3 v4 M33
      else
        some (0, M33)
    else
      B_L_law_3074 L xs k23 v0 v1 v2 v3 v4 M33
  else
    some (0, M33) else none
def B_L_law_264 (L : Nat) (xs : Nat → Int32) (k23 : Nat → Nat → Nat → Nat → Int → Mem → Option (Int × Mem)) (v0 : Nat) (v1 : Nat) (v2 : Nat) (v3 : Nat) (v4 : Int) (M : Mem) : Option (Int × Mem) :=
  bN (d_X0_unit v1 v3 M) fun r44 M45 => 
  bN (d_X5_unit v2 M45) fun r51 M52 => 
  if w32 (d_X5_thrown v2 M52) = w32 r44 then
    if w32 r44 = 0 then
      if w64 (m_i M52 9000 v3 (ixn 0)) = w64 (w32 r51) then
        B_L_law_3074 L xs k23 v0 v1 v2 v3 v4 M52
      else
        some (0, M52)
    else
      B_L_law_3074 L xs k23 v0 v1 v2 v3 v4 M52
  else
    some (0, M52)
def B_L_law_308 (L : Nat) (xs : Nat → Int32) (k23 : Nat → Nat → Nat → Nat → Int → Mem → Option (Int × Mem)) (v0 : Nat) (v1 : Nat) (v2 : Nat) (v3 : Nat) (v4 : Int) (M : Mem) : Option (Int × Mem) :=
  if inb (v4 + 1) L then 
  if inb (v4 + 2) L then 
  if inb (v4 + 3) L then 
  if inb (v4 + 4) L then 
  bN (d_X0_tell v1 ((xs (ixn (v4 + 1))).toInt) ((xs (ixn (v4 + 2))).toInt) ((xs (ixn (v4 + 3))).toInt) ((xs (ixn (v4 + 4))).toInt) v3 M) fun r67 M68 => 
  bN (d_X5_tell v2 ((xs (ixn (v4 + 1))).toInt) ((xs (ixn (v4 + 2))).toInt) ((xs (ixn (v4 + 3))).toInt) ((xs (ixn (v4 + 4))).toInt) M68) fun r74 M75 => 
  if w32 (d_X5_thrown v2 M75) = w32 r67 then
    if w32 r67 = 0 then
      if w64 (m_i M75 9000 v3 (ixn 0)) = w64 (w32 r74) then
        B_L_law_3074 L xs k23 v0 v1 v2 v3 v4 M75
      else
        some (0, M75)
    else
      B_L_law_3074 L xs k23 v0 v1 v2 v3 v4 M75
  else
    some (0, M75) else none else none else none else none
def B_L_law_400 (L : Nat) (xs : Nat → Int32) (k23 : Nat → Nat → Nat → Nat → Int → Mem → Option (Int × Mem)) (v0 : Nat) (v1 : Nat) (v2 : Nat) (v3 : Nat) (v4 : Int) (M : Mem) : Option (Int × Mem) :=
  if inb (v4 + 1) L then 
  if inb (v4 + 2) L then 
  bN (d_X0_merge v1 ((xs (ixn (v4 + 1))).toInt) ((xs (ixn (v4 + 2))).toInt) v3 M) fun r88 M89 => 
  bN (d_X5_merge v2 ((xs (ixn (v4 + 1))).toInt) ((xs (ixn (v4 + 2))).toInt) M89) fun r95 M96 => 
  if w32 (d_X5_thrown v2 M96) = w32 r88 then
    if w32 r88 = 0 then
      if w64 (m_i M96 9000 v3 (ixn 0)) = w64 (w32 r95) then
        B_L_law_3074 L xs k23 v0 v1 v2 v3 v4 M96
      else
        some (0, M96)
    else
      B_L_law_3074 L xs k23 v0 v1 v2 v3 v4 M96
  else
    some (0, M96) else none else none
def B_L_law_468 (L : Nat) (xs : Nat → Int32) (k23 : Nat → Nat → Nat → Nat → Int → Mem → Option (Int × Mem)) (v0 : Nat) (v1 : Nat) (v2 : Nat) (v3 : Nat) (v4 : Int) (M : Mem) : Option (Int × Mem) :=
  if inb (v4 + 1) L then 
  if inb (v4 + 2) L then 
  if inb (v4 + 3) L then 
  if inb (v4 + 4) L then 
  bN (d_X0_value v1 ((xs (ixn (v4 + 1))).toInt) ((xs (ixn (v4 + 2))).toInt) ((xs (ixn (v4 + 3))).toInt) ((xs (ixn (v4 + 4))).toInt) v3 M) fun r111 M112 => 
  bN (d_X5_value v2 ((xs (ixn (v4 + 1))).toInt) ((xs (ixn (v4 + 2))).toInt) ((xs (ixn (v4 + 3))).toInt) ((xs (ixn (v4 + 4))).toInt) M112) fun r118 M119 => 
  if w32 (d_X5_thrown v2 M119) = w32 r111 then
    if w32 r111 = 0 then
      if w64 (m_i M119 9000 v3 (ixn 0)) = w64 (w32 r118) then
        B_L_law_3074 L xs k23 v0 v1 v2 v3 v4 M119
      else
        some (0, M119)
    else
      B_L_law_3074 L xs k23 v0 v1 v2 v3 v4 M119
  else
    some (0, M119) else none else none else none else none
def B_L_law_560 (L : Nat) (xs : Nat → Int32) (k23 : Nat → Nat → Nat → Nat → Int → Mem → Option (Int × Mem)) (v0 : Nat) (v1 : Nat) (v2 : Nat) (v3 : Nat) (v4 : Int) (M : Mem) : Option (Int × Mem) :=
  if inb (v4 + 1) L then 
  bN (d_X0_last v1 ((xs (ixn (v4 + 1))).toInt) v3 M) fun r131 M132 => 
  bN (d_X5_last v2 ((xs (ixn (v4 + 1))).toInt) M132) fun r138 M139 => 
  if w32 (d_X5_thrown v2 M139) = w32 r131 then
    if w32 r131 = 0 then
      if w64 (m_i M139 9000 v3 (ixn 0)) = w64 (w32 r138) then
        B_L_law_3074 L xs k23 v0 v1 v2 v3 v4 M139
      else
        some (0, M139)
    else
      B_L_law_3074 L xs k23 v0 v1 v2 v3 v4 M139
  else
    some (0, M139) else none
def B_L_law_616 (L : Nat) (xs : Nat → Int32) (k23 : Nat → Nat → Nat → Nat → Int → Mem → Option (Int × Mem)) (v0 : Nat) (v1 : Nat) (v2 : Nat) (v3 : Nat) (v4 : Int) (M : Mem) : Option (Int × Mem) :=
  if inb (v4 + 1) L then 
  if inb (v4 + 2) L then 
  if inb (v4 + 3) L then 
  if inb (v4 + 4) L then 
  if inb (v4 + 5) L then 
  bN (d_X0_feed v1 ((xs (ixn (v4 + 1))).toInt) ((xs (ixn (v4 + 2))).toInt) ((xs (ixn (v4 + 3))).toInt) ((xs (ixn (v4 + 4))).toInt) ((xs (ixn (v4 + 5))).toInt) v3 M) fun r155 M156 => 
  bN (d_X5_feed v2 ((xs (ixn (v4 + 1))).toInt) ((xs (ixn (v4 + 2))).toInt) ((xs (ixn (v4 + 3))).toInt) ((xs (ixn (v4 + 4))).toInt) ((xs (ixn (v4 + 5))).toInt) M156) fun r162 M163 => 
  if w32 (d_X5_thrown v2 M163) = w32 r155 then
    if w32 r155 = 0 then
      if w64 (m_i M163 9000 v3 (ixn 0)) = w64 (w32 r162) then
        B_L_law_3074 L xs k23 v0 v1 v2 v3 v4 M163
      else
        some (0, M163)
    else
      B_L_law_3074 L xs k23 v0 v1 v2 v3 v4 M163
  else
    some (0, M163) else none else none else none else none else none
def B_L_law_720 (L : Nat) (xs : Nat → Int32) (k23 : Nat → Nat → Nat → Nat → Int → Mem → Option (Int × Mem)) (v0 : Nat) (v1 : Nat) (v2 : Nat) (v3 : Nat) (v4 : Int) (M : Mem) : Option (Int × Mem) :=
  if inb (v4 + 1) L then 
  bN (d_X0_trim v1 ((xs (ixn (v4 + 1))).toInt) v3 M) fun r175 M176 => 
  bN (d_X5_trim v2 ((xs (ixn (v4 + 1))).toInt) M176) fun r182 M183 => 
  if w32 (d_X5_thrown v2 M183) = w32 r175 then
    if w32 r175 = 0 then
      if w64 (m_i M183 9000 v3 (ixn 0)) = w64 (w32 r182) then
        B_L_law_3074 L xs k23 v0 v1 v2 v3 v4 M183
      else
        some (0, M183)
    else
      B_L_law_3074 L xs k23 v0 v1 v2 v3 v4 M183
  else
    some (0, M183) else none
def B_L_law_776 (L : Nat) (xs : Nat → Int32) (k23 : Nat → Nat → Nat → Nat → Int → Mem → Option (Int × Mem)) (v0 : Nat) (v1 : Nat) (v2 : Nat) (v3 : Nat) (v4 : Int) (M : Mem) : Option (Int × Mem) :=
  bN (d_X0_form v1 v3 M) fun r194 M195 => 
  bN (d_X5_form v2 M195) fun r201 M202 => 
  if w32 (d_X5_thrown v2 M202) = w32 r194 then
    if w32 r194 = 0 then
      if w64 (m_i M202 9000 v3 (ixn 0)) = w64 (w32 r201) then
        B_L_law_3074 L xs k23 v0 v1 v2 v3 v4 M202
      else
        some (0, M202)
    else
      B_L_law_3074 L xs k23 v0 v1 v2 v3 v4 M202
  else
    some (0, M202)
def B_L_law_820 (L : Nat) (xs : Nat → Int32) (k23 : Nat → Nat → Nat → Nat → Int → Mem → Option (Int × Mem)) (v0 : Nat) (v1 : Nat) (v2 : Nat) (v3 : Nat) (v4 : Int) (M : Mem) : Option (Int × Mem) :=
  if inb (v4 + 1) L then 
  if inb (v4 + 2) L then 
  if inb (v4 + 3) L then 
  bN (d_X0_statement v1 ((xs (ixn (v4 + 1))).toInt) ((xs (ixn (v4 + 2))).toInt) ((xs (ixn (v4 + 3))).toInt) v3 M) fun r216 M217 => 
  bN (d_X5_statement v2 ((xs (ixn (v4 + 1))).toInt) ((xs (ixn (v4 + 2))).toInt) ((xs (ixn (v4 + 3))).toInt) M217) fun r223 M224 => 
  if w32 (d_X5_thrown v2 M224) = w32 r216 then
    if w32 r216 = 0 then
      if w64 (m_i M224 9000 v3 (ixn 0)) = w64 (w32 r223) then
        B_L_law_3074 L xs k23 v0 v1 v2 v3 v4 M224
      else
        some (0, M224)
    else
      B_L_law_3074 L xs k23 v0 v1 v2 v3 v4 M224
  else
    some (0, M224) else none else none else none
def B_L_law_900 (L : Nat) (xs : Nat → Int32) (k23 : Nat → Nat → Nat → Nat → Int → Mem → Option (Int × Mem)) (v0 : Nat) (v1 : Nat) (v2 : Nat) (v3 : Nat) (v4 : Int) (M : Mem) : Option (Int × Mem) :=
  if inb (v4 + 1) L then 
  if inb (v4 + 2) L then 
  bN (d_X0_open v1 ((xs (ixn (v4 + 1))).toInt) ((xs (ixn (v4 + 2))).toInt) v3 M) fun r237 M238 => 
  bN (d_X5_open v2 ((xs (ixn (v4 + 1))).toInt) ((xs (ixn (v4 + 2))).toInt) M238) fun r244 M245 => 
  if w32 (d_X5_thrown v2 M245) = w32 r237 then
    if w32 r237 = 0 then
      if w64 (m_i M245 9000 v3 (ixn 0)) = w64 (w32 r244) then
        B_L_law_3074 L xs k23 v0 v1 v2 v3 v4 M245
      else
        some (0, M245)
    else
      B_L_law_3074 L xs k23 v0 v1 v2 v3 v4 M245
  else
    some (0, M245) else none else none
def B_L_law_968 (L : Nat) (xs : Nat → Int32) (k23 : Nat → Nat → Nat → Nat → Int → Mem → Option (Int × Mem)) (v0 : Nat) (v1 : Nat) (v2 : Nat) (v3 : Nat) (v4 : Int) (M : Mem) : Option (Int × Mem) :=
  if inb (v4 + 1) L then 
  bN (d_X0_question v1 ((xs (ixn (v4 + 1))).toInt) v3 M) fun r257 M258 => 
  bN (d_X5_question v2 ((xs (ixn (v4 + 1))).toInt) M258) fun r264 M265 => 
  if w32 (d_X5_thrown v2 M265) = w32 r257 then
    if w32 r257 = 0 then
      if w64 (m_i M265 9000 v3 (ixn 0)) = w64 (w32 r264) then
        B_L_law_3074 L xs k23 v0 v1 v2 v3 v4 M265
      else
        some (0, M265)
    else
      B_L_law_3074 L xs k23 v0 v1 v2 v3 v4 M265
  else
    some (0, M265) else none
def B_L_law_1024 (L : Nat) (xs : Nat → Int32) (k23 : Nat → Nat → Nat → Nat → Int → Mem → Option (Int × Mem)) (v0 : Nat) (v1 : Nat) (v2 : Nat) (v3 : Nat) (v4 : Int) (M : Mem) : Option (Int × Mem) :=
  if inb (v4 + 1) L then 
  if inb (v4 + 2) L then 
  bN (d_X0_answer v1 ((xs (ixn (v4 + 1))).toInt) ((xs (ixn (v4 + 2))).toInt) v3 M) fun r278 M279 => 
  bN (d_X5_answer v2 ((xs (ixn (v4 + 1))).toInt) ((xs (ixn (v4 + 2))).toInt) M279) fun r285 M286 => 
  if w32 (d_X5_thrown v2 M286) = w32 r278 then
    if w32 r278 = 0 then
      if w64 (m_i M286 9000 v3 (ixn 0)) = w64 (w32 r285) then
        B_L_law_3074 L xs k23 v0 v1 v2 v3 v4 M286
      else
        some (0, M286)
    else
      B_L_law_3074 L xs k23 v0 v1 v2 v3 v4 M286
  else
    some (0, M286) else none else none
def B_L_law_1092 (L : Nat) (xs : Nat → Int32) (k23 : Nat → Nat → Nat → Nat → Int → Mem → Option (Int × Mem)) (v0 : Nat) (v1 : Nat) (v2 : Nat) (v3 : Nat) (v4 : Int) (M : Mem) : Option (Int × Mem) :=
  if inb (v4 + 1) L then 
  bN (d_X0_back v1 ((xs (ixn (v4 + 1))).toInt) v3 M) fun r298 M299 => 
  bN (d_X5_back v2 ((xs (ixn (v4 + 1))).toInt) M299) fun r305 M306 => 
  if w32 (d_X5_thrown v2 M306) = w32 r298 then
    if w32 r298 = 0 then
      if w64 (m_i M306 9000 v3 (ixn 0)) = w64 (w32 r305) then
        B_L_law_3074 L xs k23 v0 v1 v2 v3 v4 M306
      else
        some (0, M306)
    else
      B_L_law_3074 L xs k23 v0 v1 v2 v3 v4 M306
  else
    some (0, M306) else none
def B_L_law_1208 (L : Nat) (xs : Nat → Int32) (k23 : Nat → Nat → Nat → Nat → Int → Mem → Option (Int × Mem)) (v0 : Nat) (v1 : Nat) (v2 : Nat) (v3 : Nat) (v4 : Int) (v5 : Int) (s0 : Nat) (s1 : Int) (s2 : Int) (s3 : Int) (M : Mem) : Option (Int × Mem) :=
  bN (d_X5_given s0 s1 s2 s3 M) fun r332 M333 => 
  if w32 (d_X5_thrown v2 M333) = w32 v5 then
    if w32 v5 = 0 then
      if w64 (m_i M333 9000 v3 (ixn 0)) = w64 (w32 r332) then
        B_L_law_3074 L xs k23 v0 v1 v2 v3 v4 M333
      else
        some (0, M333)
    else
      B_L_law_3074 L xs k23 v0 v1 v2 v3 v4 M333
  else
    some (0, M333)
def B_L_law_1175 (L : Nat) (xs : Nat → Int32) (k23 : Nat → Nat → Nat → Nat → Int → Mem → Option (Int × Mem)) (v0 : Nat) (v1 : Nat) (v2 : Nat) (v3 : Nat) (v4 : Int) (s0 : Nat) (s1 : Int) (s2 : Int) (s3 : Int) (M : Mem) : Option (Int × Mem) :=
  bN (d_X0_given s0 s1 s2 s3 v3 M) fun r321 M322 => 
  if inb (v4 + 1) L then 
  if inb (v4 + 2) L then 
  if inb (v4 + 3) L then 
  if w32 ((xs (ixn (v4 + 3))).toInt) = 0 then
    B_L_law_1208 L xs k23 v0 v1 v2 v3 v4 r321 v2 ((xs (ixn (v4 + 1))).toInt) ((xs (ixn (v4 + 2))).toInt) 0 M322
  else
    B_L_law_1208 L xs k23 v0 v1 v2 v3 v4 r321 v2 ((xs (ixn (v4 + 1))).toInt) ((xs (ixn (v4 + 2))).toInt) 1 M322 else none else none else none
def B_L_law_1148 (L : Nat) (xs : Nat → Int32) (k23 : Nat → Nat → Nat → Nat → Int → Mem → Option (Int × Mem)) (v0 : Nat) (v1 : Nat) (v2 : Nat) (v3 : Nat) (v4 : Int) (M : Mem) : Option (Int × Mem) :=
  if inb (v4 + 1) L then 
  if inb (v4 + 2) L then 
  if inb (v4 + 3) L then 
  if w32 ((xs (ixn (v4 + 3))).toInt) = 0 then
    B_L_law_1175 L xs k23 v0 v1 v2 v3 v4 v1 ((xs (ixn (v4 + 1))).toInt) ((xs (ixn (v4 + 2))).toInt) 0 M
  else
    B_L_law_1175 L xs k23 v0 v1 v2 v3 v4 v1 ((xs (ixn (v4 + 1))).toInt) ((xs (ixn (v4 + 2))).toInt) 1 M else none else none else none
def B_L_law_1244 (L : Nat) (xs : Nat → Int32) (k23 : Nat → Nat → Nat → Nat → Int → Mem → Option (Int × Mem)) (v0 : Nat) (v1 : Nat) (v2 : Nat) (v3 : Nat) (v4 : Int) (M : Mem) : Option (Int × Mem) :=
  if inb (v4 + 1) L then 
  bN (d_X0_close v1 ((xs (ixn (v4 + 1))).toInt) v3 M) fun r345 M346 => 
  bN (d_X5_close v2 ((xs (ixn (v4 + 1))).toInt) M346) fun r352 M353 => 
  if w32 (d_X5_thrown v2 M353) = w32 r345 then
    if w32 r345 = 0 then
      if w64 (m_i M353 9000 v3 (ixn 0)) = w64 (w32 r352) then
        B_L_law_3074 L xs k23 v0 v1 v2 v3 v4 M353
      else
        some (0, M353)
    else
      B_L_law_3074 L xs k23 v0 v1 v2 v3 v4 M353
  else
    some (0, M353) else none
def B_L_law_1300 (L : Nat) (xs : Nat → Int32) (k23 : Nat → Nat → Nat → Nat → Int → Mem → Option (Int × Mem)) (v0 : Nat) (v1 : Nat) (v2 : Nat) (v3 : Nat) (v4 : Int) (M : Mem) : Option (Int × Mem) :=
  if inb (v4 + 1) L then 
  if inb (v4 + 2) L then 
  bN (d_X0_item v1 ((xs (ixn (v4 + 1))).toInt) ((xs (ixn (v4 + 2))).toInt) v3 M) fun r366 M367 => 
  bN (d_X5_item v2 ((xs (ixn (v4 + 1))).toInt) ((xs (ixn (v4 + 2))).toInt) M367) fun r373 M374 => 
  if w32 (d_X5_thrown v2 M374) = w32 r366 then
    if w32 r366 = 0 then
      if w64 (m_i M374 9000 v3 (ixn 0)) = w64 (w32 r373) then
        B_L_law_3074 L xs k23 v0 v1 v2 v3 v4 M374
      else
        some (0, M374)
    else
      B_L_law_3074 L xs k23 v0 v1 v2 v3 v4 M374
  else
    some (0, M374) else none else none
def B_L_law_1368 (L : Nat) (xs : Nat → Int32) (k23 : Nat → Nat → Nat → Nat → Int → Mem → Option (Int × Mem)) (v0 : Nat) (v1 : Nat) (v2 : Nat) (v3 : Nat) (v4 : Int) (M : Mem) : Option (Int × Mem) :=
  if inb (v4 + 1) L then 
  if inb (v4 + 2) L then 
  bN (d_X0_mark v1 ((xs (ixn (v4 + 1))).toInt) ((xs (ixn (v4 + 2))).toInt) v3 M) fun r387 M388 => 
  bN (d_X5_mark v2 ((xs (ixn (v4 + 1))).toInt) ((xs (ixn (v4 + 2))).toInt) M388) fun r394 M395 => 
  if w32 (d_X5_thrown v2 M395) = w32 r387 then
    if w32 r387 = 0 then
      if w64 (m_i M395 9000 v3 (ixn 0)) = w64 (w32 r394) then
        B_L_law_3074 L xs k23 v0 v1 v2 v3 v4 M395
      else
        some (0, M395)
    else
      B_L_law_3074 L xs k23 v0 v1 v2 v3 v4 M395
  else
    some (0, M395) else none else none
def B_L_law_1436 (L : Nat) (xs : Nat → Int32) (k23 : Nat → Nat → Nat → Nat → Int → Mem → Option (Int × Mem)) (v0 : Nat) (v1 : Nat) (v2 : Nat) (v3 : Nat) (v4 : Int) (M : Mem) : Option (Int × Mem) :=
  if inb (v4 + 1) L then 
  if inb (v4 + 2) L then 
  if inb (v4 + 3) L then 
  if inb (v4 + 4) L then 
  bN (d_X0_rule v1 ((xs (ixn (v4 + 1))).toInt) ((xs (ixn (v4 + 2))).toInt) ((xs (ixn (v4 + 3))).toInt) ((xs (ixn (v4 + 4))).toInt) v3 M) fun r410 M411 => 
  bN (d_X5_rule v2 ((xs (ixn (v4 + 1))).toInt) ((xs (ixn (v4 + 2))).toInt) ((xs (ixn (v4 + 3))).toInt) ((xs (ixn (v4 + 4))).toInt) M411) fun r417 M418 => 
  if w32 (d_X5_thrown v2 M418) = w32 r410 then
    if w32 r410 = 0 then
      if w64 (m_i M418 9000 v3 (ixn 0)) = w64 (w32 r417) then
        B_L_law_3074 L xs k23 v0 v1 v2 v3 v4 M418
      else
        some (0, M418)
    else
      B_L_law_3074 L xs k23 v0 v1 v2 v3 v4 M418
  else
    some (0, M418) else none else none else none else none
def B_L_law_1528 (L : Nat) (xs : Nat → Int32) (k23 : Nat → Nat → Nat → Nat → Int → Mem → Option (Int × Mem)) (v0 : Nat) (v1 : Nat) (v2 : Nat) (v3 : Nat) (v4 : Int) (M : Mem) : Option (Int × Mem) :=
  if inb (v4 + 1) L then 
  if inb (v4 + 2) L then 
  if inb (v4 + 3) L then 
  bN (d_X0_cost v1 ((xs (ixn (v4 + 1))).toInt) ((xs (ixn (v4 + 2))).toInt) ((xs (ixn (v4 + 3))).toInt) v3 M) fun r432 M433 => 
  bN (d_X5_cost v2 ((xs (ixn (v4 + 1))).toInt) ((xs (ixn (v4 + 2))).toInt) ((xs (ixn (v4 + 3))).toInt) M433) fun r439 M440 => 
  if w32 (d_X5_thrown v2 M440) = w32 r432 then
    if w32 r432 = 0 then
      if w64 (m_i M440 9000 v3 (ixn 0)) = w64 (w32 r439) then
        B_L_law_3074 L xs k23 v0 v1 v2 v3 v4 M440
      else
        some (0, M440)
    else
      B_L_law_3074 L xs k23 v0 v1 v2 v3 v4 M440
  else
    some (0, M440) else none else none else none
def B_L_law_1608 (L : Nat) (xs : Nat → Int32) (k23 : Nat → Nat → Nat → Nat → Int → Mem → Option (Int × Mem)) (v0 : Nat) (v1 : Nat) (v2 : Nat) (v3 : Nat) (v4 : Int) (M : Mem) : Option (Int × Mem) :=
  if inb (v4 + 1) L then 
  if inb (v4 + 2) L then 
  bN (d_X0_broken v1 ((xs (ixn (v4 + 1))).toInt) ((xs (ixn (v4 + 2))).toInt) v3 M) fun r453 M454 => 
  bN (d_X5_broken v2 ((xs (ixn (v4 + 1))).toInt) ((xs (ixn (v4 + 2))).toInt) M454) fun r460 M461 => 
  if w32 (d_X5_thrown v2 M461) = w32 r453 then
    if w32 r453 = 0 then
      if w64 (m_i M461 9000 v3 (ixn 0)) = w64 (w32 r460) then
        B_L_law_3074 L xs k23 v0 v1 v2 v3 v4 M461
      else
        some (0, M461)
    else
      B_L_law_3074 L xs k23 v0 v1 v2 v3 v4 M461
  else
    some (0, M461) else none else none
def B_L_law_1724 (L : Nat) (xs : Nat → Int32) (k23 : Nat → Nat → Nat → Nat → Int → Mem → Option (Int × Mem)) (v0 : Nat) (v1 : Nat) (v2 : Nat) (v3 : Nat) (v4 : Int) (v5 : Int) (s0 : Nat) (s1 : Int) (s2 : Int) (M : Mem) : Option (Int × Mem) :=
  bN (d_X5_least s0 s1 s2 M) fun r485 M486 => 
  if w32 (d_X5_thrown v2 M486) = w32 v5 then
    if w32 v5 = 0 then
      if w64 (m_i M486 9000 v3 (ixn 0)) = w64 (w32 r485) then
        B_L_law_3074 L xs k23 v0 v1 v2 v3 v4 M486
      else
        some (0, M486)
    else
      B_L_law_3074 L xs k23 v0 v1 v2 v3 v4 M486
  else
    some (0, M486)
def B_L_law_1697 (L : Nat) (xs : Nat → Int32) (k23 : Nat → Nat → Nat → Nat → Int → Mem → Option (Int × Mem)) (v0 : Nat) (v1 : Nat) (v2 : Nat) (v3 : Nat) (v4 : Int) (s0 : Nat) (s1 : Int) (s2 : Int) (M : Mem) : Option (Int × Mem) :=
  bN (d_X0_least s0 s1 s2 v3 M) fun r475 M476 => 
  if inb (v4 + 1) L then 
  if inb (v4 + 2) L then 
  if w32 ((xs (ixn (v4 + 2))).toInt) = 0 then
    B_L_law_1724 L xs k23 v0 v1 v2 v3 v4 r475 v2 ((xs (ixn (v4 + 1))).toInt) 0 M476
  else
    B_L_law_1724 L xs k23 v0 v1 v2 v3 v4 r475 v2 ((xs (ixn (v4 + 1))).toInt) 1 M476 else none else none
def B_L_law_1676 (L : Nat) (xs : Nat → Int32) (k23 : Nat → Nat → Nat → Nat → Int → Mem → Option (Int × Mem)) (v0 : Nat) (v1 : Nat) (v2 : Nat) (v3 : Nat) (v4 : Int) (M : Mem) : Option (Int × Mem) :=
  if inb (v4 + 1) L then 
  if inb (v4 + 2) L then 
  if w32 ((xs (ixn (v4 + 2))).toInt) = 0 then
    B_L_law_1697 L xs k23 v0 v1 v2 v3 v4 v1 ((xs (ixn (v4 + 1))).toInt) 0 M
  else
    B_L_law_1697 L xs k23 v0 v1 v2 v3 v4 v1 ((xs (ixn (v4 + 1))).toInt) 1 M else none else none
def B_L_law_1760 (L : Nat) (xs : Nat → Int32) (k23 : Nat → Nat → Nat → Nat → Int → Mem → Option (Int × Mem)) (v0 : Nat) (v1 : Nat) (v2 : Nat) (v3 : Nat) (v4 : Int) (M : Mem) : Option (Int × Mem) :=
  if inb (v4 + 1) L then 
  if inb (v4 + 2) L then 
  bN (d_X0_impute v1 ((xs (ixn (v4 + 1))).toInt) ((xs (ixn (v4 + 2))).toInt) v3 M) fun r499 M500 => 
  bN (d_X5_impute v2 ((xs (ixn (v4 + 1))).toInt) ((xs (ixn (v4 + 2))).toInt) M500) fun r506 M507 => 
  if w32 (d_X5_thrown v2 M507) = w32 r499 then
    if w32 r499 = 0 then
      if w64 (m_i M507 9000 v3 (ixn 0)) = w64 (w32 r506) then
        B_L_law_3074 L xs k23 v0 v1 v2 v3 v4 M507
      else
        some (0, M507)
    else
      B_L_law_3074 L xs k23 v0 v1 v2 v3 v4 M507
  else
    some (0, M507) else none else none
def B_L_law_1828 (L : Nat) (xs : Nat → Int32) (k23 : Nat → Nat → Nat → Nat → Int → Mem → Option (Int × Mem)) (v0 : Nat) (v1 : Nat) (v2 : Nat) (v3 : Nat) (v4 : Int) (M : Mem) : Option (Int × Mem) :=
  if inb (v4 + 1) L then 
  if inb (v4 + 2) L then 
  if inb (v4 + 3) L then 
  if inb (v4 + 4) L then 
  if inb (v4 + 5) L then 
  if inb (v4 + 6) L then 
  bN (d_X0_sample v1 ((xs (ixn (v4 + 1))).toInt) ((xs (ixn (v4 + 2))).toInt) ((xs (ixn (v4 + 3))).toInt) ((xs (ixn (v4 + 4))).toInt) ((xs (ixn (v4 + 5))).toInt) ((xs (ixn (v4 + 6))).toInt) v3 M) fun r524 M525 => 
  bN (d_X5_sample v2 ((xs (ixn (v4 + 1))).toInt) ((xs (ixn (v4 + 2))).toInt) ((xs (ixn (v4 + 3))).toInt) ((xs (ixn (v4 + 4))).toInt) ((xs (ixn (v4 + 5))).toInt) ((xs (ixn (v4 + 6))).toInt) M525) fun r531 M532 => 
  if w32 (d_X5_thrown v2 M532) = w32 r524 then
    if w32 r524 = 0 then
      if w64 (m_i M532 9000 v3 (ixn 0)) = w64 (w32 r531) then
        B_L_law_3074 L xs k23 v0 v1 v2 v3 v4 M532
      else
        some (0, M532)
    else
      B_L_law_3074 L xs k23 v0 v1 v2 v3 v4 M532
  else
    some (0, M532) else none else none else none else none else none else none
def B_L_law_1946 (L : Nat) (xs : Nat → Int32) (k23 : Nat → Nat → Nat → Nat → Int → Mem → Option (Int × Mem)) (v0 : Nat) (v1 : Nat) (v2 : Nat) (v3 : Nat) (v4 : Int) (M : Mem) : Option (Int × Mem) :=
  if inb (v4 + 1) L then 
  if inb (v4 + 2) L then 
  bN (d_X0_drawn v1 ((xs (ixn (v4 + 1))).toInt) ((xs (ixn (v4 + 2))).toInt) v3 M) fun r545 M546 => 
  bN (d_X5_drawn v2 ((xs (ixn (v4 + 1))).toInt) ((xs (ixn (v4 + 2))).toInt) M546) fun r552 M553 => 
  if w32 (d_X5_thrown v2 M553) = w32 r545 then
    if w32 r545 = 0 then
      if w64 (m_i M553 9000 v3 (ixn 0)) = w64 (w32 r552) then
        B_L_law_3074 L xs k23 v0 v1 v2 v3 v4 M553
      else
        some (0, M553)
    else
      B_L_law_3074 L xs k23 v0 v1 v2 v3 v4 M553
  else
    some (0, M553) else none else none
def B_L_law_2074 (L : Nat) (xs : Nat → Int32) (k23 : Nat → Nat → Nat → Nat → Int → Mem → Option (Int × Mem)) (v0 : Nat) (v1 : Nat) (v2 : Nat) (v3 : Nat) (v4 : Int) (v5 : Int) (s0 : Nat) (s1 : Int) (s2 : Int) (s3 : Int) (M : Mem) : Option (Int × Mem) :=
  bN (d_X5_chance s0 s1 s2 s3 M) fun r579 M580 => 
  if w32 (d_X5_thrown v2 M580) = w32 v5 then
    if w32 v5 = 0 then
      if w64 (m_i M580 9000 v3 (ixn 0)) = w64 (w32 r579) then
        B_L_law_3074 L xs k23 v0 v1 v2 v3 v4 M580
      else
        some (0, M580)
    else
      B_L_law_3074 L xs k23 v0 v1 v2 v3 v4 M580
  else
    some (0, M580)
def B_L_law_2041 (L : Nat) (xs : Nat → Int32) (k23 : Nat → Nat → Nat → Nat → Int → Mem → Option (Int × Mem)) (v0 : Nat) (v1 : Nat) (v2 : Nat) (v3 : Nat) (v4 : Int) (s0 : Nat) (s1 : Int) (s2 : Int) (s3 : Int) (M : Mem) : Option (Int × Mem) :=
  bN (d_X0_chance s0 s1 s2 s3 v3 M) fun r568 M569 => 
  if inb (v4 + 1) L then 
  if inb (v4 + 2) L then 
  if inb (v4 + 3) L then 
  if w32 ((xs (ixn (v4 + 3))).toInt) = 0 then
    B_L_law_2074 L xs k23 v0 v1 v2 v3 v4 r568 v2 ((xs (ixn (v4 + 1))).toInt) ((xs (ixn (v4 + 2))).toInt) 0 M569
  else
    B_L_law_2074 L xs k23 v0 v1 v2 v3 v4 r568 v2 ((xs (ixn (v4 + 1))).toInt) ((xs (ixn (v4 + 2))).toInt) 1 M569 else none else none else none
def B_L_law_2014 (L : Nat) (xs : Nat → Int32) (k23 : Nat → Nat → Nat → Nat → Int → Mem → Option (Int × Mem)) (v0 : Nat) (v1 : Nat) (v2 : Nat) (v3 : Nat) (v4 : Int) (M : Mem) : Option (Int × Mem) :=
  if inb (v4 + 1) L then 
  if inb (v4 + 2) L then 
  if inb (v4 + 3) L then 
  if w32 ((xs (ixn (v4 + 3))).toInt) = 0 then
    B_L_law_2041 L xs k23 v0 v1 v2 v3 v4 v1 ((xs (ixn (v4 + 1))).toInt) ((xs (ixn (v4 + 2))).toInt) 0 M
  else
    B_L_law_2041 L xs k23 v0 v1 v2 v3 v4 v1 ((xs (ixn (v4 + 1))).toInt) ((xs (ixn (v4 + 2))).toInt) 1 M else none else none else none
def B_L_law_2110 (L : Nat) (xs : Nat → Int32) (k23 : Nat → Nat → Nat → Nat → Int → Mem → Option (Int × Mem)) (v0 : Nat) (v1 : Nat) (v2 : Nat) (v3 : Nat) (v4 : Int) (M : Mem) : Option (Int × Mem) :=
  if inb (v4 + 1) L then 
  if inb (v4 + 2) L then 
  bN (d_X0_overlap v1 ((xs (ixn (v4 + 1))).toInt) ((xs (ixn (v4 + 2))).toInt) v3 M) fun r593 M594 => 
  bN (d_X5_overlap v2 ((xs (ixn (v4 + 1))).toInt) ((xs (ixn (v4 + 2))).toInt) M594) fun r600 M601 => 
  if w32 (d_X5_thrown v2 M601) = w32 r593 then
    if w32 r593 = 0 then
      if w64 (m_i M601 9000 v3 (ixn 0)) = w64 (w32 r600) then
        B_L_law_3074 L xs k23 v0 v1 v2 v3 v4 M601
      else
        some (0, M601)
    else
      B_L_law_3074 L xs k23 v0 v1 v2 v3 v4 M601
  else
    some (0, M601) else none else none
def B_L_law_2178 (L : Nat) (xs : Nat → Int32) (k23 : Nat → Nat → Nat → Nat → Int → Mem → Option (Int × Mem)) (v0 : Nat) (v1 : Nat) (v2 : Nat) (v3 : Nat) (v4 : Int) (M : Mem) : Option (Int × Mem) :=
  if inb (v4 + 1) L then 
  if inb (v4 + 2) L then 
  if inb (v4 + 3) L then 
  if inb (v4 + 4) L then 
  if inb (v4 + 5) L then 
  bN (d_X0_table v1 ((xs (ixn (v4 + 1))).toInt) ((xs (ixn (v4 + 2))).toInt) ((xs (ixn (v4 + 3))).toInt) ((xs (ixn (v4 + 4))).toInt) ((xs (ixn (v4 + 5))).toInt) v3 M) fun r617 M618 => 
  bN (d_X5_table v2 ((xs (ixn (v4 + 1))).toInt) ((xs (ixn (v4 + 2))).toInt) ((xs (ixn (v4 + 3))).toInt) ((xs (ixn (v4 + 4))).toInt) ((xs (ixn (v4 + 5))).toInt) M618) fun r624 M625 => 
  if w32 (d_X5_thrown v2 M625) = w32 r617 then
    if w32 r617 = 0 then
      if w64 (m_i M625 9000 v3 (ixn 0)) = w64 (w32 r624) then
        B_L_law_3074 L xs k23 v0 v1 v2 v3 v4 M625
      else
        some (0, M625)
    else
      B_L_law_3074 L xs k23 v0 v1 v2 v3 v4 M625
  else
    some (0, M625) else none else none else none else none else none
def B_L_law_2282 (L : Nat) (xs : Nat → Int32) (k23 : Nat → Nat → Nat → Nat → Int → Mem → Option (Int × Mem)) (v0 : Nat) (v1 : Nat) (v2 : Nat) (v3 : Nat) (v4 : Int) (M : Mem) : Option (Int × Mem) :=
  if inb (v4 + 1) L then 
  if inb (v4 + 2) L then 
  if inb (v4 + 3) L then 
  if inb (v4 + 4) L then 
  bN (d_X0_cell v1 ((xs (ixn (v4 + 1))).toInt) ((xs (ixn (v4 + 2))).toInt) ((xs (ixn (v4 + 3))).toInt) ((xs (ixn (v4 + 4))).toInt) v3 M) fun r640 M641 => 
  bN (d_X5_cell v2 ((xs (ixn (v4 + 1))).toInt) ((xs (ixn (v4 + 2))).toInt) ((xs (ixn (v4 + 3))).toInt) ((xs (ixn (v4 + 4))).toInt) M641) fun r647 M648 => 
  if w32 (d_X5_thrown v2 M648) = w32 r640 then
    if w32 r640 = 0 then
      if w64 (m_i M648 9000 v3 (ixn 0)) = w64 (w32 r647) then
        B_L_law_3074 L xs k23 v0 v1 v2 v3 v4 M648
      else
        some (0, M648)
    else
      B_L_law_3074 L xs k23 v0 v1 v2 v3 v4 M648
  else
    some (0, M648) else none else none else none else none
def B_L_law_2374 (L : Nat) (xs : Nat → Int32) (k23 : Nat → Nat → Nat → Nat → Int → Mem → Option (Int × Mem)) (v0 : Nat) (v1 : Nat) (v2 : Nat) (v3 : Nat) (v4 : Int) (M : Mem) : Option (Int × Mem) :=
  if inb (v4 + 1) L then 
  if inb (v4 + 2) L then 
  if inb (v4 + 3) L then 
  if inb (v4 + 4) L then 
  bN (d_X0_secrecy v1 ((xs (ixn (v4 + 1))).toInt) ((xs (ixn (v4 + 2))).toInt) ((xs (ixn (v4 + 3))).toInt) ((xs (ixn (v4 + 4))).toInt) v3 M) fun r663 M664 => 
  bN (d_X5_secrecy v2 ((xs (ixn (v4 + 1))).toInt) ((xs (ixn (v4 + 2))).toInt) ((xs (ixn (v4 + 3))).toInt) ((xs (ixn (v4 + 4))).toInt) M664) fun r670 M671 => 
  if w32 (d_X5_thrown v2 M671) = w32 r663 then
    if w32 r663 = 0 then
      if w64 (m_i M671 9000 v3 (ixn 0)) = w64 (w32 r670) then
        B_L_law_3074 L xs k23 v0 v1 v2 v3 v4 M671
      else
        some (0, M671)
    else
      B_L_law_3074 L xs k23 v0 v1 v2 v3 v4 M671
  else
    some (0, M671) else none else none else none else none
def B_L_law_2466 (L : Nat) (xs : Nat → Int32) (k23 : Nat → Nat → Nat → Nat → Int → Mem → Option (Int × Mem)) (v0 : Nat) (v1 : Nat) (v2 : Nat) (v3 : Nat) (v4 : Int) (M : Mem) : Option (Int × Mem) :=
  if inb (v4 + 1) L then 
  if inb (v4 + 2) L then 
  if inb (v4 + 3) L then 
  bN (d_X0_secret v1 ((xs (ixn (v4 + 1))).toInt) ((xs (ixn (v4 + 2))).toInt) ((xs (ixn (v4 + 3))).toInt) v3 M) fun r685 M686 => 
  bN (d_X5_secret v2 ((xs (ixn (v4 + 1))).toInt) ((xs (ixn (v4 + 2))).toInt) ((xs (ixn (v4 + 3))).toInt) M686) fun r692 M693 => 
  if w32 (d_X5_thrown v2 M693) = w32 r685 then
    if w32 r685 = 0 then
      if w64 (m_i M693 9000 v3 (ixn 0)) = w64 (w32 r692) then
        B_L_law_3074 L xs k23 v0 v1 v2 v3 v4 M693
      else
        some (0, M693)
    else
      B_L_law_3074 L xs k23 v0 v1 v2 v3 v4 M693
  else
    some (0, M693) else none else none else none
def B_L_law_2618 (L : Nat) (xs : Nat → Int32) (k23 : Nat → Nat → Nat → Nat → Int → Mem → Option (Int × Mem)) (v0 : Nat) (v1 : Nat) (v2 : Nat) (v3 : Nat) (v4 : Int) (v5 : Int) (s0 : Nat) (s1 : Int) (s2 : Int) (s3 : Int) (s4 : Int) (M : Mem) : Option (Int × Mem) :=
  bN (d_X5_interval s0 s1 s2 s3 s4 M) fun r721 M722 => 
  if w32 (d_X5_thrown v2 M722) = w32 v5 then
    if w32 v5 = 0 then
      if w64 (m_i M722 9000 v3 (ixn 0)) = w64 (w32 r721) then
        B_L_law_3074 L xs k23 v0 v1 v2 v3 v4 M722
      else
        some (0, M722)
    else
      B_L_law_3074 L xs k23 v0 v1 v2 v3 v4 M722
  else
    some (0, M722)
def B_L_law_2579 (L : Nat) (xs : Nat → Int32) (k23 : Nat → Nat → Nat → Nat → Int → Mem → Option (Int × Mem)) (v0 : Nat) (v1 : Nat) (v2 : Nat) (v3 : Nat) (v4 : Int) (s0 : Nat) (s1 : Int) (s2 : Int) (s3 : Int) (s4 : Int) (M : Mem) : Option (Int × Mem) :=
  bN (d_X0_interval s0 s1 s2 s3 s4 v3 M) fun r709 M710 => 
  if inb (v4 + 1) L then 
  if inb (v4 + 2) L then 
  if inb (v4 + 3) L then 
  if inb (v4 + 4) L then 
  if w32 ((xs (ixn (v4 + 4))).toInt) = 0 then
    B_L_law_2618 L xs k23 v0 v1 v2 v3 v4 r709 v2 ((xs (ixn (v4 + 1))).toInt) ((xs (ixn (v4 + 2))).toInt) ((xs (ixn (v4 + 3))).toInt) 0 M710
  else
    B_L_law_2618 L xs k23 v0 v1 v2 v3 v4 r709 v2 ((xs (ixn (v4 + 1))).toInt) ((xs (ixn (v4 + 2))).toInt) ((xs (ixn (v4 + 3))).toInt) 1 M710 else none else none else none else none
def B_L_law_2546 (L : Nat) (xs : Nat → Int32) (k23 : Nat → Nat → Nat → Nat → Int → Mem → Option (Int × Mem)) (v0 : Nat) (v1 : Nat) (v2 : Nat) (v3 : Nat) (v4 : Int) (M : Mem) : Option (Int × Mem) :=
  if inb (v4 + 1) L then 
  if inb (v4 + 2) L then 
  if inb (v4 + 3) L then 
  if inb (v4 + 4) L then 
  if w32 ((xs (ixn (v4 + 4))).toInt) = 0 then
    B_L_law_2579 L xs k23 v0 v1 v2 v3 v4 v1 ((xs (ixn (v4 + 1))).toInt) ((xs (ixn (v4 + 2))).toInt) ((xs (ixn (v4 + 3))).toInt) 0 M
  else
    B_L_law_2579 L xs k23 v0 v1 v2 v3 v4 v1 ((xs (ixn (v4 + 1))).toInt) ((xs (ixn (v4 + 2))).toInt) ((xs (ixn (v4 + 3))).toInt) 1 M else none else none else none else none
def B_L_law_2654 (L : Nat) (xs : Nat → Int32) (k23 : Nat → Nat → Nat → Nat → Int → Mem → Option (Int × Mem)) (v0 : Nat) (v1 : Nat) (v2 : Nat) (v3 : Nat) (v4 : Int) (M : Mem) : Option (Int × Mem) :=
  if inb (v4 + 1) L then 
  if inb (v4 + 2) L then 
  bN (d_X0_round v1 ((xs (ixn (v4 + 1))).toInt) ((xs (ixn (v4 + 2))).toInt) v3 M) fun r735 M736 => 
  bN (d_X5_round v2 ((xs (ixn (v4 + 1))).toInt) ((xs (ixn (v4 + 2))).toInt) M736) fun r742 M743 => 
  if w32 (d_X5_thrown v2 M743) = w32 r735 then
    if w32 r735 = 0 then
      if w64 (m_i M743 9000 v3 (ixn 0)) = w64 (w32 r742) then
        B_L_law_3074 L xs k23 v0 v1 v2 v3 v4 M743
      else
        some (0, M743)
    else
      B_L_law_3074 L xs k23 v0 v1 v2 v3 v4 M743
  else
    some (0, M743) else none else none
def B_L_law_2722 (L : Nat) (xs : Nat → Int32) (k23 : Nat → Nat → Nat → Nat → Int → Mem → Option (Int × Mem)) (v0 : Nat) (v1 : Nat) (v2 : Nat) (v3 : Nat) (v4 : Int) (M : Mem) : Option (Int × Mem) :=
  if inb (v4 + 1) L then 
  bN (d_X0_person v1 ((xs (ixn (v4 + 1))).toInt) v3 M) fun r755 M756 => 
  bN (d_X5_person v2 ((xs (ixn (v4 + 1))).toInt) M756) fun r762 M763 => 
  if w32 (d_X5_thrown v2 M763) = w32 r755 then
    if w32 r755 = 0 then
      if w64 (m_i M763 9000 v3 (ixn 0)) = w64 (w32 r762) then
        B_L_law_3074 L xs k23 v0 v1 v2 v3 v4 M763
      else
        some (0, M763)
    else
      B_L_law_3074 L xs k23 v0 v1 v2 v3 v4 M763
  else
    some (0, M763) else none
def B_L_law_2778 (L : Nat) (xs : Nat → Int32) (k23 : Nat → Nat → Nat → Nat → Int → Mem → Option (Int × Mem)) (v0 : Nat) (v1 : Nat) (v2 : Nat) (v3 : Nat) (v4 : Int) (M : Mem) : Option (Int × Mem) :=
  if inb (v4 + 1) L then 
  if inb (v4 + 2) L then 
  if inb (v4 + 3) L then 
  bN (d_X0_release v1 ((xs (ixn (v4 + 1))).toInt) ((xs (ixn (v4 + 2))).toInt) ((xs (ixn (v4 + 3))).toInt) v3 M) fun r777 M778 => 
  bN (d_X5_release v2 ((xs (ixn (v4 + 1))).toInt) ((xs (ixn (v4 + 2))).toInt) ((xs (ixn (v4 + 3))).toInt) M778) fun r784 M785 => 
  if w32 (d_X5_thrown v2 M785) = w32 r777 then
    if w32 r777 = 0 then
      if w64 (m_i M785 9000 v3 (ixn 0)) = w64 (w32 r784) then
        B_L_law_3074 L xs k23 v0 v1 v2 v3 v4 M785
      else
        some (0, M785)
    else
      B_L_law_3074 L xs k23 v0 v1 v2 v3 v4 M785
  else
    some (0, M785) else none else none else none
def B_L_law_2858 (L : Nat) (xs : Nat → Int32) (k23 : Nat → Nat → Nat → Nat → Int → Mem → Option (Int × Mem)) (v0 : Nat) (v1 : Nat) (v2 : Nat) (v3 : Nat) (v4 : Int) (M : Mem) : Option (Int × Mem) :=
  if inb (v4 + 1) L then 
  if inb (v4 + 2) L then 
  if inb (v4 + 3) L then 
  if inb (v4 + 4) L then 
  bN (d_X0_look v1 ((xs (ixn (v4 + 1))).toInt) ((xs (ixn (v4 + 2))).toInt) ((xs (ixn (v4 + 3))).toInt) ((xs (ixn (v4 + 4))).toInt) v3 M) fun r800 M801 => 
  bN (d_X5_look v2 ((xs (ixn (v4 + 1))).toInt) ((xs (ixn (v4 + 2))).toInt) ((xs (ixn (v4 + 3))).toInt) ((xs (ixn (v4 + 4))).toInt) M801) fun r807 M808 => 
  if w32 (d_X5_thrown v2 M808) = w32 r800 then
    if w32 r800 = 0 then
      if w64 (m_i M808 9000 v3 (ixn 0)) = w64 (w32 r807) then
        B_L_law_3074 L xs k23 v0 v1 v2 v3 v4 M808
      else
        some (0, M808)
    else
      B_L_law_3074 L xs k23 v0 v1 v2 v3 v4 M808
  else
    some (0, M808) else none else none else none else none
def B_L_law_2950 (L : Nat) (xs : Nat → Int32) (k23 : Nat → Nat → Nat → Nat → Int → Mem → Option (Int × Mem)) (v0 : Nat) (v1 : Nat) (v2 : Nat) (v3 : Nat) (v4 : Int) (M : Mem) : Option (Int × Mem) :=
  if inb (v4 + 1) L then 
  if inb (v4 + 2) L then 
  bN (d_X0_looked v1 ((xs (ixn (v4 + 1))).toInt) ((xs (ixn (v4 + 2))).toInt) v3 M) fun r821 M822 => 
  bN (d_X5_looked v2 ((xs (ixn (v4 + 1))).toInt) ((xs (ixn (v4 + 2))).toInt) M822) fun r828 M829 => 
  if w32 (d_X5_thrown v2 M829) = w32 r821 then
    if w32 r821 = 0 then
      if w64 (m_i M829 9000 v3 (ixn 0)) = w64 (w32 r828) then
        B_L_law_3074 L xs k23 v0 v1 v2 v3 v4 M829
      else
        some (0, M829)
    else
      B_L_law_3074 L xs k23 v0 v1 v2 v3 v4 M829
  else
    some (0, M829) else none else none
def B_L_law_3018 (L : Nat) (xs : Nat → Int32) (k23 : Nat → Nat → Nat → Nat → Int → Mem → Option (Int × Mem)) (v0 : Nat) (v1 : Nat) (v2 : Nat) (v3 : Nat) (v4 : Int) (M : Mem) : Option (Int × Mem) :=
  if inb (v4 + 1) L then 
  bN (d_X0_told v1 ((xs (ixn (v4 + 1))).toInt) v3 M) fun r841 M842 => 
  bN (d_X5_told v2 ((xs (ixn (v4 + 1))).toInt) M842) fun r848 M849 => 
  if w32 (d_X5_thrown v2 M849) = w32 r841 then
    if w32 r841 = 0 then
      if w64 (m_i M849 9000 v3 (ixn 0)) = w64 (w32 r848) then
        B_L_law_3074 L xs k23 v0 v1 v2 v3 v4 M849
      else
        some (0, M849)
    else
      B_L_law_3074 L xs k23 v0 v1 v2 v3 v4 M849
  else
    some (0, M849) else none
def B_L_law_23 (L : Nat) (xs : Nat → Int32) (k23 : Nat → Nat → Nat → Nat → Int → Mem → Option (Int × Mem)) (v0 : Nat) (v1 : Nat) (v2 : Nat) (v3 : Nat) (v4 : Int) (M : Mem) : Option (Int × Mem) :=
  if w32 (((L : Int)) - 7) < w32 v4 then
    some (1, M)
  else
    if inb v4 L then 
    if w32 (a32 ((xs (ixn v4)).toInt) 63) = 0 then
      B_L_law_208 L xs k23 v0 v1 v2 v3 v4 M
    else
      if w32 (a32 ((xs (ixn v4)).toInt) 63) = 1 then
        B_L_law_264 L xs k23 v0 v1 v2 v3 v4 M
      else
        if w32 (a32 ((xs (ixn v4)).toInt) 63) = 2 then
          B_L_law_308 L xs k23 v0 v1 v2 v3 v4 M
        else
          if w32 (a32 ((xs (ixn v4)).toInt) 63) = 3 then
            B_L_law_400 L xs k23 v0 v1 v2 v3 v4 M
          else
            if w32 (a32 ((xs (ixn v4)).toInt) 63) = 4 then
              B_L_law_468 L xs k23 v0 v1 v2 v3 v4 M
            else
              if w32 (a32 ((xs (ixn v4)).toInt) 63) = 5 then
                B_L_law_560 L xs k23 v0 v1 v2 v3 v4 M
              else
                if w32 (a32 ((xs (ixn v4)).toInt) 63) = 6 then
                  B_L_law_616 L xs k23 v0 v1 v2 v3 v4 M
                else
                  if w32 (a32 ((xs (ixn v4)).toInt) 63) = 7 then
                    B_L_law_720 L xs k23 v0 v1 v2 v3 v4 M
                  else
                    if w32 (a32 ((xs (ixn v4)).toInt) 63) = 8 then
                      B_L_law_776 L xs k23 v0 v1 v2 v3 v4 M
                    else
                      if w32 (a32 ((xs (ixn v4)).toInt) 63) = 9 then
                        B_L_law_820 L xs k23 v0 v1 v2 v3 v4 M
                      else
                        if w32 (a32 ((xs (ixn v4)).toInt) 63) = 10 then
                          B_L_law_900 L xs k23 v0 v1 v2 v3 v4 M
                        else
                          if w32 (a32 ((xs (ixn v4)).toInt) 63) = 11 then
                            B_L_law_968 L xs k23 v0 v1 v2 v3 v4 M
                          else
                            if w32 (a32 ((xs (ixn v4)).toInt) 63) = 12 then
                              B_L_law_1024 L xs k23 v0 v1 v2 v3 v4 M
                            else
                              if w32 (a32 ((xs (ixn v4)).toInt) 63) = 13 then
                                B_L_law_1092 L xs k23 v0 v1 v2 v3 v4 M
                              else
                                if w32 (a32 ((xs (ixn v4)).toInt) 63) = 14 then
                                  B_L_law_1148 L xs k23 v0 v1 v2 v3 v4 M
                                else
                                  if w32 (a32 ((xs (ixn v4)).toInt) 63) = 15 then
                                    B_L_law_1244 L xs k23 v0 v1 v2 v3 v4 M
                                  else
                                    if w32 (a32 ((xs (ixn v4)).toInt) 63) = 16 then
                                      B_L_law_1300 L xs k23 v0 v1 v2 v3 v4 M
                                    else
                                      if w32 (a32 ((xs (ixn v4)).toInt) 63) = 17 then
                                        B_L_law_1368 L xs k23 v0 v1 v2 v3 v4 M
                                      else
                                        if w32 (a32 ((xs (ixn v4)).toInt) 63) = 18 then
                                          B_L_law_1436 L xs k23 v0 v1 v2 v3 v4 M
                                        else
                                          if w32 (a32 ((xs (ixn v4)).toInt) 63) = 19 then
                                            B_L_law_1528 L xs k23 v0 v1 v2 v3 v4 M
                                          else
                                            if w32 (a32 ((xs (ixn v4)).toInt) 63) = 20 then
                                              B_L_law_1608 L xs k23 v0 v1 v2 v3 v4 M
                                            else
                                              if w32 (a32 ((xs (ixn v4)).toInt) 63) = 21 then
                                                B_L_law_1676 L xs k23 v0 v1 v2 v3 v4 M
                                              else
                                                if w32 (a32 ((xs (ixn v4)).toInt) 63) = 22 then
                                                  B_L_law_1760 L xs k23 v0 v1 v2 v3 v4 M
                                                else
                                                  if w32 (a32 ((xs (ixn v4)).toInt) 63) = 23 then
                                                    B_L_law_1828 L xs k23 v0 v1 v2 v3 v4 M
                                                  else
                                                    if w32 (a32 ((xs (ixn v4)).toInt) 63) = 24 then
                                                      B_L_law_1946 L xs k23 v0 v1 v2 v3 v4 M
                                                    else
                                                      if w32 (a32 ((xs (ixn v4)).toInt) 63) = 25 then
                                                        B_L_law_2014 L xs k23 v0 v1 v2 v3 v4 M
                                                      else
                                                        if w32 (a32 ((xs (ixn v4)).toInt) 63) = 26 then
                                                          B_L_law_2110 L xs k23 v0 v1 v2 v3 v4 M
                                                        else
                                                          if w32 (a32 ((xs (ixn v4)).toInt) 63) = 27 then
                                                            B_L_law_2178 L xs k23 v0 v1 v2 v3 v4 M
                                                          else
                                                            if w32 (a32 ((xs (ixn v4)).toInt) 63) = 28 then
                                                              B_L_law_2282 L xs k23 v0 v1 v2 v3 v4 M
                                                            else
                                                              if w32 (a32 ((xs (ixn v4)).toInt) 63) = 29 then
                                                                B_L_law_2374 L xs k23 v0 v1 v2 v3 v4 M
                                                              else
                                                                if w32 (a32 ((xs (ixn v4)).toInt) 63) = 30 then
                                                                  B_L_law_2466 L xs k23 v0 v1 v2 v3 v4 M
                                                                else
                                                                  if w32 (a32 ((xs (ixn v4)).toInt) 63) = 31 then
                                                                    B_L_law_2546 L xs k23 v0 v1 v2 v3 v4 M
                                                                  else
                                                                    if w32 (a32 ((xs (ixn v4)).toInt) 63) = 32 then
                                                                      B_L_law_2654 L xs k23 v0 v1 v2 v3 v4 M
                                                                    else
                                                                      if w32 (a32 ((xs (ixn v4)).toInt) 63) = 33 then
                                                                        B_L_law_2722 L xs k23 v0 v1 v2 v3 v4 M
                                                                      else
                                                                        if w32 (a32 ((xs (ixn v4)).toInt) 63) = 34 then
                                                                          B_L_law_2778 L xs k23 v0 v1 v2 v3 v4 M
                                                                        else
                                                                          if w32 (a32 ((xs (ixn v4)).toInt) 63) = 35 then
                                                                            B_L_law_2858 L xs k23 v0 v1 v2 v3 v4 M
                                                                          else
                                                                            if w32 (a32 ((xs (ixn v4)).toInt) 63) = 36 then
                                                                              B_L_law_2950 L xs k23 v0 v1 v2 v3 v4 M
                                                                            else
                                                                              if w32 (a32 ((xs (ixn v4)).toInt) 63) = 37 then
                                                                                B_L_law_3018 L xs k23 v0 v1 v2 v3 v4 M
                                                                              else
                                                                                B_L_law_3074 L xs k23 v0 v1 v2 v3 v4 M else none
def L_L_law_23 (L : Nat) (xs : Nat → Int32)  : Nat → Nat → Nat → Nat → Nat → Int → Mem → Option (Int × Mem)
  | 0, _, _, _, _, _, _ => none
  | n + 1, v0, v1, v2, v3, v4, M => B_L_law_23 L xs (L_L_law_23 L xs  n) v0 v1 v2 v3 v4 M
def d_L_law (L : Nat) (xs : Nat → Int32) (v0 : Nat) (M : Mem) : Option (Int × Mem) :=
  bN (d_X1_init (m_sz M) (m_nw M 101)) fun r3 M4 => 
  if m_kd M4 (m_sz M) = 1 then 
  bN (d_X5_init (m_sz M4) (m_nw M4 105)) fun r11 M12 => 
  if m_kd M12 (m_sz M4) = 5 then 
  L_L_law_23 L xs 65 v0 (m_sz M) (m_sz M4) (m_sz M12) 0 (m_nw M12 19000) else none else none
