set_option maxRecDepth 100000
def FJ8_copyOf_4 (N : Nat) (g : GT) (x0 : Nat) (x1 : Int32) (w : Wd) : Option (Nat × Wd) :=
  kob (aL g w 2 x0) (fun v1 => if x1 = v1 then (none) else (kb (aNew g w 2 x1 (.inl (fun _ => 0))) (fun a3 u4 => kob (aL g u4 2 x0) (fun v5 => kob (aCpB g u4 x0 (0 : Int32) a3 (0 : Int32) (kmin v5 x1)) (fun u6 => some (a3, u6))))))
def FJ8_checkLength (N : Nat) (g : GT) (x0 : Int32) (x1 : Int32) (w : Wd) : Option (Unit × Wd) :=
  if x0 ≤ x1 then (some ((), w)) else (none)
def FJ8_copyOfRangeByte (N : Nat) (g : GT) (x0 : Nat) (x1 : Int32) (x2 : Int32) (w : Wd) : Option (Nat × Wd) :=
  kb (FJ8_checkLength N g x1 x2 w) (fun r1 u2 => kb (aNew g u2 2 (x2 - x1) (.inl (fun _ => 0))) (fun a3 u4 => kob (aL g u4 2 x0) (fun v5 => kob (aCpB g u4 x0 x1 a3 (0 : Int32) (kmin (v5 - x1) (x2 - x1))) (fun u6 => some (a3, u6)))))
def FJ8_copyOfRange (N : Nat) (g : GT) (x0 : Nat) (x1 : Int32) (x2 : Int32) (w : Wd) : Option (Nat × Wd) :=
  if x1 = 0 then (kob (aL g w 2 x0) (fun v2 => if x2 = v2 then (none) else (kb (FJ8_copyOfRangeByte N g x0 x1 x2 w) (fun r4 u5 => some (r4, u5))))) else (none)
def FJ9_coder (N : Nat) (g : GT) (x0 : Nat) (w : Wd) : Option (Int32 × Wd) :=
  if (1 : Int32) = 0 then (none) else (kob (zC g w x0) (fun v2 => if kb8 v2 = true then (some (v2, w)) else none))
def FJ9_isLatin1 (N : Nat) (g : GT) (x0 : Nat) (w : Wd) : Option (Int32 × Wd) :=
  if (1 : Int32) = 0 then (none) else (kob (zC g w x0) (fun v2 => if v2 = 0 then (some ((1 : Int32), w)) else (some ((0 : Int32), w))))
def FJ9_length (N : Nat) (g : GT) (x0 : Nat) (w : Wd) : Option (Int32 × Wd) :=
  kob (zV g w x0) (fun v1 => kob (zL g w v1) (fun v2 => if zIs g w x0 = true then (kb (FJ9_coder N g x0 w) (fun r3 u4 => some ((v2 >>> (r3 &&& 31)), u4))) else none))
def FJ10_canEncode (N : Nat) (g : GT) (x0 : Int32) (w : Wd) : Option (Int32 × Wd) :=
  if x0 < 0 then (some ((0 : Int32), w)) else (if (255 : Int32) < x0 then (some ((0 : Int32), w)) else (some ((1 : Int32), w)))
def FJ10_canEncode_2 (N : Nat) (g : GT) (x0 : Int32) (w : Wd) : Option (Int32 × Wd) :=
  if (255 : Int32) < x0 then (some ((0 : Int32), w)) else (some ((1 : Int32), w))
def FJ9_checkIndex (N : Nat) (g : GT) (x0 : Int32) (x1 : Int32) (w : Wd) : Option (Unit × Wd) :=
  kb (FJ12_checkIndex N g x0 x1 (gO g 14) w) (fun r1 u2 => some ((), u2))
def FJ10_charAt (N : Nat) (g : GT) (x0 : Nat) (x1 : Int32) (w : Wd) : Option (Int32 × Wd) :=
  kob (zL g w x0) (fun v1 => kb (FJ9_checkIndex N g x1 v1 w) (fun r2 u3 => kob (zI g u3 x0 x1) (fun v4 => if kc16 (((v4 &&& (255 : Int32)).toUInt32 % 65536).toInt32) = true then (some ((((v4 &&& (255 : Int32)).toUInt32 % 65536).toInt32), u3)) else none)))
def FJ9_charAt (N : Nat) (g : GT) (x0 : Nat) (x1 : Int32) (w : Wd) : Option (Int32 × Wd) :=
  if zIs g w x0 = true then (kb (FJ9_isLatin1 N g x0 w) (fun r1 u2 => if r1 = 0 then (none) else (kob (zV g u2 x0) (fun v5 => kb (FJ10_charAt N g v5 x1 u2) (fun r6 u7 => if kc16 r6 = true then (some (r6, u7)) else none))))) else none
def FJ10_indexOfChar_b7 (N : Nat) (g : GT) (k7 : Nat × Int32 × Int32 × Int32 × Wd → Option (Int32 × Wd)) (x0 : Nat) (x3 : Int32) (x4 : Int32) (x5 : Int32) (w : Wd) : Option (Int32 × Wd) :=
  if x3 ≤ x5 then (some ((-1 : Int32), w)) else (kob (zI g w x0 x5) (fun v2 => if v2 = x4 then (some (x5, w)) else (k7 (x0, x3, x4, (x5 + (1 : Int32)), w))))
def FJ10_indexOfChar (N : Nat) (g : GT) (x0 : Nat) (x1 : Int32) (x2 : Int32) (x3 : Int32) (w : Wd) : Option (Int32 × Wd) :=
  kloop (fun self a => FJ10_indexOfChar_b7 N g self a.1 a.2.1 a.2.2.1 a.2.2.2.1 a.2.2.2.2) N (x0, x3, (x1.toInt8.toInt32), x2, w)
def FJ10_indexOf (N : Nat) (g : GT) (x0 : Nat) (x1 : Int32) (x2 : Int32) (x3 : Int32) (w : Wd) : Option (Int32 × Wd) :=
  kb (FJ10_canEncode N g x1 w) (fun r1 u2 => if r1 = 0 then (some ((-1 : Int32), u2)) else (kob (zL g u2 x0) (fun v4 => if (kmax x2 (0 : Int32)) < (kmin x3 v4) then (kb (FJ10_indexOfChar N g x0 x1 (kmax x2 (0 : Int32)) (kmin x3 v4) u2) (fun r6 u7 => some (r6, u7))) else (some ((-1 : Int32), u2)))))
def FJ9_indexOf_2 (N : Nat) (g : GT) (x0 : Nat) (x1 : Int32) (x2 : Int32) (w : Wd) : Option (Int32 × Wd) :=
  if zIs g w x0 = true then (kb (FJ9_isLatin1 N g x0 w) (fun r1 u2 => if r1 = 0 then (none) else (kob (zV g u2 x0) (fun v5 => if zIs g u2 x0 = true then (kb (FJ9_length N g x0 u2) (fun r6 u7 => kb (FJ10_indexOf N g v5 x1 x2 r6 u7) (fun r9 u10 => some (r9, u10)))) else none)))) else none
def FJ9_indexOf (N : Nat) (g : GT) (x0 : Nat) (x1 : Int32) (w : Wd) : Option (Int32 × Wd) :=
  if zIs g w x0 = true then (kb (FJ9_indexOf_2 N g x0 x1 (0 : Int32) w) (fun r1 u2 => some (r1, u2))) else none
def FJ9_getBytes (N : Nat) (g : GT) (x0 : Nat) (x1 : Nat) (x2 : Int32) (x3 : Int32) (w : Wd) : Option (Unit × Wd) :=
  if zIs g w x0 = true then (kb (FJ9_coder N g x0 w) (fun r1 u2 => if r1 = x3 then (kob (zV g u2 x0) (fun v5 => kob (zV g u2 x0) (fun v6 => kob (aL g u2 2 v6) (fun v7 => kob (aCpB g u2 v5 (0 : Int32) x1 (x2 <<< (x3 &&& 31)) v7) (fun u8 => some ((), u8)))))) else (none))) else none
def FJ36_init_t22 (N : Nat) (g : GT) (x0 : Nat) (x1 : Int32) (w : Wd) : Option (Unit × Wd) :=
  if (1 : Int32) = 0 then (none) else (kb (aNew g w 2 x1 (.inl (fun _ => 0))) (fun a2 u3 => kob (oP u3 x0 22 0 (.ref a2)) (fun u4 => kob (oP u4 x0 22 1 (.int (0 : Int32))) (fun u5 => some ((), u5)))))
def FJ36_isLatin1_t22 (N : Nat) (g : GT) (x0 : Nat) (w : Wd) : Option (Int32 × Wd) :=
  if (1 : Int32) = 0 then (none) else (kob (oI w x0 22 1) (fun v2 => if v2 = 0 then (some ((1 : Int32), w)) else (some ((0 : Int32), w))))
def FJ36_length_t22 (N : Nat) (g : GT) (x0 : Nat) (w : Wd) : Option (Int32 × Wd) :=
  kob (oI w x0 22 3) (fun v1 => some (v1, w))
def FJ36_newCapacity_t22 (N : Nat) (g : GT) (x0 : Nat) (x1 : Int32) (w : Wd) : Option (Int32 × Wd) :=
  kob (oR w x0 22 0) (fun v1 => kob (aL g w 2 v1) (fun v2 => kob (oI w x0 22 1) (fun v3 => kob (oI w x0 22 1) (fun v4 => kb (FJ6_newLength N g v2 ((x1 <<< (v3 &&& 31)) - v2) (v2 + ((2 : Int32) <<< (v4 &&& 31))) w) (fun r5 u6 => if r5 = (2147483647 : Int32) then (none) else (kob (oI u6 x0 22 1) (fun v8 => some ((r5 >>> (v8 &&& 31)), u6))))))))
def FJ36_ensureCapacityInternal_t22 (N : Nat) (g : GT) (x0 : Nat) (x1 : Int32) (w : Wd) : Option (Unit × Wd) :=
  kob (oR w x0 22 0) (fun v1 => kob (aL g w 2 v1) (fun v2 => kob (oI w x0 22 1) (fun v3 => if (x1 - (v2 >>> (v3 &&& 31))) ≤ 0 then (some ((), w)) else (kob (oR w x0 22 0) (fun v5 => if oIs w x0 22 = true then (kb (FJ36_newCapacity_t22 N g x0 x1 w) (fun r6 u7 => kob (oI u7 x0 22 1) (fun v9 => kb (FJ8_copyOf_4 N g v5 (r6 <<< (v9 &&& 31)) u7) (fun r10 u11 => kob (oP u11 x0 22 0 (.ref r10)) (fun u12 => some ((), u12)))))) else none)))))
def FJ36_append_t22 (N : Nat) (g : GT) (x0 : Nat) (x1 : Int32) (w : Wd) : Option (Nat × Wd) :=
  kob (oI w x0 22 3) (fun v1 => if oIs w x0 22 = true then (kb (FJ36_ensureCapacityInternal_t22 N g x0 (v1 + (1 : Int32)) w) (fun r2 u3 => if oIs u3 x0 22 = true then (kb (FJ36_isLatin1_t22 N g x0 u3) (fun r5 u6 => if r5 = 0 then (none) else (kb (FJ10_canEncode_2 N g x1 u6) (fun r9 u10 => if r9 = 0 then (none) else (kob (oR u10 x0 22 0) (fun v12 => kob (oI u10 x0 22 3) (fun v13 => kob (oP u10 x0 22 3 (.int (v13 + (1 : Int32)))) (fun u14 => kob (aSI g u14 2 v12 v13 (vp_nar .byte (x1.toInt8.toInt32))) (fun u15 => some (x0, u15)))))))))) else none)) else none)
def FJ36_inflateIfNeededFor_t22 (N : Nat) (g : GT) (x0 : Nat) (x1 : Nat) (w : Wd) : Option (Unit × Wd) :=
  if (1 : Int32) = 0 then (none) else (kob (oI w x0 22 1) (fun v2 => if zIs g w x1 = true then (kb (FJ9_coder N g x1 w) (fun r3 u4 => if v2 = r3 then (some ((), u4)) else (none))) else none))
def FJ36_putStringAt_t22 (N : Nat) (g : GT) (x0 : Nat) (x1 : Int32) (x2 : Nat) (w : Wd) : Option (Unit × Wd) :=
  if oIs w x0 22 = true then (kb (FJ36_inflateIfNeededFor_t22 N g x0 x2 w) (fun r1 u2 => kob (oR u2 x0 22 0) (fun v4 => kob (oI u2 x0 22 1) (fun v5 => if zIs g u2 x2 = true then (kb (FJ9_getBytes N g x2 v4 x1 v5 u2) (fun r6 u7 => some ((), u7))) else none)))) else none
def FJ36_append_2_t22 (N : Nat) (g : GT) (x0 : Nat) (x1 : Nat) (w : Wd) : Option (Nat × Wd) :=
  if zIs g w x1 = true then (kb (FJ9_length N g x1 w) (fun r1 u2 => kob (oI u2 x0 22 3) (fun v4 => if oIs u2 x0 22 = true then (kb (FJ36_ensureCapacityInternal_t22 N g x0 (v4 + r1) u2) (fun r5 u6 => kob (oI u6 x0 22 3) (fun v8 => if oIs u6 x0 22 = true then (kb (FJ36_putStringAt_t22 N g x0 v8 x1 u6) (fun r9 u10 => kob (oI u10 x0 22 3) (fun v12 => kob (oP u10 x0 22 3 (.int (v12 + r1))) (fun u13 => some (x0, u13))))) else none))) else none))) else none
def FJ36_getValue_t22 (N : Nat) (g : GT) (x0 : Nat) (w : Wd) : Option (Nat × Wd) :=
  kob (oR w x0 22 0) (fun v1 => some (v1, w))
def FJ37_init (N : Nat) (g : GT) (x0 : Nat) (w : Wd) : Option (Unit × Wd) :=
  kb (FJ36_init_t22 N g x0 (16 : Int32) w) (fun r1 u2 => some ((), u2))
def FJ37_length (N : Nat) (g : GT) (x0 : Nat) (w : Wd) : Option (Int32 × Wd) :=
  if oIs w x0 22 = true then (kb (FJ36_length_t22 N g x0 w) (fun r1 u2 => some (r1, u2))) else none
def FJ37_append (N : Nat) (g : GT) (x0 : Nat) (x1 : Int32) (w : Wd) : Option (Nat × Wd) :=
  if oIs w x0 22 = true then (kb (FJ36_append_t22 N g x0 x1 w) (fun r1 u2 => some (x0, u2))) else none
def FJ37_append_2 (N : Nat) (g : GT) (x0 : Nat) (x1 : Nat) (w : Wd) : Option (Nat × Wd) :=
  if oIs w x0 22 = true then (kb (FJ36_append_2_t22 N g x0 x1 w) (fun r1 u2 => some (x0, u2))) else none
def FJ9_init_2 (N : Nat) (g : GT) (x0 : Nat) (x1 : Nat) (x2 : Option Nat) (w : Wd) : Option (Unit × Wd) :=
  if oIs w x1 22 = true then (kb (FJ36_getValue_t22 N g x1 w) (fun r1 u2 => if oIs u2 x1 22 = true then (kb (FJ37_length N g x1 u2) (fun r4 u5 => if oIs u5 x1 22 = true then (kb (FJ36_isLatin1_t22 N g x1 u5) (fun r7 u8 => if r7 = 0 then (none) else (kob (oP u8 x0 23 1 (.int (0 : Int32))) (fun u11 => kb (FJ8_copyOfRange N g r1 (0 : Int32) r4 u11) (fun r12 u13 => kob (oP u13 x0 23 0 (.ref r12)) (fun u14 => some ((), u14))))))) else none)) else none)) else none
def FJ9_init (N : Nat) (g : GT) (x0 : Nat) (x1 : Nat) (w : Wd) : Option (Unit × Wd) :=
  kb (FJ9_init_2 N g x0 x1 none w) (fun r1 u2 => some ((), u2))
def FJ37_toString (N : Nat) (g : GT) (x0 : Nat) (w : Wd) : Option (Nat × Wd) :=
  kb (oNew g w 23 [.null, .int 0, .int 0, .int 0] 4) (fun a1 u2 => kb (FJ9_init N g a1 x0 u2) (fun r3 u4 => some (a1, u4)))
def FX6_told_b63 (N : Nat) (g : GT)  (t0 : Int32) (t1 : Nat) (w : Wd) : Option (Nat × Wd) :=
  if oIs w t1 22 = true then (kb (FJ37_append N g t1 t0 w) (fun r10 u11 => if oIs u11 r10 22 = true then (kb (FJ37_toString N g r10 u11) (fun r13 u14 => some (r13, u14))) else none)) else none
def FX6_told_b19 (N : Nat) (g : GT) (k19 : Nat × Nat × Nat × Int32 × Int32 × Wd → Option (Nat × Wd)) (x0 : Nat) (x1 : Nat) (x2 : Nat) (x3 : Int32) (x4 : Int32) (w : Wd) : Option (Nat × Wd) :=
  if x3 ≤ x4 then (kob (oI w x0 2 1) (fun v8 => if v8 = 0 then (FX6_told_b63 N g ((83 : Int32)) (x1) w) else (FX6_told_b63 N g ((90 : Int32)) (x1) w))) else (kob (aI g w 0 x2 x4) (fun v16 => if oIs w x1 22 = true then (kb (FJ37_append N g x1 ((((97 : Int32) + v16).toUInt32 % 65536).toInt32) w) (fun r17 u18 => k19 (x0, x1, x2, x3, (x4 + (1 : Int32)), u18))) else none))
def FX6_told (N : Nat) (g : GT) (x0 : Nat) (w : Wd) : Option (Nat × Wd) :=
  kb (oNew g w 22 [.null, .int 0, .int 0, .int 0] 4) (fun a1 u2 => kb (FJ37_init N g a1 u2) (fun r3 u4 => kob (oR u4 x0 2 0) (fun v5 => kob (aL g u4 0 v5) (fun v6 => kloop (fun self a => FX6_told_b19 N g self a.1 a.2.1 a.2.2.1 a.2.2.2.1 a.2.2.2.2.1 a.2.2.2.2.2) N (x0, a1, v5, v6, (0 : Int32), u4)))))
def FX0_spell_b49 (N : Nat) (g : GT) (k16 : Nat × Nat × Nat × Wd → Option (Int32 × Wd)) (x0 : Nat) (x1 : Nat) (x2 : Nat) (x3 : Nat) (w : Wd) : Option (Int32 × Wd) :=
  if oIs w x3 2 = true then (kb (FX6_told N g x3 w) (fun r28 u29 => if oIs u29 x1 22 = true then (kb (FJ37_append_2 N g x1 r28 u29) (fun r31 u32 => k16 (x0, x1, x2, u32))) else none)) else none
def FX0_spell_b16 (N : Nat) (g : GT) (k16 : Nat × Nat × Nat × Wd → Option (Int32 × Wd)) (x0 : Nat) (x1 : Nat) (x2 : Nat) (w : Wd) : Option (Int32 × Wd) :=
  if oIs w x2 12 = true then (kb (FJ15_hasNext N g x2 w) (fun r9 u10 => if r9 = 0 then (if oIs u10 x1 22 = true then (kb (FJ37_toString N g x1 u10) (fun r13 u14 => kob (oP u14 x0 1 9 (.ref r13)) (fun u16 => kob (oR u16 x0 1 9) (fun v17 => if zIs g u16 v17 = true then (kb (FJ9_length N g v17 u16) (fun r18 u19 => some (r18, u19))) else none)))) else none) else (if oIs u10 x2 12 = true then (kb (FJ15_next N g x2 u10) (fun r21 u22 => if oIs u22 r21 2 = true then (if oIs u22 x1 22 = true then (kb (FJ37_length N g x1 u22) (fun r24 u25 => if r24 ≤ 0 then (FX0_spell_b49 N g k16 (x0) (x1) (x2) (r21) u25) else (if oIs u25 x1 22 = true then (kb (FJ37_append N g x1 (59 : Int32) u25) (fun r34 u35 => FX0_spell_b49 N g k16 (x0) (x1) (x2) (r21) u35)) else none))) else none) else none)) else none))) else none
def FX0_spell (N : Nat) (g : GT) (x0 : Nat) (w : Wd) : Option (Int32 × Wd) :=
  kb (oNew g w 22 [.null, .int 0, .int 0, .int 0] 4) (fun a1 u2 => kb (FJ37_init N g a1 u2) (fun r3 u4 => kob (oR u4 x0 1 0) (fun v5 => if oIs u4 v5 11 = true then (kb (FJ2_iterator N g v5 u4) (fun r6 u7 => kloop (fun self a => FX0_spell_b16 N g self a.1 a.2.1 a.2.2.1 a.2.2.2) N (x0, a1, r6, u7))) else none)))
def FX0_paper (N : Nat) (g : GT) (x0 : Nat) (x1 : Int32) (w : Wd) : Option (Int32 × Wd) :=
  kob (oR w x0 1 9) (fun v1 => if zIs g w v1 = true then (kb (FJ9_length N g v1 w) (fun r2 u3 => kb (FX0_isIn N g x1 (0 : Int32) (r2 - (1 : Int32)) u3) (fun r5 u6 => if r5 = 0 then (some ((-1 : Int32), u6)) else (kob (oR u6 x0 1 9) (fun v8 => if zIs g u6 v8 = true then (kb (FJ9_charAt N g v8 x1 u6) (fun r9 u10 => some (r9, u10))) else none))))) else none)
def FX0_told (N : Nat) (g : GT) (x0 : Nat) (x1 : Int32) (w : Wd) : Option (Int32 × Wd) :=
  if x1 = (0 : Int32) then (if oIs w x0 1 = true then (kb (FX0_many N g x0 w) (fun r2 u3 => some (r2, u3))) else none) else (if x1 = (1 : Int32) then (kob (oR w x0 1 1) (fun v6 => if oIs w v6 11 = true then (kb (FJ2_size N g v6 w) (fun r7 u8 => some (r7, u8))) else none)) else (if x1 = (2 : Int32) then (kob (oR w x0 1 1) (fun v11 => if oIs w v11 11 = true then (kb (FJ2_size N g v11 w) (fun r12 u13 => some (r12, u13))) else none)) else (if x1 = (3 : Int32) then (if oIs w x0 1 = true then (kb (FX0_twists N g x0 w) (fun r16 u17 => some (r16, u17))) else none) else (if x1 = (4 : Int32) then (kob (oI w x0 1 6) (fun v20 => some (v20, w))) else (if x1 = (5 : Int32) then (if oIs w x0 1 = true then (kb (FX0_greatestFloat N g x0 w) (fun r22 u23 => some (r22, u23))) else none) else (if x1 = (6 : Int32) then (kob (oI w x0 1 4) (fun v26 => some (v26, w))) else (if x1 = (7 : Int32) then (kob (oR w x0 1 9) (fun v28 => if zIs g w v28 = true then (kb (FJ9_length N g v28 w) (fun r29 u30 => some (r29, u30))) else none)) else (some ((-1 : Int32), w)))))))))
