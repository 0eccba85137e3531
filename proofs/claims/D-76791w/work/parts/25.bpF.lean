set_option maxRecDepth 100000
def FJ26_numberOfTrailingZeros_b62 (N : Nat) (g : GT)  (x0 : Int32) (x1 : Int32) (w : Wd) : Option (Int32 × Wd) :=
  if x0 ≤ (4 : Int32) then (some ((x1 + ((x0.toUInt32 >>> ((1 : Int32).toUInt32 &&& Int32.toUInt32 31)).toInt32)), w)) else (some (((x1 + (2 : Int32)) + ((((x0.toUInt32 >>> ((2 : Int32).toUInt32 &&& Int32.toUInt32 31)).toInt32).toUInt32 >>> ((1 : Int32).toUInt32 &&& Int32.toUInt32 31)).toInt32)), w))
def FJ26_numberOfTrailingZeros_b49 (N : Nat) (g : GT)  (x0 : Int32) (x1 : Int32) (w : Wd) : Option (Int32 × Wd) :=
  if x0 ≤ (16 : Int32) then (FJ26_numberOfTrailingZeros_b62 N g (x0) (x1) w) else (FJ26_numberOfTrailingZeros_b62 N g (((x0.toUInt32 >>> ((4 : Int32).toUInt32 &&& Int32.toUInt32 31)).toInt32)) ((x1 + (4 : Int32))) w)
def FJ26_numberOfTrailingZeros_b34 (N : Nat) (g : GT)  (x0 : Int32) (x1 : Int32) (w : Wd) : Option (Int32 × Wd) :=
  if x0 ≤ (256 : Int32) then (FJ26_numberOfTrailingZeros_b49 N g (x0) (x1) w) else (FJ26_numberOfTrailingZeros_b49 N g (((x0.toUInt32 >>> ((8 : Int32).toUInt32 &&& Int32.toUInt32 31)).toInt32)) ((x1 + (8 : Int32))) w)
def FJ26_numberOfTrailingZeros (N : Nat) (g : GT) (x0 : Int32) (w : Wd) : Option (Int32 × Wd) :=
  if 0 < ((x0 ^^^ (-1 : Int32)) &&& (x0 - (1 : Int32))) then (if ((x0 ^^^ (-1 : Int32)) &&& (x0 - (1 : Int32))) ≤ (65536 : Int32) then (FJ26_numberOfTrailingZeros_b34 N g (((x0 ^^^ (-1 : Int32)) &&& (x0 - (1 : Int32)))) ((1 : Int32)) w) else (FJ26_numberOfTrailingZeros_b34 N g (((((x0 ^^^ (-1 : Int32)) &&& (x0 - (1 : Int32))).toUInt32 >>> ((16 : Int32).toUInt32 &&& Int32.toUInt32 31)).toInt32)) (((1 : Int32) + (16 : Int32))) w)) else (some ((((x0 ^^^ (-1 : Int32)) &&& (x0 - (1 : Int32))) &&& (32 : Int32)), w))
def FJ25_numberOfTrailingZeros (N : Nat) (g : GT) (x0 : Int64) (w : Wd) : Option (Int32 × Wd) :=
  if (x0.toInt32) = 0 then (kb (FJ26_numberOfTrailingZeros N g (((x0.toUInt64 >>> ((32 : Int32).toInt64.toUInt64 &&& Int64.toUInt64 63)).toInt64).toInt32) w) (fun r2 u3 => some (((32 : Int32) + r2), u3))) else (kb (FJ26_numberOfTrailingZeros N g (x0.toInt32) w) (fun r4 u5 => some (r4, u5)))
def FJ19_wordIndex (N : Nat) (g : GT) (x0 : Int32) (w : Wd) : Option (Int32 × Wd) :=
  some ((x0 >>> ((6 : Int32) &&& 31)), w)
def FJ19_initWords (N : Nat) (g : GT) (x0 : Nat) (x1 : Int32) (w : Wd) : Option (Unit × Wd) :=
  kb (FJ19_wordIndex N g (x1 - (1 : Int32)) w) (fun r1 u2 => kb (aNew g u2 3 (r1 + (1 : Int32)) (.inr (.inl (fun _ => 0)))) (fun a3 u4 => kob (oP u4 x0 13 0 (.ref a3)) (fun u5 => some ((), u5))))
def FJ19_init (N : Nat) (g : GT) (x0 : Nat) (w : Wd) : Option (Unit × Wd) :=
  kob (oP w x0 13 1 (.int (0 : Int32))) (fun u1 => kob (oP u1 x0 13 2 (.int (0 : Int32))) (fun u2 => if oIs u2 x0 13 = true then (kb (FJ19_initWords N g x0 (64 : Int32) u2) (fun r3 u4 => kob (oP u4 x0 13 2 (.int (0 : Int32))) (fun u6 => some ((), u6)))) else none))
def FJ19_checkInvariants (N : Nat) (g : GT) (x0 : Nat) (w : Wd) : Option (Unit × Wd) :=
  if (1 : Int32) = 0 then (none) else (if (1 : Int32) = 0 then (none) else (if (1 : Int32) = 0 then (none) else (some ((), w))))
def FJ19_ensureCapacity (N : Nat) (g : GT) (x0 : Nat) (x1 : Int32) (w : Wd) : Option (Unit × Wd) :=
  kob (oR w x0 13 0) (fun v1 => kob (aL g w 3 v1) (fun v2 => if x1 ≤ v2 then (some ((), w)) else (kob (oR w x0 13 0) (fun v4 => kob (aL g w 3 v4) (fun v5 => kob (oR w x0 13 0) (fun v6 => none))))))
def FJ19_expandTo (N : Nat) (g : GT) (x0 : Nat) (x1 : Int32) (w : Wd) : Option (Unit × Wd) :=
  kob (oI w x0 13 1) (fun v1 => if (x1 + (1 : Int32)) ≤ v1 then (some ((), w)) else (if oIs w x0 13 = true then (kb (FJ19_ensureCapacity N g x0 (x1 + (1 : Int32)) w) (fun r3 u4 => kob (oP u4 x0 13 1 (.int (x1 + (1 : Int32)))) (fun u6 => some ((), u6)))) else none))
def FJ19_set (N : Nat) (g : GT) (x0 : Nat) (x1 : Int32) (w : Wd) : Option (Unit × Wd) :=
  if 0 ≤ x1 then (kb (FJ19_wordIndex N g x1 w) (fun r2 u3 => if oIs u3 x0 13 = true then (kb (FJ19_expandTo N g x0 r2 u3) (fun r4 u5 => kob (oR u5 x0 13 0) (fun v7 => kob (aJ g u5 3 v7 r2) (fun v8 => kob (aSJ g u5 3 v7 r2 (v8 ||| ((1 : Int64) <<< (x1.toInt64 &&& 63)))) (fun u9 => if oIs u9 x0 13 = true then (kb (FJ19_checkInvariants N g x0 u9) (fun r10 u11 => some ((), u11))) else none))))) else none)) else (none)
def FJ19_get (N : Nat) (g : GT) (x0 : Nat) (x1 : Int32) (w : Wd) : Option (Int32 × Wd) :=
  if 0 ≤ x1 then (if oIs w x0 13 = true then (kb (FJ19_checkInvariants N g x0 w) (fun r2 u3 => kb (FJ19_wordIndex N g x1 u3) (fun r5 u6 => kob (oI u6 x0 13 1) (fun v7 => if v7 ≤ r5 then (some ((0 : Int32), u6)) else (kob (oR u6 x0 13 0) (fun v9 => kob (aJ g u6 3 v9 r5) (fun v10 => if (klcmp (v10 &&& ((1 : Int64) <<< (x1.toInt64 &&& 63))) (0 : Int64)) = 0 then (some ((0 : Int32), u6)) else (some ((1 : Int32), u6))))))))) else none) else (none)
def FJ19_nextSetBit_b63 (N : Nat) (g : GT) (k63 : Nat × Int32 × Int64 × Wd → Option (Int32 × Wd)) (x0 : Nat) (x2 : Int32) (x3 : Int64) (w : Wd) : Option (Int32 × Wd) :=
  if (klcmp x3 (0 : Int64)) = 0 then (kob (oI w x0 13 1) (fun v12 => if (x2 + (1 : Int32)) = v12 then (some ((-1 : Int32), w)) else (kob (oR w x0 13 0) (fun v14 => kob (aJ g w 3 v14 (x2 + (1 : Int32))) (fun v15 => k63 (x0, (x2 + (1 : Int32)), v15, w)))))) else (kb (FJ25_numberOfTrailingZeros N g x3 w) (fun r16 u17 => some (((x2 * (64 : Int32)) + r16), u17)))
def FJ19_nextSetBit (N : Nat) (g : GT) (x0 : Nat) (x1 : Int32) (w : Wd) : Option (Int32 × Wd) :=
  if 0 ≤ x1 then (if oIs w x0 13 = true then (kb (FJ19_checkInvariants N g x0 w) (fun r2 u3 => kb (FJ19_wordIndex N g x1 u3) (fun r5 u6 => kob (oI u6 x0 13 1) (fun v7 => if r5 < v7 then (kob (oR u6 x0 13 0) (fun v9 => kob (aJ g u6 3 v9 r5) (fun v10 => kloop (fun self a => FJ19_nextSetBit_b63 N g self a.1 a.2.1 a.2.2.1 a.2.2.2) N (x0, r5, (v10 &&& ((-1 : Int64) <<< (x1.toInt64 &&& 63))), u6)))) else (some ((-1 : Int32), u6)))))) else none) else (none)
def FX10_init (N : Nat) (g : GT) (x0 : Nat) (x1 : Int32) (w : Wd) : Option (Unit × Wd) :=
  kob (oP w x0 7 0 (.int x1)) (fun u1 => some ((), u1))
def FX10_compare_2 (N : Nat) (g : GT) (x0 : Nat) (x1 : Nat) (x2 : Nat) (w : Wd) : Option (Int32 × Wd) :=
  kob (oI w x0 7 0) (fun v1 => kob (oI w x2 2 3) (fun v2 => kob (oI w x1 2 3) (fun v3 => some ((v1 * (v2 - v3)), w))))
def FX10_compare (N : Nat) (g : GT) (x0 : Nat) (x1 : Nat) (x2 : Nat) (w : Wd) : Option (Int32 × Wd) :=
  if oIs w x1 2 = true then (if oIs w x2 2 = true then (if oIs w x0 7 = true then (kb (FX10_compare_2 N g x0 x1 x2 w) (fun r1 u2 => some (r1, u2))) else none) else none) else none
def FJ0_init_t14 (N : Nat) (g : GT) (x0 : Nat) (w : Wd) : Option (Unit × Wd) :=
  some ((), w)
def FJ20_init_t14 (N : Nat) (g : GT) (x0 : Nat) (w : Wd) : Option (Unit × Wd) :=
  kb (FJ0_init_t14 N g x0 w) (fun r1 u2 => some ((), u2))
def FJ21_init (N : Nat) (g : GT) (x0 : Nat) (x1 : Int32) (x2 : Nat) (w : Wd) : Option (Unit × Wd) :=
  kb (FJ20_init_t14 N g x0 w) (fun r1 u2 => if (1 : Int32) ≤ x1 then (kb (aNew g u2 4 x1 (.inr (.inr (.inr (.inr (fun _ => none)))))) (fun a4 u5 => kob (oP u5 x0 14 0 (.ref a4)) (fun u6 => kob (oP u6 x0 14 2 (.ref x2)) (fun u7 => some ((), u7))))) else (none))
def FJ21_siftUpUsingComparator_b43 (N : Nat) (g : GT)  (x0 : Int32) (x1 : Nat) (x2 : Nat) (w : Wd) : Option (Unit × Wd) :=
  if kisO g w x1 = true then (kob (aSQ g w 4 x2 x0 (some x1)) (fun u2 => some ((), u2))) else none
def FJ21_siftUpUsingComparator_b0 (N : Nat) (g : GT) (k0 : Int32 × Nat × Nat × Nat × Wd → Option (Unit × Wd)) (x0 : Int32) (x1 : Nat) (x2 : Nat) (x3 : Nat) (w : Wd) : Option (Unit × Wd) :=
  if x0 ≤ 0 then (FJ21_siftUpUsingComparator_b43 N g (x0) (x1) (x2) w) else (kob (aQ g w 4 x2 (((x0 - (1 : Int32)).toUInt32 >>> ((1 : Int32).toUInt32 &&& Int32.toUInt32 31)).toInt32)) (fun v4 => kob v4 (fun a5 => if oIs w x3 7 = true then (kb (FX10_compare N g x3 x1 a5 w) (fun r6 u7 => if r6 < 0 then (if kisO g u7 a5 = true then (kob (aSQ g u7 4 x2 x0 (some a5)) (fun u10 => k0 ((((x0 - (1 : Int32)).toUInt32 >>> ((1 : Int32).toUInt32 &&& Int32.toUInt32 31)).toInt32), x1, x2, x3, u10))) else none) else (FJ21_siftUpUsingComparator_b43 N g (x0) (x1) (x2) u7))) else none)))
def FJ21_siftUpUsingComparator (N : Nat) (g : GT) (x0 : Int32) (x1 : Nat) (x2 : Nat) (x3 : Nat) (w : Wd) : Option (Unit × Wd) :=
  kloop (fun self a => FJ21_siftUpUsingComparator_b0 N g self a.1 a.2.1 a.2.2.1 a.2.2.2.1 a.2.2.2.2) N (x0, x1, x2, x3, w)
def FJ21_siftUp (N : Nat) (g : GT) (x0 : Nat) (x1 : Int32) (x2 : Nat) (w : Wd) : Option (Unit × Wd) :=
  kob (oN w x0 14 2) (fun v1 => kmn v1 (kob (oR w x0 14 0) (fun v3 => none)) (fun a2 => kob (oR w x0 14 0) (fun v4 => kob (oN w x0 14 2) (fun v5 => kob v5 (fun a6 => kb (FJ21_siftUpUsingComparator N g x1 x2 v4 a6 w) (fun r7 u8 => some ((), u8)))))))
def FJ21_offer (N : Nat) (g : GT) (x0 : Nat) (x1 : Nat) (w : Wd) : Option (Int32 × Wd) :=
  kob (oI w x0 14 3) (fun v1 => kob (oP w x0 14 3 (.int (v1 + (1 : Int32)))) (fun u2 => kob (oI u2 x0 14 1) (fun v3 => kob (oR u2 x0 14 0) (fun v4 => kob (aL g u2 4 v4) (fun v5 => if v3 < v5 then (if oIs u2 x0 14 = true then (kb (FJ21_siftUp N g x0 v3 x1 u2) (fun r7 u8 => kob (oP u8 x0 14 1 (.int (v3 + (1 : Int32)))) (fun u10 => some ((1 : Int32), u10)))) else none) else (none))))))
def FJ21_add (N : Nat) (g : GT) (x0 : Nat) (x1 : Nat) (w : Wd) : Option (Int32 × Wd) :=
  if oIs w x0 14 = true then (kb (FJ21_offer N g x0 x1 w) (fun r1 u2 => if nb r1 = true then (some (r1, u2)) else none)) else none
def FJ21_peek (N : Nat) (g : GT) (x0 : Nat) (w : Wd) : Option (Nat × Wd) :=
  kob (oR w x0 14 0) (fun v1 => kob (aQ g w 4 v1 (0 : Int32)) (fun v2 => kob v2 (fun a3 => some (a3, w))))
def FJ21_size (N : Nat) (g : GT) (x0 : Nat) (w : Wd) : Option (Int32 × Wd) :=
  kob (oI w x0 14 1) (fun v1 => some (v1, w))
def FJ0_isEmpty_t14 (N : Nat) (g : GT) (x0 : Nat) (w : Wd) : Option (Int32 × Wd) :=
  if oIs w x0 14 = true then (kb (FJ21_size N g x0 w) (fun r1 u2 => if r1 = 0 then (some ((1 : Int32), u2)) else (some ((0 : Int32), u2)))) else none
