set_option maxRecDepth 100000
def FJ12_checkIndex (N : Nat) (g : GT) (x0 : Int32) (x1 : Int32) (x2 : Option Nat) (w : Wd) : Option (Int32 × Wd) :=
  if x0 < 0 then (none) else (if x0 < x1 then (some (x0, w)) else (none))
def FJ14_checkIndex (N : Nat) (g : GT) (x0 : Int32) (x1 : Int32) (w : Wd) : Option (Int32 × Wd) :=
  kb (FJ12_checkIndex N g x0 x1 none w) (fun r1 u2 => some (r1, u2))
def FJ6_newLength (N : Nat) (g : GT) (x0 : Int32) (x1 : Int32) (x2 : Int32) (w : Wd) : Option (Int32 × Wd) :=
  if (x0 + (kmax x1 x2)) ≤ (0 : Int32) then (none) else (if (2147483639 : Int32) < (x0 + (kmax x1 x2)) then (none) else (some ((x0 + (kmax x1 x2)), w)))
def FJ8_copyOf_2 (N : Nat) (g : GT) (x0 : Nat) (x1 : Int32) (x2 : Nat) (w : Wd) : Option (Nat × Wd) :=
  if ((some x2) : Option Nat) = (some (gT g 5)) then (kb (aNew g w 4 x1 (.inr (.inr (.inr (.inr (fun _ => none)))))) (fun a2 u3 => kob (aL g u3 4 x0) (fun v4 => kob (aCpQ g u3 x0 (0 : Int32) a2 (0 : Int32) (kmin v4 x1)) (fun u5 => some (a2, u5))))) else (none)
def FJ8_copyOf (N : Nat) (g : GT) (x0 : Nat) (x1 : Int32) (w : Wd) : Option (Nat × Wd) :=
  if aIs g w 4 x0 = true then (kb (FJ8_copyOf_2 N g x0 x1 (gT g 5) w) (fun r1 u2 => some (r1, u2))) else none
def FJ0_init_t11 (N : Nat) (g : GT) (x0 : Nat) (w : Wd) : Option (Unit × Wd) :=
  some ((), w)
def FJ1_init_t11 (N : Nat) (g : GT) (x0 : Nat) (w : Wd) : Option (Unit × Wd) :=
  kb (FJ0_init_t11 N g x0 w) (fun r1 u2 => kob (oP u2 x0 11 0 (.int (0 : Int32))) (fun u3 => some ((), u3)))
def FJ2_init (N : Nat) (g : GT) (x0 : Nat) (w : Wd) : Option (Unit × Wd) :=
  kb (FJ1_init_t11 N g x0 w) (fun r1 u2 => kob (oP u2 x0 11 1 (.ref (gT g 4))) (fun u3 => some ((), u3)))
def FJ2_grow_2_b20 (N : Nat) (g : GT)  (x0 : Nat) (x1 : Int32) (x2 : Int32) (w : Wd) : Option (Nat × Wd) :=
  kb (FJ6_newLength N g x2 (x1 - x2) (x2 >>> ((1 : Int32) &&& 31)) w) (fun r4 u5 => kob (oR u5 x0 11 1) (fun v6 => kb (FJ8_copyOf N g v6 r4 u5) (fun r7 u8 => kob (oP u8 x0 11 1 (.ref r7)) (fun u9 => some (r7, u9)))))
def FJ2_grow_2 (N : Nat) (g : GT) (x0 : Nat) (x1 : Int32) (w : Wd) : Option (Nat × Wd) :=
  kob (oR w x0 11 1) (fun v1 => kob (aLe g w v1) (fun v2 => if 0 < v2 then (FJ2_grow_2_b20 N g (x0) (x1) (v2) w) else (kob (oR w x0 11 1) (fun v10 => if ((some v10) : Option Nat) = (some (gT g 4)) then (kb (aNew g w 4 (kmax (10 : Int32) x1) (.inr (.inr (.inr (.inr (fun _ => none)))))) (fun a12 u13 => kob (oP u13 x0 11 1 (.ref a12)) (fun u14 => some (a12, u14)))) else (FJ2_grow_2_b20 N g (x0) (x1) (v2) w)))))
def FJ2_grow (N : Nat) (g : GT) (x0 : Nat) (w : Wd) : Option (Nat × Wd) :=
  kob (oI w x0 11 2) (fun v1 => if oIs w x0 11 = true then (kb (FJ2_grow_2 N g x0 (v1 + (1 : Int32)) w) (fun r2 u3 => some (r2, u3))) else none)
def FJ2_add_2_b11 (N : Nat) (g : GT)  (x0 : Nat) (x1 : Nat) (x2 : Nat) (x3 : Int32) (w : Wd) : Option (Unit × Wd) :=
  if kisO g w x1 = true then (kob (aSQ g w 4 x2 x3 (some x1)) (fun u6 => kob (oP u6 x0 11 2 (.int (x3 + (1 : Int32)))) (fun u8 => some ((), u8)))) else none
def FJ2_add_2 (N : Nat) (g : GT) (x0 : Nat) (x1 : Nat) (x2 : Nat) (x3 : Int32) (w : Wd) : Option (Unit × Wd) :=
  kob (aLe g w x2) (fun v1 => if x3 = v1 then (if oIs w x0 11 = true then (kb (FJ2_grow N g x0 w) (fun r3 u4 => FJ2_add_2_b11 N g (x0) (x1) (r3) (x3) u4)) else none) else (FJ2_add_2_b11 N g (x0) (x1) (x2) (x3) w))
def FJ2_add (N : Nat) (g : GT) (x0 : Nat) (x1 : Nat) (w : Wd) : Option (Int32 × Wd) :=
  kob (oI w x0 11 0) (fun v1 => kob (oP w x0 11 0 (.int (v1 + (1 : Int32)))) (fun u2 => kob (oR u2 x0 11 1) (fun v3 => kob (oI u2 x0 11 2) (fun v4 => if oIs u2 x0 11 = true then (kb (FJ2_add_2 N g x0 x1 v3 v4 u2) (fun r5 u6 => some ((1 : Int32), u6))) else none))))
def FJ2_elementData (N : Nat) (g : GT) (x0 : Nat) (x1 : Int32) (w : Wd) : Option (Nat × Wd) :=
  kob (oR w x0 11 1) (fun v1 => kob (aQ g w 4 v1 x1) (fun v2 => kob v2 (fun a3 => some (a3, w))))
def FJ2_get (N : Nat) (g : GT) (x0 : Nat) (x1 : Int32) (w : Wd) : Option (Nat × Wd) :=
  kob (oI w x0 11 2) (fun v1 => kb (FJ14_checkIndex N g x1 v1 w) (fun r2 u3 => if oIs u3 x0 11 = true then (kb (FJ2_elementData N g x0 x1 u3) (fun r4 u5 => some (r4, u5))) else none))
def FJ2_size (N : Nat) (g : GT) (x0 : Nat) (w : Wd) : Option (Int32 × Wd) :=
  kob (oI w x0 11 2) (fun v1 => some (v1, w))
def FJ2_isEmpty (N : Nat) (g : GT) (x0 : Nat) (w : Wd) : Option (Int32 × Wd) :=
  kob (oI w x0 11 2) (fun v1 => if v1 = 0 then (some ((1 : Int32), w)) else (some ((0 : Int32), w)))
def FJ2_fastRemove_b34 (N : Nat) (g : GT)  (x0 : Nat) (x1 : Nat) (x3 : Int32) (w : Wd) : Option (Unit × Wd) :=
  kob (oP w x0 11 2 (.int x3)) (fun u5 => kob (aSQ g u5 4 x1 x3 none) (fun u6 => some ((), u6)))
def FJ2_fastRemove (N : Nat) (g : GT) (x0 : Nat) (x1 : Nat) (x2 : Int32) (w : Wd) : Option (Unit × Wd) :=
  kob (oI w x0 11 0) (fun v1 => kob (oP w x0 11 0 (.int (v1 + (1 : Int32)))) (fun u2 => kob (oI u2 x0 11 2) (fun v3 => if (v3 - (1 : Int32)) ≤ x2 then (FJ2_fastRemove_b34 N g (x0) (x1) ((v3 - (1 : Int32))) u2) else (kob (aCpQ g u2 x1 (x2 + (1 : Int32)) x1 x2 ((v3 - (1 : Int32)) - x2)) (fun u7 => FJ2_fastRemove_b34 N g (x0) (x1) ((v3 - (1 : Int32))) u7)))))
def FJ2_remove (N : Nat) (g : GT) (x0 : Nat) (x1 : Int32) (w : Wd) : Option (Nat × Wd) :=
  kob (oI w x0 11 2) (fun v1 => kb (FJ14_checkIndex N g x1 v1 w) (fun r2 u3 => kob (oR u3 x0 11 1) (fun v4 => kob (aQ g u3 4 v4 x1) (fun v5 => kob v5 (fun a6 => if oIs u3 x0 11 = true then (kb (FJ2_fastRemove N g x0 v4 x1 u3) (fun r7 u8 => some (a6, u8))) else none)))))
def FJ15_init (N : Nat) (g : GT) (x0 : Nat) (x1 : Nat) (w : Wd) : Option (Unit × Wd) :=
  kob (oP w x0 12 3 (.ref x1)) (fun u1 => kob (oP u1 x0 12 1 (.int (-1 : Int32))) (fun u2 => kob (oR u2 x0 12 3) (fun v3 => kob (oI u2 v3 11 0) (fun v4 => kob (oP u2 x0 12 2 (.int v4)) (fun u5 => some ((), u5))))))
def FJ2_iterator (N : Nat) (g : GT) (x0 : Nat) (w : Wd) : Option (Nat × Wd) :=
  kb (oNew g w 12 [.int 0, .int 0, .int 0, .null] 4) (fun a1 u2 => kb (FJ15_init N g a1 x0 u2) (fun r3 u4 => some (a1, u4)))
def FJ15_hasNext (N : Nat) (g : GT) (x0 : Nat) (w : Wd) : Option (Int32 × Wd) :=
  kob (oI w x0 12 0) (fun v1 => kob (oR w x0 12 3) (fun v2 => kob (oI w v2 11 2) (fun v3 => if v1 = v3 then (some ((0 : Int32), w)) else (some ((1 : Int32), w)))))
def FJ15_checkForComodification (N : Nat) (g : GT) (x0 : Nat) (w : Wd) : Option (Unit × Wd) :=
  kob (oR w x0 12 3) (fun v1 => kob (oI w v1 11 0) (fun v2 => kob (oI w x0 12 2) (fun v3 => if v2 = v3 then (some ((), w)) else (none))))
def FJ15_next (N : Nat) (g : GT) (x0 : Nat) (w : Wd) : Option (Nat × Wd) :=
  if oIs w x0 12 = true then (kb (FJ15_checkForComodification N g x0 w) (fun r1 u2 => kob (oI u2 x0 12 0) (fun v4 => kob (oR u2 x0 12 3) (fun v5 => kob (oI u2 v5 11 2) (fun v6 => if v4 < v6 then (kob (oR u2 x0 12 3) (fun v8 => kob (oR u2 v8 11 1) (fun v9 => kob (aL g u2 4 v9) (fun v10 => if v4 < v10 then (kob (oP u2 x0 12 0 (.int (v4 + (1 : Int32)))) (fun u12 => kob (oP u12 x0 12 1 (.int v4)) (fun u13 => kob (aQ g u13 4 v9 v4) (fun v14 => kob v14 (fun a15 => some (a15, u13)))))) else (none))))) else (none)))))) else none
