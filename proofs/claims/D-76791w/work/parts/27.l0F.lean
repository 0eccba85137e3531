set_option maxRecDepth 100000
def FX0_always (N : Nat) (g : GT) (x0 : Nat) (w : Wd) : Option (Nat × Wd) :=
  kb (lNew g w 2 [.ref x0]) (fun a1 u2 => some (a1, u2))
def FX0_inTurn (N : Nat) (g : GT) (x0 : Int32) (x1 : Nat) (x2 : Nat) (w : Wd) : Option (Nat × Wd) :=
  kb (lNew g w 3 [.int x0, .ref x1, .ref x2]) (fun a1 u2 => some (a1, u2))
def FX0_byCards (N : Nat) (g : GT) (x0 : Int32) (x1 : Nat) (x2 : Nat) (w : Wd) : Option (Nat × Wd) :=
  kb (lNew g w 4 [.int x0, .ref x1, .ref x2]) (fun a1 u2 => some (a1, u2))
def FX0_eachOf (N : Nat) (g : GT) (x0 : Int32) (x1 : Nat) (x2 : Nat) (w : Wd) : Option (Nat × Wd) :=
  kb (lNew g w 5 [.int x0, .ref x2, .ref x1]) (fun a1 u2 => some (a1, u2))
def FX0_later (N : Nat) (g : GT) (x0 : Int32) (x1 : Nat) (w : Wd) : Option (Nat × Wd) :=
  kb (lNew g w 6 [.ref x1, .int x0]) (fun a1 u2 => some (a1, u2))
def FX0_slanting (N : Nat) (g : GT) (x0 : Nat) (w : Wd) : Option (Nat × Wd) :=
  kb (lNew g w 7 [.ref x0]) (fun a1 u2 => some (a1, u2))
def FX0_reversed (N : Nat) (g : GT) (x0 : Nat) (w : Wd) : Option (Nat × Wd) :=
  kb (lNew g w 8 [.ref x0]) (fun a1 u2 => some (a1, u2))
def FX0_mirrored (N : Nat) (g : GT) (x0 : Nat) (w : Wd) : Option (Nat × Wd) :=
  kb (lNew g w 9 [.ref x0]) (fun a1 u2 => some (a1, u2))
def FX0_first (N : Nat) (g : GT) (x0 : Nat) (x1 : Nat) (w : Wd) : Option (Nat × Wd) :=
  kb (lNew g w 10 [.ref x0, .ref x1]) (fun a1 u2 => some (a1, u2))
def FX0_many (N : Nat) (g : GT) (x0 : Nat) (w : Wd) : Option (Int32 × Wd) :=
  kob (oR w x0 1 0) (fun v1 => if oIs w v1 11 = true then (kb (FJ2_size N g v1 w) (fun r2 u3 => some (r2, u3))) else none)
def FX0_isCard (N : Nat) (g : GT) (x0 : Nat) (x1 : Int32) (w : Wd) : Option (Int32 × Wd) :=
  if oIs w x0 1 = true then (kb (FX0_many N g x0 w) (fun r1 u2 => kb (FX0_isIn N g x1 (0 : Int32) (r1 - (1 : Int32)) u2) (fun r4 u5 => if nb r4 = true then (some (r4, u5)) else none))) else none
def FX0_isRow (N : Nat) (g : GT) (x0 : Nat) (x1 : Int32) (w : Wd) : Option (Int32 × Wd) :=
  kob (oR w x0 1 1) (fun v1 => if oIs w v1 11 = true then (kb (FJ2_size N g v1 w) (fun r2 u3 => kb (FX0_isIn N g x1 (0 : Int32) (r2 - (1 : Int32)) u3) (fun r5 u6 => if nb r5 = true then (some (r5, u6)) else none))) else none)
def FX0_isTurning (N : Nat) (g : GT) (x0 : Int32) (w : Wd) : Option (Int32 × Wd) :=
  kb (FX0_isIn N g x0 (0 : Int32) (3 : Int32) w) (fun r1 u2 => if nb r1 = true then (some (r1, u2)) else none)
def FX0_isColour (N : Nat) (g : GT) (x0 : Int32) (w : Wd) : Option (Int32 × Wd) :=
  kb (FX0_isIn N g x0 (0 : Int32) (9 : Int32) w) (fun r1 u2 => if nb r1 = true then (some (r1, u2)) else none)
def FX0_isList (N : Nat) (g : GT) (x0 : Int32) (w : Wd) : Option (Int32 × Wd) :=
  kb (FX0_isIn N g x0 (0 : Int32) (3 : Int32) w) (fun r1 u2 => if nb r1 = true then (some (r1, u2)) else none)
def FX0_isThere (N : Nat) (g : GT) (x0 : Nat) (x1 : Int32) (x2 : Int32) (w : Wd) : Option (Int32 × Wd) :=
  if oIs w x0 1 = true then (kb (FX0_isRow N g x0 x1 w) (fun r1 u2 => if r1 = 0 then (some ((0 : Int32), u2)) else (if oIs u2 x0 1 = true then (kb (FX0_isCard N g x0 x2 u2) (fun r5 u6 => if r5 = 0 then (some ((0 : Int32), u6)) else (some ((1 : Int32), u6)))) else none))) else none
