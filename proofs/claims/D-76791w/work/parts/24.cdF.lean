set_option maxRecDepth 100000
def FX0_isIn (N : Nat) (g : GT) (x0 : Int32) (x1 : Int32) (x2 : Int32) (w : Wd) : Option (Int32 × Wd) :=
  if x0 < x1 then (some ((0 : Int32), w)) else (if x2 < x0 then (some ((0 : Int32), w)) else (some ((1 : Int32), w)))
def FX6_init (N : Nat) (g : GT) (x0 : Nat) (x1 : Nat) (w : Wd) : Option (Unit × Wd) :=
  kob (oP w x0 2 0 (.ref x1)) (fun u1 => some ((), u1))
def FX6_top (N : Nat) (g : GT) (x0 : Nat) (w : Wd) : Option (Int32 × Wd) :=
  kob (oR w x0 2 0) (fun v1 => kob (oI w x0 2 2) (fun v2 => kob (aI g w 0 v1 v2) (fun v3 => some (v3, w))))
def FX6_below (N : Nat) (g : GT) (x0 : Nat) (w : Wd) : Option (Int32 × Wd) :=
  kob (oR w x0 2 0) (fun v1 => kob (oI w x0 2 2) (fun v2 => kob (aI g w 0 v1 ((v2 + (2 : Int32)) - (v2 + (2 : Int32)) / (4 : Int32) * (4 : Int32))) (fun v3 => some (v3, w))))
def FX6_jams (N : Nat) (g : GT) (x0 : Nat) (x1 : Nat) (w : Wd) : Option (Int32 × Wd) :=
  kob (oI w x0 2 3) (fun v1 => kob (Ftt g x1) (fun v2 => kb (FX0_isIn N g (v1 + v2) (-99 : Int32) (99 : Int32) w) (fun r3 u4 => if r3 = 0 then (some ((1 : Int32), u4)) else (some ((0 : Int32), u4)))))
def FX6_turns (N : Nat) (g : GT) (x0 : Nat) (x1 : Nat) (w : Wd) : Option (Unit × Wd) :=
  kob (oI w x0 2 2) (fun v1 => kob (Ftq g x1) (fun v2 => kob (oP w x0 2 2 (.int ((v1 + v2) - (v1 + v2) / (4 : Int32) * (4 : Int32)))) (fun u3 => kob (oI u3 x0 2 3) (fun v4 => kob (Ftt g x1) (fun v5 => kob (oP u3 x0 2 3 (.int (v4 + v5))) (fun u6 => some ((), u6)))))))
def FX6_turnsBack (N : Nat) (g : GT) (x0 : Nat) (x1 : Nat) (w : Wd) : Option (Unit × Wd) :=
  kob (oI w x0 2 2) (fun v1 => kob (Ftq g x1) (fun v2 => kob (oP w x0 2 2 (.int (((v1 + (4 : Int32)) - v2) - ((v1 + (4 : Int32)) - v2) / (4 : Int32) * (4 : Int32)))) (fun u3 => kob (oI u3 x0 2 3) (fun v4 => kob (Ftt g x1) (fun v5 => kob (oP u3 x0 2 3 (.int (v4 - v5))) (fun u6 => some ((), u6)))))))
def FX6_twin (N : Nat) (g : GT) (x0 : Nat) (w : Wd) : Option (Nat × Wd) :=
  kb (oNew g w 2 [.null, .int 0, .int 0, .int 0] 4) (fun a1 u2 => kob (oR u2 x0 2 0) (fun v3 => kb (aClI g u2 v3) (fun a4 u5 => if aIs g u5 0 a4 = true then (kb (FX6_init N g a1 a4 u5) (fun r6 u7 => kob (oI u7 x0 2 1) (fun v8 => kob (oP u7 a1 2 1 (.int v8)) (fun u9 => kob (oI u9 x0 2 2) (fun v10 => kob (oP u9 a1 2 2 (.int v10)) (fun u11 => kob (oI u11 x0 2 3) (fun v12 => kob (oP u11 a1 2 3 (.int v12)) (fun u13 => some (a1, u13))))))))) else none)))
def FX9_many (N : Nat) (g : GT) (x0 : Nat) (w : Wd) : Option (Int32 × Wd) :=
  kob (oR w x0 3 0) (fun v1 => kob (aL g w 0 v1) (fun v2 => some (v2, w)))
def FX9_init_b35 (N : Nat) (g : GT) (k35 : Nat × Nat × Nat × Int32 × Wd → Option (Unit × Wd)) (x0 : Nat) (x1 : Nat) (x2 : Nat) (x3 : Int32) (w : Wd) : Option (Unit × Wd) :=
  kob (aL g w 5 x2) (fun v14 => if v14 ≤ x3 then (some ((), w)) else (kob (oR w x0 3 0) (fun v16 => if oIs w x1 11 = true then (kb (FJ2_get N g x1 x3 w) (fun r17 u18 => if oIs u18 r17 2 = true then (if oIs u18 r17 2 = true then (kb (FX6_top N g r17 u18) (fun r20 u21 => kob (aSI g u21 0 v16 x3 r20) (fun u23 => kob (oR u23 x0 3 1) (fun v24 => if oIs u23 x1 11 = true then (kb (FJ2_get N g x1 x3 u23) (fun r25 u26 => if oIs u26 r25 2 = true then (if oIs u26 r25 2 = true then (kb (FX6_below N g r25 u26) (fun r28 u29 => kob (aSI g u29 0 v24 x3 r28) (fun u31 => kob (oR u31 x0 3 2) (fun v32 => kob (aQ g u31 5 x2 x3) (fun v33 => kob v33 (fun a34 => if oIs u31 x1 11 = true then (kb (FJ2_get N g x1 x3 u31) (fun r35 u36 => if oIs u36 r35 2 = true then (kob (oI u36 r35 2 1) (fun v38 => kob (Ftl g a34 v38) (fun v39 => kob (aSI g u36 0 v32 x3 v39) (fun u40 => k35 (x0, x1, x2, (x3 + (1 : Int32)), u40))))) else none)) else none)))))) else none) else none)) else none)))) else none) else none)) else none)))
def FX9_init (N : Nat) (g : GT) (x0 : Nat) (x1 : Nat) (x2 : Nat) (w : Wd) : Option (Unit × Wd) :=
  kob (oP w x0 3 3 (.ref x2)) (fun u1 => kob (aL g u1 5 x2) (fun v2 => kb (aNew g u1 0 v2 (.inl (fun _ => 0))) (fun a3 u4 => kob (oP u4 x0 3 0 (.ref a3)) (fun u5 => kob (aL g u5 5 x2) (fun v6 => kb (aNew g u5 0 v6 (.inl (fun _ => 0))) (fun a7 u8 => kob (oP u8 x0 3 1 (.ref a7)) (fun u9 => kob (aL g u9 5 x2) (fun v10 => kb (aNew g u9 0 v10 (.inl (fun _ => 0))) (fun a11 u12 => kob (oP u12 x0 3 2 (.ref a11)) (fun u13 => kloop (fun self a => FX9_init_b35 N g self a.1 a.2.1 a.2.2.1 a.2.2.2.1 a.2.2.2.2) N (x0, x1, x2, (0 : Int32), u13)))))))))))
def FX9_alike_b33 (N : Nat) (g : GT) (k4 : Nat × Nat × Int32 × Int32 × Wd → Option (Int32 × Wd)) (x0 : Nat) (x1 : Nat) (x3 : Int32) (t0 : Int32) (t1 : Int32) (w : Wd) : Option (Int32 × Wd) :=
  k4 (x0, x1, (t1 + t0), (x3 + (1 : Int32)), w)
def FX9_alike_b4 (N : Nat) (g : GT) (k4 : Nat × Nat × Int32 × Int32 × Wd → Option (Int32 × Wd)) (x0 : Nat) (x1 : Nat) (x2 : Int32) (x3 : Int32) (w : Wd) : Option (Int32 × Wd) :=
  if oIs w x0 3 = true then (kb (FX9_many N g x0 w) (fun r1 u2 => if r1 ≤ x3 then (some (x2, u2)) else (kob (oR u2 x0 3 0) (fun v5 => kob (aI g u2 0 v5 x3) (fun v6 => kob (oR u2 x1 3 0) (fun v7 => kob (aI g u2 0 v7 x3) (fun v8 => if v6 = v8 then (FX9_alike_b33 N g k4 (x0) (x1) (x3) ((1 : Int32)) (x2) u2) else (FX9_alike_b33 N g k4 (x0) (x1) (x3) ((0 : Int32)) (x2) u2)))))))) else none
def FX9_alike (N : Nat) (g : GT) (x0 : Nat) (x1 : Nat) (w : Wd) : Option (Int32 × Wd) :=
  kloop (fun self a => FX9_alike_b4 N g self a.1 a.2.1 a.2.2.1 a.2.2.2.1 a.2.2.2.2) N (x0, x1, (0 : Int32), (0 : Int32), w)
def FX9_isLike (N : Nat) (g : GT) (x0 : Nat) (x1 : Nat) (w : Wd) : Option (Int32 × Wd) :=
  if oIs w x0 3 = true then (kb (FX9_alike N g x0 x1 w) (fun r1 u2 => if oIs u2 x0 3 = true then (kb (FX9_many N g x0 u2) (fun r4 u5 => if r1 = r4 then (some ((1 : Int32), u5)) else (some ((0 : Int32), u5)))) else none)) else none
def FX9_isMirror_b40 (N : Nat) (g : GT) (k4 : Nat × Int32 × Int32 × Wd → Option (Int32 × Wd)) (x0 : Nat) (x2 : Int32) (t0 : Int32) (t1 : Int32) (w : Wd) : Option (Int32 × Wd) :=
  k4 (x0, (t1 &&& t0), (x2 + (1 : Int32)), w)
def FX9_isMirror_b4 (N : Nat) (g : GT) (k4 : Nat × Int32 × Int32 × Wd → Option (Int32 × Wd)) (x0 : Nat) (x1 : Int32) (x2 : Int32) (w : Wd) : Option (Int32 × Wd) :=
  if oIs w x0 3 = true then (kb (FX9_many N g x0 w) (fun r1 u2 => if r1 ≤ x2 then (if nb x1 = true then (some (x1, u2)) else none) else (kob (oR u2 x0 3 0) (fun v6 => kob (aI g u2 0 v6 x2) (fun v7 => kob (oR u2 x0 3 0) (fun v8 => if oIs u2 x0 3 = true then (kb (FX9_many N g x0 u2) (fun r9 u10 => kob (aI g u10 0 v8 ((r9 - (1 : Int32)) - x2)) (fun v12 => if v7 = v12 then (FX9_isMirror_b40 N g k4 (x0) (x2) ((1 : Int32)) (x1) u10) else (FX9_isMirror_b40 N g k4 (x0) (x2) ((0 : Int32)) (x1) u10)))) else none)))))) else none
def FX9_isMirror (N : Nat) (g : GT) (x0 : Nat) (w : Wd) : Option (Int32 × Wd) :=
  kloop (fun self a => FX9_isMirror_b4 N g self a.1 a.2.1 a.2.2.1 a.2.2.2) N (x0, (1 : Int32), (0 : Int32), w)
def FX9_faces_b33 (N : Nat) (g : GT) (k4 : Nat × Int32 × Int32 × Wd → Option (Int32 × Wd)) (x0 : Nat) (x2 : Int32) (t0 : Int32) (t1 : Int32) (w : Wd) : Option (Int32 × Wd) :=
  k4 (x0, (t1 + t0), (x2 + (1 : Int32)), w)
def FX9_faces_b4 (N : Nat) (g : GT) (k4 : Nat × Int32 × Int32 × Wd → Option (Int32 × Wd)) (x0 : Nat) (x1 : Int32) (x2 : Int32) (w : Wd) : Option (Int32 × Wd) :=
  if oIs w x0 3 = true then (kb (FX9_many N g x0 w) (fun r1 u2 => if r1 ≤ x2 then (some (x1, u2)) else (kob (oR u2 x0 3 0) (fun v5 => kob (aI g u2 0 v5 x2) (fun v6 => kob (oR u2 x0 3 1) (fun v7 => kob (aI g u2 0 v7 x2) (fun v8 => if v6 = v8 then (FX9_faces_b33 N g k4 (x0) (x2) ((1 : Int32)) (x1) u2) else (FX9_faces_b33 N g k4 (x0) (x2) ((0 : Int32)) (x1) u2)))))))) else none
def FX9_faces (N : Nat) (g : GT) (x0 : Nat) (w : Wd) : Option (Int32 × Wd) :=
  kloop (fun self a => FX9_faces_b4 N g self a.1 a.2.1 a.2.2.1 a.2.2.2) N (x0, (0 : Int32), (0 : Int32), w)
