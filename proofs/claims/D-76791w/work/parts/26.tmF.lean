set_option maxRecDepth 100000
def FX2_init (N : Nat) (g : GT) (x0 : Nat) (x1 : Int32) (w : Wd) : Option (Unit × Wd) :=
  kob (oP w x0 9 0 (.int x1)) (fun u1 => some ((), u1))
def FX2_compareTo (N : Nat) (g : GT) (x0 : Nat) (x1 : Nat) (w : Wd) : Option (Int32 × Wd) :=
  kob (oI w x0 9 0) (fun v1 => kob (oI w x1 9 0) (fun v2 => some ((v1 - v2), w)))
def FX2_compareTo_2 (N : Nat) (g : GT) (x0 : Nat) (x1 : Nat) (w : Wd) : Option (Int32 × Wd) :=
  if oIs w x1 9 = true then (if oIs w x0 9 = true then (kb (FX2_compareTo N g x0 x1 w) (fun r1 u2 => some (r1, u2))) else none) else none
def FX12_init (N : Nat) (g : GT) (x0 : Nat) (x1 : Nat) (w : Wd) : Option (Unit × Wd) :=
  kob (oP w x0 10 0 (.ref x1)) (fun u1 => some ((), u1))
def FX13_init (N : Nat) (g : GT) (x0 : Nat) (w : Wd) : Option (Unit × Wd) :=
  some ((), w)
def FX13_compare_2 (N : Nat) (g : GT) (x0 : Nat) (x1 : Nat) (x2 : Nat) (w : Wd) : Option (Int32 × Wd) :=
  kob (oI w x1 10 1) (fun v1 => kob (oI w x2 10 1) (fun v2 => if v1 = v2 then (kob (oI w x1 10 2) (fun v4 => kob (oI w x2 10 2) (fun v5 => if v4 = v5 then (kob (oR w x1 10 0) (fun v7 => kob (oR w x2 10 0) (fun v8 => if oIs w v7 9 = true then (kb (FX2_compareTo N g v7 v8 w) (fun r9 u10 => some (r9, u10))) else none))) else (kob (oI w x1 10 2) (fun v12 => kob (oI w x2 10 2) (fun v13 => some ((v12 - v13), w))))))) else (kob (oI w x2 10 1) (fun v14 => kob (oI w x1 10 1) (fun v15 => some ((v14 - v15), w))))))
def FX13_compare (N : Nat) (g : GT) (x0 : Nat) (x1 : Nat) (x2 : Nat) (w : Wd) : Option (Int32 × Wd) :=
  if oIs w x1 10 = true then (if oIs w x2 10 = true then (if oIs w x0 8 = true then (kb (FX13_compare_2 N g x0 x1 x2 w) (fun r1 u2 => some (r1, u2))) else none) else none) else none
def FJ14_requireNonNull (N : Nat) (g : GT) (x0 : Nat) (w : Wd) : Option (Nat × Wd) :=
  some (x0, w)
def FJ27_init (N : Nat) (g : GT) (x0 : Nat) (x1 : Nat) (x2 : Nat) (x3 : Option Nat) (w : Wd) : Option (Unit × Wd) :=
  kob (oP w x0 16 5 (.int (1 : Int32))) (fun u1 => kob (oP u1 x0 16 0 (.ref x1)) (fun u2 => kob (oP u2 x0 16 1 (.ref x2)) (fun u3 => kob (oP u3 x0 16 4 (va_rf x3)) (fun u4 => some ((), u4)))))
def FJ18_compare (N : Nat) (g : GT) (x0 : Nat) (x1 : Nat) (x2 : Nat) (w : Wd) : Option (Int32 × Wd) :=
  kob (oN w x0 15 2) (fun v1 => kmn v1 (if oIs w x1 9 = true then (if oIs w x1 9 = true then (kb (FX2_compareTo_2 N g x1 x2 w) (fun r3 u4 => some (r3, u4))) else none) else none) (fun a2 => kob (oN w x0 15 2) (fun v6 => kob v6 (fun a7 => if oIs w a7 8 = true then (kb (FX13_compare N g a7 x1 x2 w) (fun r8 u9 => some (r8, u9))) else none))))
def FJ18_addEntryToEmptyMap (N : Nat) (g : GT) (x0 : Nat) (x1 : Nat) (x2 : Nat) (w : Wd) : Option (Unit × Wd) :=
  if oIs w x0 15 = true then (kb (FJ18_compare N g x0 x1 x1 w) (fun r1 u2 => kb (oNew g u2 16 [.null, .null, .null, .null, .null, .int 0] 6) (fun a4 u5 => kb (FJ27_init N g a4 x1 x2 none u5) (fun r6 u7 => kob (oP u7 x0 15 3 (.ref a4)) (fun u8 => kob (oP u8 x0 15 4 (.int (1 : Int32))) (fun u9 => kob (oI u9 x0 15 5) (fun v10 => kob (oP u9 x0 15 5 (.int (v10 + (1 : Int32)))) (fun u11 => some ((), u11))))))))) else none
def FJ18_parentOf (N : Nat) (g : GT) (x0 : Option Nat) (w : Wd) : Option (Option Nat × Wd) :=
  kmn x0 (some (none, w)) (fun a1 => kob (oN w a1 16 4) (fun v2 => some (v2, w)))
def FJ18_leftOf (N : Nat) (g : GT) (x0 : Option Nat) (w : Wd) : Option (Option Nat × Wd) :=
  kmn x0 (some (none, w)) (fun a1 => kob (oN w a1 16 2) (fun v2 => some (v2, w)))
def FJ18_rightOf (N : Nat) (g : GT) (x0 : Option Nat) (w : Wd) : Option (Option Nat × Wd) :=
  kmn x0 (some (none, w)) (fun a1 => kob (oN w a1 16 3) (fun v2 => some (v2, w)))
def FJ18_colorOf (N : Nat) (g : GT) (x0 : Option Nat) (w : Wd) : Option (Int32 × Wd) :=
  kmn x0 (some ((1 : Int32), w)) (fun a1 => kob (oI w a1 16 5) (fun v2 => if nb v2 = true then (some (v2, w)) else none))
def FJ18_setColor (N : Nat) (g : GT) (x0 : Option Nat) (x1 : Int32) (w : Wd) : Option (Unit × Wd) :=
  kmn x0 (some ((), w)) (fun a1 => if nb x1 = true then (kob (oP w a1 16 5 (.int x1)) (fun u2 => some ((), u2))) else none)
def FJ18_rotateLeft_b85 (N : Nat) (g : GT)  (x1 : Option Nat) (x2 : Option Nat) (w : Wd) : Option (Unit × Wd) :=
  kob x2 (fun a15 => kob (oP w a15 16 2 (va_rf x1)) (fun u16 => kob x1 (fun a17 => kob (oP u16 a17 16 4 (.ref a15)) (fun u18 => some ((), u18)))))
def FJ18_rotateLeft_b32 (N : Nat) (g : GT)  (x0 : Nat) (x1 : Option Nat) (x2 : Option Nat) (w : Wd) : Option (Unit × Wd) :=
  kob x1 (fun a8 => kob (oN w a8 16 4) (fun v9 => kob x2 (fun a10 => kob (oP w a10 16 4 (va_rf v9)) (fun u11 => kob (oN u11 a8 16 4) (fun v12 => kmn v12 (kob (oP u11 x0 15 3 (.ref a10)) (fun u14 => FJ18_rotateLeft_b85 N g ((some a8)) ((some a10)) u14)) (fun a13 => kob (oN u11 a8 16 4) (fun v19 => kob v19 (fun a20 => kob (oN u11 a20 16 2) (fun v21 => if (v21 : Option Nat) = (some a8) then (kob (oN u11 a8 16 4) (fun v23 => kob v23 (fun a24 => kob (oP u11 a24 16 2 (.ref a10)) (fun u25 => FJ18_rotateLeft_b85 N g ((some a8)) ((some a10)) u25)))) else (kob (oN u11 a8 16 4) (fun v26 => kob v26 (fun a27 => kob (oP u11 a27 16 3 (.ref a10)) (fun u28 => FJ18_rotateLeft_b85 N g ((some a8)) ((some a10)) u28)))))))))))))
def FJ18_rotateLeft (N : Nat) (g : GT) (x0 : Nat) (x1 : Option Nat) (w : Wd) : Option (Unit × Wd) :=
  kmn x1 (some ((), w)) (fun a1 => kob (oN w a1 16 3) (fun v2 => kob v2 (fun a3 => kob (oN w a3 16 2) (fun v4 => kob (oP w a1 16 3 (va_rf v4)) (fun u5 => kob (oN u5 a3 16 2) (fun v6 => kmn v6 (FJ18_rotateLeft_b32 N g (x0) ((some a1)) ((some a3)) u5) (fun a7 => kob (oN u5 a3 16 2) (fun v29 => kob v29 (fun a30 => kob (oP u5 a30 16 4 (.ref a1)) (fun u31 => FJ18_rotateLeft_b32 N g (x0) ((some a1)) ((some a3)) u31))))))))))
def FJ18_rotateRight_b85 (N : Nat) (g : GT)  (x1 : Option Nat) (x2 : Option Nat) (w : Wd) : Option (Unit × Wd) :=
  kob x2 (fun a15 => kob (oP w a15 16 3 (va_rf x1)) (fun u16 => kob x1 (fun a17 => kob (oP u16 a17 16 4 (.ref a15)) (fun u18 => some ((), u18)))))
def FJ18_rotateRight_b32 (N : Nat) (g : GT)  (x0 : Nat) (x1 : Option Nat) (x2 : Option Nat) (w : Wd) : Option (Unit × Wd) :=
  kob x1 (fun a8 => kob (oN w a8 16 4) (fun v9 => kob x2 (fun a10 => kob (oP w a10 16 4 (va_rf v9)) (fun u11 => kob (oN u11 a8 16 4) (fun v12 => kmn v12 (kob (oP u11 x0 15 3 (.ref a10)) (fun u14 => FJ18_rotateRight_b85 N g ((some a8)) ((some a10)) u14)) (fun a13 => kob (oN u11 a8 16 4) (fun v19 => kob v19 (fun a20 => kob (oN u11 a20 16 3) (fun v21 => if (v21 : Option Nat) = (some a8) then (kob (oN u11 a8 16 4) (fun v23 => kob v23 (fun a24 => kob (oP u11 a24 16 3 (.ref a10)) (fun u25 => FJ18_rotateRight_b85 N g ((some a8)) ((some a10)) u25)))) else (kob (oN u11 a8 16 4) (fun v26 => kob v26 (fun a27 => kob (oP u11 a27 16 2 (.ref a10)) (fun u28 => FJ18_rotateRight_b85 N g ((some a8)) ((some a10)) u28)))))))))))))
def FJ18_rotateRight (N : Nat) (g : GT) (x0 : Nat) (x1 : Option Nat) (w : Wd) : Option (Unit × Wd) :=
  kmn x1 (some ((), w)) (fun a1 => kob (oN w a1 16 2) (fun v2 => kob v2 (fun a3 => kob (oN w a3 16 3) (fun v4 => kob (oP w a1 16 2 (va_rf v4)) (fun u5 => kob (oN u5 a3 16 3) (fun v6 => kmn v6 (FJ18_rotateRight_b32 N g (x0) ((some a1)) ((some a3)) u5) (fun a7 => kob (oN u5 a3 16 3) (fun v29 => kob v29 (fun a30 => kob (oP u5 a30 16 4 (.ref a1)) (fun u31 => FJ18_rotateRight_b32 N g (x0) ((some a1)) ((some a3)) u31))))))))))
def FJ18_fixAfterInsertion_b258 (N : Nat) (g : GT)  (x0 : Nat) (w : Wd) : Option (Unit × Wd) :=
  kob (oN w x0 15 3) (fun v3 => kob v3 (fun a4 => kob (oP w a4 16 5 (.int (1 : Int32))) (fun u5 => some ((), u5))))
def FJ18_fixAfterInsertion_b148 (N : Nat) (g : GT) (k5 : Nat × Option Nat × Wd → Option (Unit × Wd)) (x0 : Nat) (x1 : Option Nat) (w : Wd) : Option (Unit × Wd) :=
  k5 (x0, x1, w)
def FJ18_fixAfterInsertion_b118 (N : Nat) (g : GT) (k5 : Nat × Option Nat × Wd → Option (Unit × Wd)) (x0 : Nat) (x1 : Option Nat) (w : Wd) : Option (Unit × Wd) :=
  kb (FJ18_parentOf N g x1 w) (fun r56 u57 => kb (FJ18_setColor N g r56 (1 : Int32) u57) (fun r58 u59 => kb (FJ18_parentOf N g x1 u59) (fun r60 u61 => kb (FJ18_parentOf N g r60 u61) (fun r62 u63 => kb (FJ18_setColor N g r62 (0 : Int32) u63) (fun r64 u65 => kb (FJ18_parentOf N g x1 u65) (fun r66 u67 => kb (FJ18_parentOf N g r66 u67) (fun r68 u69 => if oIs u69 x0 15 = true then (kb (FJ18_rotateRight N g x0 r68 u69) (fun r70 u71 => FJ18_fixAfterInsertion_b148 N g k5 (x0) (x1) u71)) else none)))))))
def FJ18_fixAfterInsertion_b255 (N : Nat) (g : GT) (k5 : Nat × Option Nat × Wd → Option (Unit × Wd)) (x0 : Nat) (x1 : Option Nat) (w : Wd) : Option (Unit × Wd) :=
  k5 (x0, x1, w)
def FJ18_fixAfterInsertion_b225 (N : Nat) (g : GT) (k5 : Nat × Option Nat × Wd → Option (Unit × Wd)) (x0 : Nat) (x1 : Option Nat) (w : Wd) : Option (Unit × Wd) :=
  kb (FJ18_parentOf N g x1 w) (fun r108 u109 => kb (FJ18_setColor N g r108 (1 : Int32) u109) (fun r110 u111 => kb (FJ18_parentOf N g x1 u111) (fun r112 u113 => kb (FJ18_parentOf N g r112 u113) (fun r114 u115 => kb (FJ18_setColor N g r114 (0 : Int32) u115) (fun r116 u117 => kb (FJ18_parentOf N g x1 u117) (fun r118 u119 => kb (FJ18_parentOf N g r118 u119) (fun r120 u121 => if oIs u121 x0 15 = true then (kb (FJ18_rotateLeft N g x0 r120 u121) (fun r122 u123 => FJ18_fixAfterInsertion_b255 N g k5 (x0) (x1) u123)) else none)))))))
def FJ18_fixAfterInsertion_b5 (N : Nat) (g : GT) (k5 : Nat × Option Nat × Wd → Option (Unit × Wd)) (x0 : Nat) (x1 : Option Nat) (w : Wd) : Option (Unit × Wd) :=
  kmn x1 (FJ18_fixAfterInsertion_b258 N g (x0) w) (fun a2 => kob (oN w x0 15 3) (fun v6 => if ((some a2) : Option Nat) = v6 then (FJ18_fixAfterInsertion_b258 N g (x0) w) else (kob (oN w a2 16 4) (fun v8 => kob v8 (fun a9 => kob (oI w a9 16 5) (fun v10 => if v10 = 0 then (kb (FJ18_parentOf N g (some a2) w) (fun r12 u13 => kb (FJ18_parentOf N g (some a2) u13) (fun r14 u15 => kb (FJ18_parentOf N g r14 u15) (fun r16 u17 => kb (FJ18_leftOf N g r16 u17) (fun r18 u19 => if (r12 : Option Nat) = r18 then (kb (FJ18_parentOf N g (some a2) u19) (fun r21 u22 => kb (FJ18_parentOf N g r21 u22) (fun r23 u24 => kb (FJ18_rightOf N g r23 u24) (fun r25 u26 => kb (FJ18_colorOf N g r25 u26) (fun r27 u28 => if r27 = 0 then (kb (FJ18_parentOf N g (some a2) u28) (fun r30 u31 => kb (FJ18_setColor N g r30 (1 : Int32) u31) (fun r32 u33 => kb (FJ18_setColor N g r25 (1 : Int32) u33) (fun r34 u35 => kb (FJ18_parentOf N g (some a2) u35) (fun r36 u37 => kb (FJ18_parentOf N g r36 u37) (fun r38 u39 => kb (FJ18_setColor N g r38 (0 : Int32) u39) (fun r40 u41 => kb (FJ18_parentOf N g (some a2) u41) (fun r42 u43 => kb (FJ18_parentOf N g r42 u43) (fun r44 u45 => FJ18_fixAfterInsertion_b148 N g k5 (x0) (r44) u45))))))))) else (kb (FJ18_parentOf N g (some a2) u28) (fun r46 u47 => kb (FJ18_rightOf N g r46 u47) (fun r48 u49 => if ((some a2) : Option Nat) = r48 then (kb (FJ18_parentOf N g (some a2) u49) (fun r51 u52 => if oIs u52 x0 15 = true then (kb (FJ18_rotateLeft N g x0 r51 u52) (fun r53 u54 => FJ18_fixAfterInsertion_b118 N g k5 (x0) (r51) u54)) else none)) else (FJ18_fixAfterInsertion_b118 N g k5 (x0) ((some a2)) u49))))))))) else (kb (FJ18_parentOf N g (some a2) u19) (fun r73 u74 => kb (FJ18_parentOf N g r73 u74) (fun r75 u76 => kb (FJ18_leftOf N g r75 u76) (fun r77 u78 => kb (FJ18_colorOf N g r77 u78) (fun r79 u80 => if r79 = 0 then (kb (FJ18_parentOf N g (some a2) u80) (fun r82 u83 => kb (FJ18_setColor N g r82 (1 : Int32) u83) (fun r84 u85 => kb (FJ18_setColor N g r77 (1 : Int32) u85) (fun r86 u87 => kb (FJ18_parentOf N g (some a2) u87) (fun r88 u89 => kb (FJ18_parentOf N g r88 u89) (fun r90 u91 => kb (FJ18_setColor N g r90 (0 : Int32) u91) (fun r92 u93 => kb (FJ18_parentOf N g (some a2) u93) (fun r94 u95 => kb (FJ18_parentOf N g r94 u95) (fun r96 u97 => FJ18_fixAfterInsertion_b255 N g k5 (x0) (r96) u97))))))))) else (kb (FJ18_parentOf N g (some a2) u80) (fun r98 u99 => kb (FJ18_leftOf N g r98 u99) (fun r100 u101 => if ((some a2) : Option Nat) = r100 then (kb (FJ18_parentOf N g (some a2) u101) (fun r103 u104 => if oIs u104 x0 15 = true then (kb (FJ18_rotateRight N g x0 r103 u104) (fun r105 u106 => FJ18_fixAfterInsertion_b225 N g k5 (x0) (r103) u106)) else none)) else (FJ18_fixAfterInsertion_b225 N g k5 (x0) ((some a2)) u101)))))))))))))) else (FJ18_fixAfterInsertion_b258 N g (x0) w)))))))
def FJ18_fixAfterInsertion (N : Nat) (g : GT) (x0 : Nat) (x1 : Nat) (w : Wd) : Option (Unit × Wd) :=
  kob (oP w x1 16 5 (.int (0 : Int32))) (fun u1 => kloop (fun self a => FJ18_fixAfterInsertion_b5 N g self a.1 a.2.1 a.2.2) N (x0, (some x1), u1))
def FJ18_addEntry_b32 (N : Nat) (g : GT)  (x0 : Nat) (x5 : Nat) (w : Wd) : Option (Unit × Wd) :=
  if oIs w x0 15 = true then (kb (FJ18_fixAfterInsertion N g x0 x5 w) (fun r7 u8 => kob (oI u8 x0 15 4) (fun v10 => kob (oP u8 x0 15 4 (.int (v10 + (1 : Int32)))) (fun u11 => kob (oI u11 x0 15 5) (fun v12 => kob (oP u11 x0 15 5 (.int (v12 + (1 : Int32)))) (fun u13 => some ((), u13))))))) else none
def FJ18_addEntry (N : Nat) (g : GT) (x0 : Nat) (x1 : Nat) (x2 : Nat) (x3 : Nat) (x4 : Int32) (w : Wd) : Option (Unit × Wd) :=
  kb (oNew g w 16 [.null, .null, .null, .null, .null, .int 0] 6) (fun a1 u2 => kb (FJ27_init N g a1 x1 x2 (some x3) u2) (fun r3 u4 => if x4 = 0 then (kob (oP u4 x3 16 3 (.ref a1)) (fun u6 => FJ18_addEntry_b32 N g (x0) (a1) u6)) else (kob (oP u4 x3 16 2 (.ref a1)) (fun u14 => FJ18_addEntry_b32 N g (x0) (a1) u14))))
def FJ18_put_2_b187 (N : Nat) (g : GT)  (x2 : Nat) (x4 : Option Nat) (x9 : Nat) (w : Wd) : Option (Option Nat × Wd) :=
  kob x4 (fun a19 => kob (oP w a19 16 1 (.ref x2)) (fun u20 => some ((some x9), u20)))
def FJ18_put_2_b216 (N : Nat) (g : GT)  (t0 : Int32) (t1 : Option Nat) (t2 : Nat) (t3 : Nat) (t4 : Nat) (w : Wd) : Option (Option Nat × Wd) :=
  kob t1 (fun a24 => if oIs w t4 15 = true then (kb (FJ18_addEntry N g t4 t3 t2 a24 t0 w) (fun r25 u26 => some (none, u26))) else none)
def FJ18_put_2_b201 (N : Nat) (g : GT)  (x0 : Nat) (x1 : Nat) (x2 : Nat) (x5 : Int32) (x6 : Option Nat) (w : Wd) : Option (Option Nat × Wd) :=
  if 0 ≤ x5 then (FJ18_put_2_b216 N g ((0 : Int32)) (x6) (x2) (x1) (x0) w) else (FJ18_put_2_b216 N g ((1 : Int32)) (x6) (x2) (x1) (x0) w)
def FJ18_put_2_b196 (N : Nat) (g : GT) (k123 : Nat × Nat × Nat × Int32 × Option Nat × Nat × Wd → Option (Option Nat × Wd)) (x0 : Nat) (x1 : Nat) (x2 : Nat) (x3 : Int32) (x4 : Option Nat) (x5 : Int32) (x6 : Option Nat) (x8 : Nat) (w : Wd) : Option (Option Nat × Wd) :=
  kmn x4 (FJ18_put_2_b201 N g (x0) (x1) (x2) (x5) (x6) w) (fun a22 => k123 (x0, x1, x2, x3, (some a22), x8, w))
def FJ18_put_2_b123 (N : Nat) (g : GT) (k123 : Nat × Nat × Nat × Int32 × Option Nat × Nat × Wd → Option (Option Nat × Wd)) (x0 : Nat) (x1 : Nat) (x2 : Nat) (x3 : Int32) (x4 : Option Nat) (x8 : Nat) (w : Wd) : Option (Option Nat × Wd) :=
  kob x4 (fun a10 => kob (oR w a10 16 0) (fun v11 => if oIs w x8 9 = true then (kb (FX2_compareTo_2 N g x8 v11 w) (fun r12 u13 => if 0 ≤ r12 then (if r12 ≤ 0 then (kob (oR u13 a10 16 1) (fun v17 => if x3 = 0 then (some ((some v17), u13)) else (FJ18_put_2_b187 N g (x2) ((some a10)) (v17) u13))) else (kob (oN u13 a10 16 3) (fun v21 => FJ18_put_2_b196 N g k123 (x0) (x1) (x2) (x3) (v21) (r12) ((some a10)) (x8) u13))) else (kob (oN u13 a10 16 2) (fun v28 => FJ18_put_2_b196 N g k123 (x0) (x1) (x2) (x3) (v28) (r12) ((some a10)) (x8) u13)))) else none))
def FJ18_put_2_b95 (N : Nat) (g : GT)  (x2 : Nat) (x4 : Option Nat) (x8 : Nat) (w : Wd) : Option (Option Nat × Wd) :=
  kob x4 (fun a39 => kob (oP w a39 16 1 (.ref x2)) (fun u40 => some ((some x8), u40)))
def FJ18_put_2_b104 (N : Nat) (g : GT) (k30 : Nat × Nat × Nat × Int32 × Option Nat × Option Nat × Wd → Option (Option Nat × Wd)) (x0 : Nat) (x1 : Nat) (x2 : Nat) (x3 : Int32) (x4 : Option Nat) (x5 : Int32) (x6 : Option Nat) (x7 : Option Nat) (w : Wd) : Option (Option Nat × Wd) :=
  kmn x4 (FJ18_put_2_b201 N g (x0) (x1) (x2) (x5) (x6) w) (fun a42 => k30 (x0, x1, x2, x3, (some a42), x7, w))
def FJ18_put_2_b30 (N : Nat) (g : GT) (k30 : Nat × Nat × Nat × Int32 × Option Nat × Option Nat × Wd → Option (Option Nat × Wd)) (x0 : Nat) (x1 : Nat) (x2 : Nat) (x3 : Int32) (x4 : Option Nat) (x7 : Option Nat) (w : Wd) : Option (Option Nat × Wd) :=
  kob x4 (fun a29 => kob (oR w a29 16 0) (fun v30 => kob x7 (fun a31 => if oIs w a31 8 = true then (kb (FX13_compare N g a31 x1 v30 w) (fun r32 u33 => if 0 ≤ r32 then (if r32 ≤ 0 then (kob (oR u33 a29 16 1) (fun v37 => if x3 = 0 then (some ((some v37), u33)) else (FJ18_put_2_b95 N g (x2) ((some a29)) (v37) u33))) else (kob (oN u33 a29 16 3) (fun v41 => FJ18_put_2_b104 N g k30 (x0) (x1) (x2) (x3) (v41) (r32) ((some a29)) ((some a31)) u33))) else (kob (oN u33 a29 16 2) (fun v43 => FJ18_put_2_b104 N g k30 (x0) (x1) (x2) (x3) (v43) (r32) ((some a29)) ((some a31)) u33)))) else none)))
def FJ18_put_2 (N : Nat) (g : GT) (x0 : Nat) (x1 : Nat) (x2 : Nat) (x3 : Int32) (w : Wd) : Option (Option Nat × Wd) :=
  kob (oN w x0 15 3) (fun v1 => kmn v1 (if oIs w x0 15 = true then (kb (FJ18_addEntryToEmptyMap N g x0 x1 x2 w) (fun r3 u4 => some (none, u4))) else none) (fun a2 => kob (oN w x0 15 2) (fun v6 => kmn v6 (kb (FJ14_requireNonNull N g x1 w) (fun r8 u9 => if oIs u9 x1 9 = true then (kloop (fun self a => FJ18_put_2_b123 N g self a.1 a.2.1 a.2.2.1 a.2.2.2.1 a.2.2.2.2.1 a.2.2.2.2.2.1 a.2.2.2.2.2.2) N (x0, x1, x2, x3, (some a2), x1, u9)) else none)) (fun a7 => kloop (fun self a => FJ18_put_2_b30 N g self a.1 a.2.1 a.2.2.1 a.2.2.2.1 a.2.2.2.2.1 a.2.2.2.2.2.1 a.2.2.2.2.2.2) N (x0, x1, x2, x3, (some a2), (some a7), w)))))
def FJ18_put (N : Nat) (g : GT) (x0 : Nat) (x1 : Nat) (x2 : Nat) (w : Wd) : Option (Option Nat × Wd) :=
  if oIs w x0 15 = true then (kb (FJ18_put_2 N g x0 x1 x2 (1 : Int32) w) (fun r1 u2 => some (r1, u2))) else none
def FJ18_getEntry_b72 (N : Nat) (g : GT) (k28 : Nat × Option Nat × Wd → Option (Option Nat × Wd)) (x2 : Nat) (x3 : Option Nat) (w : Wd) : Option (Option Nat × Wd) :=
  k28 (x2, x3, w)
def FJ18_getEntry_b28 (N : Nat) (g : GT) (k28 : Nat × Option Nat × Wd → Option (Option Nat × Wd)) (x2 : Nat) (x3 : Option Nat) (w : Wd) : Option (Option Nat × Wd) :=
  kmn x3 (some (none, w)) (fun a6 => kob (oR w a6 16 0) (fun v7 => if oIs w x2 9 = true then (kb (FX2_compareTo_2 N g x2 v7 w) (fun r8 u9 => if 0 ≤ r8 then (if r8 ≤ 0 then (some ((some a6), u9)) else (kob (oN u9 a6 16 3) (fun v13 => FJ18_getEntry_b72 N g k28 (x2) (v13) u9))) else (kob (oN u9 a6 16 2) (fun v14 => FJ18_getEntry_b72 N g k28 (x2) (v14) u9)))) else none))
def FJ18_getEntry (N : Nat) (g : GT) (x0 : Nat) (x1 : Nat) (w : Wd) : Option (Option Nat × Wd) :=
  kob (oN w x0 15 2) (fun v1 => kmn v1 (kb (FJ14_requireNonNull N g x1 w) (fun r3 u4 => if oIs u4 x1 9 = true then (kob (oN u4 x0 15 3) (fun v5 => kloop (fun self a => FJ18_getEntry_b28 N g self a.1 a.2.1 a.2.2) N (x1, v5, u4))) else none)) (fun a2 => none))
def FJ18_get (N : Nat) (g : GT) (x0 : Nat) (x1 : Nat) (w : Wd) : Option (Option Nat × Wd) :=
  if oIs w x0 15 = true then (kb (FJ18_getEntry N g x0 x1 w) (fun r1 u2 => kmn r1 (some (none, u2)) (fun a4 => kob (oR u2 a4 16 1) (fun v5 => some ((some v5), u2))))) else none
def FJ0_init_t17 (N : Nat) (g : GT) (x0 : Nat) (w : Wd) : Option (Unit × Wd) :=
  some ((), w)
def FJ17_init_t15 (N : Nat) (g : GT) (x0 : Nat) (w : Wd) : Option (Unit × Wd) :=
  some ((), w)
def FJ18_init (N : Nat) (g : GT) (x0 : Nat) (w : Wd) : Option (Unit × Wd) :=
  kb (FJ17_init_t15 N g x0 w) (fun r1 u2 => kob (oP u2 x0 15 4 (.int (0 : Int32))) (fun u3 => kob (oP u3 x0 15 5 (.int (0 : Int32))) (fun u4 => kob (oP u4 x0 15 2 (.null)) (fun u5 => some ((), u5)))))
def FJ18_init_2 (N : Nat) (g : GT) (x0 : Nat) (x1 : Nat) (w : Wd) : Option (Unit × Wd) :=
  kb (FJ17_init_t15 N g x0 w) (fun r1 u2 => kob (oP u2 x0 15 4 (.int (0 : Int32))) (fun u3 => kob (oP u3 x0 15 5 (.int (0 : Int32))) (fun u4 => kob (oP u4 x0 15 2 (.ref x1)) (fun u5 => some ((), u5)))))
def FJ18_successor_b42 (N : Nat) (g : GT) (k42 : Option Nat × Option Nat × Wd → Option (Option Nat × Wd)) (x1 : Option Nat) (x2 : Option Nat) (w : Wd) : Option (Option Nat × Wd) :=
  kmn x1 (some (none, w)) (fun a4 => kob (oN w a4 16 3) (fun v5 => if (x2 : Option Nat) = v5 then (kob (oN w a4 16 4) (fun v7 => k42 (v7, (some a4), w))) else (some ((some a4), w))))
def FJ18_successor_b18 (N : Nat) (g : GT) (k18 : Option Nat × Wd → Option (Option Nat × Wd)) (x1 : Option Nat) (w : Wd) : Option (Option Nat × Wd) :=
  kob x1 (fun a9 => kob (oN w a9 16 2) (fun v10 => kmn v10 (some ((some a9), w)) (fun a11 => kob (oN w a9 16 2) (fun v12 => k18 (v12, w)))))
def FJ18_successor (N : Nat) (g : GT) (x0 : Nat) (w : Wd) : Option (Option Nat × Wd) :=
  kob (oN w x0 16 3) (fun v1 => kmn v1 (kob (oN w x0 16 4) (fun v3 => kloop (fun self a => FJ18_successor_b42 N g self a.1 a.2.1 a.2.2) N (v3, (some x0), w))) (fun a2 => kob (oN w x0 16 3) (fun v8 => kloop (fun self a => FJ18_successor_b18 N g self a.1 a.2) N (v8, w))))
def FJ18_getFirstEntry_b9 (N : Nat) (g : GT) (k9 : Option Nat × Wd → Option (Option Nat × Wd)) (x1 : Option Nat) (w : Wd) : Option (Option Nat × Wd) :=
  kob x1 (fun a3 => kob (oN w a3 16 2) (fun v4 => kmn v4 (some ((some a3), w)) (fun a5 => kob (oN w a3 16 2) (fun v6 => k9 (v6, w)))))
def FJ18_getFirstEntry (N : Nat) (g : GT) (x0 : Nat) (w : Wd) : Option (Option Nat × Wd) :=
  kob (oN w x0 15 3) (fun v1 => kmn v1 (some (none, w)) (fun a2 => kloop (fun self a => FJ18_getFirstEntry_b9 N g self a.1 a.2) N ((some a2), w)))
def FJ30_init (N : Nat) (g : GT) (x0 : Nat) (x1 : Nat) (w : Wd) : Option (Unit × Wd) :=
  kob (oP w x0 17 0 (.ref x1)) (fun u1 => kb (FJ0_init_t17 N g x0 u1) (fun r2 u3 => some ((), u3)))
def FJ18_values (N : Nat) (g : GT) (x0 : Nat) (w : Wd) : Option (Option Nat × Wd) :=
  kob (oN w x0 15 1) (fun v1 => kmn v1 (kb (oNew g w 17 [.null] 1) (fun a3 u4 => kb (FJ30_init N g a3 x0 u4) (fun r5 u6 => kob (oP u6 x0 15 1 (.ref a3)) (fun u7 => some ((some a3), u7))))) (fun a2 => some ((some a2), w)))
def FJ32_init_t18 (N : Nat) (g : GT) (x0 : Nat) (x1 : Nat) (x2 : Option Nat) (w : Wd) : Option (Unit × Wd) :=
  kob (oP w x0 18 3 (.ref x1)) (fun u1 => kob (oI u1 x1 15 5) (fun v2 => kob (oP u1 x0 18 2 (.int v2)) (fun u3 => kob (oP u3 x0 18 1 (.null)) (fun u4 => kob (oP u4 x0 18 0 (va_rf x2)) (fun u5 => some ((), u5))))))
def FJ32_hasNext_t18 (N : Nat) (g : GT) (x0 : Nat) (w : Wd) : Option (Int32 × Wd) :=
  kob (oN w x0 18 0) (fun v1 => kmn v1 (some ((0 : Int32), w)) (fun a2 => some ((1 : Int32), w)))
def FJ32_nextEntry_t18 (N : Nat) (g : GT) (x0 : Nat) (w : Wd) : Option (Option Nat × Wd) :=
  kob (oN w x0 18 0) (fun v1 => kmn v1 (none) (fun a2 => kob (oR w x0 18 3) (fun v3 => kob (oI w v3 15 5) (fun v4 => kob (oI w x0 18 2) (fun v5 => if v4 = v5 then (kb (FJ18_successor N g a2 w) (fun r7 u8 => kob (oP u8 x0 18 0 (va_rf r7)) (fun u9 => kob (oP u9 x0 18 1 (.ref a2)) (fun u10 => some ((some a2), u10))))) else (none))))))
def FJ32_init_t19 (N : Nat) (g : GT) (x0 : Nat) (x1 : Nat) (x2 : Option Nat) (w : Wd) : Option (Unit × Wd) :=
  kob (oP w x0 19 3 (.ref x1)) (fun u1 => kob (oI u1 x1 15 5) (fun v2 => kob (oP u1 x0 19 2 (.int v2)) (fun u3 => kob (oP u3 x0 19 1 (.null)) (fun u4 => kob (oP u4 x0 19 0 (va_rf x2)) (fun u5 => some ((), u5))))))
def FJ32_hasNext_t19 (N : Nat) (g : GT) (x0 : Nat) (w : Wd) : Option (Int32 × Wd) :=
  kob (oN w x0 19 0) (fun v1 => kmn v1 (some ((0 : Int32), w)) (fun a2 => some ((1 : Int32), w)))
def FJ32_nextEntry_t19 (N : Nat) (g : GT) (x0 : Nat) (w : Wd) : Option (Option Nat × Wd) :=
  kob (oN w x0 19 0) (fun v1 => kmn v1 (none) (fun a2 => kob (oR w x0 19 3) (fun v3 => kob (oI w v3 15 5) (fun v4 => kob (oI w x0 19 2) (fun v5 => if v4 = v5 then (kb (FJ18_successor N g a2 w) (fun r7 u8 => kob (oP u8 x0 19 0 (va_rf r7)) (fun u9 => kob (oP u9 x0 19 1 (.ref a2)) (fun u10 => some ((some a2), u10))))) else (none))))))
def FJ34_init (N : Nat) (g : GT) (x0 : Nat) (x1 : Nat) (x2 : Option Nat) (w : Wd) : Option (Unit × Wd) :=
  kb (FJ32_init_t18 N g x0 x1 x2 w) (fun r1 u2 => some ((), u2))
def FJ33_init (N : Nat) (g : GT) (x0 : Nat) (x1 : Nat) (x2 : Option Nat) (w : Wd) : Option (Unit × Wd) :=
  kb (FJ32_init_t19 N g x0 x1 x2 w) (fun r1 u2 => some ((), u2))
def FJ30_iterator (N : Nat) (g : GT) (x0 : Nat) (w : Wd) : Option (Nat × Wd) :=
  kb (oNew g w 18 [.null, .null, .int 0, .null] 4) (fun a1 u2 => kob (oR u2 x0 17 0) (fun v3 => kob (oR u2 x0 17 0) (fun v4 => if oIs u2 v4 15 = true then (kb (FJ18_getFirstEntry N g v4 u2) (fun r5 u6 => kb (FJ34_init N g a1 v3 r5 u6) (fun r8 u9 => some (a1, u9)))) else none)))
def FJ34_next (N : Nat) (g : GT) (x0 : Nat) (w : Wd) : Option (Nat × Wd) :=
  if oIs w x0 18 = true then (kb (FJ32_nextEntry_t18 N g x0 w) (fun r1 u2 => kob r1 (fun a4 => kob (oR u2 a4 16 1) (fun v5 => some (v5, u2))))) else none
def FJ33_next (N : Nat) (g : GT) (x0 : Nat) (w : Wd) : Option (Nat × Wd) :=
  if oIs w x0 19 = true then (kb (FJ32_nextEntry_t19 N g x0 w) (fun r1 u2 => kob r1 (fun a4 => kob (oR u2 a4 16 0) (fun v5 => some (v5, u2))))) else none
def FJ18_keyIterator (N : Nat) (g : GT) (x0 : Nat) (w : Wd) : Option (Nat × Wd) :=
  kb (oNew g w 19 [.null, .null, .int 0, .null] 4) (fun a1 u2 => if oIs u2 x0 15 = true then (kb (FJ18_getFirstEntry N g x0 u2) (fun r3 u4 => kb (FJ33_init N g a1 x0 r3 u4) (fun r6 u7 => some (a1, u7)))) else none)
def FJ0_init_t21 (N : Nat) (g : GT) (x0 : Nat) (w : Wd) : Option (Unit × Wd) :=
  some ((), w)
def FJ28_init_t21 (N : Nat) (g : GT) (x0 : Nat) (w : Wd) : Option (Unit × Wd) :=
  kb (FJ0_init_t21 N g x0 w) (fun r1 u2 => some ((), u2))
def FJ35_init (N : Nat) (g : GT) (x0 : Nat) (x1 : Nat) (w : Wd) : Option (Unit × Wd) :=
  kb (FJ28_init_t21 N g x0 w) (fun r1 u2 => kob (oP u2 x0 21 0 (.ref x1)) (fun u3 => some ((), u3)))
def FJ18_navigableKeySet (N : Nat) (g : GT) (x0 : Nat) (w : Wd) : Option (Option Nat × Wd) :=
  kob (oN w x0 15 7) (fun v1 => kmn v1 (kb (oNew g w 21 [.null] 1) (fun a3 u4 => kb (FJ35_init N g a3 x0 u4) (fun r5 u6 => kob (oP u6 x0 15 7 (.ref a3)) (fun u7 => some ((some a3), u7))))) (fun a2 => some ((some a2), w)))
def FJ35_iterator (N : Nat) (g : GT) (x0 : Nat) (w : Wd) : Option (Nat × Wd) :=
  kob (oR w x0 21 0) (fun v1 => if oIs w v1 15 = true then (if (1 : Int32) = 0 then (none) else (kob (oR w x0 21 0) (fun v3 => if oIs w v3 15 = true then (if oIs w v3 15 = true then (kb (FJ18_keyIterator N g v3 w) (fun r4 u5 => some (r4, u5))) else none) else none))) else none)
def FJ0_init_t20 (N : Nat) (g : GT) (x0 : Nat) (w : Wd) : Option (Unit × Wd) :=
  some ((), w)
def FJ28_init_t20 (N : Nat) (g : GT) (x0 : Nat) (w : Wd) : Option (Unit × Wd) :=
  kb (FJ0_init_t20 N g x0 w) (fun r1 u2 => some ((), u2))
def FJ29_init_2 (N : Nat) (g : GT) (x0 : Nat) (x1 : Nat) (w : Wd) : Option (Unit × Wd) :=
  kb (FJ28_init_t20 N g x0 w) (fun r1 u2 => kob (oP u2 x0 20 0 (.ref x1)) (fun u3 => some ((), u3)))
def FJ29_init (N : Nat) (g : GT) (x0 : Nat) (x1 : Nat) (w : Wd) : Option (Unit × Wd) :=
  kb (oNew g w 15 [.null, .null, .null, .null, .int 0, .int 0, .null, .null, .null] 9) (fun a1 u2 => kb (FJ18_init_2 N g a1 x1 u2) (fun r3 u4 => kb (FJ29_init_2 N g x0 a1 u4) (fun r5 u6 => some ((), u6))))
def FJ29_add (N : Nat) (g : GT) (x0 : Nat) (x1 : Nat) (w : Wd) : Option (Int32 × Wd) :=
  kob (oR w x0 20 0) (fun v1 => if oIs w v1 15 = true then (kb (FJ18_put N g v1 x1 (gT g 6) w) (fun r2 u3 => kmn r2 (some ((1 : Int32), u3)) (fun a5 => some ((0 : Int32), u3)))) else none)
def FJ29_iterator (N : Nat) (g : GT) (x0 : Nat) (w : Wd) : Option (Nat × Wd) :=
  kob (oR w x0 20 0) (fun v1 => if oIs w v1 15 = true then (kb (FJ18_navigableKeySet N g v1 w) (fun r2 u3 => kob r2 (fun a5 => if oIs u3 a5 21 = true then (kb (FJ35_iterator N g a5 u3) (fun r6 u7 => some (r6, u7))) else none))) else none)
