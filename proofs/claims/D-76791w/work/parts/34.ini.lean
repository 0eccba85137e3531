set_option maxRecDepth 100000
def FX3_init (N : Nat) (g : GT) (x0 : Nat) (w : Wd) : Option (Unit × Wd) :=
  kb (aNew g w 0 (2 : Int32) (.inl (fun _ => 0))) (fun a1 u2 => kob (oP u2 x0 0 1 (.ref a1)) (fun u3 => kb (aNew g u3 0 (2 : Int32) (.inl (fun _ => 0))) (fun a4 u5 => kob (oP u5 x0 0 2 (.ref a4)) (fun u6 => kb (aNew g u6 0 (80 : Int32) (.inl (fun _ => 0))) (fun a7 u8 => kob (oP u8 x0 0 3 (.ref a7)) (fun u9 => kb (aNew g u9 0 (20 : Int32) (.inl (fun _ => 0))) (fun a10 u11 => kob (oP u11 x0 0 4 (.ref a10)) (fun u12 => kb (aNew g u12 0 (20 : Int32) (.inl (fun _ => 0))) (fun a13 u14 => kob (oP u14 x0 0 5 (.ref a13)) (fun u15 => kb (aNew g u15 0 (20 : Int32) (.inl (fun _ => 0))) (fun a16 u17 => kob (oP u17 x0 0 6 (.ref a16)) (fun u18 => kb (aNew g u18 0 (1000 : Int32) (.inl (fun _ => 0))) (fun a19 u20 => kob (oP u20 x0 0 7 (.ref a19)) (fun u21 => kb (aNew g u21 0 (1000 : Int32) (.inl (fun _ => 0))) (fun a22 u23 => kob (oP u23 x0 0 8 (.ref a22)) (fun u24 => kb (aNew g u24 0 (1000 : Int32) (.inl (fun _ => 0))) (fun a25 u26 => kob (oP u26 x0 0 9 (.ref a25)) (fun u27 => kb (aNew g u27 0 (1000 : Int32) (.inl (fun _ => 0))) (fun a28 u29 => kob (oP u29 x0 0 10 (.ref a28)) (fun u30 => kb (aNew g u30 0 (160 : Int32) (.inl (fun _ => 0))) (fun a31 u32 => kob (oP u32 x0 0 12 (.ref a31)) (fun u33 => kb (aNew g u33 0 (160 : Int32) (.inl (fun _ => 0))) (fun a34 u35 => kob (oP u35 x0 0 13 (.ref a34)) (fun u36 => kb (aNew g u36 0 (160 : Int32) (.inl (fun _ => 0))) (fun a37 u38 => kob (oP u38 x0 0 14 (.ref a37)) (fun u39 => kb (aNew g u39 0 (160 : Int32) (.inl (fun _ => 0))) (fun a40 u41 => kob (oP u41 x0 0 15 (.ref a40)) (fun u42 => kb (aNew g u42 0 (80 : Int32) (.inl (fun _ => 0))) (fun a43 u44 => kob (oP u44 x0 0 16 (.ref a43)) (fun u45 => kb (aNew g u45 0 (80 : Int32) (.inl (fun _ => 0))) (fun a46 u47 => kob (oP u47 x0 0 23 (.ref a46)) (fun u48 => kb (aNew g u48 0 (80 : Int32) (.inl (fun _ => 0))) (fun a49 u50 => kob (oP u50 x0 0 24 (.ref a49)) (fun u51 => kb (aNew g u51 0 (80 : Int32) (.inl (fun _ => 0))) (fun a52 u53 => kob (oP u53 x0 0 25 (.ref a52)) (fun u54 => kb (aNew g u54 0 (80 : Int32) (.inl (fun _ => 0))) (fun a55 u56 => kob (oP u56 x0 0 26 (.ref a55)) (fun u57 => kb (aNew g u57 0 (40 : Int32) (.inl (fun _ => 0))) (fun a58 u59 => kob (oP u59 x0 0 27 (.ref a58)) (fun u60 => kb (aNew g u60 0 (10 : Int32) (.inl (fun _ => 0))) (fun a61 u62 => kob (oP u62 x0 0 28 (.ref a61)) (fun u63 => kb (aNew g u63 0 (10 : Int32) (.inl (fun _ => 0))) (fun a64 u65 => kob (oP u65 x0 0 29 (.ref a64)) (fun u66 => kb (aNew g u66 0 (10 : Int32) (.inl (fun _ => 0))) (fun a67 u68 => kob (oP u68 x0 0 30 (.ref a67)) (fun u69 => kb (aNew g u69 0 (10 : Int32) (.inl (fun _ => 0))) (fun a70 u71 => kob (oP u71 x0 0 31 (.ref a70)) (fun u72 => kb (aNew g u72 0 (80 : Int32) (.inl (fun _ => 0))) (fun a73 u74 => kob (oP u74 x0 0 33 (.ref a73)) (fun u75 => kb (aNew g u75 0 (36 : Int32) (.inl (fun _ => 0))) (fun a76 u77 => kob (oP u77 x0 0 34 (.ref a76)) (fun u78 => kb (aNew g u78 0 (80 : Int32) (.inl (fun _ => 0))) (fun a79 u80 => kob (oP u80 x0 0 35 (.ref a79)) (fun u81 => kb (aNew g u81 0 (60 : Int32) (.inl (fun _ => 0))) (fun a82 u83 => kob (oP u83 x0 0 36 (.ref a82)) (fun u84 => kb (aNew g u84 1 (4 : Int32) (.inl (fun _ => 0))) (fun a85 u86 => kob (oP u86 x0 0 38 (.ref a85)) (fun u87 => kb (aNew g u87 0 (4 : Int32) (.inl (fun _ => 0))) (fun a88 u89 => kob (oP u89 x0 0 39 (.ref a88)) (fun u90 => kb (aNew g u90 0 (80 : Int32) (.inl (fun _ => 0))) (fun a91 u92 => kob (oP u92 x0 0 40 (.ref a91)) (fun u93 => kob (oR u93 x0 0 12) (fun v94 => kob (aSI g u93 0 v94 (0 : Int32) (105 : Int32)) (fun u95 => some ((), u95)))))))))))))))))))))))))))))))))))))))))))))))))))))))))))))))))
def FX0_init (N : Nat) (g : GT) (x0 : Nat) (w : Wd) : Option (Unit × Wd) :=
  kb (oNew g w 11 [.int 0, .null, .int 0] 3) (fun a1 u2 => kb (FJ2_init N g a1 u2) (fun r3 u4 => kob (oP u4 x0 1 0 (.ref a1)) (fun u5 => kb (oNew g u5 11 [.int 0, .null, .int 0] 3) (fun a6 u7 => kb (FJ2_init N g a6 u7) (fun r8 u9 => kob (oP u9 x0 1 1 (.ref a6)) (fun u10 => kob (oP u10 x0 1 2 (.ref (gT g 7))) (fun u11 => kb (aNew g u11 2 (80 : Int32) (.inl (fun _ => 0))) (fun a12 u13 => kob (oP u13 x0 1 3 (.ref a12)) (fun u14 => kb (aNew2 g u14 (8 : Int32) (10 : Int32)) (fun a15 u16 => kob (oP u16 x0 1 5 (.ref a15)) (fun u17 => kb (aNew2 g u17 (9 : Int32) (4 : Int32)) (fun a18 u19 => kob (oP u19 x0 1 7 (.ref a18)) (fun u20 => kb (FX0_coloursOf N g (10 : Int32) u20) (fun r21 u22 => kob (oP u22 x0 1 8 (.ref r21)) (fun u23 => kob (oP u23 x0 1 9 (.ref (gT g 10))) (fun u24 => kb (aNew g u24 7 (4 : Int32) (.inr (.inr (.inr (.inr (fun _ => none)))))) (fun a25 u26 => kob (oP u26 x0 1 10 (.ref a25)) (fun u27 => kob (oP u27 x0 1 13 (.ref (gT g 8))) (fun u28 => some ((), u28))))))))))))))))))))
set_option maxRecDepth 100000
theorem lk_X0_39 : kLS RX0 39 yX0_coloursOf cX0_coloursOf 3 (some (.array (.object "CardLoom$Colour"))) 1 := ⟨q179, q180, q78, q181, by unfold kD; decide +kernel⟩
set_option maxHeartbeats 4000000 in
theorem wX3_init (l : Launch) (g : GT) (hX : ∀ U, gX g U → SX g U) (N : Nat) (x0 : Nat) (w : Wd) (r : Unit) (w1 : Wd) (hF : FX3_init N g x0 w = some (r, w1)) : kMt l g yX3_init (ws_ yX3_init cX3_init 1 none) 1 100 w [.ref x0] none w1 := by
  refine kMt.ofV (lv := [some (.ref x0)]) (by decide) rfl (Nat.le_of_ble_eq_true rfl) rfl ?_
  intro X hl hin C
  unfold FX3_init at hF
  refine v_aload_n C dX3_init_0 rfl rfl ?_
  refine v_objInit C q2302 q142 q143 (by decide) (Nat.le_of_ble_eq_true rfl) dX3_init_1 ?_
  refine v_aload_n C dX3_init_4 rfl rfl ?_
  refine v_iconst C (v := (2 : Int32)) dX3_init_5 (by decide) ?_
  refine v_newaW C (atype := .int) q195 rfl (t := 0) rfl rfl (fun cA N => rfl) (Nat.le_of_ble_eq_true rfl) dX3_init_6 hF (fun a1 u2 hF => ?_)
  refine v_putFW C (hin.1.trans rfl) kc_X3 1 (Nat.le_of_ble_eq_true rfl) q2303 rfl rfl rfl rfl dX3_init_8 hF (fun u3 hF => ?_)
  refine v_aload_n C dX3_init_11 rfl rfl ?_
  refine v_iconst C (v := (2 : Int32)) dX3_init_12 (by decide) ?_
  refine v_newaW C (atype := .int) q195 rfl (t := 0) rfl rfl (fun cA N => rfl) (Nat.le_of_ble_eq_true rfl) dX3_init_13 hF (fun a4 u5 hF => ?_)
  refine v_putFW C (hin.1.trans rfl) kc_X3 2 (Nat.le_of_ble_eq_true rfl) q2304 rfl rfl rfl rfl dX3_init_15 hF (fun u6 hF => ?_)
  refine v_aload_n C dX3_init_18 rfl rfl ?_
  refine v_bipush C (v := (80 : Int32)) dX3_init_19 (by decide) ?_
  refine v_newaW C (atype := .int) q195 rfl (t := 0) rfl rfl (fun cA N => rfl) (Nat.le_of_ble_eq_true rfl) dX3_init_21 hF (fun a7 u8 hF => ?_)
  refine v_putFW C (hin.1.trans rfl) kc_X3 3 (Nat.le_of_ble_eq_true rfl) q2305 rfl rfl rfl rfl dX3_init_23 hF (fun u9 hF => ?_)
  refine v_aload_n C dX3_init_26 rfl rfl ?_
  refine v_bipush C (v := (20 : Int32)) dX3_init_27 (by decide) ?_
  refine v_newaW C (atype := .int) q195 rfl (t := 0) rfl rfl (fun cA N => rfl) (Nat.le_of_ble_eq_true rfl) dX3_init_29 hF (fun a10 u11 hF => ?_)
  refine v_putFW C (hin.1.trans rfl) kc_X3 4 (Nat.le_of_ble_eq_true rfl) q2306 rfl rfl rfl rfl dX3_init_31 hF (fun u12 hF => ?_)
  refine v_aload_n C dX3_init_34 rfl rfl ?_
  refine v_bipush C (v := (20 : Int32)) dX3_init_35 (by decide) ?_
  refine v_newaW C (atype := .int) q195 rfl (t := 0) rfl rfl (fun cA N => rfl) (Nat.le_of_ble_eq_true rfl) dX3_init_37 hF (fun a13 u14 hF => ?_)
  refine v_putFW C (hin.1.trans rfl) kc_X3 5 (Nat.le_of_ble_eq_true rfl) q2307 rfl rfl rfl rfl dX3_init_39 hF (fun u15 hF => ?_)
  refine v_aload_n C dX3_init_42 rfl rfl ?_
  refine v_bipush C (v := (20 : Int32)) dX3_init_43 (by decide) ?_
  refine v_newaW C (atype := .int) q195 rfl (t := 0) rfl rfl (fun cA N => rfl) (Nat.le_of_ble_eq_true rfl) dX3_init_45 hF (fun a16 u17 hF => ?_)
  refine v_putFW C (hin.1.trans rfl) kc_X3 6 (Nat.le_of_ble_eq_true rfl) q2308 rfl rfl rfl rfl dX3_init_47 hF (fun u18 hF => ?_)
  refine v_aload_n C dX3_init_50 rfl rfl ?_
  refine v_sipush C (v := (1000 : Int32)) dX3_init_51 (by decide) ?_
  refine v_newaW C (atype := .int) q195 rfl (t := 0) rfl rfl (fun cA N => rfl) (Nat.le_of_ble_eq_true rfl) dX3_init_54 hF (fun a19 u20 hF => ?_)
  refine v_putFW C (hin.1.trans rfl) kc_X3 7 (Nat.le_of_ble_eq_true rfl) q2309 rfl rfl rfl rfl dX3_init_56 hF (fun u21 hF => ?_)
  refine v_aload_n C dX3_init_59 rfl rfl ?_
  refine v_sipush C (v := (1000 : Int32)) dX3_init_60 (by decide) ?_
  refine v_newaW C (atype := .int) q195 rfl (t := 0) rfl rfl (fun cA N => rfl) (Nat.le_of_ble_eq_true rfl) dX3_init_63 hF (fun a22 u23 hF => ?_)
  refine v_putFW C (hin.1.trans rfl) kc_X3 8 (Nat.le_of_ble_eq_true rfl) q2310 rfl rfl rfl rfl dX3_init_65 hF (fun u24 hF => ?_)
  refine v_aload_n C dX3_init_68 rfl rfl ?_
  refine v_sipush C (v := (1000 : Int32)) dX3_init_69 (by decide) ?_
  refine v_newaW C (atype := .int) q195 rfl (t := 0) rfl rfl (fun cA N => rfl) (Nat.le_of_ble_eq_true rfl) dX3_init_72 hF (fun a25 u26 hF => ?_)
  refine v_putFW C (hin.1.trans rfl) kc_X3 9 (Nat.le_of_ble_eq_true rfl) q2311 rfl rfl rfl rfl dX3_init_74 hF (fun u27 hF => ?_)
  refine v_aload_n C dX3_init_77 rfl rfl ?_
  refine v_sipush C (v := (1000 : Int32)) dX3_init_78 (by decide) ?_
  refine v_newaW C (atype := .int) q195 rfl (t := 0) rfl rfl (fun cA N => rfl) (Nat.le_of_ble_eq_true rfl) dX3_init_81 hF (fun a28 u29 hF => ?_)
  refine v_putFW C (hin.1.trans rfl) kc_X3 10 (Nat.le_of_ble_eq_true rfl) q2312 rfl rfl rfl rfl dX3_init_83 hF (fun u30 hF => ?_)
  refine v_aload_n C dX3_init_86 rfl rfl ?_
  refine v_sipush C (v := (160 : Int32)) dX3_init_87 (by decide) ?_
  refine v_newaW C (atype := .int) q195 rfl (t := 0) rfl rfl (fun cA N => rfl) (Nat.le_of_ble_eq_true rfl) dX3_init_90 hF (fun a31 u32 hF => ?_)
  refine v_putFW C (hin.1.trans rfl) kc_X3 12 (Nat.le_of_ble_eq_true rfl) q2314 rfl rfl rfl rfl dX3_init_92 hF (fun u33 hF => ?_)
  refine v_aload_n C dX3_init_95 rfl rfl ?_
  refine v_sipush C (v := (160 : Int32)) dX3_init_96 (by decide) ?_
  refine v_newaW C (atype := .int) q195 rfl (t := 0) rfl rfl (fun cA N => rfl) (Nat.le_of_ble_eq_true rfl) dX3_init_99 hF (fun a34 u35 hF => ?_)
  refine v_putFW C (hin.1.trans rfl) kc_X3 13 (Nat.le_of_ble_eq_true rfl) q2315 rfl rfl rfl rfl dX3_init_101 hF (fun u36 hF => ?_)
  refine v_aload_n C dX3_init_104 rfl rfl ?_
  refine v_sipush C (v := (160 : Int32)) dX3_init_105 (by decide) ?_
  refine v_newaW C (atype := .int) q195 rfl (t := 0) rfl rfl (fun cA N => rfl) (Nat.le_of_ble_eq_true rfl) dX3_init_108 hF (fun a37 u38 hF => ?_)
  refine v_putFW C (hin.1.trans rfl) kc_X3 14 (Nat.le_of_ble_eq_true rfl) q2316 rfl rfl rfl rfl dX3_init_110 hF (fun u39 hF => ?_)
  refine v_aload_n C dX3_init_113 rfl rfl ?_
  refine v_sipush C (v := (160 : Int32)) dX3_init_114 (by decide) ?_
  refine v_newaW C (atype := .int) q195 rfl (t := 0) rfl rfl (fun cA N => rfl) (Nat.le_of_ble_eq_true rfl) dX3_init_117 hF (fun a40 u41 hF => ?_)
  refine v_putFW C (hin.1.trans rfl) kc_X3 15 (Nat.le_of_ble_eq_true rfl) q2317 rfl rfl rfl rfl dX3_init_119 hF (fun u42 hF => ?_)
  refine v_aload_n C dX3_init_122 rfl rfl ?_
  refine v_bipush C (v := (80 : Int32)) dX3_init_123 (by decide) ?_
  refine v_newaW C (atype := .int) q195 rfl (t := 0) rfl rfl (fun cA N => rfl) (Nat.le_of_ble_eq_true rfl) dX3_init_125 hF (fun a43 u44 hF => ?_)
  refine v_putFW C (hin.1.trans rfl) kc_X3 16 (Nat.le_of_ble_eq_true rfl) q2318 rfl rfl rfl rfl dX3_init_127 hF (fun u45 hF => ?_)
  refine v_aload_n C dX3_init_130 rfl rfl ?_
  refine v_bipush C (v := (80 : Int32)) dX3_init_131 (by decide) ?_
  refine v_newaW C (atype := .int) q195 rfl (t := 0) rfl rfl (fun cA N => rfl) (Nat.le_of_ble_eq_true rfl) dX3_init_133 hF (fun a46 u47 hF => ?_)
  refine v_putFW C (hin.1.trans rfl) kc_X3 23 (Nat.le_of_ble_eq_true rfl) q2325 rfl rfl rfl rfl dX3_init_135 hF (fun u48 hF => ?_)
  refine v_aload_n C dX3_init_138 rfl rfl ?_
  refine v_bipush C (v := (80 : Int32)) dX3_init_139 (by decide) ?_
  refine v_newaW C (atype := .int) q195 rfl (t := 0) rfl rfl (fun cA N => rfl) (Nat.le_of_ble_eq_true rfl) dX3_init_141 hF (fun a49 u50 hF => ?_)
  refine v_putFW C (hin.1.trans rfl) kc_X3 24 (Nat.le_of_ble_eq_true rfl) q2326 rfl rfl rfl rfl dX3_init_143 hF (fun u51 hF => ?_)
  refine v_aload_n C dX3_init_146 rfl rfl ?_
  refine v_bipush C (v := (80 : Int32)) dX3_init_147 (by decide) ?_
  refine v_newaW C (atype := .int) q195 rfl (t := 0) rfl rfl (fun cA N => rfl) (Nat.le_of_ble_eq_true rfl) dX3_init_149 hF (fun a52 u53 hF => ?_)
  refine v_putFW C (hin.1.trans rfl) kc_X3 25 (Nat.le_of_ble_eq_true rfl) q2327 rfl rfl rfl rfl dX3_init_151 hF (fun u54 hF => ?_)
  refine v_aload_n C dX3_init_154 rfl rfl ?_
  refine v_bipush C (v := (80 : Int32)) dX3_init_155 (by decide) ?_
  refine v_newaW C (atype := .int) q195 rfl (t := 0) rfl rfl (fun cA N => rfl) (Nat.le_of_ble_eq_true rfl) dX3_init_157 hF (fun a55 u56 hF => ?_)
  refine v_putFW C (hin.1.trans rfl) kc_X3 26 (Nat.le_of_ble_eq_true rfl) q2328 rfl rfl rfl rfl dX3_init_159 hF (fun u57 hF => ?_)
  refine v_aload_n C dX3_init_162 rfl rfl ?_
  refine v_bipush C (v := (40 : Int32)) dX3_init_163 (by decide) ?_
  refine v_newaW C (atype := .int) q195 rfl (t := 0) rfl rfl (fun cA N => rfl) (Nat.le_of_ble_eq_true rfl) dX3_init_165 hF (fun a58 u59 hF => ?_)
  refine v_putFW C (hin.1.trans rfl) kc_X3 27 (Nat.le_of_ble_eq_true rfl) q2329 rfl rfl rfl rfl dX3_init_167 hF (fun u60 hF => ?_)
  refine v_aload_n C dX3_init_170 rfl rfl ?_
  refine v_bipush C (v := (10 : Int32)) dX3_init_171 (by decide) ?_
  refine v_newaW C (atype := .int) q195 rfl (t := 0) rfl rfl (fun cA N => rfl) (Nat.le_of_ble_eq_true rfl) dX3_init_173 hF (fun a61 u62 hF => ?_)
  refine v_putFW C (hin.1.trans rfl) kc_X3 28 (Nat.le_of_ble_eq_true rfl) q2330 rfl rfl rfl rfl dX3_init_175 hF (fun u63 hF => ?_)
  refine v_aload_n C dX3_init_178 rfl rfl ?_
  refine v_bipush C (v := (10 : Int32)) dX3_init_179 (by decide) ?_
  refine v_newaW C (atype := .int) q195 rfl (t := 0) rfl rfl (fun cA N => rfl) (Nat.le_of_ble_eq_true rfl) dX3_init_181 hF (fun a64 u65 hF => ?_)
  refine v_putFW C (hin.1.trans rfl) kc_X3 29 (Nat.le_of_ble_eq_true rfl) q2331 rfl rfl rfl rfl dX3_init_183 hF (fun u66 hF => ?_)
  refine v_aload_n C dX3_init_186 rfl rfl ?_
  refine v_bipush C (v := (10 : Int32)) dX3_init_187 (by decide) ?_
  refine v_newaW C (atype := .int) q195 rfl (t := 0) rfl rfl (fun cA N => rfl) (Nat.le_of_ble_eq_true rfl) dX3_init_189 hF (fun a67 u68 hF => ?_)
  refine v_putFW C (hin.1.trans rfl) kc_X3 30 (Nat.le_of_ble_eq_true rfl) q2332 rfl rfl rfl rfl dX3_init_191 hF (fun u69 hF => ?_)
  refine v_aload_n C dX3_init_194 rfl rfl ?_
  refine v_bipush C (v := (10 : Int32)) dX3_init_195 (by decide) ?_
  refine v_newaW C (atype := .int) q195 rfl (t := 0) rfl rfl (fun cA N => rfl) (Nat.le_of_ble_eq_true rfl) dX3_init_197 hF (fun a70 u71 hF => ?_)
  refine v_putFW C (hin.1.trans rfl) kc_X3 31 (Nat.le_of_ble_eq_true rfl) q2333 rfl rfl rfl rfl dX3_init_199 hF (fun u72 hF => ?_)
  refine v_aload_n C dX3_init_202 rfl rfl ?_
  refine v_bipush C (v := (80 : Int32)) dX3_init_203 (by decide) ?_
  refine v_newaW C (atype := .int) q195 rfl (t := 0) rfl rfl (fun cA N => rfl) (Nat.le_of_ble_eq_true rfl) dX3_init_205 hF (fun a73 u74 hF => ?_)
  refine v_putFW C (hin.1.trans rfl) kc_X3 33 (Nat.le_of_ble_eq_true rfl) q2335 rfl rfl rfl rfl dX3_init_207 hF (fun u75 hF => ?_)
  refine v_aload_n C dX3_init_210 rfl rfl ?_
  refine v_bipush C (v := (36 : Int32)) dX3_init_211 (by decide) ?_
  refine v_newaW C (atype := .int) q195 rfl (t := 0) rfl rfl (fun cA N => rfl) (Nat.le_of_ble_eq_true rfl) dX3_init_213 hF (fun a76 u77 hF => ?_)
  refine v_putFW C (hin.1.trans rfl) kc_X3 34 (Nat.le_of_ble_eq_true rfl) q2336 rfl rfl rfl rfl dX3_init_215 hF (fun u78 hF => ?_)
  refine v_aload_n C dX3_init_218 rfl rfl ?_
  refine v_bipush C (v := (80 : Int32)) dX3_init_219 (by decide) ?_
  refine v_newaW C (atype := .int) q195 rfl (t := 0) rfl rfl (fun cA N => rfl) (Nat.le_of_ble_eq_true rfl) dX3_init_221 hF (fun a79 u80 hF => ?_)
  refine v_putFW C (hin.1.trans rfl) kc_X3 35 (Nat.le_of_ble_eq_true rfl) q2337 rfl rfl rfl rfl dX3_init_223 hF (fun u81 hF => ?_)
  refine v_aload_n C dX3_init_226 rfl rfl ?_
  refine v_bipush C (v := (60 : Int32)) dX3_init_227 (by decide) ?_
  refine v_newaW C (atype := .int) q195 rfl (t := 0) rfl rfl (fun cA N => rfl) (Nat.le_of_ble_eq_true rfl) dX3_init_229 hF (fun a82 u83 hF => ?_)
  refine v_putFW C (hin.1.trans rfl) kc_X3 36 (Nat.le_of_ble_eq_true rfl) q2338 rfl rfl rfl rfl dX3_init_231 hF (fun u84 hF => ?_)
  refine v_aload_n C dX3_init_234 rfl rfl ?_
  refine v_iconst C (v := (4 : Int32)) dX3_init_235 (by decide) ?_
  refine v_newaW C (atype := .boolean) q2426 rfl (t := 1) rfl rfl (fun cA N => rfl) (Nat.le_of_ble_eq_true rfl) dX3_init_236 hF (fun a85 u86 hF => ?_)
  refine v_putFW C (hin.1.trans rfl) kc_X3 38 (Nat.le_of_ble_eq_true rfl) q2340 rfl rfl rfl rfl dX3_init_238 hF (fun u87 hF => ?_)
  refine v_aload_n C dX3_init_241 rfl rfl ?_
  refine v_iconst C (v := (4 : Int32)) dX3_init_242 (by decide) ?_
  refine v_newaW C (atype := .int) q195 rfl (t := 0) rfl rfl (fun cA N => rfl) (Nat.le_of_ble_eq_true rfl) dX3_init_243 hF (fun a88 u89 hF => ?_)
  refine v_putFW C (hin.1.trans rfl) kc_X3 39 (Nat.le_of_ble_eq_true rfl) q2341 rfl rfl rfl rfl dX3_init_245 hF (fun u90 hF => ?_)
  refine v_aload_n C dX3_init_248 rfl rfl ?_
  refine v_bipush C (v := (80 : Int32)) dX3_init_249 (by decide) ?_
  refine v_newaW C (atype := .int) q195 rfl (t := 0) rfl rfl (fun cA N => rfl) (Nat.le_of_ble_eq_true rfl) dX3_init_251 hF (fun a91 u92 hF => ?_)
  refine v_putFW C (hin.1.trans rfl) kc_X3 40 (Nat.le_of_ble_eq_true rfl) q2342 rfl rfl rfl rfl dX3_init_253 hF (fun u93 hF => ?_)
  refine v_aload_n C dX3_init_256 rfl rfl ?_
  refine v_getR C kc_X3 12 (Nat.le_of_ble_eq_true rfl) (kFl.p q2314) dX3_init_257 hF (fun v94 hF => ?_)
  refine v_iconst C (v := (0 : Int32)) dX3_init_260 (by decide) ?_
  refine v_bipush C (v := (105 : Int32)) dX3_init_261 (by decide) ?_
  refine v_aSi C dX3_init_263 hF (fun u95 hF => ?_)
  exact c_vret C dX3_init_264 hF
set_option maxHeartbeats 4000000 in
theorem wX0_init (l : Launch) (g : GT) (hX : ∀ U, gX g U → SX g U) (N : Nat) (x0 : Nat) (w : Wd) (r : Unit) (w1 : Wd) (hF : FX0_init N g x0 w = some (r, w1)) : kMt l g yX0_init (ws_ yX0_init cX0_init 1 none) 32 3200 w [.ref x0] none w1 := by
  refine kMt.ofV (lv := [some (.ref x0)]) (by decide) rfl (Nat.le_of_ble_eq_true rfl) rfl ?_
  intro X hl hin C
  unfold FX0_init at hF
  refine v_aload_n C dX0_init_0 rfl rfl ?_
  refine v_objInit C q141 q142 q143 (by decide) (Nat.le_of_ble_eq_true rfl) dX0_init_1 ?_
  refine v_aload_n C dX0_init_4 rfl rfl ?_
  refine v_newW C kc_J2 q144 q145 q81 nw_J2 dX0_init_5 hF (fun a1 u2 hF => ?_)
  refine v_dup C dX0_init_8 rfl ?_
  refine c_callI C lk_X0_9 (fr2 := 3) (lo2 := 300) (As := []) (st := [.ref a1, .ref x0]) (fun r9_ w9_ h9_ => by rw [hl]; exact wJ2_init l g hX N a1 u2 r9_ w9_ h9_) (by decide) rfl rfl (Nat.le_of_ble_eq_true rfl) dX0_init_9 hF (fun r3 u4 hF => ?_)
  refine v_putW C kc_X0 0 (Nat.le_of_ble_eq_true rfl) (kFl.p q198) rfl rfl rfl dX0_init_12 hF (fun u5 hF => ?_)
  refine v_aload_n C dX0_init_15 rfl rfl ?_
  refine v_newW C kc_J2 q144 q145 q81 nw_J2 dX0_init_16 hF (fun a6 u7 hF => ?_)
  refine v_dup C dX0_init_19 rfl ?_
  refine c_callI C lk_X0_9 (fr2 := 3) (lo2 := 300) (As := []) (st := [.ref a6, .ref x0]) (fun r9_ w9_ h9_ => by rw [hl]; exact wJ2_init l g hX N a6 u7 r9_ w9_ h9_) (by decide) rfl rfl (Nat.le_of_ble_eq_true rfl) dX0_init_20 hF (fun r8 u9 hF => ?_)
  refine v_putW C kc_X0 1 (Nat.le_of_ble_eq_true rfl) (kFl.p q199) rfl rfl rfl dX0_init_23 hF (fun u10 hF => ?_)
  refine v_aload_n C dX0_init_26 rfl rfl ?_
  refine v_lco C hX hin 7 (List.mem_of_getElem? (i := 0) rfl) rfl rfl rfl (by decide) (Nat.le_of_ble_eq_true rfl) dX0_init_27 ?_
  refine v_putW C kc_X0 2 (Nat.le_of_ble_eq_true rfl) (kFl.p q200) rfl rfl rfl dX0_init_32 hF (fun u11 hF => ?_)
  refine v_aload_n C dX0_init_35 rfl rfl ?_
  refine v_bipush C (v := (80 : Int32)) dX0_init_36 (by decide) ?_
  refine v_newaW C (atype := .byte) q194 rfl (t := 2) rfl rfl (fun cA N => rfl) (Nat.le_of_ble_eq_true rfl) dX0_init_38 hF (fun a12 u13 hF => ?_)
  refine v_putFW C (hin.1.trans rfl) kc_X0 3 (Nat.le_of_ble_eq_true rfl) q201 rfl rfl rfl rfl dX0_init_40 hF (fun u14 hF => ?_)
  refine v_aload_n C dX0_init_43 rfl rfl ?_
  refine v_bipush C (v := (8 : Int32)) dX0_init_44 (by decide) ?_
  refine v_bipush C (v := (10 : Int32)) dX0_init_46 (by decide) ?_
  refine v_multi C hX q177 dX0_init_48 hF (fun a15 u16 hF => ?_)
  refine v_putFW C (hin.1.trans rfl) kc_X0 5 (Nat.le_of_ble_eq_true rfl) q205 rfl rfl rfl rfl dX0_init_52 hF (fun u17 hF => ?_)
  refine v_aload_n C dX0_init_55 rfl rfl ?_
  refine v_bipush C (v := (9 : Int32)) dX0_init_56 (by decide) ?_
  refine v_iconst C (v := (4 : Int32)) dX0_init_58 (by decide) ?_
  refine v_multi C hX q177 dX0_init_59 hF (fun a18 u19 hF => ?_)
  refine v_putFW C (hin.1.trans rfl) kc_X0 7 (Nat.le_of_ble_eq_true rfl) q208 rfl rfl rfl rfl dX0_init_63 hF (fun u20 hF => ?_)
  refine v_aload_n C dX0_init_66 rfl rfl ?_
  refine v_bipush C (v := (10 : Int32)) dX0_init_67 (by decide) ?_
  refine c_callSr C lk_X0_39 (fr2 := 2) (lo2 := 200) (As := [.int (10 : Int32)]) (st := [.ref x0]) (fun r9_ w9_ h9_ => by rw [hl]; exact wX0_coloursOf l g hX N (10 : Int32) u20 r9_ w9_ h9_) (by decide) rfl rfl (Nat.le_of_ble_eq_true rfl) dX0_init_69 hF (fun r21 u22 hF => ?_)
  refine v_putFW C (hin.1.trans rfl) kc_X0 8 (Nat.le_of_ble_eq_true rfl) q210 rfl rfl rfl rfl dX0_init_72 hF (fun u23 hF => ?_)
  refine v_aload_n C dX0_init_75 rfl rfl ?_
  refine v_ldcS C (hX _ C.2.2.2.2.2.1.2.2.1).2.2.2.2.2.2.2.2.1 dX0_init_76 ?_
  refine v_putW C kc_X0 9 (Nat.le_of_ble_eq_true rfl) (kFl.p q211) rfl rfl rfl dX0_init_78 hF (fun u24 hF => ?_)
  refine v_aload_n C dX0_init_81 rfl rfl ?_
  refine v_iconst C (v := (4 : Int32)) dX0_init_82 (by decide) ?_
  refine v_anew7 C hX q197 dX0_init_83 hF (fun a25 u26 hF => ?_)
  refine v_putFW C (hin.1.trans rfl) kc_X0 10 (Nat.le_of_ble_eq_true rfl) q212 rfl rfl rfl rfl dX0_init_86 hF (fun u27 hF => ?_)
  refine v_aload_n C dX0_init_89 rfl rfl ?_
  refine v_lco C hX hin 8 (List.mem_of_getElem? (i := 1) rfl) rfl rfl rfl (by decide) (Nat.le_of_ble_eq_true rfl) dX0_init_90 ?_
  refine v_putW C kc_X0 13 (Nat.le_of_ble_eq_true rfl) (kFl.p q215) rfl rfl rfl dX0_init_95 hF (fun u28 hF => ?_)
  exact c_vret C dX0_init_98 hF
