set_option maxRecDepth 100000
set_option maxHeartbeats 4000000 in
theorem wJ26_numberOfTrailingZeros_b62 {l : Launch} {g : GT} {X : CxT} {r : Int32} {w1 : Wd} (C : kOk g X cJ26_numberOfTrailingZeros 2 RJ26 (some .int) 1 100 (some (.int r)) w1) (hX : ∀ U, gX g U → SX g U) (hl : xl X = l) (hin : kHin X yJ26_numberOfTrailingZeros) (N : Nat)  (x0 : Int32) (x1 : Int32) (w : Wd) (hF : FJ26_numberOfTrailingZeros_b62 N g  x0 x1 w = some (r, w1)) : kV g X 2 w 62 [some (.int x0), some (.int x1)] [] := by
  unfold FJ26_numberOfTrailingZeros_b62 at hF
  refine v_iload_n C dJ26_numberOfTrailingZeros_62 rfl rfl ?_
  refine v_iconst C (v := (4 : Int32)) dJ26_numberOfTrailingZeros_63 (by decide) ?_
  refine v_icmp_le C (tgt := 74) dJ26_numberOfTrailingZeros_64 (by decide) hF (fun c5 hF => ?_) (fun c5 hF => ?_)
  · refine v_iload_n C dJ26_numberOfTrailingZeros_74 rfl rfl ?_
    refine v_iload_n C dJ26_numberOfTrailingZeros_75 rfl rfl ?_
    refine v_iconst C (v := (1 : Int32)) dJ26_numberOfTrailingZeros_76 (by decide) ?_
    refine v_iushr C dJ26_numberOfTrailingZeros_77 rfl ?_
    refine v_iadd C dJ26_numberOfTrailingZeros_78 ?_
    exact c_iret C dJ26_numberOfTrailingZeros_79 hF
  · refine v_iinc C dJ26_numberOfTrailingZeros_67 rfl (v := (x1 + (2 : Int32))) rfl (Nat.le_of_ble_eq_true rfl) rfl (lv' := [some (.int x0), some (.int (x1 + (2 : Int32)))]) rfl ?_
    refine v_iload_n C dJ26_numberOfTrailingZeros_70 rfl rfl ?_
    refine v_iconst C (v := (2 : Int32)) dJ26_numberOfTrailingZeros_71 (by decide) ?_
    refine v_iushr C dJ26_numberOfTrailingZeros_72 rfl ?_
    refine v_istore_n C dJ26_numberOfTrailingZeros_73 rfl (Nat.le_of_ble_eq_true rfl) rfl (lv' := [some (.int ((x0.toUInt32 >>> ((2 : Int32).toUInt32 &&& Int32.toUInt32 31)).toInt32)), some (.int (x1 + (2 : Int32)))]) rfl ?_
    refine v_iload_n C dJ26_numberOfTrailingZeros_74 rfl rfl ?_
    refine v_iload_n C dJ26_numberOfTrailingZeros_75 rfl rfl ?_
    refine v_iconst C (v := (1 : Int32)) dJ26_numberOfTrailingZeros_76 (by decide) ?_
    refine v_iushr C dJ26_numberOfTrailingZeros_77 rfl ?_
    refine v_iadd C dJ26_numberOfTrailingZeros_78 ?_
    exact c_iret C dJ26_numberOfTrailingZeros_79 hF
set_option maxHeartbeats 4000000 in
theorem wJ26_numberOfTrailingZeros_b49 {l : Launch} {g : GT} {X : CxT} {r : Int32} {w1 : Wd} (C : kOk g X cJ26_numberOfTrailingZeros 2 RJ26 (some .int) 1 100 (some (.int r)) w1) (hX : ∀ U, gX g U → SX g U) (hl : xl X = l) (hin : kHin X yJ26_numberOfTrailingZeros) (N : Nat)  (x0 : Int32) (x1 : Int32) (w : Wd) (hF : FJ26_numberOfTrailingZeros_b49 N g  x0 x1 w = some (r, w1)) : kV g X 2 w 49 [some (.int x0), some (.int x1)] [] := by
  unfold FJ26_numberOfTrailingZeros_b49 at hF
  refine v_iload_n C dJ26_numberOfTrailingZeros_49 rfl rfl ?_
  refine v_bipush C (v := (16 : Int32)) dJ26_numberOfTrailingZeros_50 (by decide) ?_
  refine v_icmp_le C (tgt := 62) dJ26_numberOfTrailingZeros_52 (by decide) hF (fun c4 hF => ?_) (fun c4 hF => ?_)
  · refine v_mask [true, true] (lv' := [some (.int x0), some (.int x1)]) rfl ?_
    exact wJ26_numberOfTrailingZeros_b62 C hX hl hin N (x0) (x1) w hF
  · refine v_iinc C dJ26_numberOfTrailingZeros_55 rfl (v := (x1 + (4 : Int32))) rfl (Nat.le_of_ble_eq_true rfl) rfl (lv' := [some (.int x0), some (.int (x1 + (4 : Int32)))]) rfl ?_
    refine v_iload_n C dJ26_numberOfTrailingZeros_58 rfl rfl ?_
    refine v_iconst C (v := (4 : Int32)) dJ26_numberOfTrailingZeros_59 (by decide) ?_
    refine v_iushr C dJ26_numberOfTrailingZeros_60 rfl ?_
    refine v_istore_n C dJ26_numberOfTrailingZeros_61 rfl (Nat.le_of_ble_eq_true rfl) rfl (lv' := [some (.int ((x0.toUInt32 >>> ((4 : Int32).toUInt32 &&& Int32.toUInt32 31)).toInt32)), some (.int (x1 + (4 : Int32)))]) rfl ?_
    refine v_mask [true, true] (lv' := [some (.int ((x0.toUInt32 >>> ((4 : Int32).toUInt32 &&& Int32.toUInt32 31)).toInt32)), some (.int (x1 + (4 : Int32)))]) rfl ?_
    exact wJ26_numberOfTrailingZeros_b62 C hX hl hin N (((x0.toUInt32 >>> ((4 : Int32).toUInt32 &&& Int32.toUInt32 31)).toInt32)) ((x1 + (4 : Int32))) w hF
set_option maxHeartbeats 4000000 in
theorem wJ26_numberOfTrailingZeros_b34 {l : Launch} {g : GT} {X : CxT} {r : Int32} {w1 : Wd} (C : kOk g X cJ26_numberOfTrailingZeros 2 RJ26 (some .int) 1 100 (some (.int r)) w1) (hX : ∀ U, gX g U → SX g U) (hl : xl X = l) (hin : kHin X yJ26_numberOfTrailingZeros) (N : Nat)  (x0 : Int32) (x1 : Int32) (w : Wd) (hF : FJ26_numberOfTrailingZeros_b34 N g  x0 x1 w = some (r, w1)) : kV g X 2 w 34 [some (.int x0), some (.int x1)] [] := by
  unfold FJ26_numberOfTrailingZeros_b34 at hF
  refine v_iload_n C dJ26_numberOfTrailingZeros_34 rfl rfl ?_
  refine v_sipush C (v := (256 : Int32)) dJ26_numberOfTrailingZeros_35 (by decide) ?_
  refine v_icmp_le C (tgt := 49) dJ26_numberOfTrailingZeros_38 (by decide) hF (fun c3 hF => ?_) (fun c3 hF => ?_)
  · refine v_mask [true, true] (lv' := [some (.int x0), some (.int x1)]) rfl ?_
    exact wJ26_numberOfTrailingZeros_b49 C hX hl hin N (x0) (x1) w hF
  · refine v_iinc C dJ26_numberOfTrailingZeros_41 rfl (v := (x1 + (8 : Int32))) rfl (Nat.le_of_ble_eq_true rfl) rfl (lv' := [some (.int x0), some (.int (x1 + (8 : Int32)))]) rfl ?_
    refine v_iload_n C dJ26_numberOfTrailingZeros_44 rfl rfl ?_
    refine v_bipush C (v := (8 : Int32)) dJ26_numberOfTrailingZeros_45 (by decide) ?_
    refine v_iushr C dJ26_numberOfTrailingZeros_47 rfl ?_
    refine v_istore_n C dJ26_numberOfTrailingZeros_48 rfl (Nat.le_of_ble_eq_true rfl) rfl (lv' := [some (.int ((x0.toUInt32 >>> ((8 : Int32).toUInt32 &&& Int32.toUInt32 31)).toInt32)), some (.int (x1 + (8 : Int32)))]) rfl ?_
    refine v_mask [true, true] (lv' := [some (.int ((x0.toUInt32 >>> ((8 : Int32).toUInt32 &&& Int32.toUInt32 31)).toInt32)), some (.int (x1 + (8 : Int32)))]) rfl ?_
    exact wJ26_numberOfTrailingZeros_b49 C hX hl hin N (((x0.toUInt32 >>> ((8 : Int32).toUInt32 &&& Int32.toUInt32 31)).toInt32)) ((x1 + (8 : Int32))) w hF
set_option maxHeartbeats 4000000 in
theorem wJ26_numberOfTrailingZeros (l : Launch) (g : GT) (hX : ∀ U, gX g U → SX g U) (N : Nat) (x0 : Int32) (w : Wd) (r : Int32) (w1 : Wd) (hF : FJ26_numberOfTrailingZeros N g x0 w = some (r, w1)) : kMt l g yJ26_numberOfTrailingZeros (ws_ yJ26_numberOfTrailingZeros cJ26_numberOfTrailingZeros 2 (some .int)) 1 100 w [.int x0] (some (.int r)) w1 := by
  refine kMt.ofV (lv := [some (.int x0), none]) (by decide) rfl (Nat.le_of_ble_eq_true rfl) rfl ?_
  intro X hl hin C
  unfold FJ26_numberOfTrailingZeros at hF
  refine v_iload_n C dJ26_numberOfTrailingZeros_0 rfl rfl ?_
  refine v_iconst C (v := (-1 : Int32)) dJ26_numberOfTrailingZeros_1 (by decide) ?_
  refine v_ixor C dJ26_numberOfTrailingZeros_2 ?_
  refine v_iload_n C dJ26_numberOfTrailingZeros_3 rfl rfl ?_
  refine v_iconst C (v := (1 : Int32)) dJ26_numberOfTrailingZeros_4 (by decide) ?_
  refine v_isub C dJ26_numberOfTrailingZeros_5 ?_
  refine v_iand C dJ26_numberOfTrailingZeros_6 ?_
  refine v_istore_n C dJ26_numberOfTrailingZeros_7 rfl (Nat.le_of_ble_eq_true rfl) rfl (lv' := [some (.int ((x0 ^^^ (-1 : Int32)) &&& (x0 - (1 : Int32)))), none]) rfl ?_
  refine v_iload_n C dJ26_numberOfTrailingZeros_8 rfl rfl ?_
  refine v_if_gt C (tgt := 17) dJ26_numberOfTrailingZeros_9 (by decide) hF (fun c1 hF => ?_) (fun c1 hF => ?_)
  · refine v_iconst C (v := (1 : Int32)) dJ26_numberOfTrailingZeros_17 (by decide) ?_
    refine v_istore_n C dJ26_numberOfTrailingZeros_18 rfl (Nat.le_of_ble_eq_true rfl) rfl (lv' := [some (.int ((x0 ^^^ (-1 : Int32)) &&& (x0 - (1 : Int32)))), some (.int (1 : Int32))]) rfl ?_
    refine v_iload_n C dJ26_numberOfTrailingZeros_19 rfl rfl ?_
    refine v_ldcw C q1353 dJ26_numberOfTrailingZeros_20 ?_
    refine v_icmp_le C (tgt := 34) dJ26_numberOfTrailingZeros_23 (by decide) hF (fun c2 hF => ?_) (fun c2 hF => ?_)
    · refine v_mask [true, true] (lv' := [some (.int ((x0 ^^^ (-1 : Int32)) &&& (x0 - (1 : Int32)))), some (.int (1 : Int32))]) rfl ?_
      exact wJ26_numberOfTrailingZeros_b34 C hX hl hin N (((x0 ^^^ (-1 : Int32)) &&& (x0 - (1 : Int32)))) ((1 : Int32)) w hF
    · refine v_iinc C dJ26_numberOfTrailingZeros_26 rfl (v := ((1 : Int32) + (16 : Int32))) rfl (Nat.le_of_ble_eq_true rfl) rfl (lv' := [some (.int ((x0 ^^^ (-1 : Int32)) &&& (x0 - (1 : Int32)))), some (.int ((1 : Int32) + (16 : Int32)))]) rfl ?_
      refine v_iload_n C dJ26_numberOfTrailingZeros_29 rfl rfl ?_
      refine v_bipush C (v := (16 : Int32)) dJ26_numberOfTrailingZeros_30 (by decide) ?_
      refine v_iushr C dJ26_numberOfTrailingZeros_32 rfl ?_
      refine v_istore_n C dJ26_numberOfTrailingZeros_33 rfl (Nat.le_of_ble_eq_true rfl) rfl (lv' := [some (.int ((((x0 ^^^ (-1 : Int32)) &&& (x0 - (1 : Int32))).toUInt32 >>> ((16 : Int32).toUInt32 &&& Int32.toUInt32 31)).toInt32)), some (.int ((1 : Int32) + (16 : Int32)))]) rfl ?_
      refine v_mask [true, true] (lv' := [some (.int ((((x0 ^^^ (-1 : Int32)) &&& (x0 - (1 : Int32))).toUInt32 >>> ((16 : Int32).toUInt32 &&& Int32.toUInt32 31)).toInt32)), some (.int ((1 : Int32) + (16 : Int32)))]) rfl ?_
      exact wJ26_numberOfTrailingZeros_b34 C hX hl hin N (((((x0 ^^^ (-1 : Int32)) &&& (x0 - (1 : Int32))).toUInt32 >>> ((16 : Int32).toUInt32 &&& Int32.toUInt32 31)).toInt32)) (((1 : Int32) + (16 : Int32))) w hF
  · refine v_iload_n C dJ26_numberOfTrailingZeros_12 rfl rfl ?_
    refine v_bipush C (v := (32 : Int32)) dJ26_numberOfTrailingZeros_13 (by decide) ?_
    refine v_iand C dJ26_numberOfTrailingZeros_15 ?_
    exact c_iret C dJ26_numberOfTrailingZeros_16 hF
set_option maxHeartbeats 4000000 in
theorem wJ25_numberOfTrailingZeros (l : Launch) (g : GT) (hX : ∀ U, gX g U → SX g U) (N : Nat) (x0 : Int64) (w : Wd) (r : Int32) (w1 : Wd) (hF : FJ25_numberOfTrailingZeros N g x0 w = some (r, w1)) : kMt l g yJ25_numberOfTrailingZeros (ws_ yJ25_numberOfTrailingZeros cJ25_numberOfTrailingZeros 3 (some .int)) 2 200 w [.long x0] (some (.int r)) w1 := by
  refine kMt.ofV (lv := [some (.long x0), none, none]) (by decide) rfl (Nat.le_of_ble_eq_true rfl) rfl ?_
  intro X hl hin C
  unfold FJ25_numberOfTrailingZeros at hF
  refine v_lload_n C dJ25_numberOfTrailingZeros_0 rfl rfl ?_
  refine v_l2i C dJ25_numberOfTrailingZeros_1 rfl ?_
  refine v_istore_n C dJ25_numberOfTrailingZeros_2 rfl (Nat.le_of_ble_eq_true rfl) rfl (lv' := [some (.long x0), none, some (.int (x0.toInt32))]) rfl ?_
  refine v_iload_n C dJ25_numberOfTrailingZeros_3 rfl rfl ?_
  refine v_if_ne C (tgt := 21) dJ25_numberOfTrailingZeros_4 (by decide) hF (fun c1 hF => ?_) (fun c1 hF => ?_)
  · refine v_bipush C (v := (32 : Int32)) dJ25_numberOfTrailingZeros_7 (by decide) ?_
    refine v_lload_n C dJ25_numberOfTrailingZeros_9 rfl rfl ?_
    refine v_bipush C (v := (32 : Int32)) dJ25_numberOfTrailingZeros_10 (by decide) ?_
    refine v_lushr C dJ25_numberOfTrailingZeros_12 rfl ?_
    refine v_l2i C dJ25_numberOfTrailingZeros_13 rfl ?_
    refine c_callSi C lk_J25_311 (fr2 := 1) (lo2 := 100) (As := [.int (((x0.toUInt64 >>> ((32 : Int32).toInt64.toUInt64 &&& Int64.toUInt64 63)).toInt64).toInt32)]) (st := [.int (32 : Int32)]) (fun r9_ w9_ h9_ => by rw [hl]; exact wJ26_numberOfTrailingZeros l g hX N (((x0.toUInt64 >>> ((32 : Int32).toInt64.toUInt64 &&& Int64.toUInt64 63)).toInt64).toInt32) w r9_ w9_ h9_) (by decide) rfl rfl (Nat.le_of_ble_eq_true rfl) dJ25_numberOfTrailingZeros_14 hF (fun r2 u3 hF => ?_)
    refine v_iadd C dJ25_numberOfTrailingZeros_17 ?_
    refine v_goto C (tgt := 25) dJ25_numberOfTrailingZeros_18 (by decide) ?_
    exact c_iret C dJ25_numberOfTrailingZeros_25 hF
  · refine v_iload_n C dJ25_numberOfTrailingZeros_21 rfl rfl ?_
    refine c_callSi C lk_J25_311 (fr2 := 1) (lo2 := 100) (As := [.int (x0.toInt32)]) (st := []) (fun r9_ w9_ h9_ => by rw [hl]; exact wJ26_numberOfTrailingZeros l g hX N (x0.toInt32) w r9_ w9_ h9_) (by decide) rfl rfl (Nat.le_of_ble_eq_true rfl) dJ25_numberOfTrailingZeros_22 hF (fun r4 u5 hF => ?_)
    exact c_iret C dJ25_numberOfTrailingZeros_25 hF
set_option maxHeartbeats 4000000 in
theorem wJ19_wordIndex (l : Launch) (g : GT) (hX : ∀ U, gX g U → SX g U) (N : Nat) (x0 : Int32) (w : Wd) (r : Int32) (w1 : Wd) (hF : FJ19_wordIndex N g x0 w = some (r, w1)) : kMt l g yJ19_wordIndex (ws_ yJ19_wordIndex cJ19_wordIndex 1 (some .int)) 1 100 w [.int x0] (some (.int r)) w1 := by
  refine kMt.ofV (lv := [some (.int x0)]) (by decide) rfl (Nat.le_of_ble_eq_true rfl) rfl ?_
  intro X hl hin C
  unfold FJ19_wordIndex at hF
  refine v_iload_n C dJ19_wordIndex_0 rfl rfl ?_
  refine v_bipush C (v := (6 : Int32)) dJ19_wordIndex_1 (by decide) ?_
  refine v_ishr C dJ19_wordIndex_3 ?_
  exact c_iret C dJ19_wordIndex_4 hF
set_option maxHeartbeats 4000000 in
theorem wJ19_initWords (l : Launch) (g : GT) (hX : ∀ U, gX g U → SX g U) (N : Nat) (x0 : Nat) (x1 : Int32) (w : Wd) (r : Unit) (w1 : Wd) (hF : FJ19_initWords N g x0 x1 w = some (r, w1)) : kMt l g yJ19_initWords (ws_ yJ19_initWords cJ19_initWords 2 none) 2 200 w [.ref x0, .int x1] none w1 := by
  refine kMt.ofV (lv := [some (.ref x0), some (.int x1)]) (by decide) rfl (Nat.le_of_ble_eq_true rfl) rfl ?_
  intro X hl hin C
  unfold FJ19_initWords at hF
  refine v_aload_n C dJ19_initWords_0 rfl rfl ?_
  refine v_iload_n C dJ19_initWords_1 rfl rfl ?_
  refine v_iconst C (v := (1 : Int32)) dJ19_initWords_2 (by decide) ?_
  refine v_isub C dJ19_initWords_3 ?_
  refine c_callSi C lk_J19_52 (fr2 := 1) (lo2 := 100) (As := [.int (x1 - (1 : Int32))]) (st := [.ref x0]) (fun r9_ w9_ h9_ => by rw [hl]; exact wJ19_wordIndex l g hX N (x1 - (1 : Int32)) w r9_ w9_ h9_) (by decide) rfl rfl (Nat.le_of_ble_eq_true rfl) dJ19_initWords_4 hF (fun r1 u2 hF => ?_)
  refine v_iconst C (v := (1 : Int32)) dJ19_initWords_7 (by decide) ?_
  refine v_iadd C dJ19_initWords_8 ?_
  refine v_newaW C (atype := .long) q861 rfl (t := 3) rfl rfl (fun cA N => rfl) (Nat.le_of_ble_eq_true rfl) dJ19_initWords_9 hF (fun a3 u4 hF => ?_)
  refine v_putW C kc_J19 0 (Nat.le_of_ble_eq_true rfl) (kFl.p q851) rfl rfl rfl dJ19_initWords_11 hF (fun u5 hF => ?_)
  exact c_vret C dJ19_initWords_14 hF
set_option maxHeartbeats 4000000 in
theorem wJ19_init (l : Launch) (g : GT) (hX : ∀ U, gX g U → SX g U) (N : Nat) (x0 : Nat) (w : Wd) (r : Unit) (w1 : Wd) (hF : FJ19_init N g x0 w = some (r, w1)) : kMt l g yJ19_init (ws_ yJ19_init cJ19_init 1 none) 3 300 w [.ref x0] none w1 := by
  refine kMt.ofV (lv := [some (.ref x0)]) (by decide) rfl (Nat.le_of_ble_eq_true rfl) rfl ?_
  intro X hl hin C
  unfold FJ19_init at hF
  refine v_aload_n C dJ19_init_0 rfl rfl ?_
  refine v_objInit C q843 q142 q143 (by decide) (Nat.le_of_ble_eq_true rfl) dJ19_init_1 ?_
  refine v_aload_n C dJ19_init_4 rfl rfl ?_
  refine v_iconst C (v := (0 : Int32)) dJ19_init_5 (by decide) ?_
  refine v_putW C kc_J19 1 (Nat.le_of_ble_eq_true rfl) (kFl.p q852) rfl rfl rfl dJ19_init_6 hF (fun u1 hF => ?_)
  refine v_aload_n C dJ19_init_9 rfl rfl ?_
  refine v_iconst C (v := (0 : Int32)) dJ19_init_10 (by decide) ?_
  refine v_putW C kc_J19 2 (Nat.le_of_ble_eq_true rfl) (kFl.p q853) rfl rfl rfl dJ19_init_11 hF (fun u2 hF => ?_)
  refine v_aload_n C dJ19_init_14 rfl rfl ?_
  refine v_bipush C (v := (64 : Int32)) dJ19_init_15 (by decide) ?_
  obtain ⟨h5, hF⟩ := k_ite hF
  refine c_callVv C lk_J19_27 (ci := 13) rfl h5 (fr2 := 2) (lo2 := 200) (As := [.int (64 : Int32)]) (st := []) (fun r9_ w9_ h9_ => by rw [hl]; exact wJ19_initWords l g hX N x0 (64 : Int32) u2 r9_ w9_ h9_) (by decide) rfl rfl (Nat.le_of_ble_eq_true rfl) dJ19_init_17 hF (fun r3 u4 hF => ?_)
  refine v_aload_n C dJ19_init_20 rfl rfl ?_
  refine v_iconst C (v := (0 : Int32)) dJ19_init_21 (by decide) ?_
  refine v_putW C kc_J19 2 (Nat.le_of_ble_eq_true rfl) (kFl.p q853) rfl rfl rfl dJ19_init_22 hF (fun u6 hF => ?_)
  exact c_vret C dJ19_init_25 hF
set_option maxHeartbeats 4000000 in
theorem wJ19_checkInvariants (l : Launch) (g : GT) (hX : ∀ U, gX g U → SX g U) (N : Nat) (x0 : Nat) (w : Wd) (r : Unit) (w1 : Wd) (hF : FJ19_checkInvariants N g x0 w = some (r, w1)) : kMt l g yJ19_checkInvariants (ws_ yJ19_checkInvariants cJ19_checkInvariants 1 none) 1 100 w [.ref x0] none w1 := by
  refine kMt.ofV (lv := [some (.ref x0)]) (by decide) rfl (Nat.le_of_ble_eq_true rfl) rfl ?_
  intro X hl hin C
  unfold FJ19_checkInvariants at hF
  refine v_gets C ((hX _ C.2.2.2.2.2.1.2.2.1).1 _ (List.mem_of_getElem? (i := 5) rfl)) q889 (Or.inl rfl) dJ19_checkInvariants_0 ?_
  refine v_if_ne C (tgt := 37) dJ19_checkInvariants_3 (by decide) hF (fun c1 hF => ?_) (fun c1 hF => ?_)
  · cases hF
  · refine v_gets C ((hX _ C.2.2.2.2.2.1.2.2.1).1 _ (List.mem_of_getElem? (i := 5) rfl)) q889 (Or.inl rfl) dJ19_checkInvariants_37 ?_
    refine v_if_ne C (tgt := 70) dJ19_checkInvariants_40 (by decide) hF (fun c2 hF => ?_) (fun c2 hF => ?_)
    · cases hF
    · refine v_gets C ((hX _ C.2.2.2.2.2.1.2.2.1).1 _ (List.mem_of_getElem? (i := 5) rfl)) q889 (Or.inl rfl) dJ19_checkInvariants_70 ?_
      refine v_if_ne C (tgt := 110) dJ19_checkInvariants_73 (by decide) hF (fun c3 hF => ?_) (fun c3 hF => ?_)
      · cases hF
      · exact c_vret C dJ19_checkInvariants_110 hF
set_option maxHeartbeats 4000000 in
theorem wJ19_ensureCapacity (l : Launch) (g : GT) (hX : ∀ U, gX g U → SX g U) (N : Nat) (x0 : Nat) (x1 : Int32) (w : Wd) (r : Unit) (w1 : Wd) (hF : FJ19_ensureCapacity N g x0 x1 w = some (r, w1)) : kMt l g yJ19_ensureCapacity (ws_ yJ19_ensureCapacity cJ19_ensureCapacity 3 none) 1 100 w [.ref x0, .int x1] none w1 := by
  refine kMt.ofV (lv := [some (.ref x0), some (.int x1), none]) (by decide) rfl (Nat.le_of_ble_eq_true rfl) rfl ?_
  intro X hl hin C
  unfold FJ19_ensureCapacity at hF
  refine v_aload_n C dJ19_ensureCapacity_0 rfl rfl ?_
  refine v_getR C kc_J19 0 (Nat.le_of_ble_eq_true rfl) (kFl.p q851) dJ19_ensureCapacity_1 hF (fun v1 hF => ?_)
  refine v_aL C (t := 3) rfl dJ19_ensureCapacity_4 hF (fun v2 hF => ?_)
  refine v_iload_n C dJ19_ensureCapacity_5 rfl rfl ?_
  refine v_icmp_ge C (tgt := 38) dJ19_ensureCapacity_6 (by decide) hF (fun c3 hF => ?_) (fun c3 hF => ?_)
  · exact c_vret C dJ19_ensureCapacity_38 hF
  · refine v_iconst C (v := (2 : Int32)) dJ19_ensureCapacity_9 (by decide) ?_
    refine v_aload_n C dJ19_ensureCapacity_10 rfl rfl ?_
    refine v_getR C kc_J19 0 (Nat.le_of_ble_eq_true rfl) (kFl.p q851) dJ19_ensureCapacity_11 hF (fun v4 hF => ?_)
    refine v_aL C (t := 3) rfl dJ19_ensureCapacity_14 hF (fun v5 hF => ?_)
    refine v_imul C dJ19_ensureCapacity_15 ?_
    refine v_iload_n C dJ19_ensureCapacity_16 rfl rfl ?_
    refine v_mmax C q874 (by decide) (Nat.le_of_ble_eq_true rfl) dJ19_ensureCapacity_17 ?_
    refine v_istore_n C dJ19_ensureCapacity_20 rfl (Nat.le_of_ble_eq_true rfl) rfl (lv' := [some (.ref x0), some (.int x1), some (.int (kmax ((2 : Int32) * v5) x1))]) rfl ?_
    refine v_aload_n C dJ19_ensureCapacity_21 rfl rfl ?_
    refine v_aload_n C dJ19_ensureCapacity_22 rfl rfl ?_
    refine v_getR C kc_J19 0 (Nat.le_of_ble_eq_true rfl) (kFl.p q851) dJ19_ensureCapacity_23 hF (fun v6 hF => ?_)
    refine v_iload_n C dJ19_ensureCapacity_26 rfl rfl ?_
    cases hF
set_option maxHeartbeats 4000000 in
theorem wJ19_expandTo (l : Launch) (g : GT) (hX : ∀ U, gX g U → SX g U) (N : Nat) (x0 : Nat) (x1 : Int32) (w : Wd) (r : Unit) (w1 : Wd) (hF : FJ19_expandTo N g x0 x1 w = some (r, w1)) : kMt l g yJ19_expandTo (ws_ yJ19_expandTo cJ19_expandTo 3 none) 2 200 w [.ref x0, .int x1] none w1 := by
  refine kMt.ofV (lv := [some (.ref x0), some (.int x1), none]) (by decide) rfl (Nat.le_of_ble_eq_true rfl) rfl ?_
  intro X hl hin C
  unfold FJ19_expandTo at hF
  refine v_iload_n C dJ19_expandTo_0 rfl rfl ?_
  refine v_iconst C (v := (1 : Int32)) dJ19_expandTo_1 (by decide) ?_
  refine v_iadd C dJ19_expandTo_2 ?_
  refine v_istore_n C dJ19_expandTo_3 rfl (Nat.le_of_ble_eq_true rfl) rfl (lv' := [some (.ref x0), some (.int x1), some (.int (x1 + (1 : Int32)))]) rfl ?_
  refine v_aload_n C dJ19_expandTo_4 rfl rfl ?_
  refine v_getI C kc_J19 1 (Nat.le_of_ble_eq_true rfl) (kFl.p q852) dJ19_expandTo_5 hF (fun v1 hF => ?_)
  refine v_iload_n C dJ19_expandTo_8 rfl rfl ?_
  refine v_icmp_ge C (tgt := 22) dJ19_expandTo_9 (by decide) hF (fun c2 hF => ?_) (fun c2 hF => ?_)
  · exact c_vret C dJ19_expandTo_22 hF
  · refine v_aload_n C dJ19_expandTo_12 rfl rfl ?_
    refine v_iload_n C dJ19_expandTo_13 rfl rfl ?_
    obtain ⟨h5, hF⟩ := k_ite hF
    refine c_callVv C lk_J19_139 (ci := 13) rfl h5 (fr2 := 1) (lo2 := 100) (As := [.int (x1 + (1 : Int32))]) (st := []) (fun r9_ w9_ h9_ => by rw [hl]; exact wJ19_ensureCapacity l g hX N x0 (x1 + (1 : Int32)) w r9_ w9_ h9_) (by decide) rfl rfl (Nat.le_of_ble_eq_true rfl) dJ19_expandTo_14 hF (fun r3 u4 hF => ?_)
    refine v_aload_n C dJ19_expandTo_17 rfl rfl ?_
    refine v_iload_n C dJ19_expandTo_18 rfl rfl ?_
    refine v_putW C kc_J19 1 (Nat.le_of_ble_eq_true rfl) (kFl.p q852) rfl rfl rfl dJ19_expandTo_19 hF (fun u6 hF => ?_)
    exact c_vret C dJ19_expandTo_22 hF
set_option maxHeartbeats 4000000 in
theorem wJ19_set (l : Launch) (g : GT) (hX : ∀ U, gX g U → SX g U) (N : Nat) (x0 : Nat) (x1 : Int32) (w : Wd) (r : Unit) (w1 : Wd) (hF : FJ19_set N g x0 x1 w = some (r, w1)) : kMt l g yJ19_set (ws_ yJ19_set cJ19_set 3 none) 3 300 w [.ref x0, .int x1] none w1 := by
  refine kMt.ofV (lv := [some (.ref x0), some (.int x1), none]) (by decide) rfl (Nat.le_of_ble_eq_true rfl) rfl ?_
  intro X hl hin C
  unfold FJ19_set at hF
  refine v_iload_n C dJ19_set_0 rfl rfl ?_
  refine v_if_ge C (tgt := 31) dJ19_set_1 (by decide) hF (fun c1 hF => ?_) (fun c1 hF => ?_)
  · refine v_iload_n C dJ19_set_31 rfl rfl ?_
    refine c_callSi C lk_J19_52 (fr2 := 1) (lo2 := 100) (As := [.int x1]) (st := []) (fun r9_ w9_ h9_ => by rw [hl]; exact wJ19_wordIndex l g hX N x1 w r9_ w9_ h9_) (by decide) rfl rfl (Nat.le_of_ble_eq_true rfl) dJ19_set_32 hF (fun r2 u3 hF => ?_)
    refine v_istore_n C dJ19_set_35 rfl (Nat.le_of_ble_eq_true rfl) rfl (lv' := [some (.ref x0), some (.int x1), some (.int r2)]) rfl ?_
    refine v_aload_n C dJ19_set_36 rfl rfl ?_
    refine v_iload_n C dJ19_set_37 rfl rfl ?_
    obtain ⟨h6, hF⟩ := k_ite hF
    refine c_callVv C lk_J19_155 (ci := 13) rfl h6 (fr2 := 2) (lo2 := 200) (As := [.int r2]) (st := []) (fun r9_ w9_ h9_ => by rw [hl]; exact wJ19_expandTo l g hX N x0 r2 u3 r9_ w9_ h9_) (by decide) rfl rfl (Nat.le_of_ble_eq_true rfl) dJ19_set_38 hF (fun r4 u5 hF => ?_)
    refine v_aload_n C dJ19_set_41 rfl rfl ?_
    refine v_getR C kc_J19 0 (Nat.le_of_ble_eq_true rfl) (kFl.p q851) dJ19_set_42 hF (fun v7 hF => ?_)
    refine v_iload_n C dJ19_set_45 rfl rfl ?_
    refine v_dup2_11 C dJ19_set_46 rfl rfl ?_
    refine v_aJl C dJ19_set_47 hF (fun v8 hF => ?_)
    refine v_lconst C (v := (1 : Int64)) dJ19_set_48 (by decide) ?_
    refine v_iload_n C dJ19_set_49 rfl rfl ?_
    refine v_lshl C dJ19_set_50 rfl ?_
    refine v_lor C dJ19_set_51 ?_
    refine v_aSl C dJ19_set_52 hF (fun u9 hF => ?_)
    refine v_aload_n C dJ19_set_53 rfl rfl ?_
    obtain ⟨h12, hF⟩ := k_ite hF
    refine c_callVv C lk_J19_56 (ci := 13) rfl h12 (fr2 := 1) (lo2 := 100) (As := []) (st := []) (fun r9_ w9_ h9_ => by rw [hl]; exact wJ19_checkInvariants l g hX N x0 u9 r9_ w9_ h9_) (by decide) rfl rfl (Nat.le_of_ble_eq_true rfl) dJ19_set_54 hF (fun r10 u11 hF => ?_)
    exact c_vret C dJ19_set_57 hF
  · cases hF
set_option maxHeartbeats 4000000 in
theorem wJ19_get (l : Launch) (g : GT) (hX : ∀ U, gX g U → SX g U) (N : Nat) (x0 : Nat) (x1 : Int32) (w : Wd) (r : Int32) (w1 : Wd) (hF : FJ19_get N g x0 x1 w = some (r, w1)) : kMt l g yJ19_get (ws_ yJ19_get cJ19_get 3 (some .boolean)) 2 200 w [.ref x0, .int x1] (some (.int r)) w1 := by
  refine kMt.ofV (lv := [some (.ref x0), some (.int x1), none]) (by decide) rfl (Nat.le_of_ble_eq_true rfl) rfl ?_
  intro X hl hin C
  unfold FJ19_get at hF
  refine v_iload_n C dJ19_get_0 rfl rfl ?_
  refine v_if_ge C (tgt := 31) dJ19_get_1 (by decide) hF (fun c1 hF => ?_) (fun c1 hF => ?_)
  · refine v_aload_n C dJ19_get_31 rfl rfl ?_
    obtain ⟨h4, hF⟩ := k_ite hF
    refine c_callVv C lk_J19_56 (ci := 13) rfl h4 (fr2 := 1) (lo2 := 100) (As := []) (st := []) (fun r9_ w9_ h9_ => by rw [hl]; exact wJ19_checkInvariants l g hX N x0 w r9_ w9_ h9_) (by decide) rfl rfl (Nat.le_of_ble_eq_true rfl) dJ19_get_32 hF (fun r2 u3 hF => ?_)
    refine v_iload_n C dJ19_get_35 rfl rfl ?_
    refine c_callSi C lk_J19_52 (fr2 := 1) (lo2 := 100) (As := [.int x1]) (st := []) (fun r9_ w9_ h9_ => by rw [hl]; exact wJ19_wordIndex l g hX N x1 u3 r9_ w9_ h9_) (by decide) rfl rfl (Nat.le_of_ble_eq_true rfl) dJ19_get_36 hF (fun r5 u6 hF => ?_)
    refine v_istore_n C dJ19_get_39 rfl (Nat.le_of_ble_eq_true rfl) rfl (lv' := [some (.ref x0), some (.int x1), some (.int r5)]) rfl ?_
    refine v_iload_n C dJ19_get_40 rfl rfl ?_
    refine v_aload_n C dJ19_get_41 rfl rfl ?_
    refine v_getI C kc_J19 1 (Nat.le_of_ble_eq_true rfl) (kFl.p q852) dJ19_get_42 hF (fun v7 hF => ?_)
    refine v_icmp_ge C (tgt := 67) dJ19_get_45 (by decide) hF (fun c8 hF => ?_) (fun c8 hF => ?_)
    · refine v_iconst C (v := (0 : Int32)) dJ19_get_67 (by decide) ?_
      exact c_zret C rfl dJ19_get_68 hF
    · refine v_aload_n C dJ19_get_48 rfl rfl ?_
      refine v_getR C kc_J19 0 (Nat.le_of_ble_eq_true rfl) (kFl.p q851) dJ19_get_49 hF (fun v9 hF => ?_)
      refine v_iload_n C dJ19_get_52 rfl rfl ?_
      refine v_aJl C dJ19_get_53 hF (fun v10 hF => ?_)
      refine v_lconst C (v := (1 : Int64)) dJ19_get_54 (by decide) ?_
      refine v_iload_n C dJ19_get_55 rfl rfl ?_
      refine v_lshl C dJ19_get_56 rfl ?_
      refine v_land C dJ19_get_57 ?_
      refine v_lconst C (v := (0 : Int64)) dJ19_get_58 (by decide) ?_
      refine v_lcmp C dJ19_get_59 ?_
      refine v_if_eq C (tgt := 67) dJ19_get_60 (by decide) hF (fun c11 hF => ?_) (fun c11 hF => ?_)
      · refine v_iconst C (v := (0 : Int32)) dJ19_get_67 (by decide) ?_
        exact c_zret C rfl dJ19_get_68 hF
      · refine v_iconst C (v := (1 : Int32)) dJ19_get_63 (by decide) ?_
        refine v_goto C (tgt := 68) dJ19_get_64 (by decide) ?_
        exact c_zret C rfl dJ19_get_68 hF
  · cases hF
set_option maxHeartbeats 4000000 in
theorem wJ19_nextSetBit_b63 {l : Launch} {g : GT} {X : CxT} {r : Int32} {w1 : Wd} (C : kOk g X cJ19_nextSetBit 5 RJ19 (some .int) 3 300 (some (.int r)) w1) (hX : ∀ U, gX g U → SX g U) (hl : xl X = l) (hin : kHin X yJ19_nextSetBit) (N : Nat) (k63 : Nat × Int32 × Int64 × Wd → Option (Int32 × Wd)) (hk63 : ∀ a, k63 a = some (r, w1) → kV g X 5 a.2.2.2 63 [some (.ref a.1), none, some (.int a.2.1), some (.long a.2.2.1), none] []) (x0 : Nat) (x2 : Int32) (x3 : Int64) (w : Wd) (hF : FJ19_nextSetBit_b63 N g k63 x0 x2 x3 w = some (r, w1)) : kV g X 5 w 63 [some (.ref x0), none, some (.int x2), some (.long x3), none] [] := by
  unfold FJ19_nextSetBit_b63 at hF
  refine v_lload_n C dJ19_nextSetBit_63 rfl rfl ?_
  refine v_lconst C (v := (0 : Int64)) dJ19_nextSetBit_64 (by decide) ?_
  refine v_lcmp C dJ19_nextSetBit_65 ?_
  refine v_if_eq C (tgt := 79) dJ19_nextSetBit_66 (by decide) hF (fun c11 hF => ?_) (fun c11 hF => ?_)
  · refine v_iinc C dJ19_nextSetBit_79 rfl (v := (x2 + (1 : Int32))) rfl (Nat.le_of_ble_eq_true rfl) rfl (lv' := [some (.ref x0), none, some (.int (x2 + (1 : Int32))), some (.long x3), none]) rfl ?_
    refine v_iload_n C dJ19_nextSetBit_82 rfl rfl ?_
    refine v_aload_n C dJ19_nextSetBit_83 rfl rfl ?_
    refine v_getI C kc_J19 1 (Nat.le_of_ble_eq_true rfl) (kFl.p q852) dJ19_nextSetBit_84 hF (fun v12 hF => ?_)
    refine v_icmp_ne C (tgt := 92) dJ19_nextSetBit_87 (by decide) hF (fun c13 hF => ?_) (fun c13 hF => ?_)
    · refine v_iconst C (v := (-1 : Int32)) dJ19_nextSetBit_90 (by decide) ?_
      exact c_iret C dJ19_nextSetBit_91 hF
    · refine v_aload_n C dJ19_nextSetBit_92 rfl rfl ?_
      refine v_getR C kc_J19 0 (Nat.le_of_ble_eq_true rfl) (kFl.p q851) dJ19_nextSetBit_93 hF (fun v14 hF => ?_)
      refine v_iload_n C dJ19_nextSetBit_96 rfl rfl ?_
      refine v_aJl C dJ19_nextSetBit_97 hF (fun v15 hF => ?_)
      refine v_lstore_n C dJ19_nextSetBit_98 rfl (Nat.le_of_ble_eq_true rfl) rfl (lv' := [some (.ref x0), none, some (.int (x2 + (1 : Int32))), some (.long v15), none]) rfl ?_
      refine v_goto C (tgt := 63) dJ19_nextSetBit_99 (by decide) ?_
      refine v_mask [true, false, true, true, false] (lv' := [some (.ref x0), none, some (.int (x2 + (1 : Int32))), some (.long v15), none]) rfl ?_
      exact hk63 (x0, (x2 + (1 : Int32)), v15, w) hF
  · refine v_iload_n C dJ19_nextSetBit_69 rfl rfl ?_
    refine v_bipush C (v := (64 : Int32)) dJ19_nextSetBit_70 (by decide) ?_
    refine v_imul C dJ19_nextSetBit_72 ?_
    refine v_lload_n C dJ19_nextSetBit_73 rfl rfl ?_
    refine c_callSi C lk_J19_182 (fr2 := 2) (lo2 := 200) (As := [.long x3]) (st := [.int (x2 * (64 : Int32))]) (fun r9_ w9_ h9_ => by rw [hl]; exact wJ25_numberOfTrailingZeros l g hX N x3 w r9_ w9_ h9_) (by decide) rfl rfl (Nat.le_of_ble_eq_true rfl) dJ19_nextSetBit_74 hF (fun r16 u17 hF => ?_)
    refine v_iadd C dJ19_nextSetBit_77 ?_
    exact c_iret C dJ19_nextSetBit_78 hF
set_option maxHeartbeats 4000000 in
theorem wJ19_nextSetBit (l : Launch) (g : GT) (hX : ∀ U, gX g U → SX g U) (N : Nat) (x0 : Nat) (x1 : Int32) (w : Wd) (r : Int32) (w1 : Wd) (hF : FJ19_nextSetBit N g x0 x1 w = some (r, w1)) : kMt l g yJ19_nextSetBit (ws_ yJ19_nextSetBit cJ19_nextSetBit 5 (some .int)) 3 300 w [.ref x0, .int x1] (some (.int r)) w1 := by
  refine kMt.ofV (lv := [some (.ref x0), some (.int x1), none, none, none]) (by decide) rfl (Nat.le_of_ble_eq_true rfl) rfl ?_
  intro X hl hin C
  unfold FJ19_nextSetBit at hF
  refine v_iload_n C dJ19_nextSetBit_0 rfl rfl ?_
  refine v_if_ge C (tgt := 31) dJ19_nextSetBit_1 (by decide) hF (fun c1 hF => ?_) (fun c1 hF => ?_)
  · refine v_aload_n C dJ19_nextSetBit_31 rfl rfl ?_
    obtain ⟨h4, hF⟩ := k_ite hF
    refine c_callVv C lk_J19_56 (ci := 13) rfl h4 (fr2 := 1) (lo2 := 100) (As := []) (st := []) (fun r9_ w9_ h9_ => by rw [hl]; exact wJ19_checkInvariants l g hX N x0 w r9_ w9_ h9_) (by decide) rfl rfl (Nat.le_of_ble_eq_true rfl) dJ19_nextSetBit_32 hF (fun r2 u3 hF => ?_)
    refine v_iload_n C dJ19_nextSetBit_35 rfl rfl ?_
    refine c_callSi C lk_J19_52 (fr2 := 1) (lo2 := 100) (As := [.int x1]) (st := []) (fun r9_ w9_ h9_ => by rw [hl]; exact wJ19_wordIndex l g hX N x1 u3 r9_ w9_ h9_) (by decide) rfl rfl (Nat.le_of_ble_eq_true rfl) dJ19_nextSetBit_36 hF (fun r5 u6 hF => ?_)
    refine v_istore_n C dJ19_nextSetBit_39 rfl (Nat.le_of_ble_eq_true rfl) rfl (lv' := [some (.ref x0), some (.int x1), some (.int r5), none, none]) rfl ?_
    refine v_iload_n C dJ19_nextSetBit_40 rfl rfl ?_
    refine v_aload_n C dJ19_nextSetBit_41 rfl rfl ?_
    refine v_getI C kc_J19 1 (Nat.le_of_ble_eq_true rfl) (kFl.p q852) dJ19_nextSetBit_42 hF (fun v7 hF => ?_)
    refine v_icmp_lt C (tgt := 50) dJ19_nextSetBit_45 (by decide) hF (fun c8 hF => ?_) (fun c8 hF => ?_)
    · refine v_aload_n C dJ19_nextSetBit_50 rfl rfl ?_
      refine v_getR C kc_J19 0 (Nat.le_of_ble_eq_true rfl) (kFl.p q851) dJ19_nextSetBit_51 hF (fun v9 hF => ?_)
      refine v_iload_n C dJ19_nextSetBit_54 rfl rfl ?_
      refine v_aJl C dJ19_nextSetBit_55 hF (fun v10 hF => ?_)
      refine v_ldc2 C q1495 dJ19_nextSetBit_56 ?_
      refine v_iload_n C dJ19_nextSetBit_59 rfl rfl ?_
      refine v_lshl C dJ19_nextSetBit_60 rfl ?_
      refine v_land C dJ19_nextSetBit_61 ?_
      refine v_lstore_n C dJ19_nextSetBit_62 rfl (Nat.le_of_ble_eq_true rfl) rfl (lv' := [some (.ref x0), some (.int x1), some (.int r5), some (.long (v10 &&& ((-1 : Int64) <<< (x1.toInt64 &&& 63)))), none]) rfl ?_
      refine v_mask [true, false, true, true, false] (lv' := [some (.ref x0), none, some (.int r5), some (.long (v10 &&& ((-1 : Int64) <<< (x1.toInt64 &&& 63)))), none]) rfl ?_
      exact kloop_ok (P := fun a => kV g X 5 a.2.2.2 63 [some (.ref a.1), none, some (.int a.2.1), some (.long a.2.2.1), none] []) (fun self hs a hF => wJ19_nextSetBit_b63 C hX hl hin N self hs a.1 a.2.1 a.2.2.1 a.2.2.2 hF) N (x0, r5, (v10 &&& ((-1 : Int64) <<< (x1.toInt64 &&& 63))), u6) hF
    · refine v_iconst C (v := (-1 : Int32)) dJ19_nextSetBit_48 (by decide) ?_
      exact c_iret C dJ19_nextSetBit_49 hF
  · cases hF
set_option maxHeartbeats 4000000 in
theorem wX10_init (l : Launch) (g : GT) (hX : ∀ U, gX g U → SX g U) (N : Nat) (x0 : Nat) (x1 : Int32) (w : Wd) (r : Unit) (w1 : Wd) (hF : FX10_init N g x0 x1 w = some (r, w1)) : kMt l g yX10_init (ws_ yX10_init cX10_init 2 none) 1 100 w [.ref x0, .int x1] none w1 := by
  refine kMt.ofV (lv := [some (.ref x0), some (.int x1)]) (by decide) rfl (Nat.le_of_ble_eq_true rfl) rfl ?_
  intro X hl hin C
  unfold FX10_init at hF
  refine v_aload_n C dX10_init_0 rfl rfl ?_
  refine v_objInit C q1106 q142 q143 (by decide) (Nat.le_of_ble_eq_true rfl) dX10_init_1 ?_
  refine v_aload_n C dX10_init_4 rfl rfl ?_
  refine v_iload_n C dX10_init_5 rfl rfl ?_
  refine v_putFW C (hin.1.trans rfl) kc_X10 0 (Nat.le_of_ble_eq_true rfl) q1107 rfl rfl rfl rfl dX10_init_6 hF (fun u1 hF => ?_)
  exact c_vret C dX10_init_9 hF
set_option maxHeartbeats 4000000 in
theorem wX10_compare_2 (l : Launch) (g : GT) (hX : ∀ U, gX g U → SX g U) (N : Nat) (x0 : Nat) (x1 : Nat) (x2 : Nat) (w : Wd) (r : Int32) (w1 : Wd) (hF : FX10_compare_2 N g x0 x1 x2 w = some (r, w1)) : kMt l g yX10_compare_2 (ws_ yX10_compare_2 cX10_compare_2 3 (some .int)) 1 100 w [.ref x0, .ref x1, .ref x2] (some (.int r)) w1 := by
  refine kMt.ofV (lv := [some (.ref x0), some (.ref x1), some (.ref x2)]) (by decide) rfl (Nat.le_of_ble_eq_true rfl) rfl ?_
  intro X hl hin C
  unfold FX10_compare_2 at hF
  refine v_aload_n C dX10_compare_2_0 rfl rfl ?_
  refine v_getI C kc_X10 0 (Nat.le_of_ble_eq_true rfl) (kFl.p q1107) dX10_compare_2_1 hF (fun v1 hF => ?_)
  refine v_aload_n C dX10_compare_2_4 rfl rfl ?_
  refine v_getI C kc_X6 3 (Nat.le_of_ble_eq_true rfl) (kFl.n q387) dX10_compare_2_5 hF (fun v2 hF => ?_)
  refine v_aload_n C dX10_compare_2_8 rfl rfl ?_
  refine v_getI C kc_X6 3 (Nat.le_of_ble_eq_true rfl) (kFl.n q387) dX10_compare_2_9 hF (fun v3 hF => ?_)
  refine v_isub C dX10_compare_2_12 ?_
  refine v_imul C dX10_compare_2_13 ?_
  exact c_iret C dX10_compare_2_14 hF
set_option maxHeartbeats 4000000 in
theorem wX10_compare (l : Launch) (g : GT) (hX : ∀ U, gX g U → SX g U) (N : Nat) (x0 : Nat) (x1 : Nat) (x2 : Nat) (w : Wd) (r : Int32) (w1 : Wd) (hF : FX10_compare N g x0 x1 x2 w = some (r, w1)) : kMt l g yX10_compare (ws_ yX10_compare cX10_compare 3 (some .int)) 2 200 w [.ref x0, .ref x1, .ref x2] (some (.int r)) w1 := by
  refine kMt.ofV (lv := [some (.ref x0), some (.ref x1), some (.ref x2)]) (by decide) rfl (Nat.le_of_ble_eq_true rfl) rfl ?_
  intro X hl hin C
  unfold FX10_compare at hF
  refine v_aload_n C dX10_compare_0 rfl rfl ?_
  refine v_aload_n C dX10_compare_1 rfl rfl ?_
  refine v_castI C (ci := 2) rfl q1208 dX10_compare_2 hF (fun hF => ?_)
  refine v_aload_n C dX10_compare_5 rfl rfl ?_
  refine v_castI C (ci := 2) rfl q1208 dX10_compare_6 hF (fun hF => ?_)
  obtain ⟨h3, hF⟩ := k_ite hF
  refine c_callVi C lk_X10_18 (ci := 7) rfl h3 (fr2 := 1) (lo2 := 100) (As := [.ref x1, .ref x2]) (st := []) (fun r9_ w9_ h9_ => by rw [hl]; exact wX10_compare_2 l g hX N x0 x1 x2 w r9_ w9_ h9_) (by decide) rfl rfl (Nat.le_of_ble_eq_true rfl) dX10_compare_9 hF (fun r1 u2 hF => ?_)
  exact c_iret C dX10_compare_12 hF
set_option maxHeartbeats 4000000 in
theorem wJ0_init_t14 (l : Launch) (g : GT) (hX : ∀ U, gX g U → SX g U) (N : Nat) (x0 : Nat) (w : Wd) (r : Unit) (w1 : Wd) (hF : FJ0_init_t14 N g x0 w = some (r, w1)) : kMt l g yJ0_init (ws_ yJ0_init cJ0_init 1 none) 1 100 w [.ref x0] none w1 := by
  refine kMt.ofV (lv := [some (.ref x0)]) (by decide) rfl (Nat.le_of_ble_eq_true rfl) rfl ?_
  intro X hl hin C
  unfold FJ0_init_t14 at hF
  refine v_aload_n C dJ0_init_0 rfl rfl ?_
  refine v_objInit C q155 q142 q143 (by decide) (Nat.le_of_ble_eq_true rfl) dJ0_init_1 ?_
  exact c_vret C dJ0_init_4 hF
set_option maxHeartbeats 4000000 in
theorem wJ20_init_t14 (l : Launch) (g : GT) (hX : ∀ U, gX g U → SX g U) (N : Nat) (x0 : Nat) (w : Wd) (r : Unit) (w1 : Wd) (hF : FJ20_init_t14 N g x0 w = some (r, w1)) : kMt l g yJ20_init (ws_ yJ20_init cJ20_init 1 none) 2 200 w [.ref x0] none w1 := by
  refine kMt.ofV (lv := [some (.ref x0)]) (by decide) rfl (Nat.le_of_ble_eq_true rfl) rfl ?_
  intro X hl hin C
  unfold FJ20_init_t14 at hF
  refine v_aload_n C dJ20_init_0 rfl rfl ?_
  refine c_callI C lk_J20_1 (fr2 := 1) (lo2 := 100) (As := []) (st := []) (fun r9_ w9_ h9_ => by rw [hl]; exact wJ0_init_t14 l g hX N x0 w r9_ w9_ h9_) (by decide) rfl rfl (Nat.le_of_ble_eq_true rfl) dJ20_init_1 hF (fun r1 u2 hF => ?_)
  exact c_vret C dJ20_init_4 hF
set_option maxHeartbeats 4000000 in
theorem wJ21_init (l : Launch) (g : GT) (hX : ∀ U, gX g U → SX g U) (N : Nat) (x0 : Nat) (x1 : Int32) (x2 : Nat) (w : Wd) (r : Unit) (w1 : Wd) (hF : FJ21_init N g x0 x1 x2 w = some (r, w1)) : kMt l g yJ21_init (ws_ yJ21_init cJ21_init 3 none) 3 300 w [.ref x0, .int x1, .ref x2] none w1 := by
  refine kMt.ofV (lv := [some (.ref x0), some (.int x1), some (.ref x2)]) (by decide) rfl (Nat.le_of_ble_eq_true rfl) rfl ?_
  intro X hl hin C
  unfold FJ21_init at hF
  refine v_aload_n C dJ21_init_0 rfl rfl ?_
  refine c_callI C lk_J21_7 (fr2 := 2) (lo2 := 200) (As := []) (st := []) (fun r9_ w9_ h9_ => by rw [hl]; exact wJ20_init_t14 l g hX N x0 w r9_ w9_ h9_) (by decide) rfl rfl (Nat.le_of_ble_eq_true rfl) dJ21_init_1 hF (fun r1 u2 hF => ?_)
  refine v_iload_n C dJ21_init_4 rfl rfl ?_
  refine v_iconst C (v := (1 : Int32)) dJ21_init_5 (by decide) ?_
  refine v_icmp_ge C (tgt := 17) dJ21_init_6 (by decide) hF (fun c3 hF => ?_) (fun c3 hF => ?_)
  · refine v_aload_n C dJ21_init_17 rfl rfl ?_
    refine v_iload_n C dJ21_init_18 rfl rfl ?_
    refine v_anew C (t := 4) rfl q1118 ((hX _ C.2.2.2.2.2.1.2.2.1).2.1 _ (by decide)) dJ21_init_19 hF (fun a4 u5 hF => ?_)
    refine v_putW C kc_J21 0 (Nat.le_of_ble_eq_true rfl) (kFl.p q1120) rfl rfl rfl dJ21_init_22 hF (fun u6 hF => ?_)
    refine v_aload_n C dJ21_init_25 rfl rfl ?_
    refine v_aload_n C dJ21_init_26 rfl rfl ?_
    refine v_putFW C (hin.1.trans rfl) kc_J21 2 (Nat.le_of_ble_eq_true rfl) q1123 rfl rfl rfl rfl dJ21_init_27 hF (fun u7 hF => ?_)
    exact c_vret C dJ21_init_30 hF
  · cases hF
set_option maxHeartbeats 4000000 in
theorem wJ21_siftUpUsingComparator_b43 {l : Launch} {g : GT} {X : CxT} {r : Unit} {w1 : Wd} (C : kOk g X cJ21_siftUpUsingComparator 6 RJ21 none 3 300 none w1) (hX : ∀ U, gX g U → SX g U) (hl : xl X = l) (hin : kHin X yJ21_siftUpUsingComparator) (N : Nat)  (x0 : Int32) (x1 : Nat) (x2 : Nat) (w : Wd) (hF : FJ21_siftUpUsingComparator_b43 N g  x0 x1 x2 w = some (r, w1)) : kV g X 6 w 43 [some (.int x0), some (.ref x1), some (.ref x2), none, none, none] [] := by
  unfold FJ21_siftUpUsingComparator_b43 at hF
  refine v_aload_n C dJ21_siftUpUsingComparator_43 rfl rfl ?_
  refine v_iload_n C dJ21_siftUpUsingComparator_44 rfl rfl ?_
  refine v_aload_n C dJ21_siftUpUsingComparator_45 rfl rfl ?_
  obtain ⟨h3, hF⟩ := k_ite hF
  refine v_aSq C (t := 4) rfl (any_O C h3) dJ21_siftUpUsingComparator_46 hF (fun u2 hF => ?_)
  exact c_vret C dJ21_siftUpUsingComparator_47 hF
set_option maxHeartbeats 4000000 in
theorem wJ21_siftUpUsingComparator_b0 {l : Launch} {g : GT} {X : CxT} {r : Unit} {w1 : Wd} (C : kOk g X cJ21_siftUpUsingComparator 6 RJ21 none 3 300 none w1) (hX : ∀ U, gX g U → SX g U) (hl : xl X = l) (hin : kHin X yJ21_siftUpUsingComparator) (N : Nat) (k0 : Int32 × Nat × Nat × Nat × Wd → Option (Unit × Wd)) (hk0 : ∀ a, k0 a = some (r, w1) → kV g X 6 a.2.2.2.2 0 [some (.int a.1), some (.ref a.2.1), some (.ref a.2.2.1), some (.ref a.2.2.2.1), none, none] []) (x0 : Int32) (x1 : Nat) (x2 : Nat) (x3 : Nat) (w : Wd) (hF : FJ21_siftUpUsingComparator_b0 N g k0 x0 x1 x2 x3 w = some (r, w1)) : kV g X 6 w 0 [some (.int x0), some (.ref x1), some (.ref x2), some (.ref x3), none, none] [] := by
  unfold FJ21_siftUpUsingComparator_b0 at hF
  refine v_iload_n C dJ21_siftUpUsingComparator_0 rfl rfl ?_
  refine v_if_le C (tgt := 43) dJ21_siftUpUsingComparator_1 (by decide) hF (fun c1 hF => ?_) (fun c1 hF => ?_)
  · refine v_mask [true, true, true, false, false, false] (lv' := [some (.int x0), some (.ref x1), some (.ref x2), none, none, none]) rfl ?_
    exact wJ21_siftUpUsingComparator_b43 C hX hl hin N (x0) (x1) (x2) w hF
  · refine v_iload_n C dJ21_siftUpUsingComparator_4 rfl rfl ?_
    refine v_iconst C (v := (1 : Int32)) dJ21_siftUpUsingComparator_5 (by decide) ?_
    refine v_isub C dJ21_siftUpUsingComparator_6 ?_
    refine v_iconst C (v := (1 : Int32)) dJ21_siftUpUsingComparator_7 (by decide) ?_
    refine v_iushr C dJ21_siftUpUsingComparator_8 rfl ?_
    refine v_istore C dJ21_siftUpUsingComparator_9 (Nat.le_of_ble_eq_true rfl) rfl (lv' := [some (.int x0), some (.ref x1), some (.ref x2), some (.ref x3), some (.int (((x0 - (1 : Int32)).toUInt32 >>> ((1 : Int32).toUInt32 &&& Int32.toUInt32 31)).toInt32)), none]) rfl ?_
    refine v_aload_n C dJ21_siftUpUsingComparator_11 rfl rfl ?_
    refine v_iload C dJ21_siftUpUsingComparator_12 rfl ?_
    refine v_aQl C (t := 4) rfl dJ21_siftUpUsingComparator_14 hF (fun v4 hF => ?_)
    rcases v4 with _ | a5
    · exact (k_ob0 hF).elim
    have hF := k_ob1 hF
    show kV _ _ _ _ 15 [some (.int x0), some (.ref x1), some (.ref x2), some (.ref x3), some (.int (((x0 - (1 : Int32)).toUInt32 >>> ((1 : Int32).toUInt32 &&& Int32.toUInt32 31)).toInt32)), none] [.ref a5]
    refine v_astore C dJ21_siftUpUsingComparator_15 (Nat.le_of_ble_eq_true rfl) rfl (lv' := [some (.int x0), some (.ref x1), some (.ref x2), some (.ref x3), some (.int (((x0 - (1 : Int32)).toUInt32 >>> ((1 : Int32).toUInt32 &&& Int32.toUInt32 31)).toInt32)), some (.ref a5)]) rfl ?_
    refine v_aload_n C dJ21_siftUpUsingComparator_17 rfl rfl ?_
    refine v_aload_n C dJ21_siftUpUsingComparator_18 rfl rfl ?_
    refine v_aload C dJ21_siftUpUsingComparator_19 rfl ?_
    obtain ⟨h8, hF⟩ := k_ite hF
    refine c_callFi C lk_J21_149_X10_compare ((hX _ C.2.2.2.2.2.1.2.2.1).2.2.1 _ (List.mem_of_getElem? (i := 7) rfl)) (C.2.2.2.2.2.1.1.1 7 _ rfl).2 (kRc.of C (ci := 7) rfl h8) (fr2 := 2) (lo2 := 200) (As := [.ref x1, .ref a5]) (st := []) (fun r9_ w9_ h9_ => by rw [hl]; exact wX10_compare l g hX N x3 x1 a5 w r9_ w9_ h9_) (by decide) rfl rfl (Nat.le_of_ble_eq_true rfl) dJ21_siftUpUsingComparator_21 hF (fun r6 u7 hF => ?_)
    refine v_if_lt C (tgt := 32) dJ21_siftUpUsingComparator_26 (by decide) hF (fun c9 hF => ?_) (fun c9 hF => ?_)
    · refine v_aload_n C dJ21_siftUpUsingComparator_32 rfl rfl ?_
      refine v_iload_n C dJ21_siftUpUsingComparator_33 rfl rfl ?_
      refine v_aload C dJ21_siftUpUsingComparator_34 rfl ?_
      obtain ⟨h11, hF⟩ := k_ite hF
      refine v_aSq C (t := 4) rfl (any_O C h11) dJ21_siftUpUsingComparator_36 hF (fun u10 hF => ?_)
      refine v_iload C dJ21_siftUpUsingComparator_37 rfl ?_
      refine v_istore_n C dJ21_siftUpUsingComparator_39 rfl (Nat.le_of_ble_eq_true rfl) rfl (lv' := [some (.int (((x0 - (1 : Int32)).toUInt32 >>> ((1 : Int32).toUInt32 &&& Int32.toUInt32 31)).toInt32)), some (.ref x1), some (.ref x2), some (.ref x3), some (.int (((x0 - (1 : Int32)).toUInt32 >>> ((1 : Int32).toUInt32 &&& Int32.toUInt32 31)).toInt32)), some (.ref a5)]) rfl ?_
      refine v_goto C (tgt := 0) dJ21_siftUpUsingComparator_40 (by decide) ?_
      refine v_mask [true, true, true, true, false, false] (lv' := [some (.int (((x0 - (1 : Int32)).toUInt32 >>> ((1 : Int32).toUInt32 &&& Int32.toUInt32 31)).toInt32)), some (.ref x1), some (.ref x2), some (.ref x3), none, none]) rfl ?_
      exact hk0 ((((x0 - (1 : Int32)).toUInt32 >>> ((1 : Int32).toUInt32 &&& Int32.toUInt32 31)).toInt32), x1, x2, x3, u10) hF
    · refine v_goto C (tgt := 43) dJ21_siftUpUsingComparator_29 (by decide) ?_
      refine v_mask [true, true, true, false, false, false] (lv' := [some (.int x0), some (.ref x1), some (.ref x2), none, none, none]) rfl ?_
      exact wJ21_siftUpUsingComparator_b43 C hX hl hin N (x0) (x1) (x2) u7 hF
set_option maxHeartbeats 4000000 in
theorem wJ21_siftUpUsingComparator (l : Launch) (g : GT) (hX : ∀ U, gX g U → SX g U) (N : Nat) (x0 : Int32) (x1 : Nat) (x2 : Nat) (x3 : Nat) (w : Wd) (r : Unit) (w1 : Wd) (hF : FJ21_siftUpUsingComparator N g x0 x1 x2 x3 w = some (r, w1)) : kMt l g yJ21_siftUpUsingComparator (ws_ yJ21_siftUpUsingComparator cJ21_siftUpUsingComparator 6 none) 3 300 w [.int x0, .ref x1, .ref x2, .ref x3] none w1 := by
  refine kMt.ofV (lv := [some (.int x0), some (.ref x1), some (.ref x2), some (.ref x3), none, none]) (by decide) rfl (Nat.le_of_ble_eq_true rfl) rfl ?_
  intro X hl hin C
  unfold FJ21_siftUpUsingComparator at hF
  refine v_mask [true, true, true, true, false, false] (lv' := [some (.int x0), some (.ref x1), some (.ref x2), some (.ref x3), none, none]) rfl ?_
  exact kloop_ok (P := fun a => kV g X 6 a.2.2.2.2 0 [some (.int a.1), some (.ref a.2.1), some (.ref a.2.2.1), some (.ref a.2.2.2.1), none, none] []) (fun self hs a hF => wJ21_siftUpUsingComparator_b0 C hX hl hin N self hs a.1 a.2.1 a.2.2.1 a.2.2.2.1 a.2.2.2.2 hF) N (x0, x1, x2, x3, w) hF
set_option maxHeartbeats 4000000 in
theorem wJ21_siftUp (l : Launch) (g : GT) (hX : ∀ U, gX g U → SX g U) (N : Nat) (x0 : Nat) (x1 : Int32) (x2 : Nat) (w : Wd) (r : Unit) (w1 : Wd) (hF : FJ21_siftUp N g x0 x1 x2 w = some (r, w1)) : kMt l g yJ21_siftUp (ws_ yJ21_siftUp cJ21_siftUp 3 none) 4 400 w [.ref x0, .int x1, .ref x2] none w1 := by
  refine kMt.ofV (lv := [some (.ref x0), some (.int x1), some (.ref x2)]) (by decide) rfl (Nat.le_of_ble_eq_true rfl) rfl ?_
  intro X hl hin C
  unfold FJ21_siftUp at hF
  refine v_aload_n C dJ21_siftUp_0 rfl rfl ?_
  refine v_getQ C kc_J21 2 (Nat.le_of_ble_eq_true rfl) (kFl.p q1123) dJ21_siftUp_1 hF (fun v1 hF => ?_)
  rcases v1 with _ | a2
  · have hF := k_mn0 hF
    show kV _ _ _ _ 4 [some (.ref x0), some (.int x1), some (.ref x2)] [.null]
    refine v_ifnullN C (tgt := 23) dJ21_siftUp_4 (by decide) ?_
    refine v_iload_n C dJ21_siftUp_23 rfl rfl ?_
    refine v_aload_n C dJ21_siftUp_24 rfl rfl ?_
    refine v_aload_n C dJ21_siftUp_25 rfl rfl ?_
    refine v_getR C kc_J21 0 (Nat.le_of_ble_eq_true rfl) (kFl.p q1120) dJ21_siftUp_26 hF (fun v3 hF => ?_)
    cases hF
  · have hF := k_mn1 hF
    show kV _ _ _ _ 4 [some (.ref x0), some (.int x1), some (.ref x2)] [.ref a2]
    refine v_ifnull C dJ21_siftUp_4 ?_
    refine v_iload_n C dJ21_siftUp_7 rfl rfl ?_
    refine v_aload_n C dJ21_siftUp_8 rfl rfl ?_
    refine v_aload_n C dJ21_siftUp_9 rfl rfl ?_
    refine v_getR C kc_J21 0 (Nat.le_of_ble_eq_true rfl) (kFl.p q1120) dJ21_siftUp_10 hF (fun v4 hF => ?_)
    refine v_aload_n C dJ21_siftUp_13 rfl rfl ?_
    refine v_getQ C kc_J21 2 (Nat.le_of_ble_eq_true rfl) (kFl.p q1123) dJ21_siftUp_14 hF (fun v5 hF => ?_)
    rcases v5 with _ | a6
    · exact (k_ob0 hF).elim
    have hF := k_ob1 hF
    show kV _ _ _ _ 17 [some (.ref x0), some (.int x1), some (.ref x2)] [.ref a6, .ref v4, .ref x2, .int x1]
    refine c_callSv C lk_J21_136 (fr2 := 3) (lo2 := 300) (As := [.int x1, .ref x2, .ref v4, .ref a6]) (st := []) (fun r9_ w9_ h9_ => by rw [hl]; exact wJ21_siftUpUsingComparator l g hX N x1 x2 v4 a6 w r9_ w9_ h9_) (by decide) rfl rfl (Nat.le_of_ble_eq_true rfl) dJ21_siftUp_17 hF (fun r7 u8 hF => ?_)
    refine v_goto C (tgt := 32) dJ21_siftUp_20 (by decide) ?_
    exact c_vret C dJ21_siftUp_32 hF
set_option maxHeartbeats 4000000 in
theorem wJ21_offer (l : Launch) (g : GT) (hX : ∀ U, gX g U → SX g U) (N : Nat) (x0 : Nat) (x1 : Nat) (w : Wd) (r : Int32) (w1 : Wd) (hF : FJ21_offer N g x0 x1 w = some (r, w1)) : kMt l g yJ21_offer (ws_ yJ21_offer cJ21_offer 3 (some .boolean)) 5 500 w [.ref x0, .ref x1] (some (.int r)) w1 := by
  refine kMt.ofV (lv := [some (.ref x0), some (.ref x1), none]) (by decide) rfl (Nat.le_of_ble_eq_true rfl) rfl ?_
  intro X hl hin C
  unfold FJ21_offer at hF
  refine v_aload_n C dJ21_offer_0 rfl rfl ?_
  refine v_ifnonnull C (tgt := 12) dJ21_offer_1 (by decide) ?_
  refine v_aload_n C dJ21_offer_12 rfl rfl ?_
  refine v_dup C dJ21_offer_13 rfl ?_
  refine v_getI C kc_J21 3 (Nat.le_of_ble_eq_true rfl) (kFl.p q1125) dJ21_offer_14 hF (fun v1 hF => ?_)
  refine v_iconst C (v := (1 : Int32)) dJ21_offer_17 (by decide) ?_
  refine v_iadd C dJ21_offer_18 ?_
  refine v_putW C kc_J21 3 (Nat.le_of_ble_eq_true rfl) (kFl.p q1125) rfl rfl rfl dJ21_offer_19 hF (fun u2 hF => ?_)
  refine v_aload_n C dJ21_offer_22 rfl rfl ?_
  refine v_getI C kc_J21 1 (Nat.le_of_ble_eq_true rfl) (kFl.p q1122) dJ21_offer_23 hF (fun v3 hF => ?_)
  refine v_istore_n C dJ21_offer_26 rfl (Nat.le_of_ble_eq_true rfl) rfl (lv' := [some (.ref x0), some (.ref x1), some (.int v3)]) rfl ?_
  refine v_iload_n C dJ21_offer_27 rfl rfl ?_
  refine v_aload_n C dJ21_offer_28 rfl rfl ?_
  refine v_getR C kc_J21 0 (Nat.le_of_ble_eq_true rfl) (kFl.p q1120) dJ21_offer_29 hF (fun v4 hF => ?_)
  refine v_aL C (t := 4) rfl dJ21_offer_32 hF (fun v5 hF => ?_)
  refine v_icmp_lt C (tgt := 43) dJ21_offer_33 (by decide) hF (fun c6 hF => ?_) (fun c6 hF => ?_)
  · refine v_aload_n C dJ21_offer_43 rfl rfl ?_
    refine v_iload_n C dJ21_offer_44 rfl rfl ?_
    refine v_aload_n C dJ21_offer_45 rfl rfl ?_
    obtain ⟨h9, hF⟩ := k_ite hF
    refine c_callVv C lk_J21_100 (ci := 14) rfl h9 (fr2 := 4) (lo2 := 400) (As := [.int v3, .ref x1]) (st := []) (fun r9_ w9_ h9_ => by rw [hl]; exact wJ21_siftUp l g hX N x0 v3 x1 u2 r9_ w9_ h9_) (by decide) rfl rfl (Nat.le_of_ble_eq_true rfl) dJ21_offer_46 hF (fun r7 u8 hF => ?_)
    refine v_aload_n C dJ21_offer_49 rfl rfl ?_
    refine v_iload_n C dJ21_offer_50 rfl rfl ?_
    refine v_iconst C (v := (1 : Int32)) dJ21_offer_51 (by decide) ?_
    refine v_iadd C dJ21_offer_52 ?_
    refine v_putW C kc_J21 1 (Nat.le_of_ble_eq_true rfl) (kFl.p q1122) rfl rfl rfl dJ21_offer_53 hF (fun u10 hF => ?_)
    refine v_iconst C (v := (1 : Int32)) dJ21_offer_56 (by decide) ?_
    exact c_zret C rfl dJ21_offer_57 hF
  · refine v_aload_n C dJ21_offer_36 rfl rfl ?_
    refine v_iload_n C dJ21_offer_37 rfl rfl ?_
    refine v_iconst C (v := (1 : Int32)) dJ21_offer_38 (by decide) ?_
    refine v_iadd C dJ21_offer_39 ?_
    cases hF
set_option maxHeartbeats 4000000 in
theorem wJ21_add (l : Launch) (g : GT) (hX : ∀ U, gX g U → SX g U) (N : Nat) (x0 : Nat) (x1 : Nat) (w : Wd) (r : Int32) (w1 : Wd) (hF : FJ21_add N g x0 x1 w = some (r, w1)) : kMt l g yJ21_add (ws_ yJ21_add cJ21_add 2 (some .boolean)) 6 600 w [.ref x0, .ref x1] (some (.int r)) w1 := by
  refine kMt.ofV (lv := [some (.ref x0), some (.ref x1)]) (by decide) rfl (Nat.le_of_ble_eq_true rfl) rfl ?_
  intro X hl hin C
  unfold FJ21_add at hF
  refine v_aload_n C dJ21_add_0 rfl rfl ?_
  refine v_aload_n C dJ21_add_1 rfl rfl ?_
  obtain ⟨h3, hF⟩ := k_ite hF
  refine c_callVi C lk_J21_89 (ci := 14) rfl h3 (fr2 := 5) (lo2 := 500) (As := [.ref x1]) (st := []) (fun r9_ w9_ h9_ => by rw [hl]; exact wJ21_offer l g hX N x0 x1 w r9_ w9_ h9_) (by decide) rfl rfl (Nat.le_of_ble_eq_true rfl) dJ21_add_2 hF (fun r1 u2 hF => ?_)
  obtain ⟨h4, hF⟩ := k_ite hF
  exact c_zret C (nb_nar h4) dJ21_add_5 hF
set_option maxHeartbeats 4000000 in
theorem wJ21_peek (l : Launch) (g : GT) (hX : ∀ U, gX g U → SX g U) (N : Nat) (x0 : Nat) (w : Wd) (r : Nat) (w1 : Wd) (hF : FJ21_peek N g x0 w = some (r, w1)) : kMt l g yJ21_peek (ws_ yJ21_peek cJ21_peek 1 (some (.object "java/lang/Object"))) 1 100 w [.ref x0] (some (.ref r)) w1 := by
  refine kMt.ofV (lv := [some (.ref x0)]) (by decide) rfl (Nat.le_of_ble_eq_true rfl) rfl ?_
  intro X hl hin C
  unfold FJ21_peek at hF
  refine v_aload_n C dJ21_peek_0 rfl rfl ?_
  refine v_getR C kc_J21 0 (Nat.le_of_ble_eq_true rfl) (kFl.p q1120) dJ21_peek_1 hF (fun v1 hF => ?_)
  refine v_iconst C (v := (0 : Int32)) dJ21_peek_4 (by decide) ?_
  refine v_aQl C (t := 4) rfl dJ21_peek_5 hF (fun v2 hF => ?_)
  rcases v2 with _ | a3
  · exact (k_ob0 hF).elim
  have hF := k_ob1 hF
  show kV _ _ _ _ 6 [some (.ref x0)] [.ref a3]
  exact c_aret C (Or.inl ⟨_, rfl⟩) dJ21_peek_6 hF
set_option maxHeartbeats 4000000 in
theorem wJ21_size (l : Launch) (g : GT) (hX : ∀ U, gX g U → SX g U) (N : Nat) (x0 : Nat) (w : Wd) (r : Int32) (w1 : Wd) (hF : FJ21_size N g x0 w = some (r, w1)) : kMt l g yJ21_size (ws_ yJ21_size cJ21_size 1 (some .int)) 1 100 w [.ref x0] (some (.int r)) w1 := by
  refine kMt.ofV (lv := [some (.ref x0)]) (by decide) rfl (Nat.le_of_ble_eq_true rfl) rfl ?_
  intro X hl hin C
  unfold FJ21_size at hF
  refine v_aload_n C dJ21_size_0 rfl rfl ?_
  refine v_getI C kc_J21 1 (Nat.le_of_ble_eq_true rfl) (kFl.p q1122) dJ21_size_1 hF (fun v1 hF => ?_)
  exact c_iret C dJ21_size_4 hF
set_option maxHeartbeats 4000000 in
theorem wJ0_isEmpty_t14 (l : Launch) (g : GT) (hX : ∀ U, gX g U → SX g U) (N : Nat) (x0 : Nat) (w : Wd) (r : Int32) (w1 : Wd) (hF : FJ0_isEmpty_t14 N g x0 w = some (r, w1)) : kMt l g yJ0_isEmpty (ws_ yJ0_isEmpty cJ0_isEmpty 1 (some .boolean)) 2 200 w [.ref x0] (some (.int r)) w1 := by
  refine kMt.ofV (lv := [some (.ref x0)]) (by decide) rfl (Nat.le_of_ble_eq_true rfl) rfl ?_
  intro X hl hin C
  unfold FJ0_isEmpty_t14 at hF
  refine v_aload_n C dJ0_isEmpty_0 rfl rfl ?_
  obtain ⟨h3, hF⟩ := k_ite hF
  refine c_callUi C lk_J0_7_J21_size (kRc.of C (ci := 14) rfl h3) (fr2 := 1) (lo2 := 100) (As := []) (st := []) (fun r9_ w9_ h9_ => by rw [hl]; exact wJ21_size l g hX N x0 w r9_ w9_ h9_) (by decide) rfl rfl (Nat.le_of_ble_eq_true rfl) dJ0_isEmpty_1 hF (fun r1 u2 hF => ?_)
  refine v_if_ne C (tgt := 11) dJ0_isEmpty_4 (by decide) hF (fun c4 hF => ?_) (fun c4 hF => ?_)
  · refine v_iconst C (v := (1 : Int32)) dJ0_isEmpty_7 (by decide) ?_
    refine v_goto C (tgt := 12) dJ0_isEmpty_8 (by decide) ?_
    exact c_zret C rfl dJ0_isEmpty_12 hF
  · refine v_iconst C (v := (0 : Int32)) dJ0_isEmpty_11 (by decide) ?_
    exact c_zret C rfl dJ0_isEmpty_12 hF
