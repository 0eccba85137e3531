set_option maxRecDepth 100000
set_option maxHeartbeats 4000000 in
theorem wJ12_checkIndex (l : Launch) (g : GT) (hX : ∀ U, gX g U → SX g U) (N : Nat) (x0 : Int32) (x1 : Int32) (x2 : Option Nat) (w : Wd) (r : Int32) (w1 : Wd) (hF : FJ12_checkIndex N g x0 x1 x2 w = some (r, w1)) : kMt l g yJ12_checkIndex (ws_ yJ12_checkIndex cJ12_checkIndex 3 (some .int)) 1 100 w [.int x0, .int x1, va_rf x2] (some (.int r)) w1 := by
  refine kMt.ofV (lv := [some (.int x0), some (.int x1), some (va_rf x2)]) (by decide) rfl (by cases x2 <;> exact Nat.le_of_ble_eq_true rfl) (by cases x2 <;> rfl) ?_
  intro X hl hin C
  unfold FJ12_checkIndex at hF
  refine v_iload_n C dJ12_checkIndex_0 rfl rfl ?_
  refine v_if_lt C (tgt := 9) dJ12_checkIndex_1 (by decide) hF (fun c1 hF => ?_) (fun c1 hF => ?_)
  · refine v_aload_nQ C dJ12_checkIndex_9 rfl rfl ?_
    refine v_iload_n C dJ12_checkIndex_10 rfl rfl ?_
    refine v_iload_n C dJ12_checkIndex_11 rfl rfl ?_
    cases hF
  · refine v_iload_n C dJ12_checkIndex_4 rfl rfl ?_
    refine v_iload_n C dJ12_checkIndex_5 rfl rfl ?_
    refine v_icmp_lt C (tgt := 16) dJ12_checkIndex_6 (by decide) hF (fun c2 hF => ?_) (fun c2 hF => ?_)
    · refine v_iload_n C dJ12_checkIndex_16 rfl rfl ?_
      exact c_iret C dJ12_checkIndex_17 hF
    · refine v_aload_nQ C dJ12_checkIndex_9 rfl rfl ?_
      refine v_iload_n C dJ12_checkIndex_10 rfl rfl ?_
      refine v_iload_n C dJ12_checkIndex_11 rfl rfl ?_
      cases hF
set_option maxHeartbeats 4000000 in
theorem wJ14_checkIndex (l : Launch) (g : GT) (hX : ∀ U, gX g U → SX g U) (N : Nat) (x0 : Int32) (x1 : Int32) (w : Wd) (r : Int32) (w1 : Wd) (hF : FJ14_checkIndex N g x0 x1 w = some (r, w1)) : kMt l g yJ14_checkIndex (ws_ yJ14_checkIndex cJ14_checkIndex 2 (some .int)) 2 200 w [.int x0, .int x1] (some (.int r)) w1 := by
  refine kMt.ofV (lv := [some (.int x0), some (.int x1)]) (by decide) rfl (Nat.le_of_ble_eq_true rfl) rfl ?_
  intro X hl hin C
  unfold FJ14_checkIndex at hF
  refine v_iload_n C dJ14_checkIndex_0 rfl rfl ?_
  refine v_iload_n C dJ14_checkIndex_1 rfl rfl ?_
  refine v_null C dJ14_checkIndex_2 ?_
  refine c_callSi C lk_J14_105 (fr2 := 1) (lo2 := 100) (As := [.int x0, .int x1, va_rf none]) (st := []) (fun r9_ w9_ h9_ => by rw [hl]; exact wJ12_checkIndex l g hX N x0 x1 none w r9_ w9_ h9_) (by decide) rfl rfl (Nat.le_of_ble_eq_true rfl) dJ14_checkIndex_3 hF (fun r1 u2 hF => ?_)
  exact c_iret C dJ14_checkIndex_6 hF
set_option maxHeartbeats 4000000 in
theorem wJ6_newLength (l : Launch) (g : GT) (hX : ∀ U, gX g U → SX g U) (N : Nat) (x0 : Int32) (x1 : Int32) (x2 : Int32) (w : Wd) (r : Int32) (w1 : Wd) (hF : FJ6_newLength N g x0 x1 x2 w = some (r, w1)) : kMt l g yJ6_newLength (ws_ yJ6_newLength cJ6_newLength 4 (some .int)) 1 100 w [.int x0, .int x1, .int x2] (some (.int r)) w1 := by
  refine kMt.ofV (lv := [some (.int x0), some (.int x1), some (.int x2), none]) (by decide) rfl (Nat.le_of_ble_eq_true rfl) rfl ?_
  intro X hl hin C
  unfold FJ6_newLength at hF
  refine v_iload_n C dJ6_newLength_0 rfl rfl ?_
  refine v_iload_n C dJ6_newLength_1 rfl rfl ?_
  refine v_iload_n C dJ6_newLength_2 rfl rfl ?_
  refine v_mmax C q418 (by decide) (Nat.le_of_ble_eq_true rfl) dJ6_newLength_3 ?_
  refine v_iadd C dJ6_newLength_6 ?_
  refine v_istore_n C dJ6_newLength_7 rfl (Nat.le_of_ble_eq_true rfl) rfl (lv' := [some (.int x0), some (.int x1), some (.int x2), some (.int (x0 + (kmax x1 x2)))]) rfl ?_
  refine v_iconst C (v := (0 : Int32)) dJ6_newLength_8 (by decide) ?_
  refine v_iload_n C dJ6_newLength_9 rfl rfl ?_
  refine v_icmp_ge C (tgt := 21) dJ6_newLength_10 (by decide) hF (fun c1 hF => ?_) (fun c1 hF => ?_)
  · refine v_iload_n C dJ6_newLength_21 rfl rfl ?_
    refine v_iload_n C dJ6_newLength_22 rfl rfl ?_
    cases hF
  · refine v_iload_n C dJ6_newLength_13 rfl rfl ?_
    refine v_ldc C q421 dJ6_newLength_14 ?_
    refine v_icmp_gt C (tgt := 21) dJ6_newLength_16 (by decide) hF (fun c2 hF => ?_) (fun c2 hF => ?_)
    · refine v_iload_n C dJ6_newLength_21 rfl rfl ?_
      refine v_iload_n C dJ6_newLength_22 rfl rfl ?_
      cases hF
    · refine v_iload_n C dJ6_newLength_19 rfl rfl ?_
      exact c_iret C dJ6_newLength_20 hF
set_option maxHeartbeats 4000000 in
theorem wJ8_copyOf_2 (l : Launch) (g : GT) (hX : ∀ U, gX g U → SX g U) (N : Nat) (x0 : Nat) (x1 : Int32) (x2 : Nat) (w : Wd) (r : Nat) (w1 : Wd) (hF : FJ8_copyOf_2 N g x0 x1 x2 w = some (r, w1)) : kMt l g yJ8_copyOf_2 (ws_ yJ8_copyOf_2 cJ8_copyOf_2 4 (some (.array (.object "java/lang/Object")))) 1 100 w [.ref x0, .int x1, .ref x2] (some (.ref r)) w1 := by
  refine kMt.ofV (lv := [some (.ref x0), some (.int x1), some (.ref x2), none]) (by decide) rfl (Nat.le_of_ble_eq_true rfl) rfl ?_
  intro X hl hin C
  unfold FJ8_copyOf_2 at hF
  refine v_aload_n C dJ8_copyOf_2_0 rfl rfl ?_
  refine v_ldcM C q468 (hX _ C.2.2.2.2.2.1.2.2.1).2.2.2.1 dJ8_copyOf_2_1 ?_
  refine v_acmp_ne C (rx := (some x2)) (ry := (some (gT g 5))) rfl rfl (tgt := 13) dJ8_copyOf_2_3 (by decide) hF (fun c1 hF => ?_) (fun c1 hF => ?_)
  · refine v_iload_n C dJ8_copyOf_2_6 rfl rfl ?_
    refine v_anew C (t := 4) rfl q470 ((hX _ C.2.2.2.2.2.1.2.2.1).2.1 _ (by decide)) dJ8_copyOf_2_7 hF (fun a2 u3 hF => ?_)
    refine v_goto C (tgt := 24) dJ8_copyOf_2_10 (by decide) ?_
    refine v_astore_n C dJ8_copyOf_2_24 rfl (Nat.le_of_ble_eq_true rfl) rfl (lv' := [some (.ref x0), some (.int x1), some (.ref x2), some (.ref a2)]) rfl ?_
    refine v_aload_n C dJ8_copyOf_2_25 rfl rfl ?_
    refine v_iconst C (v := (0 : Int32)) dJ8_copyOf_2_26 (by decide) ?_
    refine v_aload_n C dJ8_copyOf_2_27 rfl rfl ?_
    refine v_iconst C (v := (0 : Int32)) dJ8_copyOf_2_28 (by decide) ?_
    refine v_aload_n C dJ8_copyOf_2_29 rfl rfl ?_
    refine v_aL C (t := 4) rfl dJ8_copyOf_2_30 hF (fun v4 hF => ?_)
    refine v_iload_n C dJ8_copyOf_2_31 rfl rfl ?_
    refine v_mmin C q471 (by decide) (Nat.le_of_ble_eq_true rfl) dJ8_copyOf_2_32 ?_
    refine v_cpQ C hX q474 (by decide) (Nat.le_of_ble_eq_true rfl) dJ8_copyOf_2_35 hF (fun u5 hF => ?_)
    refine v_aload_n C dJ8_copyOf_2_38 rfl rfl ?_
    exact c_aret C (Or.inr ⟨_, rfl⟩) dJ8_copyOf_2_39 hF
  · cases hF
set_option maxHeartbeats 4000000 in
theorem wJ8_copyOf (l : Launch) (g : GT) (hX : ∀ U, gX g U → SX g U) (N : Nat) (x0 : Nat) (x1 : Int32) (w : Wd) (r : Nat) (w1 : Wd) (hF : FJ8_copyOf N g x0 x1 w = some (r, w1)) : kMt l g yJ8_copyOf (ws_ yJ8_copyOf cJ8_copyOf 2 (some (.array (.object "java/lang/Object")))) 2 200 w [.ref x0, .int x1] (some (.ref r)) w1 := by
  refine kMt.ofV (lv := [some (.ref x0), some (.int x1)]) (by decide) rfl (Nat.le_of_ble_eq_true rfl) rfl ?_
  intro X hl hin C
  unfold FJ8_copyOf at hF
  refine v_aload_n C dJ8_copyOf_0 rfl rfl ?_
  refine v_iload_n C dJ8_copyOf_1 rfl rfl ?_
  refine v_aload_n C dJ8_copyOf_2 rfl rfl ?_
  refine v_getClass C hX q428 (by decide) (Nat.le_of_ble_eq_true rfl) dJ8_copyOf_3 hF (fun hF => ?_)
  refine c_callSr C lk_J8_300 (fr2 := 1) (lo2 := 100) (As := [.ref x0, .int x1, .ref (gT g 5)]) (st := []) (fun r9_ w9_ h9_ => by rw [hl]; exact wJ8_copyOf_2 l g hX N x0 x1 (gT g 5) w r9_ w9_ h9_) (by decide) rfl rfl (Nat.le_of_ble_eq_true rfl) dJ8_copyOf_6 hF (fun r1 u2 hF => ?_)
  exact c_aret C (Or.inr ⟨_, rfl⟩) dJ8_copyOf_9 hF
set_option maxHeartbeats 4000000 in
theorem wJ0_init_t11 (l : Launch) (g : GT) (hX : ∀ U, gX g U → SX g U) (N : Nat) (x0 : Nat) (w : Wd) (r : Unit) (w1 : Wd) (hF : FJ0_init_t11 N g x0 w = some (r, w1)) : kMt l g yJ0_init (ws_ yJ0_init cJ0_init 1 none) 1 100 w [.ref x0] none w1 := by
  refine kMt.ofV (lv := [some (.ref x0)]) (by decide) rfl (Nat.le_of_ble_eq_true rfl) rfl ?_
  intro X hl hin C
  unfold FJ0_init_t11 at hF
  refine v_aload_n C dJ0_init_0 rfl rfl ?_
  refine v_objInit C q155 q142 q143 (by decide) (Nat.le_of_ble_eq_true rfl) dJ0_init_1 ?_
  exact c_vret C dJ0_init_4 hF
set_option maxHeartbeats 4000000 in
theorem wJ1_init_t11 (l : Launch) (g : GT) (hX : ∀ U, gX g U → SX g U) (N : Nat) (x0 : Nat) (w : Wd) (r : Unit) (w1 : Wd) (hF : FJ1_init_t11 N g x0 w = some (r, w1)) : kMt l g yJ1_init (ws_ yJ1_init cJ1_init 1 none) 2 200 w [.ref x0] none w1 := by
  refine kMt.ofV (lv := [some (.ref x0)]) (by decide) rfl (Nat.le_of_ble_eq_true rfl) rfl ?_
  intro X hl hin C
  unfold FJ1_init_t11 at hF
  refine v_aload_n C dJ1_init_0 rfl rfl ?_
  refine c_callI C lk_J1_1 (fr2 := 1) (lo2 := 100) (As := []) (st := []) (fun r9_ w9_ h9_ => by rw [hl]; exact wJ0_init_t11 l g hX N x0 w r9_ w9_ h9_) (by decide) rfl rfl (Nat.le_of_ble_eq_true rfl) dJ1_init_1 hF (fun r1 u2 hF => ?_)
  refine v_aload_n C dJ1_init_4 rfl rfl ?_
  refine v_iconst C (v := (0 : Int32)) dJ1_init_5 (by decide) ?_
  refine v_putW C kc_J2 0 (Nat.le_of_ble_eq_true rfl) (kFl.p q162) rfl rfl rfl dJ1_init_6 hF (fun u3 hF => ?_)
  exact c_vret C dJ1_init_9 hF
set_option maxHeartbeats 4000000 in
theorem wJ2_init (l : Launch) (g : GT) (hX : ∀ U, gX g U → SX g U) (N : Nat) (x0 : Nat) (w : Wd) (r : Unit) (w1 : Wd) (hF : FJ2_init N g x0 w = some (r, w1)) : kMt l g yJ2_init (ws_ yJ2_init cJ2_init 1 none) 3 300 w [.ref x0] none w1 := by
  refine kMt.ofV (lv := [some (.ref x0)]) (by decide) rfl (Nat.le_of_ble_eq_true rfl) rfl ?_
  intro X hl hin C
  unfold FJ2_init at hF
  refine v_aload_n C dJ2_init_0 rfl rfl ?_
  refine c_callI C lk_J2_1 (fr2 := 2) (lo2 := 200) (As := []) (st := []) (fun r9_ w9_ h9_ => by rw [hl]; exact wJ1_init_t11 l g hX N x0 w r9_ w9_ h9_) (by decide) rfl rfl (Nat.le_of_ble_eq_true rfl) dJ2_init_1 hF (fun r1 u2 hF => ?_)
  refine v_aload_n C dJ2_init_4 rfl rfl ?_
  refine v_gets C ((hX _ C.2.2.2.2.2.1.2.2.1).1 _ (List.mem_of_getElem? (i := 0) rfl)) q156 (Or.inl rfl) dJ2_init_5 ?_
  refine v_putW C kc_J2 1 (Nat.le_of_ble_eq_true rfl) (kFl.p q158) rfl rfl rfl dJ2_init_8 hF (fun u3 hF => ?_)
  exact c_vret C dJ2_init_11 hF
set_option maxHeartbeats 4000000 in
theorem wJ2_grow_2_b20 {l : Launch} {g : GT} {X : CxT} {r : Nat} {w1 : Wd} (C : kOk g X cJ2_grow_2 4 RJ2 (some (.array (.object "java/lang/Object"))) 3 300 (some (.ref r)) w1) (hX : ∀ U, gX g U → SX g U) (hl : xl X = l) (hin : kHin X yJ2_grow_2) (N : Nat)  (x0 : Nat) (x1 : Int32) (x2 : Int32) (w : Wd) (hF : FJ2_grow_2_b20 N g  x0 x1 x2 w = some (r, w1)) : kV g X 4 w 20 [some (.ref x0), some (.int x1), some (.int x2), none] [] := by
  unfold FJ2_grow_2_b20 at hF
  refine v_iload_n C dJ2_grow_2_20 rfl rfl ?_
  refine v_iload_n C dJ2_grow_2_21 rfl rfl ?_
  refine v_iload_n C dJ2_grow_2_22 rfl rfl ?_
  refine v_isub C dJ2_grow_2_23 ?_
  refine v_iload_n C dJ2_grow_2_24 rfl rfl ?_
  refine v_iconst C (v := (1 : Int32)) dJ2_grow_2_25 (by decide) ?_
  refine v_ishr C dJ2_grow_2_26 ?_
  refine c_callSi C lk_J2_73 (fr2 := 1) (lo2 := 100) (As := [.int x2, .int (x1 - x2), .int (x2 >>> ((1 : Int32) &&& 31))]) (st := []) (fun r9_ w9_ h9_ => by rw [hl]; exact wJ6_newLength l g hX N x2 (x1 - x2) (x2 >>> ((1 : Int32) &&& 31)) w r9_ w9_ h9_) (by decide) rfl rfl (Nat.le_of_ble_eq_true rfl) dJ2_grow_2_27 hF (fun r4 u5 hF => ?_)
  refine v_istore_n C dJ2_grow_2_30 rfl (Nat.le_of_ble_eq_true rfl) rfl (lv' := [some (.ref x0), some (.int x1), some (.int x2), some (.int r4)]) rfl ?_
  refine v_aload_n C dJ2_grow_2_31 rfl rfl ?_
  refine v_aload_n C dJ2_grow_2_32 rfl rfl ?_
  refine v_getR C kc_J2 1 (Nat.le_of_ble_eq_true rfl) (kFl.p q158) dJ2_grow_2_33 hF (fun v6 hF => ?_)
  refine v_iload_n C dJ2_grow_2_36 rfl rfl ?_
  refine c_callSr C lk_J2_66 (fr2 := 2) (lo2 := 200) (As := [.ref v6, .int r4]) (st := [.ref x0]) (fun r9_ w9_ h9_ => by rw [hl]; exact wJ8_copyOf l g hX N v6 r4 u5 r9_ w9_ h9_) (by decide) rfl rfl (Nat.le_of_ble_eq_true rfl) dJ2_grow_2_37 hF (fun r7 u8 hF => ?_)
  refine v_dup_x1 C dJ2_grow_2_40 rfl rfl ?_
  refine v_putW C kc_J2 1 (Nat.le_of_ble_eq_true rfl) (kFl.p q158) rfl rfl rfl dJ2_grow_2_41 hF (fun u9 hF => ?_)
  exact c_aret C (Or.inr ⟨_, rfl⟩) dJ2_grow_2_44 hF
set_option maxHeartbeats 4000000 in
theorem wJ2_grow_2 (l : Launch) (g : GT) (hX : ∀ U, gX g U → SX g U) (N : Nat) (x0 : Nat) (x1 : Int32) (w : Wd) (r : Nat) (w1 : Wd) (hF : FJ2_grow_2 N g x0 x1 w = some (r, w1)) : kMt l g yJ2_grow_2 (ws_ yJ2_grow_2 cJ2_grow_2 4 (some (.array (.object "java/lang/Object")))) 3 300 w [.ref x0, .int x1] (some (.ref r)) w1 := by
  refine kMt.ofV (lv := [some (.ref x0), some (.int x1), none, none]) (by decide) rfl (Nat.le_of_ble_eq_true rfl) rfl ?_
  intro X hl hin C
  unfold FJ2_grow_2 at hF
  refine v_aload_n C dJ2_grow_2_0 rfl rfl ?_
  refine v_getR C kc_J2 1 (Nat.le_of_ble_eq_true rfl) (kFl.p q158) dJ2_grow_2_1 hF (fun v1 hF => ?_)
  refine v_aLe C hX dJ2_grow_2_4 hF (fun v2 hF => ?_)
  refine v_istore_n C dJ2_grow_2_5 rfl (Nat.le_of_ble_eq_true rfl) rfl (lv' := [some (.ref x0), some (.int x1), some (.int v2), none]) rfl ?_
  refine v_iload_n C dJ2_grow_2_6 rfl rfl ?_
  refine v_if_gt C (tgt := 20) dJ2_grow_2_7 (by decide) hF (fun c3 hF => ?_) (fun c3 hF => ?_)
  · refine v_mask [true, true, true, false] (lv' := [some (.ref x0), some (.int x1), some (.int v2), none]) rfl ?_
    exact wJ2_grow_2_b20 C hX hl hin N (x0) (x1) (v2) w hF
  · refine v_aload_n C dJ2_grow_2_10 rfl rfl ?_
    refine v_getR C kc_J2 1 (Nat.le_of_ble_eq_true rfl) (kFl.p q158) dJ2_grow_2_11 hF (fun v10 hF => ?_)
    refine v_gets C ((hX _ C.2.2.2.2.2.1.2.2.1).1 _ (List.mem_of_getElem? (i := 0) rfl)) q156 (Or.inl rfl) dJ2_grow_2_14 ?_
    refine v_acmp_eq C (rx := (some v10)) (ry := (some (gT g 4))) rfl rfl (tgt := 45) dJ2_grow_2_17 (by decide) hF (fun c11 hF => ?_) (fun c11 hF => ?_)
    · refine v_aload_n C dJ2_grow_2_45 rfl rfl ?_
      refine v_bipush C (v := (10 : Int32)) dJ2_grow_2_46 (by decide) ?_
      refine v_iload_n C dJ2_grow_2_48 rfl rfl ?_
      refine v_mmax C q477 (by decide) (Nat.le_of_ble_eq_true rfl) dJ2_grow_2_49 ?_
      refine v_anew C (t := 4) rfl q478 ((hX _ C.2.2.2.2.2.1.2.2.1).2.1 _ (by decide)) dJ2_grow_2_52 hF (fun a12 u13 hF => ?_)
      refine v_dup_x1 C dJ2_grow_2_55 rfl rfl ?_
      refine v_putW C kc_J2 1 (Nat.le_of_ble_eq_true rfl) (kFl.p q158) rfl rfl rfl dJ2_grow_2_56 hF (fun u14 hF => ?_)
      exact c_aret C (Or.inr ⟨_, rfl⟩) dJ2_grow_2_59 hF
    · refine v_mask [true, true, true, false] (lv' := [some (.ref x0), some (.int x1), some (.int v2), none]) rfl ?_
      exact wJ2_grow_2_b20 C hX hl hin N (x0) (x1) (v2) w hF
set_option maxHeartbeats 4000000 in
theorem wJ2_grow (l : Launch) (g : GT) (hX : ∀ U, gX g U → SX g U) (N : Nat) (x0 : Nat) (w : Wd) (r : Nat) (w1 : Wd) (hF : FJ2_grow N g x0 w = some (r, w1)) : kMt l g yJ2_grow (ws_ yJ2_grow cJ2_grow 1 (some (.array (.object "java/lang/Object")))) 4 400 w [.ref x0] (some (.ref r)) w1 := by
  refine kMt.ofV (lv := [some (.ref x0)]) (by decide) rfl (Nat.le_of_ble_eq_true rfl) rfl ?_
  intro X hl hin C
  unfold FJ2_grow at hF
  refine v_aload_n C dJ2_grow_0 rfl rfl ?_
  refine v_aload_n C dJ2_grow_1 rfl rfl ?_
  refine v_getI C kc_J2 2 (Nat.le_of_ble_eq_true rfl) (kFl.p q161) dJ2_grow_2 hF (fun v1 hF => ?_)
  refine v_iconst C (v := (1 : Int32)) dJ2_grow_5 (by decide) ?_
  refine v_iadd C dJ2_grow_6 ?_
  obtain ⟨h4, hF⟩ := k_ite hF
  refine c_callVr C lk_J2_69 (ci := 11) rfl h4 (fr2 := 3) (lo2 := 300) (As := [.int (v1 + (1 : Int32))]) (st := []) (fun r9_ w9_ h9_ => by rw [hl]; exact wJ2_grow_2 l g hX N x0 (v1 + (1 : Int32)) w r9_ w9_ h9_) (by decide) rfl rfl (Nat.le_of_ble_eq_true rfl) dJ2_grow_7 hF (fun r2 u3 hF => ?_)
  exact c_aret C (Or.inr ⟨_, rfl⟩) dJ2_grow_10 hF
set_option maxHeartbeats 4000000 in
theorem wJ2_add_2_b11 {l : Launch} {g : GT} {X : CxT} {r : Unit} {w1 : Wd} (C : kOk g X cJ2_add_2 4 RJ2 none 5 500 none w1) (hX : ∀ U, gX g U → SX g U) (hl : xl X = l) (hin : kHin X yJ2_add_2) (N : Nat)  (x0 : Nat) (x1 : Nat) (x2 : Nat) (x3 : Int32) (w : Wd) (hF : FJ2_add_2_b11 N g  x0 x1 x2 x3 w = some (r, w1)) : kV g X 4 w 11 [some (.ref x0), some (.ref x1), some (.ref x2), some (.int x3)] [] := by
  unfold FJ2_add_2_b11 at hF
  refine v_aload_n C dJ2_add_2_11 rfl rfl ?_
  refine v_iload_n C dJ2_add_2_12 rfl rfl ?_
  refine v_aload_n C dJ2_add_2_13 rfl rfl ?_
  obtain ⟨h7, hF⟩ := k_ite hF
  refine v_aSq C (t := 4) rfl (any_O C h7) dJ2_add_2_14 hF (fun u6 hF => ?_)
  refine v_aload_n C dJ2_add_2_15 rfl rfl ?_
  refine v_iload_n C dJ2_add_2_16 rfl rfl ?_
  refine v_iconst C (v := (1 : Int32)) dJ2_add_2_17 (by decide) ?_
  refine v_iadd C dJ2_add_2_18 ?_
  refine v_putW C kc_J2 2 (Nat.le_of_ble_eq_true rfl) (kFl.p q161) rfl rfl rfl dJ2_add_2_19 hF (fun u8 hF => ?_)
  exact c_vret C dJ2_add_2_22 hF
set_option maxHeartbeats 4000000 in
theorem wJ2_add_2 (l : Launch) (g : GT) (hX : ∀ U, gX g U → SX g U) (N : Nat) (x0 : Nat) (x1 : Nat) (x2 : Nat) (x3 : Int32) (w : Wd) (r : Unit) (w1 : Wd) (hF : FJ2_add_2 N g x0 x1 x2 x3 w = some (r, w1)) : kMt l g yJ2_add_2 (ws_ yJ2_add_2 cJ2_add_2 4 none) 5 500 w [.ref x0, .ref x1, .ref x2, .int x3] none w1 := by
  refine kMt.ofV (lv := [some (.ref x0), some (.ref x1), some (.ref x2), some (.int x3)]) (by decide) rfl (Nat.le_of_ble_eq_true rfl) rfl ?_
  intro X hl hin C
  unfold FJ2_add_2 at hF
  refine v_iload_n C dJ2_add_2_0 rfl rfl ?_
  refine v_aload_n C dJ2_add_2_1 rfl rfl ?_
  refine v_aLe C hX dJ2_add_2_2 hF (fun v1 hF => ?_)
  refine v_icmp_ne C (tgt := 11) dJ2_add_2_3 (by decide) hF (fun c2 hF => ?_) (fun c2 hF => ?_)
  · refine v_aload_n C dJ2_add_2_6 rfl rfl ?_
    obtain ⟨h5, hF⟩ := k_ite hF
    refine c_callVr C lk_J2_129 (ci := 11) rfl h5 (fr2 := 4) (lo2 := 400) (As := []) (st := []) (fun r9_ w9_ h9_ => by rw [hl]; exact wJ2_grow l g hX N x0 w r9_ w9_ h9_) (by decide) rfl rfl (Nat.le_of_ble_eq_true rfl) dJ2_add_2_7 hF (fun r3 u4 hF => ?_)
    refine v_astore_n C dJ2_add_2_10 rfl (Nat.le_of_ble_eq_true rfl) rfl (lv' := [some (.ref x0), some (.ref x1), some (.ref r3), some (.int x3)]) rfl ?_
    refine v_mask [true, true, true, true] (lv' := [some (.ref x0), some (.ref x1), some (.ref r3), some (.int x3)]) rfl ?_
    exact wJ2_add_2_b11 C hX hl hin N (x0) (x1) (r3) (x3) u4 hF
  · refine v_mask [true, true, true, true] (lv' := [some (.ref x0), some (.ref x1), some (.ref x2), some (.int x3)]) rfl ?_
    exact wJ2_add_2_b11 C hX hl hin N (x0) (x1) (x2) (x3) w hF
set_option maxHeartbeats 4000000 in
theorem wJ2_add (l : Launch) (g : GT) (hX : ∀ U, gX g U → SX g U) (N : Nat) (x0 : Nat) (x1 : Nat) (w : Wd) (r : Int32) (w1 : Wd) (hF : FJ2_add N g x0 x1 w = some (r, w1)) : kMt l g yJ2_add (ws_ yJ2_add cJ2_add 2 (some .boolean)) 6 600 w [.ref x0, .ref x1] (some (.int r)) w1 := by
  refine kMt.ofV (lv := [some (.ref x0), some (.ref x1)]) (by decide) rfl (Nat.le_of_ble_eq_true rfl) rfl ?_
  intro X hl hin C
  unfold FJ2_add at hF
  refine v_aload_n C dJ2_add_0 rfl rfl ?_
  refine v_dup C dJ2_add_1 rfl ?_
  refine v_getI C kc_J2 0 (Nat.le_of_ble_eq_true rfl) (kFl.i q165 q164) dJ2_add_2 hF (fun v1 hF => ?_)
  refine v_iconst C (v := (1 : Int32)) dJ2_add_5 (by decide) ?_
  refine v_iadd C dJ2_add_6 ?_
  refine v_putW C kc_J2 0 (Nat.le_of_ble_eq_true rfl) (kFl.i q165 q164) rfl rfl rfl dJ2_add_7 hF (fun u2 hF => ?_)
  refine v_aload_n C dJ2_add_10 rfl rfl ?_
  refine v_aload_n C dJ2_add_11 rfl rfl ?_
  refine v_aload_n C dJ2_add_12 rfl rfl ?_
  refine v_getR C kc_J2 1 (Nat.le_of_ble_eq_true rfl) (kFl.p q158) dJ2_add_13 hF (fun v3 hF => ?_)
  refine v_aload_n C dJ2_add_16 rfl rfl ?_
  refine v_getI C kc_J2 2 (Nat.le_of_ble_eq_true rfl) (kFl.p q161) dJ2_add_17 hF (fun v4 hF => ?_)
  obtain ⟨h7, hF⟩ := k_ite hF
  refine c_callVv C lk_J2_131 (ci := 11) rfl h7 (fr2 := 5) (lo2 := 500) (As := [.ref x1, .ref v3, .int v4]) (st := []) (fun r9_ w9_ h9_ => by rw [hl]; exact wJ2_add_2 l g hX N x0 x1 v3 v4 u2 r9_ w9_ h9_) (by decide) rfl rfl (Nat.le_of_ble_eq_true rfl) dJ2_add_20 hF (fun r5 u6 hF => ?_)
  refine v_iconst C (v := (1 : Int32)) dJ2_add_23 (by decide) ?_
  exact c_zret C rfl dJ2_add_24 hF
set_option maxHeartbeats 4000000 in
theorem wJ2_elementData (l : Launch) (g : GT) (hX : ∀ U, gX g U → SX g U) (N : Nat) (x0 : Nat) (x1 : Int32) (w : Wd) (r : Nat) (w1 : Wd) (hF : FJ2_elementData N g x0 x1 w = some (r, w1)) : kMt l g yJ2_elementData (ws_ yJ2_elementData cJ2_elementData 2 (some (.object "java/lang/Object"))) 1 100 w [.ref x0, .int x1] (some (.ref r)) w1 := by
  refine kMt.ofV (lv := [some (.ref x0), some (.int x1)]) (by decide) rfl (Nat.le_of_ble_eq_true rfl) rfl ?_
  intro X hl hin C
  unfold FJ2_elementData at hF
  refine v_aload_n C dJ2_elementData_0 rfl rfl ?_
  refine v_getR C kc_J2 1 (Nat.le_of_ble_eq_true rfl) (kFl.p q158) dJ2_elementData_1 hF (fun v1 hF => ?_)
  refine v_iload_n C dJ2_elementData_4 rfl rfl ?_
  refine v_aQl C (t := 4) rfl dJ2_elementData_5 hF (fun v2 hF => ?_)
  rcases v2 with _ | a3
  · exact (k_ob0 hF).elim
  have hF := k_ob1 hF
  show kV _ _ _ _ 6 [some (.ref x0), some (.int x1)] [.ref a3]
  exact c_aret C (Or.inl ⟨_, rfl⟩) dJ2_elementData_6 hF
set_option maxHeartbeats 4000000 in
theorem wJ2_get (l : Launch) (g : GT) (hX : ∀ U, gX g U → SX g U) (N : Nat) (x0 : Nat) (x1 : Int32) (w : Wd) (r : Nat) (w1 : Wd) (hF : FJ2_get N g x0 x1 w = some (r, w1)) : kMt l g yJ2_get (ws_ yJ2_get cJ2_get 2 (some (.object "java/lang/Object"))) 3 300 w [.ref x0, .int x1] (some (.ref r)) w1 := by
  refine kMt.ofV (lv := [some (.ref x0), some (.int x1)]) (by decide) rfl (Nat.le_of_ble_eq_true rfl) rfl ?_
  intro X hl hin C
  unfold FJ2_get at hF
  refine v_iload_n C dJ2_get_0 rfl rfl ?_
  refine v_aload_n C dJ2_get_1 rfl rfl ?_
  refine v_getI C kc_J2 2 (Nat.le_of_ble_eq_true rfl) (kFl.p q161) dJ2_get_2 hF (fun v1 hF => ?_)
  refine c_callSi C lk_J2_118 (fr2 := 2) (lo2 := 200) (As := [.int x1, .int v1]) (st := []) (fun r9_ w9_ h9_ => by rw [hl]; exact wJ14_checkIndex l g hX N x1 v1 w r9_ w9_ h9_) (by decide) rfl rfl (Nat.le_of_ble_eq_true rfl) dJ2_get_5 hF (fun r2 u3 hF => ?_)
  refine v_pop C dJ2_get_8 rfl ?_
  refine v_aload_n C dJ2_get_9 rfl rfl ?_
  refine v_iload_n C dJ2_get_10 rfl rfl ?_
  obtain ⟨h6, hF⟩ := k_ite hF
  refine c_callVr C lk_J2_123 (ci := 11) rfl h6 (fr2 := 1) (lo2 := 100) (As := [.int x1]) (st := []) (fun r9_ w9_ h9_ => by rw [hl]; exact wJ2_elementData l g hX N x0 x1 u3 r9_ w9_ h9_) (by decide) rfl rfl (Nat.le_of_ble_eq_true rfl) dJ2_get_11 hF (fun r4 u5 hF => ?_)
  exact c_aret C (Or.inl ⟨_, rfl⟩) dJ2_get_14 hF
set_option maxHeartbeats 4000000 in
theorem wJ2_size (l : Launch) (g : GT) (hX : ∀ U, gX g U → SX g U) (N : Nat) (x0 : Nat) (w : Wd) (r : Int32) (w1 : Wd) (hF : FJ2_size N g x0 w = some (r, w1)) : kMt l g yJ2_size (ws_ yJ2_size cJ2_size 1 (some .int)) 1 100 w [.ref x0] (some (.int r)) w1 := by
  refine kMt.ofV (lv := [some (.ref x0)]) (by decide) rfl (Nat.le_of_ble_eq_true rfl) rfl ?_
  intro X hl hin C
  unfold FJ2_size at hF
  refine v_aload_n C dJ2_size_0 rfl rfl ?_
  refine v_getI C kc_J2 2 (Nat.le_of_ble_eq_true rfl) (kFl.p q161) dJ2_size_1 hF (fun v1 hF => ?_)
  exact c_iret C dJ2_size_4 hF
set_option maxHeartbeats 4000000 in
theorem wJ2_isEmpty (l : Launch) (g : GT) (hX : ∀ U, gX g U → SX g U) (N : Nat) (x0 : Nat) (w : Wd) (r : Int32) (w1 : Wd) (hF : FJ2_isEmpty N g x0 w = some (r, w1)) : kMt l g yJ2_isEmpty (ws_ yJ2_isEmpty cJ2_isEmpty 1 (some .boolean)) 1 100 w [.ref x0] (some (.int r)) w1 := by
  refine kMt.ofV (lv := [some (.ref x0)]) (by decide) rfl (Nat.le_of_ble_eq_true rfl) rfl ?_
  intro X hl hin C
  unfold FJ2_isEmpty at hF
  refine v_aload_n C dJ2_isEmpty_0 rfl rfl ?_
  refine v_getI C kc_J2 2 (Nat.le_of_ble_eq_true rfl) (kFl.p q161) dJ2_isEmpty_1 hF (fun v1 hF => ?_)
  refine v_if_ne C (tgt := 11) dJ2_isEmpty_4 (by decide) hF (fun c2 hF => ?_) (fun c2 hF => ?_)
  · refine v_iconst C (v := (1 : Int32)) dJ2_isEmpty_7 (by decide) ?_
    refine v_goto C (tgt := 12) dJ2_isEmpty_8 (by decide) ?_
    exact c_zret C rfl dJ2_isEmpty_12 hF
  · refine v_iconst C (v := (0 : Int32)) dJ2_isEmpty_11 (by decide) ?_
    exact c_zret C rfl dJ2_isEmpty_12 hF
set_option maxHeartbeats 4000000 in
theorem wJ2_fastRemove_b34 {l : Launch} {g : GT} {X : CxT} {r : Unit} {w1 : Wd} (C : kOk g X cJ2_fastRemove 4 RJ2 none 1 100 none w1) (hX : ∀ U, gX g U → SX g U) (hl : xl X = l) (hin : kHin X yJ2_fastRemove) (N : Nat)  (x0 : Nat) (x1 : Nat) (x3 : Int32) (w : Wd) (hF : FJ2_fastRemove_b34 N g  x0 x1 x3 w = some (r, w1)) : kV g X 4 w 34 [some (.ref x0), some (.ref x1), none, some (.int x3)] [] := by
  unfold FJ2_fastRemove_b34 at hF
  refine v_aload_n C dJ2_fastRemove_34 rfl rfl ?_
  refine v_aload_n C dJ2_fastRemove_35 rfl rfl ?_
  refine v_iload_n C dJ2_fastRemove_36 rfl rfl ?_
  refine v_dup_x1 C dJ2_fastRemove_37 rfl rfl ?_
  refine v_putW C kc_J2 2 (Nat.le_of_ble_eq_true rfl) (kFl.p q161) rfl rfl rfl dJ2_fastRemove_38 hF (fun u5 hF => ?_)
  refine v_null C dJ2_fastRemove_41 ?_
  refine v_aSqN C (t := 4) rfl dJ2_fastRemove_42 hF (fun u6 hF => ?_)
  exact c_vret C dJ2_fastRemove_43 hF
set_option maxHeartbeats 4000000 in
theorem wJ2_fastRemove (l : Launch) (g : GT) (hX : ∀ U, gX g U → SX g U) (N : Nat) (x0 : Nat) (x1 : Nat) (x2 : Int32) (w : Wd) (r : Unit) (w1 : Wd) (hF : FJ2_fastRemove N g x0 x1 x2 w = some (r, w1)) : kMt l g yJ2_fastRemove (ws_ yJ2_fastRemove cJ2_fastRemove 4 none) 1 100 w [.ref x0, .ref x1, .int x2] none w1 := by
  refine kMt.ofV (lv := [some (.ref x0), some (.ref x1), some (.int x2), none]) (by decide) rfl (Nat.le_of_ble_eq_true rfl) rfl ?_
  intro X hl hin C
  unfold FJ2_fastRemove at hF
  refine v_aload_n C dJ2_fastRemove_0 rfl rfl ?_
  refine v_dup C dJ2_fastRemove_1 rfl ?_
  refine v_getI C kc_J2 0 (Nat.le_of_ble_eq_true rfl) (kFl.i q165 q164) dJ2_fastRemove_2 hF (fun v1 hF => ?_)
  refine v_iconst C (v := (1 : Int32)) dJ2_fastRemove_5 (by decide) ?_
  refine v_iadd C dJ2_fastRemove_6 ?_
  refine v_putW C kc_J2 0 (Nat.le_of_ble_eq_true rfl) (kFl.i q165 q164) rfl rfl rfl dJ2_fastRemove_7 hF (fun u2 hF => ?_)
  refine v_aload_n C dJ2_fastRemove_10 rfl rfl ?_
  refine v_getI C kc_J2 2 (Nat.le_of_ble_eq_true rfl) (kFl.p q161) dJ2_fastRemove_11 hF (fun v3 hF => ?_)
  refine v_iconst C (v := (1 : Int32)) dJ2_fastRemove_14 (by decide) ?_
  refine v_isub C dJ2_fastRemove_15 ?_
  refine v_dup C dJ2_fastRemove_16 rfl ?_
  refine v_istore_n C dJ2_fastRemove_17 rfl (Nat.le_of_ble_eq_true rfl) rfl (lv' := [some (.ref x0), some (.ref x1), some (.int x2), some (.int (v3 - (1 : Int32)))]) rfl ?_
  refine v_iload_n C dJ2_fastRemove_18 rfl rfl ?_
  refine v_icmp_le C (tgt := 34) dJ2_fastRemove_19 (by decide) hF (fun c4 hF => ?_) (fun c4 hF => ?_)
  · refine v_mask [true, true, false, true] (lv' := [some (.ref x0), some (.ref x1), none, some (.int (v3 - (1 : Int32)))]) rfl ?_
    exact wJ2_fastRemove_b34 C hX hl hin N (x0) (x1) ((v3 - (1 : Int32))) u2 hF
  · refine v_aload_n C dJ2_fastRemove_22 rfl rfl ?_
    refine v_iload_n C dJ2_fastRemove_23 rfl rfl ?_
    refine v_iconst C (v := (1 : Int32)) dJ2_fastRemove_24 (by decide) ?_
    refine v_iadd C dJ2_fastRemove_25 ?_
    refine v_aload_n C dJ2_fastRemove_26 rfl rfl ?_
    refine v_iload_n C dJ2_fastRemove_27 rfl rfl ?_
    refine v_iload_n C dJ2_fastRemove_28 rfl rfl ?_
    refine v_iload_n C dJ2_fastRemove_29 rfl rfl ?_
    refine v_isub C dJ2_fastRemove_30 ?_
    refine v_cpQ C hX q1023 (by decide) (Nat.le_of_ble_eq_true rfl) dJ2_fastRemove_31 hF (fun u7 hF => ?_)
    refine v_mask [true, true, false, true] (lv' := [some (.ref x0), some (.ref x1), none, some (.int (v3 - (1 : Int32)))]) rfl ?_
    exact wJ2_fastRemove_b34 C hX hl hin N (x0) (x1) ((v3 - (1 : Int32))) u7 hF
set_option maxHeartbeats 4000000 in
theorem wJ2_remove (l : Launch) (g : GT) (hX : ∀ U, gX g U → SX g U) (N : Nat) (x0 : Nat) (x1 : Int32) (w : Wd) (r : Nat) (w1 : Wd) (hF : FJ2_remove N g x0 x1 w = some (r, w1)) : kMt l g yJ2_remove (ws_ yJ2_remove cJ2_remove 4 (some (.object "java/lang/Object"))) 3 300 w [.ref x0, .int x1] (some (.ref r)) w1 := by
  refine kMt.ofV (lv := [some (.ref x0), some (.int x1), none, none]) (by decide) rfl (Nat.le_of_ble_eq_true rfl) rfl ?_
  intro X hl hin C
  unfold FJ2_remove at hF
  refine v_iload_n C dJ2_remove_0 rfl rfl ?_
  refine v_aload_n C dJ2_remove_1 rfl rfl ?_
  refine v_getI C kc_J2 2 (Nat.le_of_ble_eq_true rfl) (kFl.p q161) dJ2_remove_2 hF (fun v1 hF => ?_)
  refine c_callSi C lk_J2_118 (fr2 := 2) (lo2 := 200) (As := [.int x1, .int v1]) (st := []) (fun r9_ w9_ h9_ => by rw [hl]; exact wJ14_checkIndex l g hX N x1 v1 w r9_ w9_ h9_) (by decide) rfl rfl (Nat.le_of_ble_eq_true rfl) dJ2_remove_5 hF (fun r2 u3 hF => ?_)
  refine v_pop C dJ2_remove_8 rfl ?_
  refine v_aload_n C dJ2_remove_9 rfl rfl ?_
  refine v_getR C kc_J2 1 (Nat.le_of_ble_eq_true rfl) (kFl.p q158) dJ2_remove_10 hF (fun v4 hF => ?_)
  refine v_astore_n C dJ2_remove_13 rfl (Nat.le_of_ble_eq_true rfl) rfl (lv' := [some (.ref x0), some (.int x1), some (.ref v4), none]) rfl ?_
  refine v_aload_n C dJ2_remove_14 rfl rfl ?_
  refine v_iload_n C dJ2_remove_15 rfl rfl ?_
  refine v_aQl C (t := 4) rfl dJ2_remove_16 hF (fun v5 hF => ?_)
  rcases v5 with _ | a6
  · exact (k_ob0 hF).elim
  have hF := k_ob1 hF
  show kV _ _ _ _ 17 [some (.ref x0), some (.int x1), some (.ref v4), none] [.ref a6]
  refine v_astore_n C dJ2_remove_17 rfl (Nat.le_of_ble_eq_true rfl) rfl (lv' := [some (.ref x0), some (.int x1), some (.ref v4), some (.ref a6)]) rfl ?_
  refine v_aload_n C dJ2_remove_18 rfl rfl ?_
  refine v_aload_n C dJ2_remove_19 rfl rfl ?_
  refine v_iload_n C dJ2_remove_20 rfl rfl ?_
  obtain ⟨h9, hF⟩ := k_ite hF
  refine c_callVv C lk_J2_144 (ci := 11) rfl h9 (fr2 := 1) (lo2 := 100) (As := [.ref v4, .int x1]) (st := []) (fun r9_ w9_ h9_ => by rw [hl]; exact wJ2_fastRemove l g hX N x0 v4 x1 u3 r9_ w9_ h9_) (by decide) rfl rfl (Nat.le_of_ble_eq_true rfl) dJ2_remove_21 hF (fun r7 u8 hF => ?_)
  refine v_aload_n C dJ2_remove_24 rfl rfl ?_
  exact c_aret C (Or.inl ⟨_, rfl⟩) dJ2_remove_25 hF
set_option maxHeartbeats 4000000 in
theorem wJ15_init (l : Launch) (g : GT) (hX : ∀ U, gX g U → SX g U) (N : Nat) (x0 : Nat) (x1 : Nat) (w : Wd) (r : Unit) (w1 : Wd) (hF : FJ15_init N g x0 x1 w = some (r, w1)) : kMt l g yJ15_init (ws_ yJ15_init cJ15_init 2 none) 1 100 w [.ref x0, .ref x1] none w1 := by
  refine kMt.ofV (lv := [some (.ref x0), some (.ref x1)]) (by decide) rfl (Nat.le_of_ble_eq_true rfl) rfl ?_
  intro X hl hin C
  unfold FJ15_init at hF
  refine v_aload_n C dJ15_init_0 rfl rfl ?_
  refine v_aload_n C dJ15_init_1 rfl rfl ?_
  refine v_putFW C (hin.1.trans rfl) kc_J15 3 (Nat.le_of_ble_eq_true rfl) q718 rfl rfl rfl rfl dJ15_init_2 hF (fun u1 hF => ?_)
  refine v_aload_n C dJ15_init_5 rfl rfl ?_
  refine v_objInit C q714 q142 q143 (by decide) (Nat.le_of_ble_eq_true rfl) dJ15_init_6 ?_
  refine v_aload_n C dJ15_init_9 rfl rfl ?_
  refine v_iconst C (v := (-1 : Int32)) dJ15_init_10 (by decide) ?_
  refine v_putW C kc_J15 1 (Nat.le_of_ble_eq_true rfl) (kFl.p q716) rfl rfl rfl dJ15_init_11 hF (fun u2 hF => ?_)
  refine v_aload_n C dJ15_init_14 rfl rfl ?_
  refine v_aload_n C dJ15_init_15 rfl rfl ?_
  refine v_getR C kc_J15 3 (Nat.le_of_ble_eq_true rfl) (kFl.p q718) dJ15_init_16 hF (fun v3 hF => ?_)
  refine v_getI C kc_J2 0 (Nat.le_of_ble_eq_true rfl) (kFl.i q163 q164) dJ15_init_19 hF (fun v4 hF => ?_)
  refine v_putW C kc_J15 2 (Nat.le_of_ble_eq_true rfl) (kFl.p q717) rfl rfl rfl dJ15_init_22 hF (fun u5 hF => ?_)
  exact c_vret C dJ15_init_25 hF
set_option maxHeartbeats 4000000 in
theorem wJ2_iterator (l : Launch) (g : GT) (hX : ∀ U, gX g U → SX g U) (N : Nat) (x0 : Nat) (w : Wd) (r : Nat) (w1 : Wd) (hF : FJ2_iterator N g x0 w = some (r, w1)) : kMt l g yJ2_iterator (ws_ yJ2_iterator cJ2_iterator 1 (some (.object "java/util/Iterator"))) 2 200 w [.ref x0] (some (.ref r)) w1 := by
  refine kMt.ofV (lv := [some (.ref x0)]) (by decide) rfl (Nat.le_of_ble_eq_true rfl) rfl ?_
  intro X hl hin C
  unfold FJ2_iterator at hF
  refine v_newW C kc_J15 q709 q710 q103 nw_J15 dJ2_iterator_0 hF (fun a1 u2 hF => ?_)
  refine v_dup C dJ2_iterator_3 rfl ?_
  refine v_aload_n C dJ2_iterator_4 rfl rfl ?_
  refine c_callI C lk_J2_269 (fr2 := 1) (lo2 := 100) (As := [.ref x0]) (st := [.ref a1]) (fun r9_ w9_ h9_ => by rw [hl]; exact wJ15_init l g hX N a1 x0 u2 r9_ w9_ h9_) (by decide) rfl rfl (Nat.le_of_ble_eq_true rfl) dJ2_iterator_5 hF (fun r3 u4 hF => ?_)
  exact c_aret C (Or.inl ⟨_, rfl⟩) dJ2_iterator_8 hF
set_option maxHeartbeats 4000000 in
theorem wJ15_hasNext (l : Launch) (g : GT) (hX : ∀ U, gX g U → SX g U) (N : Nat) (x0 : Nat) (w : Wd) (r : Int32) (w1 : Wd) (hF : FJ15_hasNext N g x0 w = some (r, w1)) : kMt l g yJ15_hasNext (ws_ yJ15_hasNext cJ15_hasNext 1 (some .boolean)) 1 100 w [.ref x0] (some (.int r)) w1 := by
  refine kMt.ofV (lv := [some (.ref x0)]) (by decide) rfl (Nat.le_of_ble_eq_true rfl) rfl ?_
  intro X hl hin C
  unfold FJ15_hasNext at hF
  refine v_aload_n C dJ15_hasNext_0 rfl rfl ?_
  refine v_getI C kc_J15 0 (Nat.le_of_ble_eq_true rfl) (kFl.p q715) dJ15_hasNext_1 hF (fun v1 hF => ?_)
  refine v_aload_n C dJ15_hasNext_4 rfl rfl ?_
  refine v_getR C kc_J15 3 (Nat.le_of_ble_eq_true rfl) (kFl.p q718) dJ15_hasNext_5 hF (fun v2 hF => ?_)
  refine v_getI C kc_J2 2 (Nat.le_of_ble_eq_true rfl) (kFl.n q160) dJ15_hasNext_8 hF (fun v3 hF => ?_)
  refine v_icmp_eq C (tgt := 18) dJ15_hasNext_11 (by decide) hF (fun c4 hF => ?_) (fun c4 hF => ?_)
  · refine v_iconst C (v := (0 : Int32)) dJ15_hasNext_18 (by decide) ?_
    exact c_zret C rfl dJ15_hasNext_19 hF
  · refine v_iconst C (v := (1 : Int32)) dJ15_hasNext_14 (by decide) ?_
    refine v_goto C (tgt := 19) dJ15_hasNext_15 (by decide) ?_
    exact c_zret C rfl dJ15_hasNext_19 hF
set_option maxHeartbeats 4000000 in
theorem wJ15_checkForComodification (l : Launch) (g : GT) (hX : ∀ U, gX g U → SX g U) (N : Nat) (x0 : Nat) (w : Wd) (r : Unit) (w1 : Wd) (hF : FJ15_checkForComodification N g x0 w = some (r, w1)) : kMt l g yJ15_checkForComodification (ws_ yJ15_checkForComodification cJ15_checkForComodification 1 none) 1 100 w [.ref x0] none w1 := by
  refine kMt.ofV (lv := [some (.ref x0)]) (by decide) rfl (Nat.le_of_ble_eq_true rfl) rfl ?_
  intro X hl hin C
  unfold FJ15_checkForComodification at hF
  refine v_aload_n C dJ15_checkForComodification_0 rfl rfl ?_
  refine v_getR C kc_J15 3 (Nat.le_of_ble_eq_true rfl) (kFl.p q718) dJ15_checkForComodification_1 hF (fun v1 hF => ?_)
  refine v_getI C kc_J2 0 (Nat.le_of_ble_eq_true rfl) (kFl.i q163 q164) dJ15_checkForComodification_4 hF (fun v2 hF => ?_)
  refine v_aload_n C dJ15_checkForComodification_7 rfl rfl ?_
  refine v_getI C kc_J15 2 (Nat.le_of_ble_eq_true rfl) (kFl.p q717) dJ15_checkForComodification_8 hF (fun v3 hF => ?_)
  refine v_icmp_eq C (tgt := 22) dJ15_checkForComodification_11 (by decide) hF (fun c4 hF => ?_) (fun c4 hF => ?_)
  · exact c_vret C dJ15_checkForComodification_22 hF
  · cases hF
set_option maxHeartbeats 4000000 in
theorem wJ15_next (l : Launch) (g : GT) (hX : ∀ U, gX g U → SX g U) (N : Nat) (x0 : Nat) (w : Wd) (r : Nat) (w1 : Wd) (hF : FJ15_next N g x0 w = some (r, w1)) : kMt l g yJ15_next (ws_ yJ15_next cJ15_next 3 (some (.object "java/lang/Object"))) 2 200 w [.ref x0] (some (.ref r)) w1 := by
  refine kMt.ofV (lv := [some (.ref x0), none, none]) (by decide) rfl (Nat.le_of_ble_eq_true rfl) rfl ?_
  intro X hl hin C
  unfold FJ15_next at hF
  refine v_aload_n C dJ15_next_0 rfl rfl ?_
  obtain ⟨h3, hF⟩ := k_ite hF
  refine c_callVv C lk_J15_31 (ci := 12) rfl h3 (fr2 := 1) (lo2 := 100) (As := []) (st := []) (fun r9_ w9_ h9_ => by rw [hl]; exact wJ15_checkForComodification l g hX N x0 w r9_ w9_ h9_) (by decide) rfl rfl (Nat.le_of_ble_eq_true rfl) dJ15_next_1 hF (fun r1 u2 hF => ?_)
  refine v_aload_n C dJ15_next_4 rfl rfl ?_
  refine v_getI C kc_J15 0 (Nat.le_of_ble_eq_true rfl) (kFl.p q715) dJ15_next_5 hF (fun v4 hF => ?_)
  refine v_istore_n C dJ15_next_8 rfl (Nat.le_of_ble_eq_true rfl) rfl (lv' := [some (.ref x0), some (.int v4), none]) rfl ?_
  refine v_iload_n C dJ15_next_9 rfl rfl ?_
  refine v_aload_n C dJ15_next_10 rfl rfl ?_
  refine v_getR C kc_J15 3 (Nat.le_of_ble_eq_true rfl) (kFl.p q718) dJ15_next_11 hF (fun v5 hF => ?_)
  refine v_getI C kc_J2 2 (Nat.le_of_ble_eq_true rfl) (kFl.n q160) dJ15_next_14 hF (fun v6 hF => ?_)
  refine v_icmp_lt C (tgt := 28) dJ15_next_17 (by decide) hF (fun c7 hF => ?_) (fun c7 hF => ?_)
  · refine v_aload_n C dJ15_next_28 rfl rfl ?_
    refine v_getR C kc_J15 3 (Nat.le_of_ble_eq_true rfl) (kFl.p q718) dJ15_next_29 hF (fun v8 hF => ?_)
    refine v_getR C kc_J2 1 (Nat.le_of_ble_eq_true rfl) (kFl.p q159) dJ15_next_32 hF (fun v9 hF => ?_)
    refine v_astore_n C dJ15_next_35 rfl (Nat.le_of_ble_eq_true rfl) rfl (lv' := [some (.ref x0), some (.int v4), some (.ref v9)]) rfl ?_
    refine v_iload_n C dJ15_next_36 rfl rfl ?_
    refine v_aload_n C dJ15_next_37 rfl rfl ?_
    refine v_aL C (t := 4) rfl dJ15_next_38 hF (fun v10 hF => ?_)
    refine v_icmp_lt C (tgt := 50) dJ15_next_39 (by decide) hF (fun c11 hF => ?_) (fun c11 hF => ?_)
    · refine v_aload_n C dJ15_next_50 rfl rfl ?_
      refine v_iload_n C dJ15_next_51 rfl rfl ?_
      refine v_iconst C (v := (1 : Int32)) dJ15_next_52 (by decide) ?_
      refine v_iadd C dJ15_next_53 ?_
      refine v_putW C kc_J15 0 (Nat.le_of_ble_eq_true rfl) (kFl.p q715) rfl rfl rfl dJ15_next_54 hF (fun u12 hF => ?_)
      refine v_aload_n C dJ15_next_57 rfl rfl ?_
      refine v_aload_n C dJ15_next_58 rfl rfl ?_
      refine v_iload_n C dJ15_next_59 rfl rfl ?_
      refine v_dup_x1 C dJ15_next_60 rfl rfl ?_
      refine v_putW C kc_J15 1 (Nat.le_of_ble_eq_true rfl) (kFl.p q716) rfl rfl rfl dJ15_next_61 hF (fun u13 hF => ?_)
      refine v_aQl C (t := 4) rfl dJ15_next_64 hF (fun v14 hF => ?_)
      rcases v14 with _ | a15
      · exact (k_ob0 hF).elim
      have hF := k_ob1 hF
      show kV _ _ _ _ 65 [some (.ref x0), some (.int v4), some (.ref v9)] [.ref a15]
      exact c_aret C (Or.inl ⟨_, rfl⟩) dJ15_next_65 hF
    · cases hF
  · cases hF
