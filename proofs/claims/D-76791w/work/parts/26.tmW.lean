set_option maxRecDepth 100000
set_option maxHeartbeats 4000000 in
theorem wX2_init (l : Launch) (g : GT) (hX : ∀ U, gX g U → SX g U) (N : Nat) (x0 : Nat) (x1 : Int32) (w : Wd) (r : Unit) (w1 : Wd) (hF : FX2_init N g x0 x1 w = some (r, w1)) : kMt l g yX2_init (ws_ yX2_init cX2_init 2 none) 1 100 w [.ref x0, .int x1] none w1 := by
  refine kMt.ofV (lv := [some (.ref x0), some (.int x1)]) (by decide) rfl (Nat.le_of_ble_eq_true rfl) rfl ?_
  intro X hl hin C
  unfold FX2_init at hF
  refine v_aload_n C dX2_init_0 rfl rfl ?_
  refine v_objInit C q188 q142 q143 (by decide) (Nat.le_of_ble_eq_true rfl) dX2_init_1 ?_
  refine v_aload_n C dX2_init_4 rfl rfl ?_
  refine v_iload_n C dX2_init_5 rfl rfl ?_
  refine v_putFW C (hin.1.trans rfl) kc_X2 0 (Nat.le_of_ble_eq_true rfl) q189 rfl rfl rfl rfl dX2_init_6 hF (fun u1 hF => ?_)
  exact c_vret C dX2_init_9 hF
set_option maxHeartbeats 4000000 in
theorem wX2_compareTo (l : Launch) (g : GT) (hX : ∀ U, gX g U → SX g U) (N : Nat) (x0 : Nat) (x1 : Nat) (w : Wd) (r : Int32) (w1 : Wd) (hF : FX2_compareTo N g x0 x1 w = some (r, w1)) : kMt l g yX2_compareTo (ws_ yX2_compareTo cX2_compareTo 2 (some .int)) 1 100 w [.ref x0, .ref x1] (some (.int r)) w1 := by
  refine kMt.ofV (lv := [some (.ref x0), some (.ref x1)]) (by decide) rfl (Nat.le_of_ble_eq_true rfl) rfl ?_
  intro X hl hin C
  unfold FX2_compareTo at hF
  refine v_aload_n C dX2_compareTo_0 rfl rfl ?_
  refine v_getI C kc_X2 0 (Nat.le_of_ble_eq_true rfl) (kFl.p q189) dX2_compareTo_1 hF (fun v1 hF => ?_)
  refine v_aload_n C dX2_compareTo_4 rfl rfl ?_
  refine v_getI C kc_X2 0 (Nat.le_of_ble_eq_true rfl) (kFl.p q189) dX2_compareTo_5 hF (fun v2 hF => ?_)
  refine v_isub C dX2_compareTo_8 ?_
  exact c_iret C dX2_compareTo_9 hF
set_option maxHeartbeats 4000000 in
theorem wX2_compareTo_2 (l : Launch) (g : GT) (hX : ∀ U, gX g U → SX g U) (N : Nat) (x0 : Nat) (x1 : Nat) (w : Wd) (r : Int32) (w1 : Wd) (hF : FX2_compareTo_2 N g x0 x1 w = some (r, w1)) : kMt l g yX2_compareTo_2 (ws_ yX2_compareTo_2 cX2_compareTo_2 2 (some .int)) 2 200 w [.ref x0, .ref x1] (some (.int r)) w1 := by
  refine kMt.ofV (lv := [some (.ref x0), some (.ref x1)]) (by decide) rfl (Nat.le_of_ble_eq_true rfl) rfl ?_
  intro X hl hin C
  unfold FX2_compareTo_2 at hF
  refine v_aload_n C dX2_compareTo_2_0 rfl rfl ?_
  refine v_aload_n C dX2_compareTo_2_1 rfl rfl ?_
  refine v_castI C (ci := 9) rfl q1227 dX2_compareTo_2_2 hF (fun hF => ?_)
  obtain ⟨h3, hF⟩ := k_ite hF
  refine c_callVi C lk_X2_13 (ci := 9) rfl h3 (fr2 := 1) (lo2 := 100) (As := [.ref x1]) (st := []) (fun r9_ w9_ h9_ => by rw [hl]; exact wX2_compareTo l g hX N x0 x1 w r9_ w9_ h9_) (by decide) rfl rfl (Nat.le_of_ble_eq_true rfl) dX2_compareTo_2_5 hF (fun r1 u2 hF => ?_)
  exact c_iret C dX2_compareTo_2_8 hF
set_option maxHeartbeats 4000000 in
theorem wX12_init (l : Launch) (g : GT) (hX : ∀ U, gX g U → SX g U) (N : Nat) (x0 : Nat) (x1 : Nat) (w : Wd) (r : Unit) (w1 : Wd) (hF : FX12_init N g x0 x1 w = some (r, w1)) : kMt l g yX12_init (ws_ yX12_init cX12_init 2 none) 1 100 w [.ref x0, .ref x1] none w1 := by
  refine kMt.ofV (lv := [some (.ref x0), some (.ref x1)]) (by decide) rfl (Nat.le_of_ble_eq_true rfl) rfl ?_
  intro X hl hin C
  unfold FX12_init at hF
  refine v_aload_n C dX12_init_0 rfl rfl ?_
  refine v_objInit C q1677 q142 q143 (by decide) (Nat.le_of_ble_eq_true rfl) dX12_init_1 ?_
  refine v_aload_n C dX12_init_4 rfl rfl ?_
  refine v_aload_n C dX12_init_5 rfl rfl ?_
  refine v_putFW C (hin.1.trans rfl) kc_X12 0 (Nat.le_of_ble_eq_true rfl) q1678 rfl rfl rfl rfl dX12_init_6 hF (fun u1 hF => ?_)
  exact c_vret C dX12_init_9 hF
set_option maxHeartbeats 4000000 in
theorem wX13_init (l : Launch) (g : GT) (hX : ∀ U, gX g U → SX g U) (N : Nat) (x0 : Nat) (w : Wd) (r : Unit) (w1 : Wd) (hF : FX13_init N g x0 w = some (r, w1)) : kMt l g yX13_init (ws_ yX13_init cX13_init 1 none) 1 100 w [.ref x0] none w1 := by
  refine kMt.ofV (lv := [some (.ref x0)]) (by decide) rfl (Nat.le_of_ble_eq_true rfl) rfl ?_
  intro X hl hin C
  unfold FX13_init at hF
  refine v_aload_n C dX13_init_0 rfl rfl ?_
  refine v_objInit C q1806 q142 q143 (by decide) (Nat.le_of_ble_eq_true rfl) dX13_init_1 ?_
  exact c_vret C dX13_init_4 hF
set_option maxHeartbeats 4000000 in
theorem wX13_compare_2 (l : Launch) (g : GT) (hX : ∀ U, gX g U → SX g U) (N : Nat) (x0 : Nat) (x1 : Nat) (x2 : Nat) (w : Wd) (r : Int32) (w1 : Wd) (hF : FX13_compare_2 N g x0 x1 x2 w = some (r, w1)) : kMt l g yX13_compare_2 (ws_ yX13_compare_2 cX13_compare_2 3 (some .int)) 2 200 w [.ref x0, .ref x1, .ref x2] (some (.int r)) w1 := by
  refine kMt.ofV (lv := [some (.ref x0), some (.ref x1), some (.ref x2)]) (by decide) rfl (Nat.le_of_ble_eq_true rfl) rfl ?_
  intro X hl hin C
  unfold FX13_compare_2 at hF
  refine v_aload_n C dX13_compare_2_0 rfl rfl ?_
  refine v_getI C kc_X12 1 (Nat.le_of_ble_eq_true rfl) (kFl.n q1681) dX13_compare_2_1 hF (fun v1 hF => ?_)
  refine v_aload_n C dX13_compare_2_4 rfl rfl ?_
  refine v_getI C kc_X12 1 (Nat.le_of_ble_eq_true rfl) (kFl.n q1681) dX13_compare_2_5 hF (fun v2 hF => ?_)
  refine v_icmp_eq C (tgt := 21) dX13_compare_2_8 (by decide) hF (fun c3 hF => ?_) (fun c3 hF => ?_)
  · refine v_aload_n C dX13_compare_2_21 rfl rfl ?_
    refine v_getI C kc_X12 2 (Nat.le_of_ble_eq_true rfl) (kFl.n q1683) dX13_compare_2_22 hF (fun v4 hF => ?_)
    refine v_aload_n C dX13_compare_2_25 rfl rfl ?_
    refine v_getI C kc_X12 2 (Nat.le_of_ble_eq_true rfl) (kFl.n q1683) dX13_compare_2_26 hF (fun v5 hF => ?_)
    refine v_icmp_eq C (tgt := 44) dX13_compare_2_29 (by decide) hF (fun c6 hF => ?_) (fun c6 hF => ?_)
    · refine v_aload_n C dX13_compare_2_44 rfl rfl ?_
      refine v_getR C kc_X12 0 (Nat.le_of_ble_eq_true rfl) (kFl.n q1679) dX13_compare_2_45 hF (fun v7 hF => ?_)
      refine v_aload_n C dX13_compare_2_48 rfl rfl ?_
      refine v_getR C kc_X12 0 (Nat.le_of_ble_eq_true rfl) (kFl.n q1679) dX13_compare_2_49 hF (fun v8 hF => ?_)
      obtain ⟨h11, hF⟩ := k_ite hF
      refine c_callVi C lk_X13_20 (ci := 9) rfl h11 (fr2 := 1) (lo2 := 100) (As := [.ref v8]) (st := []) (fun r9_ w9_ h9_ => by rw [hl]; exact wX2_compareTo l g hX N v7 v8 w r9_ w9_ h9_) (by decide) rfl rfl (Nat.le_of_ble_eq_true rfl) dX13_compare_2_52 hF (fun r9 u10 hF => ?_)
      exact c_iret C dX13_compare_2_55 hF
    · refine v_aload_n C dX13_compare_2_32 rfl rfl ?_
      refine v_getI C kc_X12 2 (Nat.le_of_ble_eq_true rfl) (kFl.n q1683) dX13_compare_2_33 hF (fun v12 hF => ?_)
      refine v_aload_n C dX13_compare_2_36 rfl rfl ?_
      refine v_getI C kc_X12 2 (Nat.le_of_ble_eq_true rfl) (kFl.n q1683) dX13_compare_2_37 hF (fun v13 hF => ?_)
      refine v_isub C dX13_compare_2_40 ?_
      refine v_goto C (tgt := 55) dX13_compare_2_41 (by decide) ?_
      exact c_iret C dX13_compare_2_55 hF
  · refine v_aload_n C dX13_compare_2_11 rfl rfl ?_
    refine v_getI C kc_X12 1 (Nat.le_of_ble_eq_true rfl) (kFl.n q1681) dX13_compare_2_12 hF (fun v14 hF => ?_)
    refine v_aload_n C dX13_compare_2_15 rfl rfl ?_
    refine v_getI C kc_X12 1 (Nat.le_of_ble_eq_true rfl) (kFl.n q1681) dX13_compare_2_16 hF (fun v15 hF => ?_)
    refine v_isub C dX13_compare_2_19 ?_
    exact c_iret C dX13_compare_2_20 hF
set_option maxHeartbeats 4000000 in
theorem wX13_compare (l : Launch) (g : GT) (hX : ∀ U, gX g U → SX g U) (N : Nat) (x0 : Nat) (x1 : Nat) (x2 : Nat) (w : Wd) (r : Int32) (w1 : Wd) (hF : FX13_compare N g x0 x1 x2 w = some (r, w1)) : kMt l g yX13_compare (ws_ yX13_compare cX13_compare 3 (some .int)) 3 300 w [.ref x0, .ref x1, .ref x2] (some (.int r)) w1 := by
  refine kMt.ofV (lv := [some (.ref x0), some (.ref x1), some (.ref x2)]) (by decide) rfl (Nat.le_of_ble_eq_true rfl) rfl ?_
  intro X hl hin C
  unfold FX13_compare at hF
  refine v_aload_n C dX13_compare_0 rfl rfl ?_
  refine v_aload_n C dX13_compare_1 rfl rfl ?_
  refine v_castI C (ci := 10) rfl q1193 dX13_compare_2 hF (fun hF => ?_)
  refine v_aload_n C dX13_compare_5 rfl rfl ?_
  refine v_castI C (ci := 10) rfl q1193 dX13_compare_6 hF (fun hF => ?_)
  obtain ⟨h3, hF⟩ := k_ite hF
  refine c_callVi C lk_X13_26 (ci := 8) rfl h3 (fr2 := 2) (lo2 := 200) (As := [.ref x1, .ref x2]) (st := []) (fun r9_ w9_ h9_ => by rw [hl]; exact wX13_compare_2 l g hX N x0 x1 x2 w r9_ w9_ h9_) (by decide) rfl rfl (Nat.le_of_ble_eq_true rfl) dX13_compare_9 hF (fun r1 u2 hF => ?_)
  exact c_iret C dX13_compare_12 hF
set_option maxHeartbeats 4000000 in
theorem wJ14_requireNonNull (l : Launch) (g : GT) (hX : ∀ U, gX g U → SX g U) (N : Nat) (x0 : Nat) (w : Wd) (r : Nat) (w1 : Wd) (hF : FJ14_requireNonNull N g x0 w = some (r, w1)) : kMt l g yJ14_requireNonNull (ws_ yJ14_requireNonNull cJ14_requireNonNull 1 (some (.object "java/lang/Object"))) 1 100 w [.ref x0] (some (.ref r)) w1 := by
  refine kMt.ofV (lv := [some (.ref x0)]) (by decide) rfl (Nat.le_of_ble_eq_true rfl) rfl ?_
  intro X hl hin C
  unfold FJ14_requireNonNull at hF
  refine v_aload_n C dJ14_requireNonNull_0 rfl rfl ?_
  refine v_ifnonnull C (tgt := 12) dJ14_requireNonNull_1 (by decide) ?_
  refine v_aload_n C dJ14_requireNonNull_12 rfl rfl ?_
  exact c_aret C (Or.inl ⟨_, rfl⟩) dJ14_requireNonNull_13 hF
set_option maxHeartbeats 4000000 in
theorem wJ27_init (l : Launch) (g : GT) (hX : ∀ U, gX g U → SX g U) (N : Nat) (x0 : Nat) (x1 : Nat) (x2 : Nat) (x3 : Option Nat) (w : Wd) (r : Unit) (w1 : Wd) (hF : FJ27_init N g x0 x1 x2 x3 w = some (r, w1)) : kMt l g yJ27_init (ws_ yJ27_init cJ27_init 4 none) 1 100 w [.ref x0, .ref x1, .ref x2, va_rf x3] none w1 := by
  refine kMt.ofV (lv := [some (.ref x0), some (.ref x1), some (.ref x2), some (va_rf x3)]) (by decide) rfl (by cases x3 <;> exact Nat.le_of_ble_eq_true rfl) (by cases x3 <;> rfl) ?_
  intro X hl hin C
  unfold FJ27_init at hF
  refine v_aload_n C dJ27_init_0 rfl rfl ?_
  refine v_objInit C q1721 q142 q143 (by decide) (Nat.le_of_ble_eq_true rfl) dJ27_init_1 ?_
  refine v_aload_n C dJ27_init_4 rfl rfl ?_
  refine v_iconst C (v := (1 : Int32)) dJ27_init_5 (by decide) ?_
  refine v_putW C kc_J27 5 (Nat.le_of_ble_eq_true rfl) (kFl.p q1732) rfl rfl rfl dJ27_init_6 hF (fun u1 hF => ?_)
  refine v_aload_n C dJ27_init_9 rfl rfl ?_
  refine v_aload_n C dJ27_init_10 rfl rfl ?_
  refine v_putW C kc_J27 0 (Nat.le_of_ble_eq_true rfl) (kFl.p q1722) rfl rfl rfl dJ27_init_11 hF (fun u2 hF => ?_)
  refine v_aload_n C dJ27_init_14 rfl rfl ?_
  refine v_aload_n C dJ27_init_15 rfl rfl ?_
  refine v_putW C kc_J27 1 (Nat.le_of_ble_eq_true rfl) (kFl.p q1725) rfl rfl rfl dJ27_init_16 hF (fun u3 hF => ?_)
  refine v_aload_n C dJ27_init_19 rfl rfl ?_
  refine v_aload_nQ C dJ27_init_20 rfl rfl ?_
  refine v_putW C kc_J27 4 (Nat.le_of_ble_eq_true rfl) (kFl.p q1730) rfl (nar_rf _ (by decide)) (fit_rf _ (by decide)) dJ27_init_21 hF (fun u4 hF => ?_)
  exact c_vret C dJ27_init_24 hF
set_option maxHeartbeats 4000000 in
theorem wJ18_compare (l : Launch) (g : GT) (hX : ∀ U, gX g U → SX g U) (N : Nat) (x0 : Nat) (x1 : Nat) (x2 : Nat) (w : Wd) (r : Int32) (w1 : Wd) (hF : FJ18_compare N g x0 x1 x2 w = some (r, w1)) : kMt l g yJ18_compare (ws_ yJ18_compare cJ18_compare 3 (some .int)) 4 400 w [.ref x0, .ref x1, .ref x2] (some (.int r)) w1 := by
  refine kMt.ofV (lv := [some (.ref x0), some (.ref x1), some (.ref x2)]) (by decide) rfl (Nat.le_of_ble_eq_true rfl) rfl ?_
  intro X hl hin C
  unfold FJ18_compare at hF
  refine v_aload_n C dJ18_compare_0 rfl rfl ?_
  refine v_getQ C kc_J18 2 (Nat.le_of_ble_eq_true rfl) (kFl.p q1645) dJ18_compare_1 hF (fun v1 hF => ?_)
  rcases v1 with _ | a2
  · have hF := k_mn0 hF
    show kV _ _ _ _ 4 [some (.ref x0), some (.ref x1), some (.ref x2)] [.null]
    refine v_ifnonnullN C dJ18_compare_4 ?_
    refine v_aload_n C dJ18_compare_7 rfl rfl ?_
    refine v_castY C (ci := 9) rfl q1711 q1221 dJ18_compare_8 hF (fun hF => ?_)
    refine v_aload_n C dJ18_compare_11 rfl rfl ?_
    obtain ⟨h5, hF⟩ := k_ite hF
    refine c_callFi C lk_J18_107_X2_compareTo_2 ((hX _ C.2.2.2.2.2.1.2.2.1).2.2.1 _ (List.mem_of_getElem? (i := 9) rfl)) (C.2.2.2.2.2.1.1.1 9 _ rfl).2 (kRc.of C (ci := 9) rfl h5) (fr2 := 2) (lo2 := 200) (As := [.ref x2]) (st := []) (fun r9_ w9_ h9_ => by rw [hl]; exact wX2_compareTo_2 l g hX N x1 x2 w r9_ w9_ h9_) (by decide) rfl rfl (Nat.le_of_ble_eq_true rfl) dJ18_compare_12 hF (fun r3 u4 hF => ?_)
    refine v_goto C (tgt := 31) dJ18_compare_17 (by decide) ?_
    exact c_iret C dJ18_compare_31 hF
  · have hF := k_mn1 hF
    show kV _ _ _ _ 4 [some (.ref x0), some (.ref x1), some (.ref x2)] [.ref a2]
    refine v_ifnonnull C (tgt := 20) dJ18_compare_4 (by decide) ?_
    refine v_aload_n C dJ18_compare_20 rfl rfl ?_
    refine v_getQ C kc_J18 2 (Nat.le_of_ble_eq_true rfl) (kFl.p q1645) dJ18_compare_21 hF (fun v6 hF => ?_)
    refine v_aload_n C dJ18_compare_24 rfl rfl ?_
    refine v_aload_n C dJ18_compare_25 rfl rfl ?_
    rcases v6 with _ | a7
    · exact (k_ob0 hF).elim
    have hF := k_ob1 hF
    show kV _ _ _ _ 26 [some (.ref x0), some (.ref x1), some (.ref x2)] [.ref x2, .ref x1, .ref a7]
    obtain ⟨h10, hF⟩ := k_ite hF
    refine c_callFi C lk_J18_117_X13_compare ((hX _ C.2.2.2.2.2.1.2.2.1).2.2.1 _ (List.mem_of_getElem? (i := 8) rfl)) (C.2.2.2.2.2.1.1.1 8 _ rfl).2 (kRc.of C (ci := 8) rfl h10) (fr2 := 3) (lo2 := 300) (As := [.ref x1, .ref x2]) (st := []) (fun r9_ w9_ h9_ => by rw [hl]; exact wX13_compare l g hX N a7 x1 x2 w r9_ w9_ h9_) (by decide) rfl rfl (Nat.le_of_ble_eq_true rfl) dJ18_compare_26 hF (fun r8 u9 hF => ?_)
    exact c_iret C dJ18_compare_31 hF
set_option maxHeartbeats 4000000 in
theorem wJ18_addEntryToEmptyMap (l : Launch) (g : GT) (hX : ∀ U, gX g U → SX g U) (N : Nat) (x0 : Nat) (x1 : Nat) (x2 : Nat) (w : Wd) (r : Unit) (w1 : Wd) (hF : FJ18_addEntryToEmptyMap N g x0 x1 x2 w = some (r, w1)) : kMt l g yJ18_addEntryToEmptyMap (ws_ yJ18_addEntryToEmptyMap cJ18_addEntryToEmptyMap 3 none) 5 500 w [.ref x0, .ref x1, .ref x2] none w1 := by
  refine kMt.ofV (lv := [some (.ref x0), some (.ref x1), some (.ref x2)]) (by decide) rfl (Nat.le_of_ble_eq_true rfl) rfl ?_
  intro X hl hin C
  unfold FJ18_addEntryToEmptyMap at hF
  refine v_aload_n C dJ18_addEntryToEmptyMap_0 rfl rfl ?_
  refine v_aload_n C dJ18_addEntryToEmptyMap_1 rfl rfl ?_
  refine v_aload_n C dJ18_addEntryToEmptyMap_2 rfl rfl ?_
  obtain ⟨h3, hF⟩ := k_ite hF
  refine c_callVi C lk_J18_123 (ci := 15) rfl h3 (fr2 := 4) (lo2 := 400) (As := [.ref x1, .ref x1]) (st := []) (fun r9_ w9_ h9_ => by rw [hl]; exact wJ18_compare l g hX N x0 x1 x1 w r9_ w9_ h9_) (by decide) rfl rfl (Nat.le_of_ble_eq_true rfl) dJ18_addEntryToEmptyMap_3 hF (fun r1 u2 hF => ?_)
  refine v_pop C dJ18_addEntryToEmptyMap_6 rfl ?_
  refine v_aload_n C dJ18_addEntryToEmptyMap_7 rfl rfl ?_
  refine v_newW C kc_J27 q1716 q1717 q121 nw_J27 dJ18_addEntryToEmptyMap_8 hF (fun a4 u5 hF => ?_)
  refine v_dup C dJ18_addEntryToEmptyMap_11 rfl ?_
  refine v_aload_n C dJ18_addEntryToEmptyMap_12 rfl rfl ?_
  refine v_aload_n C dJ18_addEntryToEmptyMap_13 rfl rfl ?_
  refine v_null C dJ18_addEntryToEmptyMap_14 ?_
  refine c_callI C lk_J18_167 (fr2 := 1) (lo2 := 100) (As := [.ref x1, .ref x2, va_rf none]) (st := [.ref a4, .ref x0]) (fun r9_ w9_ h9_ => by rw [hl]; exact wJ27_init l g hX N a4 x1 x2 none u5 r9_ w9_ h9_) (by decide) rfl rfl (Nat.le_of_ble_eq_true rfl) dJ18_addEntryToEmptyMap_15 hF (fun r6 u7 hF => ?_)
  refine v_putW C kc_J18 3 (Nat.le_of_ble_eq_true rfl) (kFl.p q1646) rfl rfl rfl dJ18_addEntryToEmptyMap_18 hF (fun u8 hF => ?_)
  refine v_aload_n C dJ18_addEntryToEmptyMap_21 rfl rfl ?_
  refine v_iconst C (v := (1 : Int32)) dJ18_addEntryToEmptyMap_22 (by decide) ?_
  refine v_putW C kc_J18 4 (Nat.le_of_ble_eq_true rfl) (kFl.p q1647) rfl rfl rfl dJ18_addEntryToEmptyMap_23 hF (fun u9 hF => ?_)
  refine v_aload_n C dJ18_addEntryToEmptyMap_26 rfl rfl ?_
  refine v_dup C dJ18_addEntryToEmptyMap_27 rfl ?_
  refine v_getI C kc_J18 5 (Nat.le_of_ble_eq_true rfl) (kFl.p q1648) dJ18_addEntryToEmptyMap_28 hF (fun v10 hF => ?_)
  refine v_iconst C (v := (1 : Int32)) dJ18_addEntryToEmptyMap_31 (by decide) ?_
  refine v_iadd C dJ18_addEntryToEmptyMap_32 ?_
  refine v_putW C kc_J18 5 (Nat.le_of_ble_eq_true rfl) (kFl.p q1648) rfl rfl rfl dJ18_addEntryToEmptyMap_33 hF (fun u11 hF => ?_)
  exact c_vret C dJ18_addEntryToEmptyMap_36 hF
set_option maxHeartbeats 4000000 in
theorem wJ18_parentOf (l : Launch) (g : GT) (hX : ∀ U, gX g U → SX g U) (N : Nat) (x0 : Option Nat) (w : Wd) (r : Option Nat) (w1 : Wd) (hF : FJ18_parentOf N g x0 w = some (r, w1)) : kMt l g yJ18_parentOf (ws_ yJ18_parentOf cJ18_parentOf 1 (some (.object "java/util/TreeMap$Entry"))) 1 100 w [va_rf x0] (some (va_rf r)) w1 := by
  refine kMt.ofV (lv := [some (va_rf x0)]) (by decide) rfl (by cases x0 <;> exact Nat.le_of_ble_eq_true rfl) (by cases x0 <;> rfl) ?_
  intro X hl hin C
  unfold FJ18_parentOf at hF
  refine v_aload_nQ C dJ18_parentOf_0 rfl rfl ?_
  rcases x0 with _ | a1
  · have hF := k_mn0 hF
    show kV _ _ _ _ 1 [some (.null)] [.null]
    refine v_ifnonnullN C dJ18_parentOf_1 ?_
    refine v_null C dJ18_parentOf_4 ?_
    refine v_goto C (tgt := 12) dJ18_parentOf_5 (by decide) ?_
    exact c_qret C (q := none) rfl (Or.inl ⟨_, rfl⟩) dJ18_parentOf_12 hF
  · have hF := k_mn1 hF
    show kV _ _ _ _ 1 [some (.ref a1)] [.ref a1]
    refine v_ifnonnull C (tgt := 8) dJ18_parentOf_1 (by decide) ?_
    refine v_aload_n C dJ18_parentOf_8 rfl rfl ?_
    refine v_getQ C kc_J27 4 (Nat.le_of_ble_eq_true rfl) (kFl.p q1731) dJ18_parentOf_9 hF (fun v2 hF => ?_)
    exact c_qret C (q := v2) rfl (Or.inl ⟨_, rfl⟩) dJ18_parentOf_12 hF
set_option maxHeartbeats 4000000 in
theorem wJ18_leftOf (l : Launch) (g : GT) (hX : ∀ U, gX g U → SX g U) (N : Nat) (x0 : Option Nat) (w : Wd) (r : Option Nat) (w1 : Wd) (hF : FJ18_leftOf N g x0 w = some (r, w1)) : kMt l g yJ18_leftOf (ws_ yJ18_leftOf cJ18_leftOf 1 (some (.object "java/util/TreeMap$Entry"))) 1 100 w [va_rf x0] (some (va_rf r)) w1 := by
  refine kMt.ofV (lv := [some (va_rf x0)]) (by decide) rfl (by cases x0 <;> exact Nat.le_of_ble_eq_true rfl) (by cases x0 <;> rfl) ?_
  intro X hl hin C
  unfold FJ18_leftOf at hF
  refine v_aload_nQ C dJ18_leftOf_0 rfl rfl ?_
  rcases x0 with _ | a1
  · have hF := k_mn0 hF
    show kV _ _ _ _ 1 [some (.null)] [.null]
    refine v_ifnonnullN C dJ18_leftOf_1 ?_
    refine v_null C dJ18_leftOf_4 ?_
    refine v_goto C (tgt := 12) dJ18_leftOf_5 (by decide) ?_
    exact c_qret C (q := none) rfl (Or.inl ⟨_, rfl⟩) dJ18_leftOf_12 hF
  · have hF := k_mn1 hF
    show kV _ _ _ _ 1 [some (.ref a1)] [.ref a1]
    refine v_ifnonnull C (tgt := 8) dJ18_leftOf_1 (by decide) ?_
    refine v_aload_n C dJ18_leftOf_8 rfl rfl ?_
    refine v_getQ C kc_J27 2 (Nat.le_of_ble_eq_true rfl) (kFl.p q1728) dJ18_leftOf_9 hF (fun v2 hF => ?_)
    exact c_qret C (q := v2) rfl (Or.inl ⟨_, rfl⟩) dJ18_leftOf_12 hF
set_option maxHeartbeats 4000000 in
theorem wJ18_rightOf (l : Launch) (g : GT) (hX : ∀ U, gX g U → SX g U) (N : Nat) (x0 : Option Nat) (w : Wd) (r : Option Nat) (w1 : Wd) (hF : FJ18_rightOf N g x0 w = some (r, w1)) : kMt l g yJ18_rightOf (ws_ yJ18_rightOf cJ18_rightOf 1 (some (.object "java/util/TreeMap$Entry"))) 1 100 w [va_rf x0] (some (va_rf r)) w1 := by
  refine kMt.ofV (lv := [some (va_rf x0)]) (by decide) rfl (by cases x0 <;> exact Nat.le_of_ble_eq_true rfl) (by cases x0 <;> rfl) ?_
  intro X hl hin C
  unfold FJ18_rightOf at hF
  refine v_aload_nQ C dJ18_rightOf_0 rfl rfl ?_
  rcases x0 with _ | a1
  · have hF := k_mn0 hF
    show kV _ _ _ _ 1 [some (.null)] [.null]
    refine v_ifnonnullN C dJ18_rightOf_1 ?_
    refine v_null C dJ18_rightOf_4 ?_
    refine v_goto C (tgt := 12) dJ18_rightOf_5 (by decide) ?_
    exact c_qret C (q := none) rfl (Or.inl ⟨_, rfl⟩) dJ18_rightOf_12 hF
  · have hF := k_mn1 hF
    show kV _ _ _ _ 1 [some (.ref a1)] [.ref a1]
    refine v_ifnonnull C (tgt := 8) dJ18_rightOf_1 (by decide) ?_
    refine v_aload_n C dJ18_rightOf_8 rfl rfl ?_
    refine v_getQ C kc_J27 3 (Nat.le_of_ble_eq_true rfl) (kFl.p q1729) dJ18_rightOf_9 hF (fun v2 hF => ?_)
    exact c_qret C (q := v2) rfl (Or.inl ⟨_, rfl⟩) dJ18_rightOf_12 hF
set_option maxHeartbeats 4000000 in
theorem wJ18_colorOf (l : Launch) (g : GT) (hX : ∀ U, gX g U → SX g U) (N : Nat) (x0 : Option Nat) (w : Wd) (r : Int32) (w1 : Wd) (hF : FJ18_colorOf N g x0 w = some (r, w1)) : kMt l g yJ18_colorOf (ws_ yJ18_colorOf cJ18_colorOf 1 (some .boolean)) 1 100 w [va_rf x0] (some (.int r)) w1 := by
  refine kMt.ofV (lv := [some (va_rf x0)]) (by decide) rfl (by cases x0 <;> exact Nat.le_of_ble_eq_true rfl) (by cases x0 <;> rfl) ?_
  intro X hl hin C
  unfold FJ18_colorOf at hF
  refine v_aload_nQ C dJ18_colorOf_0 rfl rfl ?_
  rcases x0 with _ | a1
  · have hF := k_mn0 hF
    show kV _ _ _ _ 1 [some (.null)] [.null]
    refine v_ifnonnullN C dJ18_colorOf_1 ?_
    refine v_iconst C (v := (1 : Int32)) dJ18_colorOf_4 (by decide) ?_
    refine v_goto C (tgt := 12) dJ18_colorOf_5 (by decide) ?_
    exact c_zret C rfl dJ18_colorOf_12 hF
  · have hF := k_mn1 hF
    show kV _ _ _ _ 1 [some (.ref a1)] [.ref a1]
    refine v_ifnonnull C (tgt := 8) dJ18_colorOf_1 (by decide) ?_
    refine v_aload_n C dJ18_colorOf_8 rfl rfl ?_
    refine v_getI C kc_J27 5 (Nat.le_of_ble_eq_true rfl) (kFl.p q1733) dJ18_colorOf_9 hF (fun v2 hF => ?_)
    obtain ⟨h3, hF⟩ := k_ite hF
    exact c_zret C (nb_nar h3) dJ18_colorOf_12 hF
set_option maxHeartbeats 4000000 in
theorem wJ18_setColor (l : Launch) (g : GT) (hX : ∀ U, gX g U → SX g U) (N : Nat) (x0 : Option Nat) (x1 : Int32) (w : Wd) (r : Unit) (w1 : Wd) (hF : FJ18_setColor N g x0 x1 w = some (r, w1)) : kMt l g yJ18_setColor (ws_ yJ18_setColor cJ18_setColor 2 none) 1 100 w [va_rf x0, .int x1] none w1 := by
  refine kMt.ofV (lv := [some (va_rf x0), some (.int x1)]) (by decide) rfl (by cases x0 <;> exact Nat.le_of_ble_eq_true rfl) (by cases x0 <;> rfl) ?_
  intro X hl hin C
  unfold FJ18_setColor at hF
  refine v_aload_nQ C dJ18_setColor_0 rfl rfl ?_
  rcases x0 with _ | a1
  · have hF := k_mn0 hF
    show kV _ _ _ _ 1 [some (.null), some (.int x1)] [.null]
    refine v_ifnullN C (tgt := 9) dJ18_setColor_1 (by decide) ?_
    exact c_vret C dJ18_setColor_9 hF
  · have hF := k_mn1 hF
    show kV _ _ _ _ 1 [some (.ref a1), some (.int x1)] [.ref a1]
    refine v_ifnull C dJ18_setColor_1 ?_
    refine v_aload_n C dJ18_setColor_4 rfl rfl ?_
    refine v_iload_n C dJ18_setColor_5 rfl rfl ?_
    obtain ⟨h3, hF⟩ := k_ite hF
    refine v_putW C kc_J27 5 (Nat.le_of_ble_eq_true rfl) (kFl.p q1733) rfl (nb_nar h3) (nb_fit h3) dJ18_setColor_6 hF (fun u2 hF => ?_)
    exact c_vret C dJ18_setColor_9 hF
set_option maxHeartbeats 4000000 in
theorem wJ18_rotateLeft_b85 {l : Launch} {g : GT} {X : CxT} {r : Unit} {w1 : Wd} (C : kOk g X cJ18_rotateLeft 3 RJ18 none 1 100 none w1) (hX : ∀ U, gX g U → SX g U) (hl : xl X = l) (hin : kHin X yJ18_rotateLeft) (N : Nat)  (x1 : Option Nat) (x2 : Option Nat) (w : Wd) (hF : FJ18_rotateLeft_b85 N g  x1 x2 w = some (r, w1)) : kV g X 3 w 85 [none, some (va_rf x1), some (va_rf x2)] [] := by
  unfold FJ18_rotateLeft_b85 at hF
  refine v_aload_nQ C dJ18_rotateLeft_85 rfl rfl ?_
  refine v_aload_nQ C dJ18_rotateLeft_86 rfl rfl ?_
  rcases x2 with _ | a15
  · exact (k_ob0 hF).elim
  have hF := k_ob1 hF
  show kV _ _ _ _ 87 [none, some (va_rf x1), some (.ref a15)] [va_rf x1, .ref a15]
  refine v_putW C kc_J27 2 (Nat.le_of_ble_eq_true rfl) (kFl.p q1728) rfl (nar_rf _ (by decide)) (fit_rf _ (by decide)) dJ18_rotateLeft_87 hF (fun u16 hF => ?_)
  refine v_aload_nQ C dJ18_rotateLeft_90 rfl rfl ?_
  refine v_aload_n C dJ18_rotateLeft_91 rfl rfl ?_
  rcases x1 with _ | a17
  · exact (k_ob0 hF).elim
  have hF := k_ob1 hF
  show kV _ _ _ _ 92 [none, some (.ref a17), some (.ref a15)] [.ref a15, .ref a17]
  refine v_putW C kc_J27 4 (Nat.le_of_ble_eq_true rfl) (kFl.p q1731) rfl rfl rfl dJ18_rotateLeft_92 hF (fun u18 hF => ?_)
  exact c_vret C dJ18_rotateLeft_95 hF
set_option maxHeartbeats 4000000 in
theorem wJ18_rotateLeft_b32 {l : Launch} {g : GT} {X : CxT} {r : Unit} {w1 : Wd} (C : kOk g X cJ18_rotateLeft 3 RJ18 none 1 100 none w1) (hX : ∀ U, gX g U → SX g U) (hl : xl X = l) (hin : kHin X yJ18_rotateLeft) (N : Nat)  (x0 : Nat) (x1 : Option Nat) (x2 : Option Nat) (w : Wd) (hF : FJ18_rotateLeft_b32 N g  x0 x1 x2 w = some (r, w1)) : kV g X 3 w 32 [some (.ref x0), some (va_rf x1), some (va_rf x2)] [] := by
  unfold FJ18_rotateLeft_b32 at hF
  refine v_aload_nQ C dJ18_rotateLeft_32 rfl rfl ?_
  refine v_aload_nQ C dJ18_rotateLeft_33 rfl rfl ?_
  rcases x1 with _ | a8
  · exact (k_ob0 hF).elim
  have hF := k_ob1 hF
  show kV _ _ _ _ 34 [some (.ref x0), some (.ref a8), some (va_rf x2)] [.ref a8, va_rf x2]
  refine v_getQ C kc_J27 4 (Nat.le_of_ble_eq_true rfl) (kFl.p q1731) dJ18_rotateLeft_34 hF (fun v9 hF => ?_)
  rcases x2 with _ | a10
  · exact (k_ob0 hF).elim
  have hF := k_ob1 hF
  show kV _ _ _ _ 37 [some (.ref x0), some (.ref a8), some (.ref a10)] [va_rf v9, .ref a10]
  refine v_putW C kc_J27 4 (Nat.le_of_ble_eq_true rfl) (kFl.p q1731) rfl (nar_rf _ (by decide)) (fit_rf _ (by decide)) dJ18_rotateLeft_37 hF (fun u11 hF => ?_)
  refine v_aload_n C dJ18_rotateLeft_40 rfl rfl ?_
  refine v_getQ C kc_J27 4 (Nat.le_of_ble_eq_true rfl) (kFl.p q1731) dJ18_rotateLeft_41 hF (fun v12 hF => ?_)
  rcases v12 with _ | a13
  · have hF := k_mn0 hF
    show kV _ _ _ _ 44 [some (.ref x0), some (.ref a8), some (.ref a10)] [.null]
    refine v_ifnonnullN C dJ18_rotateLeft_44 ?_
    refine v_aload_n C dJ18_rotateLeft_47 rfl rfl ?_
    refine v_aload_n C dJ18_rotateLeft_48 rfl rfl ?_
    refine v_putW C kc_J18 3 (Nat.le_of_ble_eq_true rfl) (kFl.p q1646) rfl rfl rfl dJ18_rotateLeft_49 hF (fun u14 hF => ?_)
    refine v_goto C (tgt := 85) dJ18_rotateLeft_52 (by decide) ?_
    refine v_mask [false, true, true] (lv' := [none, some (va_rf (some a8)), some (va_rf (some a10))]) rfl ?_
    exact wJ18_rotateLeft_b85 C hX hl hin N ((some a8)) ((some a10)) u14 hF
  · have hF := k_mn1 hF
    show kV _ _ _ _ 44 [some (.ref x0), some (.ref a8), some (.ref a10)] [.ref a13]
    refine v_ifnonnull C (tgt := 55) dJ18_rotateLeft_44 (by decide) ?_
    refine v_aload_n C dJ18_rotateLeft_55 rfl rfl ?_
    refine v_getQ C kc_J27 4 (Nat.le_of_ble_eq_true rfl) (kFl.p q1731) dJ18_rotateLeft_56 hF (fun v19 hF => ?_)
    rcases v19 with _ | a20
    · exact (k_ob0 hF).elim
    have hF := k_ob1 hF
    show kV _ _ _ _ 59 [some (.ref x0), some (.ref a8), some (.ref a10)] [.ref a20]
    refine v_getQ C kc_J27 2 (Nat.le_of_ble_eq_true rfl) (kFl.p q1728) dJ18_rotateLeft_59 hF (fun v21 hF => ?_)
    refine v_aload_n C dJ18_rotateLeft_62 rfl rfl ?_
    refine v_acmp_ne C (rx := v21) (ry := (some a8)) rfl rfl (tgt := 77) dJ18_rotateLeft_63 (by decide) hF (fun c22 hF => ?_) (fun c22 hF => ?_)
    · refine v_aload_n C dJ18_rotateLeft_66 rfl rfl ?_
      refine v_getQ C kc_J27 4 (Nat.le_of_ble_eq_true rfl) (kFl.p q1731) dJ18_rotateLeft_67 hF (fun v23 hF => ?_)
      refine v_aload_n C dJ18_rotateLeft_70 rfl rfl ?_
      rcases v23 with _ | a24
      · exact (k_ob0 hF).elim
      have hF := k_ob1 hF
      show kV _ _ _ _ 71 [some (.ref x0), some (.ref a8), some (.ref a10)] [.ref a10, .ref a24]
      refine v_putW C kc_J27 2 (Nat.le_of_ble_eq_true rfl) (kFl.p q1728) rfl rfl rfl dJ18_rotateLeft_71 hF (fun u25 hF => ?_)
      refine v_goto C (tgt := 85) dJ18_rotateLeft_74 (by decide) ?_
      refine v_mask [false, true, true] (lv' := [none, some (va_rf (some a8)), some (va_rf (some a10))]) rfl ?_
      exact wJ18_rotateLeft_b85 C hX hl hin N ((some a8)) ((some a10)) u25 hF
    · refine v_aload_n C dJ18_rotateLeft_77 rfl rfl ?_
      refine v_getQ C kc_J27 4 (Nat.le_of_ble_eq_true rfl) (kFl.p q1731) dJ18_rotateLeft_78 hF (fun v26 hF => ?_)
      refine v_aload_n C dJ18_rotateLeft_81 rfl rfl ?_
      rcases v26 with _ | a27
      · exact (k_ob0 hF).elim
      have hF := k_ob1 hF
      show kV _ _ _ _ 82 [some (.ref x0), some (.ref a8), some (.ref a10)] [.ref a10, .ref a27]
      refine v_putW C kc_J27 3 (Nat.le_of_ble_eq_true rfl) (kFl.p q1729) rfl rfl rfl dJ18_rotateLeft_82 hF (fun u28 hF => ?_)
      refine v_mask [false, true, true] (lv' := [none, some (va_rf (some a8)), some (va_rf (some a10))]) rfl ?_
      exact wJ18_rotateLeft_b85 C hX hl hin N ((some a8)) ((some a10)) u28 hF
set_option maxHeartbeats 4000000 in
theorem wJ18_rotateLeft (l : Launch) (g : GT) (hX : ∀ U, gX g U → SX g U) (N : Nat) (x0 : Nat) (x1 : Option Nat) (w : Wd) (r : Unit) (w1 : Wd) (hF : FJ18_rotateLeft N g x0 x1 w = some (r, w1)) : kMt l g yJ18_rotateLeft (ws_ yJ18_rotateLeft cJ18_rotateLeft 3 none) 1 100 w [.ref x0, va_rf x1] none w1 := by
  refine kMt.ofV (lv := [some (.ref x0), some (va_rf x1), none]) (by decide) rfl (by cases x1 <;> exact Nat.le_of_ble_eq_true rfl) (by cases x1 <;> rfl) ?_
  intro X hl hin C
  unfold FJ18_rotateLeft at hF
  refine v_aload_nQ C dJ18_rotateLeft_0 rfl rfl ?_
  rcases x1 with _ | a1
  · have hF := k_mn0 hF
    show kV _ _ _ _ 1 [some (.ref x0), some (.null), none] [.null]
    refine v_ifnullN C (tgt := 95) dJ18_rotateLeft_1 (by decide) ?_
    exact c_vret C dJ18_rotateLeft_95 hF
  · have hF := k_mn1 hF
    show kV _ _ _ _ 1 [some (.ref x0), some (.ref a1), none] [.ref a1]
    refine v_ifnull C dJ18_rotateLeft_1 ?_
    refine v_aload_n C dJ18_rotateLeft_4 rfl rfl ?_
    refine v_getQ C kc_J27 3 (Nat.le_of_ble_eq_true rfl) (kFl.p q1729) dJ18_rotateLeft_5 hF (fun v2 hF => ?_)
    refine v_astore_nQ C dJ18_rotateLeft_8 rfl (Nat.le_of_ble_eq_true rfl) rfl (lv' := [some (.ref x0), some (.ref a1), some (va_rf v2)]) rfl ?_
    refine v_aload_n C dJ18_rotateLeft_9 rfl rfl ?_
    refine v_aload_nQ C dJ18_rotateLeft_10 rfl rfl ?_
    rcases v2 with _ | a3
    · exact (k_ob0 hF).elim
    have hF := k_ob1 hF
    show kV _ _ _ _ 11 [some (.ref x0), some (.ref a1), some (.ref a3)] [.ref a3, .ref a1]
    refine v_getQ C kc_J27 2 (Nat.le_of_ble_eq_true rfl) (kFl.p q1728) dJ18_rotateLeft_11 hF (fun v4 hF => ?_)
    refine v_putW C kc_J27 3 (Nat.le_of_ble_eq_true rfl) (kFl.p q1729) rfl (nar_rf _ (by decide)) (fit_rf _ (by decide)) dJ18_rotateLeft_14 hF (fun u5 hF => ?_)
    refine v_aload_n C dJ18_rotateLeft_17 rfl rfl ?_
    refine v_getQ C kc_J27 2 (Nat.le_of_ble_eq_true rfl) (kFl.p q1728) dJ18_rotateLeft_18 hF (fun v6 hF => ?_)
    rcases v6 with _ | a7
    · have hF := k_mn0 hF
      show kV _ _ _ _ 21 [some (.ref x0), some (.ref a1), some (.ref a3)] [.null]
      refine v_ifnullN C (tgt := 32) dJ18_rotateLeft_21 (by decide) ?_
      refine v_mask [true, true, true] (lv' := [some (.ref x0), some (va_rf (some a1)), some (va_rf (some a3))]) rfl ?_
      exact wJ18_rotateLeft_b32 C hX hl hin N (x0) ((some a1)) ((some a3)) u5 hF
    · have hF := k_mn1 hF
      show kV _ _ _ _ 21 [some (.ref x0), some (.ref a1), some (.ref a3)] [.ref a7]
      refine v_ifnull C dJ18_rotateLeft_21 ?_
      refine v_aload_n C dJ18_rotateLeft_24 rfl rfl ?_
      refine v_getQ C kc_J27 2 (Nat.le_of_ble_eq_true rfl) (kFl.p q1728) dJ18_rotateLeft_25 hF (fun v29 hF => ?_)
      refine v_aload_n C dJ18_rotateLeft_28 rfl rfl ?_
      rcases v29 with _ | a30
      · exact (k_ob0 hF).elim
      have hF := k_ob1 hF
      show kV _ _ _ _ 29 [some (.ref x0), some (.ref a1), some (.ref a3)] [.ref a1, .ref a30]
      refine v_putW C kc_J27 4 (Nat.le_of_ble_eq_true rfl) (kFl.p q1731) rfl rfl rfl dJ18_rotateLeft_29 hF (fun u31 hF => ?_)
      refine v_mask [true, true, true] (lv' := [some (.ref x0), some (va_rf (some a1)), some (va_rf (some a3))]) rfl ?_
      exact wJ18_rotateLeft_b32 C hX hl hin N (x0) ((some a1)) ((some a3)) u31 hF
set_option maxHeartbeats 4000000 in
theorem wJ18_rotateRight_b85 {l : Launch} {g : GT} {X : CxT} {r : Unit} {w1 : Wd} (C : kOk g X cJ18_rotateRight 3 RJ18 none 1 100 none w1) (hX : ∀ U, gX g U → SX g U) (hl : xl X = l) (hin : kHin X yJ18_rotateRight) (N : Nat)  (x1 : Option Nat) (x2 : Option Nat) (w : Wd) (hF : FJ18_rotateRight_b85 N g  x1 x2 w = some (r, w1)) : kV g X 3 w 85 [none, some (va_rf x1), some (va_rf x2)] [] := by
  unfold FJ18_rotateRight_b85 at hF
  refine v_aload_nQ C dJ18_rotateRight_85 rfl rfl ?_
  refine v_aload_nQ C dJ18_rotateRight_86 rfl rfl ?_
  rcases x2 with _ | a15
  · exact (k_ob0 hF).elim
  have hF := k_ob1 hF
  show kV _ _ _ _ 87 [none, some (va_rf x1), some (.ref a15)] [va_rf x1, .ref a15]
  refine v_putW C kc_J27 3 (Nat.le_of_ble_eq_true rfl) (kFl.p q1729) rfl (nar_rf _ (by decide)) (fit_rf _ (by decide)) dJ18_rotateRight_87 hF (fun u16 hF => ?_)
  refine v_aload_nQ C dJ18_rotateRight_90 rfl rfl ?_
  refine v_aload_n C dJ18_rotateRight_91 rfl rfl ?_
  rcases x1 with _ | a17
  · exact (k_ob0 hF).elim
  have hF := k_ob1 hF
  show kV _ _ _ _ 92 [none, some (.ref a17), some (.ref a15)] [.ref a15, .ref a17]
  refine v_putW C kc_J27 4 (Nat.le_of_ble_eq_true rfl) (kFl.p q1731) rfl rfl rfl dJ18_rotateRight_92 hF (fun u18 hF => ?_)
  exact c_vret C dJ18_rotateRight_95 hF
set_option maxHeartbeats 4000000 in
theorem wJ18_rotateRight_b32 {l : Launch} {g : GT} {X : CxT} {r : Unit} {w1 : Wd} (C : kOk g X cJ18_rotateRight 3 RJ18 none 1 100 none w1) (hX : ∀ U, gX g U → SX g U) (hl : xl X = l) (hin : kHin X yJ18_rotateRight) (N : Nat)  (x0 : Nat) (x1 : Option Nat) (x2 : Option Nat) (w : Wd) (hF : FJ18_rotateRight_b32 N g  x0 x1 x2 w = some (r, w1)) : kV g X 3 w 32 [some (.ref x0), some (va_rf x1), some (va_rf x2)] [] := by
  unfold FJ18_rotateRight_b32 at hF
  refine v_aload_nQ C dJ18_rotateRight_32 rfl rfl ?_
  refine v_aload_nQ C dJ18_rotateRight_33 rfl rfl ?_
  rcases x1 with _ | a8
  · exact (k_ob0 hF).elim
  have hF := k_ob1 hF
  show kV _ _ _ _ 34 [some (.ref x0), some (.ref a8), some (va_rf x2)] [.ref a8, va_rf x2]
  refine v_getQ C kc_J27 4 (Nat.le_of_ble_eq_true rfl) (kFl.p q1731) dJ18_rotateRight_34 hF (fun v9 hF => ?_)
  rcases x2 with _ | a10
  · exact (k_ob0 hF).elim
  have hF := k_ob1 hF
  show kV _ _ _ _ 37 [some (.ref x0), some (.ref a8), some (.ref a10)] [va_rf v9, .ref a10]
  refine v_putW C kc_J27 4 (Nat.le_of_ble_eq_true rfl) (kFl.p q1731) rfl (nar_rf _ (by decide)) (fit_rf _ (by decide)) dJ18_rotateRight_37 hF (fun u11 hF => ?_)
  refine v_aload_n C dJ18_rotateRight_40 rfl rfl ?_
  refine v_getQ C kc_J27 4 (Nat.le_of_ble_eq_true rfl) (kFl.p q1731) dJ18_rotateRight_41 hF (fun v12 hF => ?_)
  rcases v12 with _ | a13
  · have hF := k_mn0 hF
    show kV _ _ _ _ 44 [some (.ref x0), some (.ref a8), some (.ref a10)] [.null]
    refine v_ifnonnullN C dJ18_rotateRight_44 ?_
    refine v_aload_n C dJ18_rotateRight_47 rfl rfl ?_
    refine v_aload_n C dJ18_rotateRight_48 rfl rfl ?_
    refine v_putW C kc_J18 3 (Nat.le_of_ble_eq_true rfl) (kFl.p q1646) rfl rfl rfl dJ18_rotateRight_49 hF (fun u14 hF => ?_)
    refine v_goto C (tgt := 85) dJ18_rotateRight_52 (by decide) ?_
    refine v_mask [false, true, true] (lv' := [none, some (va_rf (some a8)), some (va_rf (some a10))]) rfl ?_
    exact wJ18_rotateRight_b85 C hX hl hin N ((some a8)) ((some a10)) u14 hF
  · have hF := k_mn1 hF
    show kV _ _ _ _ 44 [some (.ref x0), some (.ref a8), some (.ref a10)] [.ref a13]
    refine v_ifnonnull C (tgt := 55) dJ18_rotateRight_44 (by decide) ?_
    refine v_aload_n C dJ18_rotateRight_55 rfl rfl ?_
    refine v_getQ C kc_J27 4 (Nat.le_of_ble_eq_true rfl) (kFl.p q1731) dJ18_rotateRight_56 hF (fun v19 hF => ?_)
    rcases v19 with _ | a20
    · exact (k_ob0 hF).elim
    have hF := k_ob1 hF
    show kV _ _ _ _ 59 [some (.ref x0), some (.ref a8), some (.ref a10)] [.ref a20]
    refine v_getQ C kc_J27 3 (Nat.le_of_ble_eq_true rfl) (kFl.p q1729) dJ18_rotateRight_59 hF (fun v21 hF => ?_)
    refine v_aload_n C dJ18_rotateRight_62 rfl rfl ?_
    refine v_acmp_ne C (rx := v21) (ry := (some a8)) rfl rfl (tgt := 77) dJ18_rotateRight_63 (by decide) hF (fun c22 hF => ?_) (fun c22 hF => ?_)
    · refine v_aload_n C dJ18_rotateRight_66 rfl rfl ?_
      refine v_getQ C kc_J27 4 (Nat.le_of_ble_eq_true rfl) (kFl.p q1731) dJ18_rotateRight_67 hF (fun v23 hF => ?_)
      refine v_aload_n C dJ18_rotateRight_70 rfl rfl ?_
      rcases v23 with _ | a24
      · exact (k_ob0 hF).elim
      have hF := k_ob1 hF
      show kV _ _ _ _ 71 [some (.ref x0), some (.ref a8), some (.ref a10)] [.ref a10, .ref a24]
      refine v_putW C kc_J27 3 (Nat.le_of_ble_eq_true rfl) (kFl.p q1729) rfl rfl rfl dJ18_rotateRight_71 hF (fun u25 hF => ?_)
      refine v_goto C (tgt := 85) dJ18_rotateRight_74 (by decide) ?_
      refine v_mask [false, true, true] (lv' := [none, some (va_rf (some a8)), some (va_rf (some a10))]) rfl ?_
      exact wJ18_rotateRight_b85 C hX hl hin N ((some a8)) ((some a10)) u25 hF
    · refine v_aload_n C dJ18_rotateRight_77 rfl rfl ?_
      refine v_getQ C kc_J27 4 (Nat.le_of_ble_eq_true rfl) (kFl.p q1731) dJ18_rotateRight_78 hF (fun v26 hF => ?_)
      refine v_aload_n C dJ18_rotateRight_81 rfl rfl ?_
      rcases v26 with _ | a27
      · exact (k_ob0 hF).elim
      have hF := k_ob1 hF
      show kV _ _ _ _ 82 [some (.ref x0), some (.ref a8), some (.ref a10)] [.ref a10, .ref a27]
      refine v_putW C kc_J27 2 (Nat.le_of_ble_eq_true rfl) (kFl.p q1728) rfl rfl rfl dJ18_rotateRight_82 hF (fun u28 hF => ?_)
      refine v_mask [false, true, true] (lv' := [none, some (va_rf (some a8)), some (va_rf (some a10))]) rfl ?_
      exact wJ18_rotateRight_b85 C hX hl hin N ((some a8)) ((some a10)) u28 hF
set_option maxHeartbeats 4000000 in
theorem wJ18_rotateRight (l : Launch) (g : GT) (hX : ∀ U, gX g U → SX g U) (N : Nat) (x0 : Nat) (x1 : Option Nat) (w : Wd) (r : Unit) (w1 : Wd) (hF : FJ18_rotateRight N g x0 x1 w = some (r, w1)) : kMt l g yJ18_rotateRight (ws_ yJ18_rotateRight cJ18_rotateRight 3 none) 1 100 w [.ref x0, va_rf x1] none w1 := by
  refine kMt.ofV (lv := [some (.ref x0), some (va_rf x1), none]) (by decide) rfl (by cases x1 <;> exact Nat.le_of_ble_eq_true rfl) (by cases x1 <;> rfl) ?_
  intro X hl hin C
  unfold FJ18_rotateRight at hF
  refine v_aload_nQ C dJ18_rotateRight_0 rfl rfl ?_
  rcases x1 with _ | a1
  · have hF := k_mn0 hF
    show kV _ _ _ _ 1 [some (.ref x0), some (.null), none] [.null]
    refine v_ifnullN C (tgt := 95) dJ18_rotateRight_1 (by decide) ?_
    exact c_vret C dJ18_rotateRight_95 hF
  · have hF := k_mn1 hF
    show kV _ _ _ _ 1 [some (.ref x0), some (.ref a1), none] [.ref a1]
    refine v_ifnull C dJ18_rotateRight_1 ?_
    refine v_aload_n C dJ18_rotateRight_4 rfl rfl ?_
    refine v_getQ C kc_J27 2 (Nat.le_of_ble_eq_true rfl) (kFl.p q1728) dJ18_rotateRight_5 hF (fun v2 hF => ?_)
    refine v_astore_nQ C dJ18_rotateRight_8 rfl (Nat.le_of_ble_eq_true rfl) rfl (lv' := [some (.ref x0), some (.ref a1), some (va_rf v2)]) rfl ?_
    refine v_aload_n C dJ18_rotateRight_9 rfl rfl ?_
    refine v_aload_nQ C dJ18_rotateRight_10 rfl rfl ?_
    rcases v2 with _ | a3
    · exact (k_ob0 hF).elim
    have hF := k_ob1 hF
    show kV _ _ _ _ 11 [some (.ref x0), some (.ref a1), some (.ref a3)] [.ref a3, .ref a1]
    refine v_getQ C kc_J27 3 (Nat.le_of_ble_eq_true rfl) (kFl.p q1729) dJ18_rotateRight_11 hF (fun v4 hF => ?_)
    refine v_putW C kc_J27 2 (Nat.le_of_ble_eq_true rfl) (kFl.p q1728) rfl (nar_rf _ (by decide)) (fit_rf _ (by decide)) dJ18_rotateRight_14 hF (fun u5 hF => ?_)
    refine v_aload_n C dJ18_rotateRight_17 rfl rfl ?_
    refine v_getQ C kc_J27 3 (Nat.le_of_ble_eq_true rfl) (kFl.p q1729) dJ18_rotateRight_18 hF (fun v6 hF => ?_)
    rcases v6 with _ | a7
    · have hF := k_mn0 hF
      show kV _ _ _ _ 21 [some (.ref x0), some (.ref a1), some (.ref a3)] [.null]
      refine v_ifnullN C (tgt := 32) dJ18_rotateRight_21 (by decide) ?_
      refine v_mask [true, true, true] (lv' := [some (.ref x0), some (va_rf (some a1)), some (va_rf (some a3))]) rfl ?_
      exact wJ18_rotateRight_b32 C hX hl hin N (x0) ((some a1)) ((some a3)) u5 hF
    · have hF := k_mn1 hF
      show kV _ _ _ _ 21 [some (.ref x0), some (.ref a1), some (.ref a3)] [.ref a7]
      refine v_ifnull C dJ18_rotateRight_21 ?_
      refine v_aload_n C dJ18_rotateRight_24 rfl rfl ?_
      refine v_getQ C kc_J27 3 (Nat.le_of_ble_eq_true rfl) (kFl.p q1729) dJ18_rotateRight_25 hF (fun v29 hF => ?_)
      refine v_aload_n C dJ18_rotateRight_28 rfl rfl ?_
      rcases v29 with _ | a30
      · exact (k_ob0 hF).elim
      have hF := k_ob1 hF
      show kV _ _ _ _ 29 [some (.ref x0), some (.ref a1), some (.ref a3)] [.ref a1, .ref a30]
      refine v_putW C kc_J27 4 (Nat.le_of_ble_eq_true rfl) (kFl.p q1731) rfl rfl rfl dJ18_rotateRight_29 hF (fun u31 hF => ?_)
      refine v_mask [true, true, true] (lv' := [some (.ref x0), some (va_rf (some a1)), some (va_rf (some a3))]) rfl ?_
      exact wJ18_rotateRight_b32 C hX hl hin N (x0) ((some a1)) ((some a3)) u31 hF
set_option maxHeartbeats 4000000 in
theorem wJ18_fixAfterInsertion_b258 {l : Launch} {g : GT} {X : CxT} {r : Unit} {w1 : Wd} (C : kOk g X cJ18_fixAfterInsertion 3 RJ18 none 2 200 none w1) (hX : ∀ U, gX g U → SX g U) (hl : xl X = l) (hin : kHin X yJ18_fixAfterInsertion) (N : Nat)  (x0 : Nat) (w : Wd) (hF : FJ18_fixAfterInsertion_b258 N g  x0 w = some (r, w1)) : kV g X 3 w 258 [some (.ref x0), none, none] [] := by
  unfold FJ18_fixAfterInsertion_b258 at hF
  refine v_aload_n C dJ18_fixAfterInsertion_258 rfl rfl ?_
  refine v_getQ C kc_J18 3 (Nat.le_of_ble_eq_true rfl) (kFl.p q1646) dJ18_fixAfterInsertion_259 hF (fun v3 hF => ?_)
  refine v_iconst C (v := (1 : Int32)) dJ18_fixAfterInsertion_262 (by decide) ?_
  rcases v3 with _ | a4
  · exact (k_ob0 hF).elim
  have hF := k_ob1 hF
  show kV _ _ _ _ 263 [some (.ref x0), none, none] [.int (1 : Int32), .ref a4]
  refine v_putW C kc_J27 5 (Nat.le_of_ble_eq_true rfl) (kFl.p q1733) rfl rfl rfl dJ18_fixAfterInsertion_263 hF (fun u5 hF => ?_)
  exact c_vret C dJ18_fixAfterInsertion_266 hF
set_option maxHeartbeats 4000000 in
theorem wJ18_fixAfterInsertion_b148 {l : Launch} {g : GT} {X : CxT} {r : Unit} {w1 : Wd} (C : kOk g X cJ18_fixAfterInsertion 3 RJ18 none 2 200 none w1) (hX : ∀ U, gX g U → SX g U) (hl : xl X = l) (hin : kHin X yJ18_fixAfterInsertion) (N : Nat) (k5 : Nat × Option Nat × Wd → Option (Unit × Wd)) (hk5 : ∀ a, k5 a = some (r, w1) → kV g X 3 a.2.2 5 [some (.ref a.1), some (va_rf a.2.1), none] []) (x0 : Nat) (x1 : Option Nat) (w : Wd) (hF : FJ18_fixAfterInsertion_b148 N g k5 x0 x1 w = some (r, w1)) : kV g X 3 w 148 [some (.ref x0), some (va_rf x1), none] [] := by
  unfold FJ18_fixAfterInsertion_b148 at hF
  refine v_goto C (tgt := 5) dJ18_fixAfterInsertion_148 (by decide) ?_
  refine v_mask [true, true, false] (lv' := [some (.ref x0), some (va_rf x1), none]) rfl ?_
  exact hk5 (x0, x1, w) hF
set_option maxHeartbeats 4000000 in
theorem wJ18_fixAfterInsertion_b118 {l : Launch} {g : GT} {X : CxT} {r : Unit} {w1 : Wd} (C : kOk g X cJ18_fixAfterInsertion 3 RJ18 none 2 200 none w1) (hX : ∀ U, gX g U → SX g U) (hl : xl X = l) (hin : kHin X yJ18_fixAfterInsertion) (N : Nat) (k5 : Nat × Option Nat × Wd → Option (Unit × Wd)) (hk5 : ∀ a, k5 a = some (r, w1) → kV g X 3 a.2.2 5 [some (.ref a.1), some (va_rf a.2.1), none] []) (x0 : Nat) (x1 : Option Nat) (w : Wd) (hF : FJ18_fixAfterInsertion_b118 N g k5 x0 x1 w = some (r, w1)) : kV g X 3 w 118 [some (.ref x0), some (va_rf x1), none] [] := by
  unfold FJ18_fixAfterInsertion_b118 at hF
  refine v_aload_nQ C dJ18_fixAfterInsertion_118 rfl rfl ?_
  refine c_callSq C lk_J18_294 (fr2 := 1) (lo2 := 100) (As := [va_rf x1]) (st := []) (fun r9_ w9_ h9_ => by rw [hl]; exact wJ18_parentOf l g hX N x1 w r9_ w9_ h9_) (by decide) rfl rfl (Nat.le_of_ble_eq_true rfl) dJ18_fixAfterInsertion_119 hF (fun r56 u57 hF => ?_)
  refine v_iconst C (v := (1 : Int32)) dJ18_fixAfterInsertion_122 (by decide) ?_
  refine c_callSv C lk_J18_307 (fr2 := 1) (lo2 := 100) (As := [va_rf r56, .int (1 : Int32)]) (st := []) (fun r9_ w9_ h9_ => by rw [hl]; exact wJ18_setColor l g hX N r56 (1 : Int32) u57 r9_ w9_ h9_) (by decide) rfl rfl (Nat.le_of_ble_eq_true rfl) dJ18_fixAfterInsertion_123 hF (fun r58 u59 hF => ?_)
  refine v_aload_nQ C dJ18_fixAfterInsertion_126 rfl rfl ?_
  refine c_callSq C lk_J18_294 (fr2 := 1) (lo2 := 100) (As := [va_rf x1]) (st := []) (fun r9_ w9_ h9_ => by rw [hl]; exact wJ18_parentOf l g hX N x1 u59 r9_ w9_ h9_) (by decide) rfl rfl (Nat.le_of_ble_eq_true rfl) dJ18_fixAfterInsertion_127 hF (fun r60 u61 hF => ?_)
  refine c_callSq C lk_J18_294 (fr2 := 1) (lo2 := 100) (As := [va_rf r60]) (st := []) (fun r9_ w9_ h9_ => by rw [hl]; exact wJ18_parentOf l g hX N r60 u61 r9_ w9_ h9_) (by decide) rfl rfl (Nat.le_of_ble_eq_true rfl) dJ18_fixAfterInsertion_130 hF (fun r62 u63 hF => ?_)
  refine v_iconst C (v := (0 : Int32)) dJ18_fixAfterInsertion_133 (by decide) ?_
  refine c_callSv C lk_J18_307 (fr2 := 1) (lo2 := 100) (As := [va_rf r62, .int (0 : Int32)]) (st := []) (fun r9_ w9_ h9_ => by rw [hl]; exact wJ18_setColor l g hX N r62 (0 : Int32) u63 r9_ w9_ h9_) (by decide) rfl rfl (Nat.le_of_ble_eq_true rfl) dJ18_fixAfterInsertion_134 hF (fun r64 u65 hF => ?_)
  refine v_aload_n C dJ18_fixAfterInsertion_137 rfl rfl ?_
  refine v_aload_nQ C dJ18_fixAfterInsertion_138 rfl rfl ?_
  refine c_callSq C lk_J18_294 (fr2 := 1) (lo2 := 100) (As := [va_rf x1]) (st := [.ref x0]) (fun r9_ w9_ h9_ => by rw [hl]; exact wJ18_parentOf l g hX N x1 u65 r9_ w9_ h9_) (by decide) rfl rfl (Nat.le_of_ble_eq_true rfl) dJ18_fixAfterInsertion_139 hF (fun r66 u67 hF => ?_)
  refine c_callSq C lk_J18_294 (fr2 := 1) (lo2 := 100) (As := [va_rf r66]) (st := [.ref x0]) (fun r9_ w9_ h9_ => by rw [hl]; exact wJ18_parentOf l g hX N r66 u67 r9_ w9_ h9_) (by decide) rfl rfl (Nat.le_of_ble_eq_true rfl) dJ18_fixAfterInsertion_142 hF (fun r68 u69 hF => ?_)
  obtain ⟨h72, hF⟩ := k_ite hF
  refine c_callVv C lk_J18_314 (ci := 15) rfl h72 (fr2 := 1) (lo2 := 100) (As := [va_rf r68]) (st := []) (fun r9_ w9_ h9_ => by rw [hl]; exact wJ18_rotateRight l g hX N x0 r68 u69 r9_ w9_ h9_) (by decide) rfl rfl (Nat.le_of_ble_eq_true rfl) dJ18_fixAfterInsertion_145 hF (fun r70 u71 hF => ?_)
  refine v_mask [true, true, false] (lv' := [some (.ref x0), some (va_rf x1), none]) rfl ?_
  exact wJ18_fixAfterInsertion_b148 C hX hl hin N k5 hk5 (x0) (x1) u71 hF
set_option maxHeartbeats 4000000 in
theorem wJ18_fixAfterInsertion_b255 {l : Launch} {g : GT} {X : CxT} {r : Unit} {w1 : Wd} (C : kOk g X cJ18_fixAfterInsertion 3 RJ18 none 2 200 none w1) (hX : ∀ U, gX g U → SX g U) (hl : xl X = l) (hin : kHin X yJ18_fixAfterInsertion) (N : Nat) (k5 : Nat × Option Nat × Wd → Option (Unit × Wd)) (hk5 : ∀ a, k5 a = some (r, w1) → kV g X 3 a.2.2 5 [some (.ref a.1), some (va_rf a.2.1), none] []) (x0 : Nat) (x1 : Option Nat) (w : Wd) (hF : FJ18_fixAfterInsertion_b255 N g k5 x0 x1 w = some (r, w1)) : kV g X 3 w 255 [some (.ref x0), some (va_rf x1), none] [] := by
  unfold FJ18_fixAfterInsertion_b255 at hF
  refine v_goto C (tgt := 5) dJ18_fixAfterInsertion_255 (by decide) ?_
  refine v_mask [true, true, false] (lv' := [some (.ref x0), some (va_rf x1), none]) rfl ?_
  exact hk5 (x0, x1, w) hF
set_option maxHeartbeats 4000000 in
theorem wJ18_fixAfterInsertion_b225 {l : Launch} {g : GT} {X : CxT} {r : Unit} {w1 : Wd} (C : kOk g X cJ18_fixAfterInsertion 3 RJ18 none 2 200 none w1) (hX : ∀ U, gX g U → SX g U) (hl : xl X = l) (hin : kHin X yJ18_fixAfterInsertion) (N : Nat) (k5 : Nat × Option Nat × Wd → Option (Unit × Wd)) (hk5 : ∀ a, k5 a = some (r, w1) → kV g X 3 a.2.2 5 [some (.ref a.1), some (va_rf a.2.1), none] []) (x0 : Nat) (x1 : Option Nat) (w : Wd) (hF : FJ18_fixAfterInsertion_b225 N g k5 x0 x1 w = some (r, w1)) : kV g X 3 w 225 [some (.ref x0), some (va_rf x1), none] [] := by
  unfold FJ18_fixAfterInsertion_b225 at hF
  refine v_aload_nQ C dJ18_fixAfterInsertion_225 rfl rfl ?_
  refine c_callSq C lk_J18_294 (fr2 := 1) (lo2 := 100) (As := [va_rf x1]) (st := []) (fun r9_ w9_ h9_ => by rw [hl]; exact wJ18_parentOf l g hX N x1 w r9_ w9_ h9_) (by decide) rfl rfl (Nat.le_of_ble_eq_true rfl) dJ18_fixAfterInsertion_226 hF (fun r108 u109 hF => ?_)
  refine v_iconst C (v := (1 : Int32)) dJ18_fixAfterInsertion_229 (by decide) ?_
  refine c_callSv C lk_J18_307 (fr2 := 1) (lo2 := 100) (As := [va_rf r108, .int (1 : Int32)]) (st := []) (fun r9_ w9_ h9_ => by rw [hl]; exact wJ18_setColor l g hX N r108 (1 : Int32) u109 r9_ w9_ h9_) (by decide) rfl rfl (Nat.le_of_ble_eq_true rfl) dJ18_fixAfterInsertion_230 hF (fun r110 u111 hF => ?_)
  refine v_aload_nQ C dJ18_fixAfterInsertion_233 rfl rfl ?_
  refine c_callSq C lk_J18_294 (fr2 := 1) (lo2 := 100) (As := [va_rf x1]) (st := []) (fun r9_ w9_ h9_ => by rw [hl]; exact wJ18_parentOf l g hX N x1 u111 r9_ w9_ h9_) (by decide) rfl rfl (Nat.le_of_ble_eq_true rfl) dJ18_fixAfterInsertion_234 hF (fun r112 u113 hF => ?_)
  refine c_callSq C lk_J18_294 (fr2 := 1) (lo2 := 100) (As := [va_rf r112]) (st := []) (fun r9_ w9_ h9_ => by rw [hl]; exact wJ18_parentOf l g hX N r112 u113 r9_ w9_ h9_) (by decide) rfl rfl (Nat.le_of_ble_eq_true rfl) dJ18_fixAfterInsertion_237 hF (fun r114 u115 hF => ?_)
  refine v_iconst C (v := (0 : Int32)) dJ18_fixAfterInsertion_240 (by decide) ?_
  refine c_callSv C lk_J18_307 (fr2 := 1) (lo2 := 100) (As := [va_rf r114, .int (0 : Int32)]) (st := []) (fun r9_ w9_ h9_ => by rw [hl]; exact wJ18_setColor l g hX N r114 (0 : Int32) u115 r9_ w9_ h9_) (by decide) rfl rfl (Nat.le_of_ble_eq_true rfl) dJ18_fixAfterInsertion_241 hF (fun r116 u117 hF => ?_)
  refine v_aload_n C dJ18_fixAfterInsertion_244 rfl rfl ?_
  refine v_aload_nQ C dJ18_fixAfterInsertion_245 rfl rfl ?_
  refine c_callSq C lk_J18_294 (fr2 := 1) (lo2 := 100) (As := [va_rf x1]) (st := [.ref x0]) (fun r9_ w9_ h9_ => by rw [hl]; exact wJ18_parentOf l g hX N x1 u117 r9_ w9_ h9_) (by decide) rfl rfl (Nat.le_of_ble_eq_true rfl) dJ18_fixAfterInsertion_246 hF (fun r118 u119 hF => ?_)
  refine c_callSq C lk_J18_294 (fr2 := 1) (lo2 := 100) (As := [va_rf r118]) (st := [.ref x0]) (fun r9_ w9_ h9_ => by rw [hl]; exact wJ18_parentOf l g hX N r118 u119 r9_ w9_ h9_) (by decide) rfl rfl (Nat.le_of_ble_eq_true rfl) dJ18_fixAfterInsertion_249 hF (fun r120 u121 hF => ?_)
  obtain ⟨h124, hF⟩ := k_ite hF
  refine c_callVv C lk_J18_311 (ci := 15) rfl h124 (fr2 := 1) (lo2 := 100) (As := [va_rf r120]) (st := []) (fun r9_ w9_ h9_ => by rw [hl]; exact wJ18_rotateLeft l g hX N x0 r120 u121 r9_ w9_ h9_) (by decide) rfl rfl (Nat.le_of_ble_eq_true rfl) dJ18_fixAfterInsertion_252 hF (fun r122 u123 hF => ?_)
  refine v_mask [true, true, false] (lv' := [some (.ref x0), some (va_rf x1), none]) rfl ?_
  exact wJ18_fixAfterInsertion_b255 C hX hl hin N k5 hk5 (x0) (x1) u123 hF
set_option maxHeartbeats 4000000 in
theorem wJ18_fixAfterInsertion_b5 {l : Launch} {g : GT} {X : CxT} {r : Unit} {w1 : Wd} (C : kOk g X cJ18_fixAfterInsertion 3 RJ18 none 2 200 none w1) (hX : ∀ U, gX g U → SX g U) (hl : xl X = l) (hin : kHin X yJ18_fixAfterInsertion) (N : Nat) (k5 : Nat × Option Nat × Wd → Option (Unit × Wd)) (hk5 : ∀ a, k5 a = some (r, w1) → kV g X 3 a.2.2 5 [some (.ref a.1), some (va_rf a.2.1), none] []) (x0 : Nat) (x1 : Option Nat) (w : Wd) (hF : FJ18_fixAfterInsertion_b5 N g k5 x0 x1 w = some (r, w1)) : kV g X 3 w 5 [some (.ref x0), some (va_rf x1), none] [] := by
  unfold FJ18_fixAfterInsertion_b5 at hF
  refine v_aload_nQ C dJ18_fixAfterInsertion_5 rfl rfl ?_
  rcases x1 with _ | a2
  · have hF := k_mn0 hF
    show kV _ _ _ _ 6 [some (.ref x0), some (.null), none] [.null]
    refine v_ifnullN C (tgt := 258) dJ18_fixAfterInsertion_6 (by decide) ?_
    refine v_mask [true, false, false] (lv' := [some (.ref x0), none, none]) rfl ?_
    exact wJ18_fixAfterInsertion_b258 C hX hl hin N (x0) w hF
  · have hF := k_mn1 hF
    show kV _ _ _ _ 6 [some (.ref x0), some (.ref a2), none] [.ref a2]
    refine v_ifnull C dJ18_fixAfterInsertion_6 ?_
    refine v_aload_n C dJ18_fixAfterInsertion_9 rfl rfl ?_
    refine v_aload_n C dJ18_fixAfterInsertion_10 rfl rfl ?_
    refine v_getQ C kc_J18 3 (Nat.le_of_ble_eq_true rfl) (kFl.p q1646) dJ18_fixAfterInsertion_11 hF (fun v6 hF => ?_)
    refine v_acmp_eq C (rx := (some a2)) (ry := v6) rfl rfl (tgt := 258) dJ18_fixAfterInsertion_14 (by decide) hF (fun c7 hF => ?_) (fun c7 hF => ?_)
    · refine v_mask [true, false, false] (lv' := [some (.ref x0), none, none]) rfl ?_
      exact wJ18_fixAfterInsertion_b258 C hX hl hin N (x0) w hF
    · refine v_aload_n C dJ18_fixAfterInsertion_17 rfl rfl ?_
      refine v_getQ C kc_J27 4 (Nat.le_of_ble_eq_true rfl) (kFl.p q1731) dJ18_fixAfterInsertion_18 hF (fun v8 hF => ?_)
      rcases v8 with _ | a9
      · exact (k_ob0 hF).elim
      have hF := k_ob1 hF
      show kV _ _ _ _ 21 [some (.ref x0), some (.ref a2), none] [.ref a9]
      refine v_getI C kc_J27 5 (Nat.le_of_ble_eq_true rfl) (kFl.p q1733) dJ18_fixAfterInsertion_21 hF (fun v10 hF => ?_)
      refine v_if_ne C (tgt := 258) dJ18_fixAfterInsertion_24 (by decide) hF (fun c11 hF => ?_) (fun c11 hF => ?_)
      · refine v_aload_n C dJ18_fixAfterInsertion_27 rfl rfl ?_
        refine c_callSq C lk_J18_294 (fr2 := 1) (lo2 := 100) (As := [va_rf (some a2)]) (st := []) (fun r9_ w9_ h9_ => by rw [hl]; exact wJ18_parentOf l g hX N (some a2) w r9_ w9_ h9_) (by decide) rfl rfl (Nat.le_of_ble_eq_true rfl) dJ18_fixAfterInsertion_28 hF (fun r12 u13 hF => ?_)
        refine v_aload_n C dJ18_fixAfterInsertion_31 rfl rfl ?_
        refine c_callSq C lk_J18_294 (fr2 := 1) (lo2 := 100) (As := [va_rf (some a2)]) (st := [va_rf r12]) (fun r9_ w9_ h9_ => by rw [hl]; exact wJ18_parentOf l g hX N (some a2) u13 r9_ w9_ h9_) (by decide) rfl rfl (by simp [va_rf_cat, cat_r, cat_i, cat_n]) dJ18_fixAfterInsertion_32 hF (fun r14 u15 hF => ?_)
        refine c_callSq C lk_J18_294 (fr2 := 1) (lo2 := 100) (As := [va_rf r14]) (st := [va_rf r12]) (fun r9_ w9_ h9_ => by rw [hl]; exact wJ18_parentOf l g hX N r14 u15 r9_ w9_ h9_) (by decide) rfl rfl (by simp [va_rf_cat, cat_r, cat_i, cat_n]) dJ18_fixAfterInsertion_35 hF (fun r16 u17 hF => ?_)
        refine c_callSq C lk_J18_297 (fr2 := 1) (lo2 := 100) (As := [va_rf r16]) (st := [va_rf r12]) (fun r9_ w9_ h9_ => by rw [hl]; exact wJ18_leftOf l g hX N r16 u17 r9_ w9_ h9_) (by decide) rfl rfl (by simp [va_rf_cat, cat_r, cat_i, cat_n]) dJ18_fixAfterInsertion_38 hF (fun r18 u19 hF => ?_)
        refine v_acmp_ne C (rx := r12) (ry := r18) rfl rfl (tgt := 151) dJ18_fixAfterInsertion_41 (by decide) hF (fun c20 hF => ?_) (fun c20 hF => ?_)
        · refine v_aload_n C dJ18_fixAfterInsertion_44 rfl rfl ?_
          refine c_callSq C lk_J18_294 (fr2 := 1) (lo2 := 100) (As := [va_rf (some a2)]) (st := []) (fun r9_ w9_ h9_ => by rw [hl]; exact wJ18_parentOf l g hX N (some a2) u19 r9_ w9_ h9_) (by decide) rfl rfl (Nat.le_of_ble_eq_true rfl) dJ18_fixAfterInsertion_45 hF (fun r21 u22 hF => ?_)
          refine c_callSq C lk_J18_294 (fr2 := 1) (lo2 := 100) (As := [va_rf r21]) (st := []) (fun r9_ w9_ h9_ => by rw [hl]; exact wJ18_parentOf l g hX N r21 u22 r9_ w9_ h9_) (by decide) rfl rfl (Nat.le_of_ble_eq_true rfl) dJ18_fixAfterInsertion_48 hF (fun r23 u24 hF => ?_)
          refine c_callSq C lk_J18_300 (fr2 := 1) (lo2 := 100) (As := [va_rf r23]) (st := []) (fun r9_ w9_ h9_ => by rw [hl]; exact wJ18_rightOf l g hX N r23 u24 r9_ w9_ h9_) (by decide) rfl rfl (Nat.le_of_ble_eq_true rfl) dJ18_fixAfterInsertion_51 hF (fun r25 u26 hF => ?_)
          refine v_astore_nQ C dJ18_fixAfterInsertion_54 rfl (Nat.le_of_ble_eq_true rfl) rfl (lv' := [some (.ref x0), some (.ref a2), some (va_rf r25)]) rfl ?_
          refine v_aload_nQ C dJ18_fixAfterInsertion_55 rfl rfl ?_
          refine c_callSi C lk_J18_303 (fr2 := 1) (lo2 := 100) (As := [va_rf r25]) (st := []) (fun r9_ w9_ h9_ => by rw [hl]; exact wJ18_colorOf l g hX N r25 u26 r9_ w9_ h9_) (by decide) rfl rfl (Nat.le_of_ble_eq_true rfl) dJ18_fixAfterInsertion_56 hF (fun r27 u28 hF => ?_)
          refine v_if_ne C (tgt := 97) dJ18_fixAfterInsertion_59 (by decide) hF (fun c29 hF => ?_) (fun c29 hF => ?_)
          · refine v_aload_n C dJ18_fixAfterInsertion_62 rfl rfl ?_
            refine c_callSq C lk_J18_294 (fr2 := 1) (lo2 := 100) (As := [va_rf (some a2)]) (st := []) (fun r9_ w9_ h9_ => by rw [hl]; exact wJ18_parentOf l g hX N (some a2) u28 r9_ w9_ h9_) (by decide) rfl rfl (Nat.le_of_ble_eq_true rfl) dJ18_fixAfterInsertion_63 hF (fun r30 u31 hF => ?_)
            refine v_iconst C (v := (1 : Int32)) dJ18_fixAfterInsertion_66 (by decide) ?_
            refine c_callSv C lk_J18_307 (fr2 := 1) (lo2 := 100) (As := [va_rf r30, .int (1 : Int32)]) (st := []) (fun r9_ w9_ h9_ => by rw [hl]; exact wJ18_setColor l g hX N r30 (1 : Int32) u31 r9_ w9_ h9_) (by decide) rfl rfl (Nat.le_of_ble_eq_true rfl) dJ18_fixAfterInsertion_67 hF (fun r32 u33 hF => ?_)
            refine v_aload_nQ C dJ18_fixAfterInsertion_70 rfl rfl ?_
            refine v_iconst C (v := (1 : Int32)) dJ18_fixAfterInsertion_71 (by decide) ?_
            refine c_callSv C lk_J18_307 (fr2 := 1) (lo2 := 100) (As := [va_rf r25, .int (1 : Int32)]) (st := []) (fun r9_ w9_ h9_ => by rw [hl]; exact wJ18_setColor l g hX N r25 (1 : Int32) u33 r9_ w9_ h9_) (by decide) rfl rfl (Nat.le_of_ble_eq_true rfl) dJ18_fixAfterInsertion_72 hF (fun r34 u35 hF => ?_)
            refine v_aload_n C dJ18_fixAfterInsertion_75 rfl rfl ?_
            refine c_callSq C lk_J18_294 (fr2 := 1) (lo2 := 100) (As := [va_rf (some a2)]) (st := []) (fun r9_ w9_ h9_ => by rw [hl]; exact wJ18_parentOf l g hX N (some a2) u35 r9_ w9_ h9_) (by decide) rfl rfl (Nat.le_of_ble_eq_true rfl) dJ18_fixAfterInsertion_76 hF (fun r36 u37 hF => ?_)
            refine c_callSq C lk_J18_294 (fr2 := 1) (lo2 := 100) (As := [va_rf r36]) (st := []) (fun r9_ w9_ h9_ => by rw [hl]; exact wJ18_parentOf l g hX N r36 u37 r9_ w9_ h9_) (by decide) rfl rfl (Nat.le_of_ble_eq_true rfl) dJ18_fixAfterInsertion_79 hF (fun r38 u39 hF => ?_)
            refine v_iconst C (v := (0 : Int32)) dJ18_fixAfterInsertion_82 (by decide) ?_
            refine c_callSv C lk_J18_307 (fr2 := 1) (lo2 := 100) (As := [va_rf r38, .int (0 : Int32)]) (st := []) (fun r9_ w9_ h9_ => by rw [hl]; exact wJ18_setColor l g hX N r38 (0 : Int32) u39 r9_ w9_ h9_) (by decide) rfl rfl (Nat.le_of_ble_eq_true rfl) dJ18_fixAfterInsertion_83 hF (fun r40 u41 hF => ?_)
            refine v_aload_n C dJ18_fixAfterInsertion_86 rfl rfl ?_
            refine c_callSq C lk_J18_294 (fr2 := 1) (lo2 := 100) (As := [va_rf (some a2)]) (st := []) (fun r9_ w9_ h9_ => by rw [hl]; exact wJ18_parentOf l g hX N (some a2) u41 r9_ w9_ h9_) (by decide) rfl rfl (Nat.le_of_ble_eq_true rfl) dJ18_fixAfterInsertion_87 hF (fun r42 u43 hF => ?_)
            refine c_callSq C lk_J18_294 (fr2 := 1) (lo2 := 100) (As := [va_rf r42]) (st := []) (fun r9_ w9_ h9_ => by rw [hl]; exact wJ18_parentOf l g hX N r42 u43 r9_ w9_ h9_) (by decide) rfl rfl (Nat.le_of_ble_eq_true rfl) dJ18_fixAfterInsertion_90 hF (fun r44 u45 hF => ?_)
            refine v_astore_nQ C dJ18_fixAfterInsertion_93 rfl (Nat.le_of_ble_eq_true rfl) rfl (lv' := [some (.ref x0), some (va_rf r44), some (va_rf r25)]) rfl ?_
            refine v_goto C (tgt := 148) dJ18_fixAfterInsertion_94 (by decide) ?_
            refine v_mask [true, true, false] (lv' := [some (.ref x0), some (va_rf r44), none]) rfl ?_
            exact wJ18_fixAfterInsertion_b148 C hX hl hin N k5 hk5 (x0) (r44) u45 hF
          · refine v_aload_n C dJ18_fixAfterInsertion_97 rfl rfl ?_
            refine v_aload_n C dJ18_fixAfterInsertion_98 rfl rfl ?_
            refine c_callSq C lk_J18_294 (fr2 := 1) (lo2 := 100) (As := [va_rf (some a2)]) (st := [.ref a2]) (fun r9_ w9_ h9_ => by rw [hl]; exact wJ18_parentOf l g hX N (some a2) u28 r9_ w9_ h9_) (by decide) rfl rfl (Nat.le_of_ble_eq_true rfl) dJ18_fixAfterInsertion_99 hF (fun r46 u47 hF => ?_)
            refine c_callSq C lk_J18_300 (fr2 := 1) (lo2 := 100) (As := [va_rf r46]) (st := [.ref a2]) (fun r9_ w9_ h9_ => by rw [hl]; exact wJ18_rightOf l g hX N r46 u47 r9_ w9_ h9_) (by decide) rfl rfl (Nat.le_of_ble_eq_true rfl) dJ18_fixAfterInsertion_102 hF (fun r48 u49 hF => ?_)
            refine v_acmp_ne C (rx := (some a2)) (ry := r48) rfl rfl (tgt := 118) dJ18_fixAfterInsertion_105 (by decide) hF (fun c50 hF => ?_) (fun c50 hF => ?_)
            · refine v_aload_n C dJ18_fixAfterInsertion_108 rfl rfl ?_
              refine c_callSq C lk_J18_294 (fr2 := 1) (lo2 := 100) (As := [va_rf (some a2)]) (st := []) (fun r9_ w9_ h9_ => by rw [hl]; exact wJ18_parentOf l g hX N (some a2) u49 r9_ w9_ h9_) (by decide) rfl rfl (Nat.le_of_ble_eq_true rfl) dJ18_fixAfterInsertion_109 hF (fun r51 u52 hF => ?_)
              refine v_astore_nQ C dJ18_fixAfterInsertion_112 rfl (Nat.le_of_ble_eq_true rfl) rfl (lv' := [some (.ref x0), some (va_rf r51), some (va_rf r25)]) rfl ?_
              refine v_aload_n C dJ18_fixAfterInsertion_113 rfl rfl ?_
              refine v_aload_nQ C dJ18_fixAfterInsertion_114 rfl rfl ?_
              obtain ⟨h55, hF⟩ := k_ite hF
              refine c_callVv C lk_J18_311 (ci := 15) rfl h55 (fr2 := 1) (lo2 := 100) (As := [va_rf r51]) (st := []) (fun r9_ w9_ h9_ => by rw [hl]; exact wJ18_rotateLeft l g hX N x0 r51 u52 r9_ w9_ h9_) (by decide) rfl rfl (Nat.le_of_ble_eq_true rfl) dJ18_fixAfterInsertion_115 hF (fun r53 u54 hF => ?_)
              refine v_mask [true, true, false] (lv' := [some (.ref x0), some (va_rf r51), none]) rfl ?_
              exact wJ18_fixAfterInsertion_b118 C hX hl hin N k5 hk5 (x0) (r51) u54 hF
            · refine v_mask [true, true, false] (lv' := [some (.ref x0), some (va_rf (some a2)), none]) rfl ?_
              exact wJ18_fixAfterInsertion_b118 C hX hl hin N k5 hk5 (x0) ((some a2)) u49 hF
        · refine v_aload_n C dJ18_fixAfterInsertion_151 rfl rfl ?_
          refine c_callSq C lk_J18_294 (fr2 := 1) (lo2 := 100) (As := [va_rf (some a2)]) (st := []) (fun r9_ w9_ h9_ => by rw [hl]; exact wJ18_parentOf l g hX N (some a2) u19 r9_ w9_ h9_) (by decide) rfl rfl (Nat.le_of_ble_eq_true rfl) dJ18_fixAfterInsertion_152 hF (fun r73 u74 hF => ?_)
          refine c_callSq C lk_J18_294 (fr2 := 1) (lo2 := 100) (As := [va_rf r73]) (st := []) (fun r9_ w9_ h9_ => by rw [hl]; exact wJ18_parentOf l g hX N r73 u74 r9_ w9_ h9_) (by decide) rfl rfl (Nat.le_of_ble_eq_true rfl) dJ18_fixAfterInsertion_155 hF (fun r75 u76 hF => ?_)
          refine c_callSq C lk_J18_297 (fr2 := 1) (lo2 := 100) (As := [va_rf r75]) (st := []) (fun r9_ w9_ h9_ => by rw [hl]; exact wJ18_leftOf l g hX N r75 u76 r9_ w9_ h9_) (by decide) rfl rfl (Nat.le_of_ble_eq_true rfl) dJ18_fixAfterInsertion_158 hF (fun r77 u78 hF => ?_)
          refine v_astore_nQ C dJ18_fixAfterInsertion_161 rfl (Nat.le_of_ble_eq_true rfl) rfl (lv' := [some (.ref x0), some (.ref a2), some (va_rf r77)]) rfl ?_
          refine v_aload_nQ C dJ18_fixAfterInsertion_162 rfl rfl ?_
          refine c_callSi C lk_J18_303 (fr2 := 1) (lo2 := 100) (As := [va_rf r77]) (st := []) (fun r9_ w9_ h9_ => by rw [hl]; exact wJ18_colorOf l g hX N r77 u78 r9_ w9_ h9_) (by decide) rfl rfl (Nat.le_of_ble_eq_true rfl) dJ18_fixAfterInsertion_163 hF (fun r79 u80 hF => ?_)
          refine v_if_ne C (tgt := 204) dJ18_fixAfterInsertion_166 (by decide) hF (fun c81 hF => ?_) (fun c81 hF => ?_)
          · refine v_aload_n C dJ18_fixAfterInsertion_169 rfl rfl ?_
            refine c_callSq C lk_J18_294 (fr2 := 1) (lo2 := 100) (As := [va_rf (some a2)]) (st := []) (fun r9_ w9_ h9_ => by rw [hl]; exact wJ18_parentOf l g hX N (some a2) u80 r9_ w9_ h9_) (by decide) rfl rfl (Nat.le_of_ble_eq_true rfl) dJ18_fixAfterInsertion_170 hF (fun r82 u83 hF => ?_)
            refine v_iconst C (v := (1 : Int32)) dJ18_fixAfterInsertion_173 (by decide) ?_
            refine c_callSv C lk_J18_307 (fr2 := 1) (lo2 := 100) (As := [va_rf r82, .int (1 : Int32)]) (st := []) (fun r9_ w9_ h9_ => by rw [hl]; exact wJ18_setColor l g hX N r82 (1 : Int32) u83 r9_ w9_ h9_) (by decide) rfl rfl (Nat.le_of_ble_eq_true rfl) dJ18_fixAfterInsertion_174 hF (fun r84 u85 hF => ?_)
            refine v_aload_nQ C dJ18_fixAfterInsertion_177 rfl rfl ?_
            refine v_iconst C (v := (1 : Int32)) dJ18_fixAfterInsertion_178 (by decide) ?_
            refine c_callSv C lk_J18_307 (fr2 := 1) (lo2 := 100) (As := [va_rf r77, .int (1 : Int32)]) (st := []) (fun r9_ w9_ h9_ => by rw [hl]; exact wJ18_setColor l g hX N r77 (1 : Int32) u85 r9_ w9_ h9_) (by decide) rfl rfl (Nat.le_of_ble_eq_true rfl) dJ18_fixAfterInsertion_179 hF (fun r86 u87 hF => ?_)
            refine v_aload_n C dJ18_fixAfterInsertion_182 rfl rfl ?_
            refine c_callSq C lk_J18_294 (fr2 := 1) (lo2 := 100) (As := [va_rf (some a2)]) (st := []) (fun r9_ w9_ h9_ => by rw [hl]; exact wJ18_parentOf l g hX N (some a2) u87 r9_ w9_ h9_) (by decide) rfl rfl (Nat.le_of_ble_eq_true rfl) dJ18_fixAfterInsertion_183 hF (fun r88 u89 hF => ?_)
            refine c_callSq C lk_J18_294 (fr2 := 1) (lo2 := 100) (As := [va_rf r88]) (st := []) (fun r9_ w9_ h9_ => by rw [hl]; exact wJ18_parentOf l g hX N r88 u89 r9_ w9_ h9_) (by decide) rfl rfl (Nat.le_of_ble_eq_true rfl) dJ18_fixAfterInsertion_186 hF (fun r90 u91 hF => ?_)
            refine v_iconst C (v := (0 : Int32)) dJ18_fixAfterInsertion_189 (by decide) ?_
            refine c_callSv C lk_J18_307 (fr2 := 1) (lo2 := 100) (As := [va_rf r90, .int (0 : Int32)]) (st := []) (fun r9_ w9_ h9_ => by rw [hl]; exact wJ18_setColor l g hX N r90 (0 : Int32) u91 r9_ w9_ h9_) (by decide) rfl rfl (Nat.le_of_ble_eq_true rfl) dJ18_fixAfterInsertion_190 hF (fun r92 u93 hF => ?_)
            refine v_aload_n C dJ18_fixAfterInsertion_193 rfl rfl ?_
            refine c_callSq C lk_J18_294 (fr2 := 1) (lo2 := 100) (As := [va_rf (some a2)]) (st := []) (fun r9_ w9_ h9_ => by rw [hl]; exact wJ18_parentOf l g hX N (some a2) u93 r9_ w9_ h9_) (by decide) rfl rfl (Nat.le_of_ble_eq_true rfl) dJ18_fixAfterInsertion_194 hF (fun r94 u95 hF => ?_)
            refine c_callSq C lk_J18_294 (fr2 := 1) (lo2 := 100) (As := [va_rf r94]) (st := []) (fun r9_ w9_ h9_ => by rw [hl]; exact wJ18_parentOf l g hX N r94 u95 r9_ w9_ h9_) (by decide) rfl rfl (Nat.le_of_ble_eq_true rfl) dJ18_fixAfterInsertion_197 hF (fun r96 u97 hF => ?_)
            refine v_astore_nQ C dJ18_fixAfterInsertion_200 rfl (Nat.le_of_ble_eq_true rfl) rfl (lv' := [some (.ref x0), some (va_rf r96), some (va_rf r77)]) rfl ?_
            refine v_goto C (tgt := 255) dJ18_fixAfterInsertion_201 (by decide) ?_
            refine v_mask [true, true, false] (lv' := [some (.ref x0), some (va_rf r96), none]) rfl ?_
            exact wJ18_fixAfterInsertion_b255 C hX hl hin N k5 hk5 (x0) (r96) u97 hF
          · refine v_aload_n C dJ18_fixAfterInsertion_204 rfl rfl ?_
            refine v_aload_n C dJ18_fixAfterInsertion_205 rfl rfl ?_
            refine c_callSq C lk_J18_294 (fr2 := 1) (lo2 := 100) (As := [va_rf (some a2)]) (st := [.ref a2]) (fun r9_ w9_ h9_ => by rw [hl]; exact wJ18_parentOf l g hX N (some a2) u80 r9_ w9_ h9_) (by decide) rfl rfl (Nat.le_of_ble_eq_true rfl) dJ18_fixAfterInsertion_206 hF (fun r98 u99 hF => ?_)
            refine c_callSq C lk_J18_297 (fr2 := 1) (lo2 := 100) (As := [va_rf r98]) (st := [.ref a2]) (fun r9_ w9_ h9_ => by rw [hl]; exact wJ18_leftOf l g hX N r98 u99 r9_ w9_ h9_) (by decide) rfl rfl (Nat.le_of_ble_eq_true rfl) dJ18_fixAfterInsertion_209 hF (fun r100 u101 hF => ?_)
            refine v_acmp_ne C (rx := (some a2)) (ry := r100) rfl rfl (tgt := 225) dJ18_fixAfterInsertion_212 (by decide) hF (fun c102 hF => ?_) (fun c102 hF => ?_)
            · refine v_aload_n C dJ18_fixAfterInsertion_215 rfl rfl ?_
              refine c_callSq C lk_J18_294 (fr2 := 1) (lo2 := 100) (As := [va_rf (some a2)]) (st := []) (fun r9_ w9_ h9_ => by rw [hl]; exact wJ18_parentOf l g hX N (some a2) u101 r9_ w9_ h9_) (by decide) rfl rfl (Nat.le_of_ble_eq_true rfl) dJ18_fixAfterInsertion_216 hF (fun r103 u104 hF => ?_)
              refine v_astore_nQ C dJ18_fixAfterInsertion_219 rfl (Nat.le_of_ble_eq_true rfl) rfl (lv' := [some (.ref x0), some (va_rf r103), some (va_rf r77)]) rfl ?_
              refine v_aload_n C dJ18_fixAfterInsertion_220 rfl rfl ?_
              refine v_aload_nQ C dJ18_fixAfterInsertion_221 rfl rfl ?_
              obtain ⟨h107, hF⟩ := k_ite hF
              refine c_callVv C lk_J18_314 (ci := 15) rfl h107 (fr2 := 1) (lo2 := 100) (As := [va_rf r103]) (st := []) (fun r9_ w9_ h9_ => by rw [hl]; exact wJ18_rotateRight l g hX N x0 r103 u104 r9_ w9_ h9_) (by decide) rfl rfl (Nat.le_of_ble_eq_true rfl) dJ18_fixAfterInsertion_222 hF (fun r105 u106 hF => ?_)
              refine v_mask [true, true, false] (lv' := [some (.ref x0), some (va_rf r103), none]) rfl ?_
              exact wJ18_fixAfterInsertion_b225 C hX hl hin N k5 hk5 (x0) (r103) u106 hF
            · refine v_mask [true, true, false] (lv' := [some (.ref x0), some (va_rf (some a2)), none]) rfl ?_
              exact wJ18_fixAfterInsertion_b225 C hX hl hin N k5 hk5 (x0) ((some a2)) u101 hF
      · refine v_mask [true, false, false] (lv' := [some (.ref x0), none, none]) rfl ?_
        exact wJ18_fixAfterInsertion_b258 C hX hl hin N (x0) w hF
set_option maxHeartbeats 4000000 in
theorem wJ18_fixAfterInsertion (l : Launch) (g : GT) (hX : ∀ U, gX g U → SX g U) (N : Nat) (x0 : Nat) (x1 : Nat) (w : Wd) (r : Unit) (w1 : Wd) (hF : FJ18_fixAfterInsertion N g x0 x1 w = some (r, w1)) : kMt l g yJ18_fixAfterInsertion (ws_ yJ18_fixAfterInsertion cJ18_fixAfterInsertion 3 none) 2 200 w [.ref x0, .ref x1] none w1 := by
  refine kMt.ofV (lv := [some (.ref x0), some (.ref x1), none]) (by decide) rfl (Nat.le_of_ble_eq_true rfl) rfl ?_
  intro X hl hin C
  unfold FJ18_fixAfterInsertion at hF
  refine v_aload_n C dJ18_fixAfterInsertion_0 rfl rfl ?_
  refine v_iconst C (v := (0 : Int32)) dJ18_fixAfterInsertion_1 (by decide) ?_
  refine v_putW C kc_J27 5 (Nat.le_of_ble_eq_true rfl) (kFl.p q1733) rfl rfl rfl dJ18_fixAfterInsertion_2 hF (fun u1 hF => ?_)
  refine v_mask [true, true, false] (lv' := [some (.ref x0), some (va_rf (some x1)), none]) rfl ?_
  exact kloop_ok (P := fun a => kV g X 3 a.2.2 5 [some (.ref a.1), some (va_rf a.2.1), none] []) (fun self hs a hF => wJ18_fixAfterInsertion_b5 C hX hl hin N self hs a.1 a.2.1 a.2.2 hF) N (x0, (some x1), u1) hF
set_option maxHeartbeats 4000000 in
theorem wJ18_addEntry_b32 {l : Launch} {g : GT} {X : CxT} {r : Unit} {w1 : Wd} (C : kOk g X cJ18_addEntry 6 RJ18 none 3 300 none w1) (hX : ∀ U, gX g U → SX g U) (hl : xl X = l) (hin : kHin X yJ18_addEntry) (N : Nat)  (x0 : Nat) (x5 : Nat) (w : Wd) (hF : FJ18_addEntry_b32 N g  x0 x5 w = some (r, w1)) : kV g X 6 w 32 [some (.ref x0), none, none, none, none, some (.ref x5)] [] := by
  unfold FJ18_addEntry_b32 at hF
  refine v_aload_n C dJ18_addEntry_32 rfl rfl ?_
  refine v_aload C dJ18_addEntry_33 rfl ?_
  obtain ⟨h9, hF⟩ := k_ite hF
  refine c_callVv C lk_J18_170 (ci := 15) rfl h9 (fr2 := 2) (lo2 := 200) (As := [.ref x5]) (st := []) (fun r9_ w9_ h9_ => by rw [hl]; exact wJ18_fixAfterInsertion l g hX N x0 x5 w r9_ w9_ h9_) (by decide) rfl rfl (Nat.le_of_ble_eq_true rfl) dJ18_addEntry_35 hF (fun r7 u8 hF => ?_)
  refine v_aload_n C dJ18_addEntry_38 rfl rfl ?_
  refine v_dup C dJ18_addEntry_39 rfl ?_
  refine v_getI C kc_J18 4 (Nat.le_of_ble_eq_true rfl) (kFl.p q1647) dJ18_addEntry_40 hF (fun v10 hF => ?_)
  refine v_iconst C (v := (1 : Int32)) dJ18_addEntry_43 (by decide) ?_
  refine v_iadd C dJ18_addEntry_44 ?_
  refine v_putW C kc_J18 4 (Nat.le_of_ble_eq_true rfl) (kFl.p q1647) rfl rfl rfl dJ18_addEntry_45 hF (fun u11 hF => ?_)
  refine v_aload_n C dJ18_addEntry_48 rfl rfl ?_
  refine v_dup C dJ18_addEntry_49 rfl ?_
  refine v_getI C kc_J18 5 (Nat.le_of_ble_eq_true rfl) (kFl.p q1648) dJ18_addEntry_50 hF (fun v12 hF => ?_)
  refine v_iconst C (v := (1 : Int32)) dJ18_addEntry_53 (by decide) ?_
  refine v_iadd C dJ18_addEntry_54 ?_
  refine v_putW C kc_J18 5 (Nat.le_of_ble_eq_true rfl) (kFl.p q1648) rfl rfl rfl dJ18_addEntry_55 hF (fun u13 hF => ?_)
  exact c_vret C dJ18_addEntry_58 hF
set_option maxHeartbeats 4000000 in
theorem wJ18_addEntry (l : Launch) (g : GT) (hX : ∀ U, gX g U → SX g U) (N : Nat) (x0 : Nat) (x1 : Nat) (x2 : Nat) (x3 : Nat) (x4 : Int32) (w : Wd) (r : Unit) (w1 : Wd) (hF : FJ18_addEntry N g x0 x1 x2 x3 x4 w = some (r, w1)) : kMt l g yJ18_addEntry (ws_ yJ18_addEntry cJ18_addEntry 6 none) 3 300 w [.ref x0, .ref x1, .ref x2, .ref x3, .int x4] none w1 := by
  refine kMt.ofV (lv := [some (.ref x0), some (.ref x1), some (.ref x2), some (.ref x3), some (.int x4), none]) (by decide) rfl (Nat.le_of_ble_eq_true rfl) rfl ?_
  intro X hl hin C
  unfold FJ18_addEntry at hF
  refine v_newW C kc_J27 q1716 q1717 q121 nw_J27 dJ18_addEntry_0 hF (fun a1 u2 hF => ?_)
  refine v_dup C dJ18_addEntry_3 rfl ?_
  refine v_aload_n C dJ18_addEntry_4 rfl rfl ?_
  refine v_aload_n C dJ18_addEntry_5 rfl rfl ?_
  refine v_aload_n C dJ18_addEntry_6 rfl rfl ?_
  refine c_callI C lk_J18_167 (fr2 := 1) (lo2 := 100) (As := [.ref x1, .ref x2, va_rf (some x3)]) (st := [.ref a1]) (fun r9_ w9_ h9_ => by rw [hl]; exact wJ27_init l g hX N a1 x1 x2 (some x3) u2 r9_ w9_ h9_) (by decide) rfl rfl (Nat.le_of_ble_eq_true rfl) dJ18_addEntry_7 hF (fun r3 u4 hF => ?_)
  refine v_astore C dJ18_addEntry_10 (Nat.le_of_ble_eq_true rfl) rfl (lv' := [some (.ref x0), some (.ref x1), some (.ref x2), some (.ref x3), some (.int x4), some (.ref a1)]) rfl ?_
  refine v_iload C dJ18_addEntry_12 rfl ?_
  refine v_if_eq C (tgt := 26) dJ18_addEntry_14 (by decide) hF (fun c5 hF => ?_) (fun c5 hF => ?_)
  · refine v_aload_n C dJ18_addEntry_26 rfl rfl ?_
    refine v_aload C dJ18_addEntry_27 rfl ?_
    refine v_putW C kc_J27 3 (Nat.le_of_ble_eq_true rfl) (kFl.p q1729) rfl rfl rfl dJ18_addEntry_29 hF (fun u6 hF => ?_)
    refine v_mask [true, false, false, false, false, true] (lv' := [some (.ref x0), none, none, none, none, some (.ref a1)]) rfl ?_
    exact wJ18_addEntry_b32 C hX hl hin N (x0) (a1) u6 hF
  · refine v_aload_n C dJ18_addEntry_17 rfl rfl ?_
    refine v_aload C dJ18_addEntry_18 rfl ?_
    refine v_putW C kc_J27 2 (Nat.le_of_ble_eq_true rfl) (kFl.p q1728) rfl rfl rfl dJ18_addEntry_20 hF (fun u14 hF => ?_)
    refine v_goto C (tgt := 32) dJ18_addEntry_23 (by decide) ?_
    refine v_mask [true, false, false, false, false, true] (lv' := [some (.ref x0), none, none, none, none, some (.ref a1)]) rfl ?_
    exact wJ18_addEntry_b32 C hX hl hin N (x0) (a1) u14 hF
set_option maxHeartbeats 4000000 in
theorem wJ18_put_2_b187 {l : Launch} {g : GT} {X : CxT} {r : Option Nat} {w1 : Wd} (C : kOk g X cJ18_put_2 10 RJ18 (some (.object "java/lang/Object")) 6 600 (some (va_rf r)) w1) (hX : ∀ U, gX g U → SX g U) (hl : xl X = l) (hin : kHin X yJ18_put_2) (N : Nat)  (x2 : Nat) (x4 : Option Nat) (x9 : Nat) (w : Wd) (hF : FJ18_put_2_b187 N g  x2 x4 x9 w = some (r, w1)) : kV g X 10 w 187 [none, none, some (.ref x2), none, some (va_rf x4), none, none, none, none, some (.ref x9)] [] := by
  unfold FJ18_put_2_b187 at hF
  refine v_aloadQ C dJ18_put_2_187 rfl ?_
  refine v_aload_n C dJ18_put_2_189 rfl rfl ?_
  rcases x4 with _ | a19
  · exact (k_ob0 hF).elim
  have hF := k_ob1 hF
  show kV _ _ _ _ 190 [none, none, some (.ref x2), none, some (.ref a19), none, none, none, none, some (.ref x9)] [.ref x2, .ref a19]
  refine v_putW C kc_J27 1 (Nat.le_of_ble_eq_true rfl) (kFl.p q1727) rfl rfl rfl dJ18_put_2_190 hF (fun u20 hF => ?_)
  refine v_aload C dJ18_put_2_193 rfl ?_
  exact c_qret C (q := (some x9)) rfl (Or.inl ⟨_, rfl⟩) dJ18_put_2_195 hF
set_option maxHeartbeats 4000000 in
theorem wJ18_put_2_b216 {l : Launch} {g : GT} {X : CxT} {r : Option Nat} {w1 : Wd} (C : kOk g X cJ18_put_2 10 RJ18 (some (.object "java/lang/Object")) 6 600 (some (va_rf r)) w1) (hX : ∀ U, gX g U → SX g U) (hl : xl X = l) (hin : kHin X yJ18_put_2) (N : Nat)  (t0 : Int32) (t1 : Option Nat) (t2 : Nat) (t3 : Nat) (t4 : Nat) (w : Wd) (hF : FJ18_put_2_b216 N g  t0 t1 t2 t3 t4 w = some (r, w1)) : kV g X 10 w 216 [none, none, none, none, none, none, none, none, none, none] [.int t0, va_rf t1, .ref t2, .ref t3, .ref t4] := by
  unfold FJ18_put_2_b216 at hF
  rcases t1 with _ | a24
  · exact (k_ob0 hF).elim
  have hF := k_ob1 hF
  show kV _ _ _ _ 216 [none, none, none, none, none, none, none, none, none, none] [.int t0, .ref a24, .ref t2, .ref t3, .ref t4]
  obtain ⟨h27, hF⟩ := k_ite hF
  refine c_callVv C lk_J18_139 (ci := 15) rfl h27 (fr2 := 3) (lo2 := 300) (As := [.ref t3, .ref t2, .ref a24, .int t0]) (st := []) (fun r9_ w9_ h9_ => by rw [hl]; exact wJ18_addEntry l g hX N t4 t3 t2 a24 t0 w r9_ w9_ h9_) (by decide) rfl rfl (Nat.le_of_ble_eq_true rfl) dJ18_put_2_216 hF (fun r25 u26 hF => ?_)
  refine v_null C dJ18_put_2_219 ?_
  exact c_qret C (q := none) rfl (Or.inl ⟨_, rfl⟩) dJ18_put_2_220 hF
set_option maxHeartbeats 4000000 in
theorem wJ18_put_2_b201 {l : Launch} {g : GT} {X : CxT} {r : Option Nat} {w1 : Wd} (C : kOk g X cJ18_put_2 10 RJ18 (some (.object "java/lang/Object")) 6 600 (some (va_rf r)) w1) (hX : ∀ U, gX g U → SX g U) (hl : xl X = l) (hin : kHin X yJ18_put_2) (N : Nat)  (x0 : Nat) (x1 : Nat) (x2 : Nat) (x5 : Int32) (x6 : Option Nat) (w : Wd) (hF : FJ18_put_2_b201 N g  x0 x1 x2 x5 x6 w = some (r, w1)) : kV g X 10 w 201 [some (.ref x0), some (.ref x1), some (.ref x2), none, none, some (.int x5), some (va_rf x6), none, none, none] [] := by
  unfold FJ18_put_2_b201 at hF
  refine v_aload_n C dJ18_put_2_201 rfl rfl ?_
  refine v_aload_n C dJ18_put_2_202 rfl rfl ?_
  refine v_aload_n C dJ18_put_2_203 rfl rfl ?_
  refine v_aloadQ C dJ18_put_2_204 rfl ?_
  refine v_iload C dJ18_put_2_206 rfl ?_
  refine v_if_ge C (tgt := 215) dJ18_put_2_208 (by decide) hF (fun c23 hF => ?_) (fun c23 hF => ?_)
  · refine v_iconst C (v := (0 : Int32)) dJ18_put_2_215 (by decide) ?_
    refine v_mask [false, false, false, false, false, false, false, false, false, false] (lv' := [none, none, none, none, none, none, none, none, none, none]) rfl ?_
    exact wJ18_put_2_b216 C hX hl hin N ((0 : Int32)) (x6) (x2) (x1) (x0) w hF
  · refine v_iconst C (v := (1 : Int32)) dJ18_put_2_211 (by decide) ?_
    refine v_goto C (tgt := 216) dJ18_put_2_212 (by decide) ?_
    refine v_mask [false, false, false, false, false, false, false, false, false, false] (lv' := [none, none, none, none, none, none, none, none, none, none]) rfl ?_
    exact wJ18_put_2_b216 C hX hl hin N ((1 : Int32)) (x6) (x2) (x1) (x0) w hF
set_option maxHeartbeats 4000000 in
theorem wJ18_put_2_b196 {l : Launch} {g : GT} {X : CxT} {r : Option Nat} {w1 : Wd} (C : kOk g X cJ18_put_2 10 RJ18 (some (.object "java/lang/Object")) 6 600 (some (va_rf r)) w1) (hX : ∀ U, gX g U → SX g U) (hl : xl X = l) (hin : kHin X yJ18_put_2) (N : Nat) (k123 : Nat × Nat × Nat × Int32 × Option Nat × Nat × Wd → Option (Option Nat × Wd)) (hk123 : ∀ a, k123 a = some (r, w1) → kV g X 10 a.2.2.2.2.2.2 123 [some (.ref a.1), some (.ref a.2.1), some (.ref a.2.2.1), some (.int a.2.2.2.1), some (va_rf a.2.2.2.2.1), none, none, none, some (.ref a.2.2.2.2.2.1), none] []) (x0 : Nat) (x1 : Nat) (x2 : Nat) (x3 : Int32) (x4 : Option Nat) (x5 : Int32) (x6 : Option Nat) (x8 : Nat) (w : Wd) (hF : FJ18_put_2_b196 N g k123 x0 x1 x2 x3 x4 x5 x6 x8 w = some (r, w1)) : kV g X 10 w 196 [some (.ref x0), some (.ref x1), some (.ref x2), some (.int x3), some (va_rf x4), some (.int x5), some (va_rf x6), none, some (.ref x8), none] [] := by
  unfold FJ18_put_2_b196 at hF
  refine v_aloadQ C dJ18_put_2_196 rfl ?_
  rcases x4 with _ | a22
  · have hF := k_mn0 hF
    show kV _ _ _ _ 198 [some (.ref x0), some (.ref x1), some (.ref x2), some (.int x3), some (.null), some (.int x5), some (va_rf x6), none, some (.ref x8), none] [.null]
    refine v_ifnonnullN C dJ18_put_2_198 ?_
    refine v_mask [true, true, true, false, false, true, true, false, false, false] (lv' := [some (.ref x0), some (.ref x1), some (.ref x2), none, none, some (.int x5), some (va_rf x6), none, none, none]) rfl ?_
    exact wJ18_put_2_b201 C hX hl hin N (x0) (x1) (x2) (x5) (x6) w hF
  · have hF := k_mn1 hF
    show kV _ _ _ _ 198 [some (.ref x0), some (.ref x1), some (.ref x2), some (.int x3), some (.ref a22), some (.int x5), some (va_rf x6), none, some (.ref x8), none] [.ref a22]
    refine v_ifnonnull C (tgt := 123) dJ18_put_2_198 (by decide) ?_
    refine v_mask [true, true, true, true, true, false, false, false, true, false] (lv' := [some (.ref x0), some (.ref x1), some (.ref x2), some (.int x3), some (va_rf (some a22)), none, none, none, some (.ref x8), none]) rfl ?_
    exact hk123 (x0, x1, x2, x3, (some a22), x8, w) hF
set_option maxHeartbeats 4000000 in
theorem wJ18_put_2_b123 {l : Launch} {g : GT} {X : CxT} {r : Option Nat} {w1 : Wd} (C : kOk g X cJ18_put_2 10 RJ18 (some (.object "java/lang/Object")) 6 600 (some (va_rf r)) w1) (hX : ∀ U, gX g U → SX g U) (hl : xl X = l) (hin : kHin X yJ18_put_2) (N : Nat) (k123 : Nat × Nat × Nat × Int32 × Option Nat × Nat × Wd → Option (Option Nat × Wd)) (hk123 : ∀ a, k123 a = some (r, w1) → kV g X 10 a.2.2.2.2.2.2 123 [some (.ref a.1), some (.ref a.2.1), some (.ref a.2.2.1), some (.int a.2.2.2.1), some (va_rf a.2.2.2.2.1), none, none, none, some (.ref a.2.2.2.2.2.1), none] []) (x0 : Nat) (x1 : Nat) (x2 : Nat) (x3 : Int32) (x4 : Option Nat) (x8 : Nat) (w : Wd) (hF : FJ18_put_2_b123 N g k123 x0 x1 x2 x3 x4 x8 w = some (r, w1)) : kV g X 10 w 123 [some (.ref x0), some (.ref x1), some (.ref x2), some (.int x3), some (va_rf x4), none, none, none, some (.ref x8), none] [] := by
  unfold FJ18_put_2_b123 at hF
  refine v_aloadQ C dJ18_put_2_123 rfl ?_
  refine v_astoreQ C dJ18_put_2_125 (Nat.le_of_ble_eq_true rfl) rfl (lv' := [some (.ref x0), some (.ref x1), some (.ref x2), some (.int x3), some (va_rf x4), none, some (va_rf x4), none, some (.ref x8), none]) rfl ?_
  refine v_aload C dJ18_put_2_127 rfl ?_
  refine v_aloadQ C dJ18_put_2_129 rfl ?_
  rcases x4 with _ | a10
  · exact (k_ob0 hF).elim
  have hF := k_ob1 hF
  show kV _ _ _ _ 131 [some (.ref x0), some (.ref x1), some (.ref x2), some (.int x3), some (.ref a10), none, some (.ref a10), none, some (.ref x8), none] [.ref a10, .ref x8]
  refine v_getR C kc_J27 0 (Nat.le_of_ble_eq_true rfl) (kFl.p q1724) dJ18_put_2_131 hF (fun v11 hF => ?_)
  obtain ⟨h14, hF⟩ := k_ite hF
  refine c_callFi C lk_J18_107_X2_compareTo_2 ((hX _ C.2.2.2.2.2.1.2.2.1).2.2.1 _ (List.mem_of_getElem? (i := 9) rfl)) (C.2.2.2.2.2.1.1.1 9 _ rfl).2 (kRc.of C (ci := 9) rfl h14) (fr2 := 2) (lo2 := 200) (As := [.ref v11]) (st := []) (fun r9_ w9_ h9_ => by rw [hl]; exact wX2_compareTo_2 l g hX N x8 v11 w r9_ w9_ h9_) (by decide) rfl rfl (Nat.le_of_ble_eq_true rfl) dJ18_put_2_134 hF (fun r12 u13 hF => ?_)
  refine v_istore C dJ18_put_2_139 (Nat.le_of_ble_eq_true rfl) rfl (lv' := [some (.ref x0), some (.ref x1), some (.ref x2), some (.int x3), some (.ref a10), some (.int r12), some (.ref a10), none, some (.ref x8), none]) rfl ?_
  refine v_iload C dJ18_put_2_141 rfl ?_
  refine v_if_ge C (tgt := 156) dJ18_put_2_143 (by decide) hF (fun c15 hF => ?_) (fun c15 hF => ?_)
  · refine v_iload C dJ18_put_2_156 rfl ?_
    refine v_if_le C (tgt := 171) dJ18_put_2_158 (by decide) hF (fun c16 hF => ?_) (fun c16 hF => ?_)
    · refine v_aload C dJ18_put_2_171 rfl ?_
      refine v_getR C kc_J27 1 (Nat.le_of_ble_eq_true rfl) (kFl.p q1727) dJ18_put_2_173 hF (fun v17 hF => ?_)
      refine v_astore C dJ18_put_2_176 (Nat.le_of_ble_eq_true rfl) rfl (lv' := [some (.ref x0), some (.ref x1), some (.ref x2), some (.int x3), some (.ref a10), some (.int r12), some (.ref a10), none, some (.ref x8), some (.ref v17)]) rfl ?_
      refine v_iload_n C dJ18_put_2_178 rfl rfl ?_
      refine v_if_ne C (tgt := 187) dJ18_put_2_179 (by decide) hF (fun c18 hF => ?_) (fun c18 hF => ?_)
      · refine v_aload C dJ18_put_2_182 rfl ?_
        refine v_ifnonnull C (tgt := 193) dJ18_put_2_184 (by decide) ?_
        refine v_aload C dJ18_put_2_193 rfl ?_
        exact c_qret C (q := (some v17)) rfl (Or.inl ⟨_, rfl⟩) dJ18_put_2_195 hF
      · refine v_mask [false, false, true, false, true, false, false, false, false, true] (lv' := [none, none, some (.ref x2), none, some (va_rf (some a10)), none, none, none, none, some (.ref v17)]) rfl ?_
        exact wJ18_put_2_b187 C hX hl hin N (x2) ((some a10)) (v17) u13 hF
    · refine v_aload C dJ18_put_2_161 rfl ?_
      refine v_getQ C kc_J27 3 (Nat.le_of_ble_eq_true rfl) (kFl.p q1729) dJ18_put_2_163 hF (fun v21 hF => ?_)
      refine v_astoreQ C dJ18_put_2_166 (Nat.le_of_ble_eq_true rfl) rfl (lv' := [some (.ref x0), some (.ref x1), some (.ref x2), some (.int x3), some (va_rf v21), some (.int r12), some (.ref a10), none, some (.ref x8), none]) rfl ?_
      refine v_goto C (tgt := 196) dJ18_put_2_168 (by decide) ?_
      refine v_mask [true, true, true, true, true, true, true, false, true, false] (lv' := [some (.ref x0), some (.ref x1), some (.ref x2), some (.int x3), some (va_rf v21), some (.int r12), some (va_rf (some a10)), none, some (.ref x8), none]) rfl ?_
      exact wJ18_put_2_b196 C hX hl hin N k123 hk123 (x0) (x1) (x2) (x3) (v21) (r12) ((some a10)) (x8) u13 hF
  · refine v_aload C dJ18_put_2_146 rfl ?_
    refine v_getQ C kc_J27 2 (Nat.le_of_ble_eq_true rfl) (kFl.p q1728) dJ18_put_2_148 hF (fun v28 hF => ?_)
    refine v_astoreQ C dJ18_put_2_151 (Nat.le_of_ble_eq_true rfl) rfl (lv' := [some (.ref x0), some (.ref x1), some (.ref x2), some (.int x3), some (va_rf v28), some (.int r12), some (.ref a10), none, some (.ref x8), none]) rfl ?_
    refine v_goto C (tgt := 196) dJ18_put_2_153 (by decide) ?_
    refine v_mask [true, true, true, true, true, true, true, false, true, false] (lv' := [some (.ref x0), some (.ref x1), some (.ref x2), some (.int x3), some (va_rf v28), some (.int r12), some (va_rf (some a10)), none, some (.ref x8), none]) rfl ?_
    exact wJ18_put_2_b196 C hX hl hin N k123 hk123 (x0) (x1) (x2) (x3) (v28) (r12) ((some a10)) (x8) u13 hF
set_option maxHeartbeats 4000000 in
theorem wJ18_put_2_b95 {l : Launch} {g : GT} {X : CxT} {r : Option Nat} {w1 : Wd} (C : kOk g X cJ18_put_2 10 RJ18 (some (.object "java/lang/Object")) 6 600 (some (va_rf r)) w1) (hX : ∀ U, gX g U → SX g U) (hl : xl X = l) (hin : kHin X yJ18_put_2) (N : Nat)  (x2 : Nat) (x4 : Option Nat) (x8 : Nat) (w : Wd) (hF : FJ18_put_2_b95 N g  x2 x4 x8 w = some (r, w1)) : kV g X 10 w 95 [none, none, some (.ref x2), none, some (va_rf x4), none, none, none, some (.ref x8), none] [] := by
  unfold FJ18_put_2_b95 at hF
  refine v_aloadQ C dJ18_put_2_95 rfl ?_
  refine v_aload_n C dJ18_put_2_97 rfl rfl ?_
  rcases x4 with _ | a39
  · exact (k_ob0 hF).elim
  have hF := k_ob1 hF
  show kV _ _ _ _ 98 [none, none, some (.ref x2), none, some (.ref a39), none, none, none, some (.ref x8), none] [.ref x2, .ref a39]
  refine v_putW C kc_J27 1 (Nat.le_of_ble_eq_true rfl) (kFl.p q1727) rfl rfl rfl dJ18_put_2_98 hF (fun u40 hF => ?_)
  refine v_aload C dJ18_put_2_101 rfl ?_
  exact c_qret C (q := (some x8)) rfl (Or.inl ⟨_, rfl⟩) dJ18_put_2_103 hF
set_option maxHeartbeats 4000000 in
theorem wJ18_put_2_b104 {l : Launch} {g : GT} {X : CxT} {r : Option Nat} {w1 : Wd} (C : kOk g X cJ18_put_2 10 RJ18 (some (.object "java/lang/Object")) 6 600 (some (va_rf r)) w1) (hX : ∀ U, gX g U → SX g U) (hl : xl X = l) (hin : kHin X yJ18_put_2) (N : Nat) (k30 : Nat × Nat × Nat × Int32 × Option Nat × Option Nat × Wd → Option (Option Nat × Wd)) (hk30 : ∀ a, k30 a = some (r, w1) → kV g X 10 a.2.2.2.2.2.2 30 [some (.ref a.1), some (.ref a.2.1), some (.ref a.2.2.1), some (.int a.2.2.2.1), some (va_rf a.2.2.2.2.1), none, none, some (va_rf a.2.2.2.2.2.1), none, none] []) (x0 : Nat) (x1 : Nat) (x2 : Nat) (x3 : Int32) (x4 : Option Nat) (x5 : Int32) (x6 : Option Nat) (x7 : Option Nat) (w : Wd) (hF : FJ18_put_2_b104 N g k30 x0 x1 x2 x3 x4 x5 x6 x7 w = some (r, w1)) : kV g X 10 w 104 [some (.ref x0), some (.ref x1), some (.ref x2), some (.int x3), some (va_rf x4), some (.int x5), some (va_rf x6), some (va_rf x7), none, none] [] := by
  unfold FJ18_put_2_b104 at hF
  refine v_aloadQ C dJ18_put_2_104 rfl ?_
  rcases x4 with _ | a42
  · have hF := k_mn0 hF
    show kV _ _ _ _ 106 [some (.ref x0), some (.ref x1), some (.ref x2), some (.int x3), some (.null), some (.int x5), some (va_rf x6), some (va_rf x7), none, none] [.null]
    refine v_ifnonnullN C dJ18_put_2_106 ?_
    refine v_goto C (tgt := 201) dJ18_put_2_109 (by decide) ?_
    refine v_mask [true, true, true, false, false, true, true, false, false, false] (lv' := [some (.ref x0), some (.ref x1), some (.ref x2), none, none, some (.int x5), some (va_rf x6), none, none, none]) rfl ?_
    exact wJ18_put_2_b201 C hX hl hin N (x0) (x1) (x2) (x5) (x6) w hF
  · have hF := k_mn1 hF
    show kV _ _ _ _ 106 [some (.ref x0), some (.ref x1), some (.ref x2), some (.int x3), some (.ref a42), some (.int x5), some (va_rf x6), some (va_rf x7), none, none] [.ref a42]
    refine v_ifnonnull C (tgt := 30) dJ18_put_2_106 (by decide) ?_
    refine v_mask [true, true, true, true, true, false, false, true, false, false] (lv' := [some (.ref x0), some (.ref x1), some (.ref x2), some (.int x3), some (va_rf (some a42)), none, none, some (va_rf x7), none, none]) rfl ?_
    exact hk30 (x0, x1, x2, x3, (some a42), x7, w) hF
set_option maxHeartbeats 4000000 in
theorem wJ18_put_2_b30 {l : Launch} {g : GT} {X : CxT} {r : Option Nat} {w1 : Wd} (C : kOk g X cJ18_put_2 10 RJ18 (some (.object "java/lang/Object")) 6 600 (some (va_rf r)) w1) (hX : ∀ U, gX g U → SX g U) (hl : xl X = l) (hin : kHin X yJ18_put_2) (N : Nat) (k30 : Nat × Nat × Nat × Int32 × Option Nat × Option Nat × Wd → Option (Option Nat × Wd)) (hk30 : ∀ a, k30 a = some (r, w1) → kV g X 10 a.2.2.2.2.2.2 30 [some (.ref a.1), some (.ref a.2.1), some (.ref a.2.2.1), some (.int a.2.2.2.1), some (va_rf a.2.2.2.2.1), none, none, some (va_rf a.2.2.2.2.2.1), none, none] []) (x0 : Nat) (x1 : Nat) (x2 : Nat) (x3 : Int32) (x4 : Option Nat) (x7 : Option Nat) (w : Wd) (hF : FJ18_put_2_b30 N g k30 x0 x1 x2 x3 x4 x7 w = some (r, w1)) : kV g X 10 w 30 [some (.ref x0), some (.ref x1), some (.ref x2), some (.int x3), some (va_rf x4), none, none, some (va_rf x7), none, none] [] := by
  unfold FJ18_put_2_b30 at hF
  refine v_aloadQ C dJ18_put_2_30 rfl ?_
  refine v_astoreQ C dJ18_put_2_32 (Nat.le_of_ble_eq_true rfl) rfl (lv' := [some (.ref x0), some (.ref x1), some (.ref x2), some (.int x3), some (va_rf x4), none, some (va_rf x4), some (va_rf x7), none, none]) rfl ?_
  refine v_aloadQ C dJ18_put_2_34 rfl ?_
  refine v_aload_n C dJ18_put_2_36 rfl rfl ?_
  refine v_aloadQ C dJ18_put_2_37 rfl ?_
  rcases x4 with _ | a29
  · exact (k_ob0 hF).elim
  have hF := k_ob1 hF
  show kV _ _ _ _ 39 [some (.ref x0), some (.ref x1), some (.ref x2), some (.int x3), some (.ref a29), none, some (.ref a29), some (va_rf x7), none, none] [.ref a29, .ref x1, va_rf x7]
  refine v_getR C kc_J27 0 (Nat.le_of_ble_eq_true rfl) (kFl.p q1724) dJ18_put_2_39 hF (fun v30 hF => ?_)
  rcases x7 with _ | a31
  · exact (k_ob0 hF).elim
  have hF := k_ob1 hF
  show kV _ _ _ _ 42 [some (.ref x0), some (.ref x1), some (.ref x2), some (.int x3), some (.ref a29), none, some (.ref a29), some (.ref a31), none, none] [.ref v30, .ref x1, .ref a31]
  obtain ⟨h34, hF⟩ := k_ite hF
  refine c_callFi C lk_J18_117_X13_compare ((hX _ C.2.2.2.2.2.1.2.2.1).2.2.1 _ (List.mem_of_getElem? (i := 8) rfl)) (C.2.2.2.2.2.1.1.1 8 _ rfl).2 (kRc.of C (ci := 8) rfl h34) (fr2 := 3) (lo2 := 300) (As := [.ref x1, .ref v30]) (st := []) (fun r9_ w9_ h9_ => by rw [hl]; exact wX13_compare l g hX N a31 x1 v30 w r9_ w9_ h9_) (by decide) rfl rfl (Nat.le_of_ble_eq_true rfl) dJ18_put_2_42 hF (fun r32 u33 hF => ?_)
  refine v_istore C dJ18_put_2_47 (Nat.le_of_ble_eq_true rfl) rfl (lv' := [some (.ref x0), some (.ref x1), some (.ref x2), some (.int x3), some (.ref a29), some (.int r32), some (.ref a29), some (.ref a31), none, none]) rfl ?_
  refine v_iload C dJ18_put_2_49 rfl ?_
  refine v_if_ge C (tgt := 64) dJ18_put_2_51 (by decide) hF (fun c35 hF => ?_) (fun c35 hF => ?_)
  · refine v_iload C dJ18_put_2_64 rfl ?_
    refine v_if_le C (tgt := 79) dJ18_put_2_66 (by decide) hF (fun c36 hF => ?_) (fun c36 hF => ?_)
    · refine v_aload C dJ18_put_2_79 rfl ?_
      refine v_getR C kc_J27 1 (Nat.le_of_ble_eq_true rfl) (kFl.p q1727) dJ18_put_2_81 hF (fun v37 hF => ?_)
      refine v_astore C dJ18_put_2_84 (Nat.le_of_ble_eq_true rfl) rfl (lv' := [some (.ref x0), some (.ref x1), some (.ref x2), some (.int x3), some (.ref a29), some (.int r32), some (.ref a29), some (.ref a31), some (.ref v37), none]) rfl ?_
      refine v_iload_n C dJ18_put_2_86 rfl rfl ?_
      refine v_if_ne C (tgt := 95) dJ18_put_2_87 (by decide) hF (fun c38 hF => ?_) (fun c38 hF => ?_)
      · refine v_aload C dJ18_put_2_90 rfl ?_
        refine v_ifnonnull C (tgt := 101) dJ18_put_2_92 (by decide) ?_
        refine v_aload C dJ18_put_2_101 rfl ?_
        exact c_qret C (q := (some v37)) rfl (Or.inl ⟨_, rfl⟩) dJ18_put_2_103 hF
      · refine v_mask [false, false, true, false, true, false, false, false, true, false] (lv' := [none, none, some (.ref x2), none, some (va_rf (some a29)), none, none, none, some (.ref v37), none]) rfl ?_
        exact wJ18_put_2_b95 C hX hl hin N (x2) ((some a29)) (v37) u33 hF
    · refine v_aload C dJ18_put_2_69 rfl ?_
      refine v_getQ C kc_J27 3 (Nat.le_of_ble_eq_true rfl) (kFl.p q1729) dJ18_put_2_71 hF (fun v41 hF => ?_)
      refine v_astoreQ C dJ18_put_2_74 (Nat.le_of_ble_eq_true rfl) rfl (lv' := [some (.ref x0), some (.ref x1), some (.ref x2), some (.int x3), some (va_rf v41), some (.int r32), some (.ref a29), some (.ref a31), none, none]) rfl ?_
      refine v_goto C (tgt := 104) dJ18_put_2_76 (by decide) ?_
      refine v_mask [true, true, true, true, true, true, true, true, false, false] (lv' := [some (.ref x0), some (.ref x1), some (.ref x2), some (.int x3), some (va_rf v41), some (.int r32), some (va_rf (some a29)), some (va_rf (some a31)), none, none]) rfl ?_
      exact wJ18_put_2_b104 C hX hl hin N k30 hk30 (x0) (x1) (x2) (x3) (v41) (r32) ((some a29)) ((some a31)) u33 hF
  · refine v_aload C dJ18_put_2_54 rfl ?_
    refine v_getQ C kc_J27 2 (Nat.le_of_ble_eq_true rfl) (kFl.p q1728) dJ18_put_2_56 hF (fun v43 hF => ?_)
    refine v_astoreQ C dJ18_put_2_59 (Nat.le_of_ble_eq_true rfl) rfl (lv' := [some (.ref x0), some (.ref x1), some (.ref x2), some (.int x3), some (va_rf v43), some (.int r32), some (.ref a29), some (.ref a31), none, none]) rfl ?_
    refine v_goto C (tgt := 104) dJ18_put_2_61 (by decide) ?_
    refine v_mask [true, true, true, true, true, true, true, true, false, false] (lv' := [some (.ref x0), some (.ref x1), some (.ref x2), some (.int x3), some (va_rf v43), some (.int r32), some (va_rf (some a29)), some (va_rf (some a31)), none, none]) rfl ?_
    exact wJ18_put_2_b104 C hX hl hin N k30 hk30 (x0) (x1) (x2) (x3) (v43) (r32) ((some a29)) ((some a31)) u33 hF
set_option maxHeartbeats 4000000 in
theorem wJ18_put_2 (l : Launch) (g : GT) (hX : ∀ U, gX g U → SX g U) (N : Nat) (x0 : Nat) (x1 : Nat) (x2 : Nat) (x3 : Int32) (w : Wd) (r : Option Nat) (w1 : Wd) (hF : FJ18_put_2 N g x0 x1 x2 x3 w = some (r, w1)) : kMt l g yJ18_put_2 (ws_ yJ18_put_2 cJ18_put_2 10 (some (.object "java/lang/Object"))) 6 600 w [.ref x0, .ref x1, .ref x2, .int x3] (some (va_rf r)) w1 := by
  refine kMt.ofV (lv := [some (.ref x0), some (.ref x1), some (.ref x2), some (.int x3), none, none, none, none, none, none]) (by decide) rfl (Nat.le_of_ble_eq_true rfl) rfl ?_
  intro X hl hin C
  unfold FJ18_put_2 at hF
  refine v_aload_n C dJ18_put_2_0 rfl rfl ?_
  refine v_getQ C kc_J18 3 (Nat.le_of_ble_eq_true rfl) (kFl.p q1646) dJ18_put_2_1 hF (fun v1 hF => ?_)
  refine v_astoreQ C dJ18_put_2_4 (Nat.le_of_ble_eq_true rfl) rfl (lv' := [some (.ref x0), some (.ref x1), some (.ref x2), some (.int x3), some (va_rf v1), none, none, none, none, none]) rfl ?_
  refine v_aloadQ C dJ18_put_2_6 rfl ?_
  rcases v1 with _ | a2
  · have hF := k_mn0 hF
    show kV _ _ _ _ 8 [some (.ref x0), some (.ref x1), some (.ref x2), some (.int x3), some (.null), none, none, none, none, none] [.null]
    refine v_ifnonnullN C dJ18_put_2_8 ?_
    refine v_aload_n C dJ18_put_2_11 rfl rfl ?_
    refine v_aload_n C dJ18_put_2_12 rfl rfl ?_
    refine v_aload_n C dJ18_put_2_13 rfl rfl ?_
    obtain ⟨h5, hF⟩ := k_ite hF
    refine c_callVv C lk_J18_135 (ci := 15) rfl h5 (fr2 := 5) (lo2 := 500) (As := [.ref x1, .ref x2]) (st := []) (fun r9_ w9_ h9_ => by rw [hl]; exact wJ18_addEntryToEmptyMap l g hX N x0 x1 x2 w r9_ w9_ h9_) (by decide) rfl rfl (Nat.le_of_ble_eq_true rfl) dJ18_put_2_14 hF (fun r3 u4 hF => ?_)
    refine v_null C dJ18_put_2_17 ?_
    exact c_qret C (q := none) rfl (Or.inl ⟨_, rfl⟩) dJ18_put_2_18 hF
  · have hF := k_mn1 hF
    show kV _ _ _ _ 8 [some (.ref x0), some (.ref x1), some (.ref x2), some (.int x3), some (.ref a2), none, none, none, none, none] [.ref a2]
    refine v_ifnonnull C (tgt := 19) dJ18_put_2_8 (by decide) ?_
    refine v_aload_n C dJ18_put_2_19 rfl rfl ?_
    refine v_getQ C kc_J18 2 (Nat.le_of_ble_eq_true rfl) (kFl.p q1645) dJ18_put_2_20 hF (fun v6 hF => ?_)
    refine v_astoreQ C dJ18_put_2_23 (Nat.le_of_ble_eq_true rfl) rfl (lv' := [some (.ref x0), some (.ref x1), some (.ref x2), some (.int x3), some (.ref a2), none, none, some (va_rf v6), none, none]) rfl ?_
    refine v_aloadQ C dJ18_put_2_25 rfl ?_
    rcases v6 with _ | a7
    · have hF := k_mn0 hF
      show kV _ _ _ _ 27 [some (.ref x0), some (.ref x1), some (.ref x2), some (.int x3), some (.ref a2), none, none, some (.null), none, none] [.null]
      refine v_ifnullN C (tgt := 112) dJ18_put_2_27 (by decide) ?_
      refine v_aload_n C dJ18_put_2_112 rfl rfl ?_
      refine c_callSr C lk_J18_95 (fr2 := 1) (lo2 := 100) (As := [.ref x1]) (st := []) (fun r9_ w9_ h9_ => by rw [hl]; exact wJ14_requireNonNull l g hX N x1 w r9_ w9_ h9_) (by decide) rfl rfl (Nat.le_of_ble_eq_true rfl) dJ18_put_2_113 hF (fun r8 u9 hF => ?_)
      refine v_pop C dJ18_put_2_116 rfl ?_
      refine v_aload_n C dJ18_put_2_117 rfl rfl ?_
      refine v_castY C (ci := 9) rfl q1711 q1221 dJ18_put_2_118 hF (fun hF => ?_)
      refine v_astore C dJ18_put_2_121 (Nat.le_of_ble_eq_true rfl) rfl (lv' := [some (.ref x0), some (.ref x1), some (.ref x2), some (.int x3), some (.ref a2), none, none, some (.null), some (.ref x1), none]) rfl ?_
      refine v_mask [true, true, true, true, true, false, false, false, true, false] (lv' := [some (.ref x0), some (.ref x1), some (.ref x2), some (.int x3), some (va_rf (some a2)), none, none, none, some (.ref x1), none]) rfl ?_
      exact kloop_ok (P := fun a => kV g X 10 a.2.2.2.2.2.2 123 [some (.ref a.1), some (.ref a.2.1), some (.ref a.2.2.1), some (.int a.2.2.2.1), some (va_rf a.2.2.2.2.1), none, none, none, some (.ref a.2.2.2.2.2.1), none] []) (fun self hs a hF => wJ18_put_2_b123 C hX hl hin N self hs a.1 a.2.1 a.2.2.1 a.2.2.2.1 a.2.2.2.2.1 a.2.2.2.2.2.1 a.2.2.2.2.2.2 hF) N (x0, x1, x2, x3, (some a2), x1, u9) hF
    · have hF := k_mn1 hF
      show kV _ _ _ _ 27 [some (.ref x0), some (.ref x1), some (.ref x2), some (.int x3), some (.ref a2), none, none, some (.ref a7), none, none] [.ref a7]
      refine v_ifnull C dJ18_put_2_27 ?_
      refine v_mask [true, true, true, true, true, false, false, true, false, false] (lv' := [some (.ref x0), some (.ref x1), some (.ref x2), some (.int x3), some (va_rf (some a2)), none, none, some (va_rf (some a7)), none, none]) rfl ?_
      exact kloop_ok (P := fun a => kV g X 10 a.2.2.2.2.2.2 30 [some (.ref a.1), some (.ref a.2.1), some (.ref a.2.2.1), some (.int a.2.2.2.1), some (va_rf a.2.2.2.2.1), none, none, some (va_rf a.2.2.2.2.2.1), none, none] []) (fun self hs a hF => wJ18_put_2_b30 C hX hl hin N self hs a.1 a.2.1 a.2.2.1 a.2.2.2.1 a.2.2.2.2.1 a.2.2.2.2.2.1 a.2.2.2.2.2.2 hF) N (x0, x1, x2, x3, (some a2), (some a7), w) hF
set_option maxHeartbeats 4000000 in
theorem wJ18_put (l : Launch) (g : GT) (hX : ∀ U, gX g U → SX g U) (N : Nat) (x0 : Nat) (x1 : Nat) (x2 : Nat) (w : Wd) (r : Option Nat) (w1 : Wd) (hF : FJ18_put N g x0 x1 x2 w = some (r, w1)) : kMt l g yJ18_put (ws_ yJ18_put cJ18_put 3 (some (.object "java/lang/Object"))) 7 700 w [.ref x0, .ref x1, .ref x2] (some (va_rf r)) w1 := by
  refine kMt.ofV (lv := [some (.ref x0), some (.ref x1), some (.ref x2)]) (by decide) rfl (Nat.le_of_ble_eq_true rfl) rfl ?_
  intro X hl hin C
  unfold FJ18_put at hF
  refine v_aload_n C dJ18_put_0 rfl rfl ?_
  refine v_aload_n C dJ18_put_1 rfl rfl ?_
  refine v_aload_n C dJ18_put_2 rfl rfl ?_
  refine v_iconst C (v := (1 : Int32)) dJ18_put_3 (by decide) ?_
  obtain ⟨h3, hF⟩ := k_ite hF
  refine c_callVq C lk_J18_127 (ci := 15) rfl h3 (fr2 := 6) (lo2 := 600) (As := [.ref x1, .ref x2, .int (1 : Int32)]) (st := []) (fun r9_ w9_ h9_ => by rw [hl]; exact wJ18_put_2 l g hX N x0 x1 x2 (1 : Int32) w r9_ w9_ h9_) (by decide) rfl rfl (Nat.le_of_ble_eq_true rfl) dJ18_put_4 hF (fun r1 u2 hF => ?_)
  exact c_qret C (q := r1) rfl (Or.inl ⟨_, rfl⟩) dJ18_put_7 hF
set_option maxHeartbeats 4000000 in
theorem wJ18_getEntry_b72 {l : Launch} {g : GT} {X : CxT} {r : Option Nat} {w1 : Wd} (C : kOk g X cJ18_getEntry 5 RJ18 (some (.object "java/util/TreeMap$Entry")) 3 300 (some (va_rf r)) w1) (hX : ∀ U, gX g U → SX g U) (hl : xl X = l) (hin : kHin X yJ18_getEntry) (N : Nat) (k28 : Nat × Option Nat × Wd → Option (Option Nat × Wd)) (hk28 : ∀ a, k28 a = some (r, w1) → kV g X 5 a.2.2 28 [none, none, some (.ref a.1), some (va_rf a.2.1), none] []) (x2 : Nat) (x3 : Option Nat) (w : Wd) (hF : FJ18_getEntry_b72 N g k28 x2 x3 w = some (r, w1)) : kV g X 5 w 72 [none, none, some (.ref x2), some (va_rf x3), none] [] := by
  unfold FJ18_getEntry_b72 at hF
  refine v_goto C (tgt := 28) dJ18_getEntry_72 (by decide) ?_
  refine v_mask [false, false, true, true, false] (lv' := [none, none, some (.ref x2), some (va_rf x3), none]) rfl ?_
  exact hk28 (x2, x3, w) hF
set_option maxHeartbeats 4000000 in
theorem wJ18_getEntry_b28 {l : Launch} {g : GT} {X : CxT} {r : Option Nat} {w1 : Wd} (C : kOk g X cJ18_getEntry 5 RJ18 (some (.object "java/util/TreeMap$Entry")) 3 300 (some (va_rf r)) w1) (hX : ∀ U, gX g U → SX g U) (hl : xl X = l) (hin : kHin X yJ18_getEntry) (N : Nat) (k28 : Nat × Option Nat × Wd → Option (Option Nat × Wd)) (hk28 : ∀ a, k28 a = some (r, w1) → kV g X 5 a.2.2 28 [none, none, some (.ref a.1), some (va_rf a.2.1), none] []) (x2 : Nat) (x3 : Option Nat) (w : Wd) (hF : FJ18_getEntry_b28 N g k28 x2 x3 w = some (r, w1)) : kV g X 5 w 28 [none, none, some (.ref x2), some (va_rf x3), none] [] := by
  unfold FJ18_getEntry_b28 at hF
  refine v_aload_nQ C dJ18_getEntry_28 rfl rfl ?_
  rcases x3 with _ | a6
  · have hF := k_mn0 hF
    show kV _ _ _ _ 29 [none, none, some (.ref x2), some (.null), none] [.null]
    refine v_ifnullN C (tgt := 75) dJ18_getEntry_29 (by decide) ?_
    refine v_null C dJ18_getEntry_75 ?_
    exact c_qret C (q := none) rfl (Or.inl ⟨_, rfl⟩) dJ18_getEntry_76 hF
  · have hF := k_mn1 hF
    show kV _ _ _ _ 29 [none, none, some (.ref x2), some (.ref a6), none] [.ref a6]
    refine v_ifnull C dJ18_getEntry_29 ?_
    refine v_aload_n C dJ18_getEntry_32 rfl rfl ?_
    refine v_aload_n C dJ18_getEntry_33 rfl rfl ?_
    refine v_getR C kc_J27 0 (Nat.le_of_ble_eq_true rfl) (kFl.p q1724) dJ18_getEntry_34 hF (fun v7 hF => ?_)
    obtain ⟨h10, hF⟩ := k_ite hF
    refine c_callFi C lk_J18_107_X2_compareTo_2 ((hX _ C.2.2.2.2.2.1.2.2.1).2.2.1 _ (List.mem_of_getElem? (i := 9) rfl)) (C.2.2.2.2.2.1.1.1 9 _ rfl).2 (kRc.of C (ci := 9) rfl h10) (fr2 := 2) (lo2 := 200) (As := [.ref v7]) (st := []) (fun r9_ w9_ h9_ => by rw [hl]; exact wX2_compareTo_2 l g hX N x2 v7 w r9_ w9_ h9_) (by decide) rfl rfl (Nat.le_of_ble_eq_true rfl) dJ18_getEntry_37 hF (fun r8 u9 hF => ?_)
    refine v_istore C dJ18_getEntry_42 (Nat.le_of_ble_eq_true rfl) rfl (lv' := [none, none, some (.ref x2), some (.ref a6), some (.int r8)]) rfl ?_
    refine v_iload C dJ18_getEntry_44 rfl ?_
    refine v_if_ge C (tgt := 57) dJ18_getEntry_46 (by decide) hF (fun c11 hF => ?_) (fun c11 hF => ?_)
    · refine v_iload C dJ18_getEntry_57 rfl ?_
      refine v_if_le C (tgt := 70) dJ18_getEntry_59 (by decide) hF (fun c12 hF => ?_) (fun c12 hF => ?_)
      · refine v_aload_n C dJ18_getEntry_70 rfl rfl ?_
        exact c_qret C (q := (some a6)) rfl (Or.inl ⟨_, rfl⟩) dJ18_getEntry_71 hF
      · refine v_aload_n C dJ18_getEntry_62 rfl rfl ?_
        refine v_getQ C kc_J27 3 (Nat.le_of_ble_eq_true rfl) (kFl.p q1729) dJ18_getEntry_63 hF (fun v13 hF => ?_)
        refine v_astore_nQ C dJ18_getEntry_66 rfl (Nat.le_of_ble_eq_true rfl) rfl (lv' := [none, none, some (.ref x2), some (va_rf v13), some (.int r8)]) rfl ?_
        refine v_goto C (tgt := 72) dJ18_getEntry_67 (by decide) ?_
        refine v_mask [false, false, true, true, false] (lv' := [none, none, some (.ref x2), some (va_rf v13), none]) rfl ?_
        exact wJ18_getEntry_b72 C hX hl hin N k28 hk28 (x2) (v13) u9 hF
    · refine v_aload_n C dJ18_getEntry_49 rfl rfl ?_
      refine v_getQ C kc_J27 2 (Nat.le_of_ble_eq_true rfl) (kFl.p q1728) dJ18_getEntry_50 hF (fun v14 hF => ?_)
      refine v_astore_nQ C dJ18_getEntry_53 rfl (Nat.le_of_ble_eq_true rfl) rfl (lv' := [none, none, some (.ref x2), some (va_rf v14), some (.int r8)]) rfl ?_
      refine v_goto C (tgt := 72) dJ18_getEntry_54 (by decide) ?_
      refine v_mask [false, false, true, true, false] (lv' := [none, none, some (.ref x2), some (va_rf v14), none]) rfl ?_
      exact wJ18_getEntry_b72 C hX hl hin N k28 hk28 (x2) (v14) u9 hF
set_option maxHeartbeats 4000000 in
theorem wJ18_getEntry (l : Launch) (g : GT) (hX : ∀ U, gX g U → SX g U) (N : Nat) (x0 : Nat) (x1 : Nat) (w : Wd) (r : Option Nat) (w1 : Wd) (hF : FJ18_getEntry N g x0 x1 w = some (r, w1)) : kMt l g yJ18_getEntry (ws_ yJ18_getEntry cJ18_getEntry 5 (some (.object "java/util/TreeMap$Entry"))) 3 300 w [.ref x0, .ref x1] (some (va_rf r)) w1 := by
  refine kMt.ofV (lv := [some (.ref x0), some (.ref x1), none, none, none]) (by decide) rfl (Nat.le_of_ble_eq_true rfl) rfl ?_
  intro X hl hin C
  unfold FJ18_getEntry at hF
  refine v_aload_n C dJ18_getEntry_0 rfl rfl ?_
  refine v_getQ C kc_J18 2 (Nat.le_of_ble_eq_true rfl) (kFl.p q1645) dJ18_getEntry_1 hF (fun v1 hF => ?_)
  rcases v1 with _ | a2
  · have hF := k_mn0 hF
    show kV _ _ _ _ 4 [some (.ref x0), some (.ref x1), none, none, none] [.null]
    refine v_ifnullN C (tgt := 13) dJ18_getEntry_4 (by decide) ?_
    refine v_aload_n C dJ18_getEntry_13 rfl rfl ?_
    refine c_callSr C lk_J18_95 (fr2 := 1) (lo2 := 100) (As := [.ref x1]) (st := []) (fun r9_ w9_ h9_ => by rw [hl]; exact wJ14_requireNonNull l g hX N x1 w r9_ w9_ h9_) (by decide) rfl rfl (Nat.le_of_ble_eq_true rfl) dJ18_getEntry_14 hF (fun r3 u4 hF => ?_)
    refine v_pop C dJ18_getEntry_17 rfl ?_
    refine v_aload_n C dJ18_getEntry_18 rfl rfl ?_
    refine v_castY C (ci := 9) rfl q1711 q1221 dJ18_getEntry_19 hF (fun hF => ?_)
    refine v_astore_n C dJ18_getEntry_22 rfl (Nat.le_of_ble_eq_true rfl) rfl (lv' := [some (.ref x0), some (.ref x1), some (.ref x1), none, none]) rfl ?_
    refine v_aload_n C dJ18_getEntry_23 rfl rfl ?_
    refine v_getQ C kc_J18 3 (Nat.le_of_ble_eq_true rfl) (kFl.p q1646) dJ18_getEntry_24 hF (fun v5 hF => ?_)
    refine v_astore_nQ C dJ18_getEntry_27 rfl (Nat.le_of_ble_eq_true rfl) rfl (lv' := [some (.ref x0), some (.ref x1), some (.ref x1), some (va_rf v5), none]) rfl ?_
    refine v_mask [false, false, true, true, false] (lv' := [none, none, some (.ref x1), some (va_rf v5), none]) rfl ?_
    exact kloop_ok (P := fun a => kV g X 5 a.2.2 28 [none, none, some (.ref a.1), some (va_rf a.2.1), none] []) (fun self hs a hF => wJ18_getEntry_b28 C hX hl hin N self hs a.1 a.2.1 a.2.2 hF) N (x1, v5, u4) hF
  · have hF := k_mn1 hF
    show kV _ _ _ _ 4 [some (.ref x0), some (.ref x1), none, none, none] [.ref a2]
    refine v_ifnull C dJ18_getEntry_4 ?_
    refine v_aload_n C dJ18_getEntry_7 rfl rfl ?_
    refine v_aload_n C dJ18_getEntry_8 rfl rfl ?_
    cases hF
set_option maxHeartbeats 4000000 in
theorem wJ18_get (l : Launch) (g : GT) (hX : ∀ U, gX g U → SX g U) (N : Nat) (x0 : Nat) (x1 : Nat) (w : Wd) (r : Option Nat) (w1 : Wd) (hF : FJ18_get N g x0 x1 w = some (r, w1)) : kMt l g yJ18_get (ws_ yJ18_get cJ18_get 3 (some (.object "java/lang/Object"))) 4 400 w [.ref x0, .ref x1] (some (va_rf r)) w1 := by
  refine kMt.ofV (lv := [some (.ref x0), some (.ref x1), none]) (by decide) rfl (Nat.le_of_ble_eq_true rfl) rfl ?_
  intro X hl hin C
  unfold FJ18_get at hF
  refine v_aload_n C dJ18_get_0 rfl rfl ?_
  refine v_aload_n C dJ18_get_1 rfl rfl ?_
  obtain ⟨h3, hF⟩ := k_ite hF
  refine c_callVq C lk_J18_50 (ci := 15) rfl h3 (fr2 := 3) (lo2 := 300) (As := [.ref x1]) (st := []) (fun r9_ w9_ h9_ => by rw [hl]; exact wJ18_getEntry l g hX N x0 x1 w r9_ w9_ h9_) (by decide) rfl rfl (Nat.le_of_ble_eq_true rfl) dJ18_get_2 hF (fun r1 u2 hF => ?_)
  refine v_astore_nQ C dJ18_get_5 rfl (Nat.le_of_ble_eq_true rfl) rfl (lv' := [some (.ref x0), some (.ref x1), some (va_rf r1)]) rfl ?_
  refine v_aload_nQ C dJ18_get_6 rfl rfl ?_
  rcases r1 with _ | a4
  · have hF := k_mn0 hF
    show kV _ _ _ _ 7 [some (.ref x0), some (.ref x1), some (.null)] [.null]
    refine v_ifnonnullN C dJ18_get_7 ?_
    refine v_null C dJ18_get_10 ?_
    refine v_goto C (tgt := 18) dJ18_get_11 (by decide) ?_
    exact c_qret C (q := none) rfl (Or.inl ⟨_, rfl⟩) dJ18_get_18 hF
  · have hF := k_mn1 hF
    show kV _ _ _ _ 7 [some (.ref x0), some (.ref x1), some (.ref a4)] [.ref a4]
    refine v_ifnonnull C (tgt := 14) dJ18_get_7 (by decide) ?_
    refine v_aload_n C dJ18_get_14 rfl rfl ?_
    refine v_getR C kc_J27 1 (Nat.le_of_ble_eq_true rfl) (kFl.p q1727) dJ18_get_15 hF (fun v5 hF => ?_)
    exact c_qret C (q := (some v5)) rfl (Or.inl ⟨_, rfl⟩) dJ18_get_18 hF
set_option maxHeartbeats 4000000 in
theorem wJ0_init_t17 (l : Launch) (g : GT) (hX : ∀ U, gX g U → SX g U) (N : Nat) (x0 : Nat) (w : Wd) (r : Unit) (w1 : Wd) (hF : FJ0_init_t17 N g x0 w = some (r, w1)) : kMt l g yJ0_init (ws_ yJ0_init cJ0_init 1 none) 1 100 w [.ref x0] none w1 := by
  refine kMt.ofV (lv := [some (.ref x0)]) (by decide) rfl (Nat.le_of_ble_eq_true rfl) rfl ?_
  intro X hl hin C
  unfold FJ0_init_t17 at hF
  refine v_aload_n C dJ0_init_0 rfl rfl ?_
  refine v_objInit C q155 q142 q143 (by decide) (Nat.le_of_ble_eq_true rfl) dJ0_init_1 ?_
  exact c_vret C dJ0_init_4 hF
set_option maxHeartbeats 4000000 in
theorem wJ17_init_t15 (l : Launch) (g : GT) (hX : ∀ U, gX g U → SX g U) (N : Nat) (x0 : Nat) (w : Wd) (r : Unit) (w1 : Wd) (hF : FJ17_init_t15 N g x0 w = some (r, w1)) : kMt l g yJ17_init (ws_ yJ17_init cJ17_init 1 none) 1 100 w [.ref x0] none w1 := by
  refine kMt.ofV (lv := [some (.ref x0)]) (by decide) rfl (Nat.le_of_ble_eq_true rfl) rfl ?_
  intro X hl hin C
  unfold FJ17_init_t15 at hF
  refine v_aload_n C dJ17_init_0 rfl rfl ?_
  refine v_objInit C q1644 q142 q143 (by decide) (Nat.le_of_ble_eq_true rfl) dJ17_init_1 ?_
  exact c_vret C dJ17_init_4 hF
set_option maxHeartbeats 4000000 in
theorem wJ18_init (l : Launch) (g : GT) (hX : ∀ U, gX g U → SX g U) (N : Nat) (x0 : Nat) (w : Wd) (r : Unit) (w1 : Wd) (hF : FJ18_init N g x0 w = some (r, w1)) : kMt l g yJ18_init (ws_ yJ18_init cJ18_init 1 none) 2 200 w [.ref x0] none w1 := by
  refine kMt.ofV (lv := [some (.ref x0)]) (by decide) rfl (Nat.le_of_ble_eq_true rfl) rfl ?_
  intro X hl hin C
  unfold FJ18_init at hF
  refine v_aload_n C dJ18_init_0 rfl rfl ?_
  refine c_callI C lk_J18_1 (fr2 := 1) (lo2 := 100) (As := []) (st := []) (fun r9_ w9_ h9_ => by rw [hl]; exact wJ17_init_t15 l g hX N x0 w r9_ w9_ h9_) (by decide) rfl rfl (Nat.le_of_ble_eq_true rfl) dJ18_init_1 hF (fun r1 u2 hF => ?_)
  refine v_aload_n C dJ18_init_4 rfl rfl ?_
  refine v_iconst C (v := (0 : Int32)) dJ18_init_5 (by decide) ?_
  refine v_putW C kc_J18 4 (Nat.le_of_ble_eq_true rfl) (kFl.p q1647) rfl rfl rfl dJ18_init_6 hF (fun u3 hF => ?_)
  refine v_aload_n C dJ18_init_9 rfl rfl ?_
  refine v_iconst C (v := (0 : Int32)) dJ18_init_10 (by decide) ?_
  refine v_putW C kc_J18 5 (Nat.le_of_ble_eq_true rfl) (kFl.p q1648) rfl rfl rfl dJ18_init_11 hF (fun u4 hF => ?_)
  refine v_aload_n C dJ18_init_14 rfl rfl ?_
  refine v_null C dJ18_init_15 ?_
  refine v_putFW C (hin.1.trans rfl) kc_J18 2 (Nat.le_of_ble_eq_true rfl) q1645 rfl rfl rfl rfl dJ18_init_16 hF (fun u5 hF => ?_)
  exact c_vret C dJ18_init_19 hF
set_option maxHeartbeats 4000000 in
theorem wJ18_init_2 (l : Launch) (g : GT) (hX : ∀ U, gX g U → SX g U) (N : Nat) (x0 : Nat) (x1 : Nat) (w : Wd) (r : Unit) (w1 : Wd) (hF : FJ18_init_2 N g x0 x1 w = some (r, w1)) : kMt l g yJ18_init_2 (ws_ yJ18_init_2 cJ18_init_2 2 none) 2 200 w [.ref x0, .ref x1] none w1 := by
  refine kMt.ofV (lv := [some (.ref x0), some (.ref x1)]) (by decide) rfl (Nat.le_of_ble_eq_true rfl) rfl ?_
  intro X hl hin C
  unfold FJ18_init_2 at hF
  refine v_aload_n C dJ18_init_2_0 rfl rfl ?_
  refine c_callI C lk_J18_1 (fr2 := 1) (lo2 := 100) (As := []) (st := []) (fun r9_ w9_ h9_ => by rw [hl]; exact wJ17_init_t15 l g hX N x0 w r9_ w9_ h9_) (by decide) rfl rfl (Nat.le_of_ble_eq_true rfl) dJ18_init_2_1 hF (fun r1 u2 hF => ?_)
  refine v_aload_n C dJ18_init_2_4 rfl rfl ?_
  refine v_iconst C (v := (0 : Int32)) dJ18_init_2_5 (by decide) ?_
  refine v_putW C kc_J18 4 (Nat.le_of_ble_eq_true rfl) (kFl.p q1647) rfl rfl rfl dJ18_init_2_6 hF (fun u3 hF => ?_)
  refine v_aload_n C dJ18_init_2_9 rfl rfl ?_
  refine v_iconst C (v := (0 : Int32)) dJ18_init_2_10 (by decide) ?_
  refine v_putW C kc_J18 5 (Nat.le_of_ble_eq_true rfl) (kFl.p q1648) rfl rfl rfl dJ18_init_2_11 hF (fun u4 hF => ?_)
  refine v_aload_n C dJ18_init_2_14 rfl rfl ?_
  refine v_aload_n C dJ18_init_2_15 rfl rfl ?_
  refine v_putFW C (hin.1.trans rfl) kc_J18 2 (Nat.le_of_ble_eq_true rfl) q1645 rfl rfl rfl rfl dJ18_init_2_16 hF (fun u5 hF => ?_)
  exact c_vret C dJ18_init_2_19 hF
set_option maxHeartbeats 4000000 in
theorem wJ18_successor_b42 {l : Launch} {g : GT} {X : CxT} {r : Option Nat} {w1 : Wd} (C : kOk g X cJ18_successor 3 RJ18 (some (.object "java/util/TreeMap$Entry")) 1 100 (some (va_rf r)) w1) (hX : ∀ U, gX g U → SX g U) (hl : xl X = l) (hin : kHin X yJ18_successor) (N : Nat) (k42 : Option Nat × Option Nat × Wd → Option (Option Nat × Wd)) (hk42 : ∀ a, k42 a = some (r, w1) → kV g X 3 a.2.2 42 [none, some (va_rf a.1), some (va_rf a.2.1)] []) (x1 : Option Nat) (x2 : Option Nat) (w : Wd) (hF : FJ18_successor_b42 N g k42 x1 x2 w = some (r, w1)) : kV g X 3 w 42 [none, some (va_rf x1), some (va_rf x2)] [] := by
  unfold FJ18_successor_b42 at hF
  refine v_aload_nQ C dJ18_successor_42 rfl rfl ?_
  rcases x1 with _ | a4
  · have hF := k_mn0 hF
    show kV _ _ _ _ 43 [none, some (.null), some (va_rf x2)] [.null]
    refine v_ifnullN C (tgt := 64) dJ18_successor_43 (by decide) ?_
    refine v_aload_nN C dJ18_successor_64 rfl rfl ?_
    exact c_qret C (q := none) rfl (Or.inl ⟨_, rfl⟩) dJ18_successor_65 hF
  · have hF := k_mn1 hF
    show kV _ _ _ _ 43 [none, some (.ref a4), some (va_rf x2)] [.ref a4]
    refine v_ifnull C dJ18_successor_43 ?_
    refine v_aload_nQ C dJ18_successor_46 rfl rfl ?_
    refine v_aload_n C dJ18_successor_47 rfl rfl ?_
    refine v_getQ C kc_J27 3 (Nat.le_of_ble_eq_true rfl) (kFl.p q1729) dJ18_successor_48 hF (fun v5 hF => ?_)
    refine v_acmp_ne C (rx := x2) (ry := v5) rfl rfl (tgt := 64) dJ18_successor_51 (by decide) hF (fun c6 hF => ?_) (fun c6 hF => ?_)
    · refine v_aload_n C dJ18_successor_54 rfl rfl ?_
      refine v_astore_n C dJ18_successor_55 rfl (Nat.le_of_ble_eq_true rfl) rfl (lv' := [none, some (.ref a4), some (.ref a4)]) rfl ?_
      refine v_aload_n C dJ18_successor_56 rfl rfl ?_
      refine v_getQ C kc_J27 4 (Nat.le_of_ble_eq_true rfl) (kFl.p q1731) dJ18_successor_57 hF (fun v7 hF => ?_)
      refine v_astore_nQ C dJ18_successor_60 rfl (Nat.le_of_ble_eq_true rfl) rfl (lv' := [none, some (va_rf v7), some (.ref a4)]) rfl ?_
      refine v_goto C (tgt := 42) dJ18_successor_61 (by decide) ?_
      refine v_mask [false, true, true] (lv' := [none, some (va_rf v7), some (va_rf (some a4))]) rfl ?_
      exact hk42 (v7, (some a4), w) hF
    · refine v_aload_n C dJ18_successor_64 rfl rfl ?_
      exact c_qret C (q := (some a4)) rfl (Or.inl ⟨_, rfl⟩) dJ18_successor_65 hF
set_option maxHeartbeats 4000000 in
theorem wJ18_successor_b18 {l : Launch} {g : GT} {X : CxT} {r : Option Nat} {w1 : Wd} (C : kOk g X cJ18_successor 3 RJ18 (some (.object "java/util/TreeMap$Entry")) 1 100 (some (va_rf r)) w1) (hX : ∀ U, gX g U → SX g U) (hl : xl X = l) (hin : kHin X yJ18_successor) (N : Nat) (k18 : Option Nat × Wd → Option (Option Nat × Wd)) (hk18 : ∀ a, k18 a = some (r, w1) → kV g X 3 a.2 18 [none, some (va_rf a.1), none] []) (x1 : Option Nat) (w : Wd) (hF : FJ18_successor_b18 N g k18 x1 w = some (r, w1)) : kV g X 3 w 18 [none, some (va_rf x1), none] [] := by
  unfold FJ18_successor_b18 at hF
  refine v_aload_nQ C dJ18_successor_18 rfl rfl ?_
  rcases x1 with _ | a9
  · exact (k_ob0 hF).elim
  have hF := k_ob1 hF
  show kV _ _ _ _ 19 [none, some (.ref a9), none] [.ref a9]
  refine v_getQ C kc_J27 2 (Nat.le_of_ble_eq_true rfl) (kFl.p q1728) dJ18_successor_19 hF (fun v10 hF => ?_)
  rcases v10 with _ | a11
  · have hF := k_mn0 hF
    show kV _ _ _ _ 22 [none, some (.ref a9), none] [.null]
    refine v_ifnullN C (tgt := 33) dJ18_successor_22 (by decide) ?_
    refine v_aload_n C dJ18_successor_33 rfl rfl ?_
    exact c_qret C (q := (some a9)) rfl (Or.inl ⟨_, rfl⟩) dJ18_successor_34 hF
  · have hF := k_mn1 hF
    show kV _ _ _ _ 22 [none, some (.ref a9), none] [.ref a11]
    refine v_ifnull C dJ18_successor_22 ?_
    refine v_aload_n C dJ18_successor_25 rfl rfl ?_
    refine v_getQ C kc_J27 2 (Nat.le_of_ble_eq_true rfl) (kFl.p q1728) dJ18_successor_26 hF (fun v12 hF => ?_)
    refine v_astore_nQ C dJ18_successor_29 rfl (Nat.le_of_ble_eq_true rfl) rfl (lv' := [none, some (va_rf v12), none]) rfl ?_
    refine v_goto C (tgt := 18) dJ18_successor_30 (by decide) ?_
    refine v_mask [false, true, false] (lv' := [none, some (va_rf v12), none]) rfl ?_
    exact hk18 (v12, w) hF
set_option maxHeartbeats 4000000 in
theorem wJ18_successor (l : Launch) (g : GT) (hX : ∀ U, gX g U → SX g U) (N : Nat) (x0 : Nat) (w : Wd) (r : Option Nat) (w1 : Wd) (hF : FJ18_successor N g x0 w = some (r, w1)) : kMt l g yJ18_successor (ws_ yJ18_successor cJ18_successor 3 (some (.object "java/util/TreeMap$Entry"))) 1 100 w [.ref x0] (some (va_rf r)) w1 := by
  refine kMt.ofV (lv := [some (.ref x0), none, none]) (by decide) rfl (Nat.le_of_ble_eq_true rfl) rfl ?_
  intro X hl hin C
  unfold FJ18_successor at hF
  refine v_aload_n C dJ18_successor_0 rfl rfl ?_
  refine v_ifnonnull C (tgt := 6) dJ18_successor_1 (by decide) ?_
  refine v_aload_n C dJ18_successor_6 rfl rfl ?_
  refine v_getQ C kc_J27 3 (Nat.le_of_ble_eq_true rfl) (kFl.p q1729) dJ18_successor_7 hF (fun v1 hF => ?_)
  rcases v1 with _ | a2
  · have hF := k_mn0 hF
    show kV _ _ _ _ 10 [some (.ref x0), none, none] [.null]
    refine v_ifnullN C (tgt := 35) dJ18_successor_10 (by decide) ?_
    refine v_aload_n C dJ18_successor_35 rfl rfl ?_
    refine v_getQ C kc_J27 4 (Nat.le_of_ble_eq_true rfl) (kFl.p q1731) dJ18_successor_36 hF (fun v3 hF => ?_)
    refine v_astore_nQ C dJ18_successor_39 rfl (Nat.le_of_ble_eq_true rfl) rfl (lv' := [some (.ref x0), some (va_rf v3), none]) rfl ?_
    refine v_aload_n C dJ18_successor_40 rfl rfl ?_
    refine v_astore_n C dJ18_successor_41 rfl (Nat.le_of_ble_eq_true rfl) (by simp [lvK, va_rf_cat]) (lv' := [some (.ref x0), some (va_rf v3), some (.ref x0)]) rfl ?_
    refine v_mask [false, true, true] (lv' := [none, some (va_rf v3), some (va_rf (some x0))]) rfl ?_
    exact kloop_ok (P := fun a => kV g X 3 a.2.2 42 [none, some (va_rf a.1), some (va_rf a.2.1)] []) (fun self hs a hF => wJ18_successor_b42 C hX hl hin N self hs a.1 a.2.1 a.2.2 hF) N (v3, (some x0), w) hF
  · have hF := k_mn1 hF
    show kV _ _ _ _ 10 [some (.ref x0), none, none] [.ref a2]
    refine v_ifnull C dJ18_successor_10 ?_
    refine v_aload_n C dJ18_successor_13 rfl rfl ?_
    refine v_getQ C kc_J27 3 (Nat.le_of_ble_eq_true rfl) (kFl.p q1729) dJ18_successor_14 hF (fun v8 hF => ?_)
    refine v_astore_nQ C dJ18_successor_17 rfl (Nat.le_of_ble_eq_true rfl) rfl (lv' := [some (.ref x0), some (va_rf v8), none]) rfl ?_
    refine v_mask [false, true, false] (lv' := [none, some (va_rf v8), none]) rfl ?_
    exact kloop_ok (P := fun a => kV g X 3 a.2 18 [none, some (va_rf a.1), none] []) (fun self hs a hF => wJ18_successor_b18 C hX hl hin N self hs a.1 a.2 hF) N (v8, w) hF
set_option maxHeartbeats 4000000 in
theorem wJ18_getFirstEntry_b9 {l : Launch} {g : GT} {X : CxT} {r : Option Nat} {w1 : Wd} (C : kOk g X cJ18_getFirstEntry 2 RJ18 (some (.object "java/util/TreeMap$Entry")) 1 100 (some (va_rf r)) w1) (hX : ∀ U, gX g U → SX g U) (hl : xl X = l) (hin : kHin X yJ18_getFirstEntry) (N : Nat) (k9 : Option Nat × Wd → Option (Option Nat × Wd)) (hk9 : ∀ a, k9 a = some (r, w1) → kV g X 2 a.2 9 [none, some (va_rf a.1)] []) (x1 : Option Nat) (w : Wd) (hF : FJ18_getFirstEntry_b9 N g k9 x1 w = some (r, w1)) : kV g X 2 w 9 [none, some (va_rf x1)] [] := by
  unfold FJ18_getFirstEntry_b9 at hF
  refine v_aload_nQ C dJ18_getFirstEntry_9 rfl rfl ?_
  rcases x1 with _ | a3
  · exact (k_ob0 hF).elim
  have hF := k_ob1 hF
  show kV _ _ _ _ 10 [none, some (.ref a3)] [.ref a3]
  refine v_getQ C kc_J27 2 (Nat.le_of_ble_eq_true rfl) (kFl.p q1728) dJ18_getFirstEntry_10 hF (fun v4 hF => ?_)
  rcases v4 with _ | a5
  · have hF := k_mn0 hF
    show kV _ _ _ _ 13 [none, some (.ref a3)] [.null]
    refine v_ifnullN C (tgt := 24) dJ18_getFirstEntry_13 (by decide) ?_
    refine v_aload_n C dJ18_getFirstEntry_24 rfl rfl ?_
    exact c_qret C (q := (some a3)) rfl (Or.inl ⟨_, rfl⟩) dJ18_getFirstEntry_25 hF
  · have hF := k_mn1 hF
    show kV _ _ _ _ 13 [none, some (.ref a3)] [.ref a5]
    refine v_ifnull C dJ18_getFirstEntry_13 ?_
    refine v_aload_n C dJ18_getFirstEntry_16 rfl rfl ?_
    refine v_getQ C kc_J27 2 (Nat.le_of_ble_eq_true rfl) (kFl.p q1728) dJ18_getFirstEntry_17 hF (fun v6 hF => ?_)
    refine v_astore_nQ C dJ18_getFirstEntry_20 rfl (Nat.le_of_ble_eq_true rfl) rfl (lv' := [none, some (va_rf v6)]) rfl ?_
    refine v_goto C (tgt := 9) dJ18_getFirstEntry_21 (by decide) ?_
    refine v_mask [false, true] (lv' := [none, some (va_rf v6)]) rfl ?_
    exact hk9 (v6, w) hF
set_option maxHeartbeats 4000000 in
theorem wJ18_getFirstEntry (l : Launch) (g : GT) (hX : ∀ U, gX g U → SX g U) (N : Nat) (x0 : Nat) (w : Wd) (r : Option Nat) (w1 : Wd) (hF : FJ18_getFirstEntry N g x0 w = some (r, w1)) : kMt l g yJ18_getFirstEntry (ws_ yJ18_getFirstEntry cJ18_getFirstEntry 2 (some (.object "java/util/TreeMap$Entry"))) 1 100 w [.ref x0] (some (va_rf r)) w1 := by
  refine kMt.ofV (lv := [some (.ref x0), none]) (by decide) rfl (Nat.le_of_ble_eq_true rfl) rfl ?_
  intro X hl hin C
  unfold FJ18_getFirstEntry at hF
  refine v_aload_n C dJ18_getFirstEntry_0 rfl rfl ?_
  refine v_getQ C kc_J18 3 (Nat.le_of_ble_eq_true rfl) (kFl.p q1646) dJ18_getFirstEntry_1 hF (fun v1 hF => ?_)
  refine v_astore_nQ C dJ18_getFirstEntry_4 rfl (Nat.le_of_ble_eq_true rfl) rfl (lv' := [some (.ref x0), some (va_rf v1)]) rfl ?_
  refine v_aload_nQ C dJ18_getFirstEntry_5 rfl rfl ?_
  rcases v1 with _ | a2
  · have hF := k_mn0 hF
    show kV _ _ _ _ 6 [some (.ref x0), some (.null)] [.null]
    refine v_ifnullN C (tgt := 24) dJ18_getFirstEntry_6 (by decide) ?_
    refine v_aload_nN C dJ18_getFirstEntry_24 rfl rfl ?_
    exact c_qret C (q := none) rfl (Or.inl ⟨_, rfl⟩) dJ18_getFirstEntry_25 hF
  · have hF := k_mn1 hF
    show kV _ _ _ _ 6 [some (.ref x0), some (.ref a2)] [.ref a2]
    refine v_ifnull C dJ18_getFirstEntry_6 ?_
    refine v_mask [false, true] (lv' := [none, some (va_rf (some a2))]) rfl ?_
    exact kloop_ok (P := fun a => kV g X 2 a.2 9 [none, some (va_rf a.1)] []) (fun self hs a hF => wJ18_getFirstEntry_b9 C hX hl hin N self hs a.1 a.2 hF) N ((some a2), w) hF
set_option maxHeartbeats 4000000 in
theorem wJ30_init (l : Launch) (g : GT) (hX : ∀ U, gX g U → SX g U) (N : Nat) (x0 : Nat) (x1 : Nat) (w : Wd) (r : Unit) (w1 : Wd) (hF : FJ30_init N g x0 x1 w = some (r, w1)) : kMt l g yJ30_init (ws_ yJ30_init cJ30_init 2 none) 2 200 w [.ref x0, .ref x1] none w1 := by
  refine kMt.ofV (lv := [some (.ref x0), some (.ref x1)]) (by decide) rfl (Nat.le_of_ble_eq_true rfl) rfl ?_
  intro X hl hin C
  unfold FJ30_init at hF
  refine v_aload_n C dJ30_init_0 rfl rfl ?_
  refine v_aload_n C dJ30_init_1 rfl rfl ?_
  refine v_putFW C (hin.1.trans rfl) kc_J30 0 (Nat.le_of_ble_eq_true rfl) q1836 rfl rfl rfl rfl dJ30_init_2 hF (fun u1 hF => ?_)
  refine v_aload_n C dJ30_init_5 rfl rfl ?_
  refine c_callI C lk_J30_7 (fr2 := 1) (lo2 := 100) (As := []) (st := []) (fun r9_ w9_ h9_ => by rw [hl]; exact wJ0_init_t17 l g hX N x0 u1 r9_ w9_ h9_) (by decide) rfl rfl (Nat.le_of_ble_eq_true rfl) dJ30_init_6 hF (fun r2 u3 hF => ?_)
  exact c_vret C dJ30_init_9 hF
set_option maxHeartbeats 4000000 in
theorem wJ18_values (l : Launch) (g : GT) (hX : ∀ U, gX g U → SX g U) (N : Nat) (x0 : Nat) (w : Wd) (r : Option Nat) (w1 : Wd) (hF : FJ18_values N g x0 w = some (r, w1)) : kMt l g yJ18_values (ws_ yJ18_values cJ18_values 2 (some (.object "java/util/Collection"))) 3 300 w [.ref x0] (some (va_rf r)) w1 := by
  refine kMt.ofV (lv := [some (.ref x0), none]) (by decide) rfl (Nat.le_of_ble_eq_true rfl) rfl ?_
  intro X hl hin C
  unfold FJ18_values at hF
  refine v_aload_n C dJ18_values_0 rfl rfl ?_
  refine v_getQ C kc_J18 1 (Nat.le_of_ble_eq_true rfl) (kFl.i q1651 q1652) dJ18_values_1 hF (fun v1 hF => ?_)
  refine v_astore_nQ C dJ18_values_4 rfl (Nat.le_of_ble_eq_true rfl) rfl (lv' := [some (.ref x0), some (va_rf v1)]) rfl ?_
  refine v_aload_nQ C dJ18_values_5 rfl rfl ?_
  rcases v1 with _ | a2
  · have hF := k_mn0 hF
    show kV _ _ _ _ 6 [some (.ref x0), some (.null)] [.null]
    refine v_ifnonnullN C dJ18_values_6 ?_
    refine v_newW C kc_J30 q1830 q1831 q125 nw_J30 dJ18_values_9 hF (fun a3 u4 hF => ?_)
    refine v_dup C dJ18_values_12 rfl ?_
    refine v_aload_n C dJ18_values_13 rfl rfl ?_
    refine c_callI C lk_J18_239 (fr2 := 2) (lo2 := 200) (As := [.ref x0]) (st := [.ref a3]) (fun r9_ w9_ h9_ => by rw [hl]; exact wJ30_init l g hX N a3 x0 u4 r9_ w9_ h9_) (by decide) rfl rfl (Nat.le_of_ble_eq_true rfl) dJ18_values_14 hF (fun r5 u6 hF => ?_)
    refine v_astore_n C dJ18_values_17 rfl (Nat.le_of_ble_eq_true rfl) rfl (lv' := [some (.ref x0), some (.ref a3)]) rfl ?_
    refine v_aload_n C dJ18_values_18 rfl rfl ?_
    refine v_aload_n C dJ18_values_19 rfl rfl ?_
    refine v_putW C kc_J18 1 (Nat.le_of_ble_eq_true rfl) (kFl.i q1651 q1652) rfl rfl rfl dJ18_values_20 hF (fun u7 hF => ?_)
    refine v_aload_n C dJ18_values_23 rfl rfl ?_
    exact c_qret C (q := (some a3)) rfl (Or.inl ⟨_, rfl⟩) dJ18_values_24 hF
  · have hF := k_mn1 hF
    show kV _ _ _ _ 6 [some (.ref x0), some (.ref a2)] [.ref a2]
    refine v_ifnonnull C (tgt := 23) dJ18_values_6 (by decide) ?_
    refine v_aload_n C dJ18_values_23 rfl rfl ?_
    exact c_qret C (q := (some a2)) rfl (Or.inl ⟨_, rfl⟩) dJ18_values_24 hF
set_option maxHeartbeats 4000000 in
theorem wJ32_init_t18 (l : Launch) (g : GT) (hX : ∀ U, gX g U → SX g U) (N : Nat) (x0 : Nat) (x1 : Nat) (x2 : Option Nat) (w : Wd) (r : Unit) (w1 : Wd) (hF : FJ32_init_t18 N g x0 x1 x2 w = some (r, w1)) : kMt l g yJ32_init (ws_ yJ32_init cJ32_init 3 none) 1 100 w [.ref x0, .ref x1, va_rf x2] none w1 := by
  refine kMt.ofV (lv := [some (.ref x0), some (.ref x1), some (va_rf x2)]) (by decide) rfl (by cases x2 <;> exact Nat.le_of_ble_eq_true rfl) (by cases x2 <;> rfl) ?_
  intro X hl hin C
  unfold FJ32_init_t18 at hF
  refine v_aload_n C dJ32_init_0 rfl rfl ?_
  refine v_aload_n C dJ32_init_1 rfl rfl ?_
  refine v_putFW C (hin.1.trans rfl) kc_J34 3 (Nat.le_of_ble_eq_true rfl) q1906 rfl rfl rfl rfl dJ32_init_2 hF (fun u1 hF => ?_)
  refine v_aload_n C dJ32_init_5 rfl rfl ?_
  refine v_objInit C q1902 q142 q143 (by decide) (Nat.le_of_ble_eq_true rfl) dJ32_init_6 ?_
  refine v_aload_n C dJ32_init_9 rfl rfl ?_
  refine v_aload_n C dJ32_init_10 rfl rfl ?_
  refine v_getI C kc_J18 5 (Nat.le_of_ble_eq_true rfl) (kFl.n q1649) dJ32_init_11 hF (fun v2 hF => ?_)
  refine v_putW C kc_J34 2 (Nat.le_of_ble_eq_true rfl) (kFl.p q1905) rfl rfl rfl dJ32_init_14 hF (fun u3 hF => ?_)
  refine v_aload_n C dJ32_init_17 rfl rfl ?_
  refine v_null C dJ32_init_18 ?_
  refine v_putW C kc_J34 1 (Nat.le_of_ble_eq_true rfl) (kFl.p q1904) rfl rfl rfl dJ32_init_19 hF (fun u4 hF => ?_)
  refine v_aload_n C dJ32_init_22 rfl rfl ?_
  refine v_aload_nQ C dJ32_init_23 rfl rfl ?_
  refine v_putW C kc_J34 0 (Nat.le_of_ble_eq_true rfl) (kFl.p q1903) rfl (nar_rf _ (by decide)) (fit_rf _ (by decide)) dJ32_init_24 hF (fun u5 hF => ?_)
  exact c_vret C dJ32_init_27 hF
set_option maxHeartbeats 4000000 in
theorem wJ32_hasNext_t18 (l : Launch) (g : GT) (hX : ∀ U, gX g U → SX g U) (N : Nat) (x0 : Nat) (w : Wd) (r : Int32) (w1 : Wd) (hF : FJ32_hasNext_t18 N g x0 w = some (r, w1)) : kMt l g yJ32_hasNext (ws_ yJ32_hasNext cJ32_hasNext 1 (some .boolean)) 1 100 w [.ref x0] (some (.int r)) w1 := by
  refine kMt.ofV (lv := [some (.ref x0)]) (by decide) rfl (Nat.le_of_ble_eq_true rfl) rfl ?_
  intro X hl hin C
  unfold FJ32_hasNext_t18 at hF
  refine v_aload_n C dJ32_hasNext_0 rfl rfl ?_
  refine v_getQ C kc_J34 0 (Nat.le_of_ble_eq_true rfl) (kFl.p q1903) dJ32_hasNext_1 hF (fun v1 hF => ?_)
  rcases v1 with _ | a2
  · have hF := k_mn0 hF
    show kV _ _ _ _ 4 [some (.ref x0)] [.null]
    refine v_ifnullN C (tgt := 11) dJ32_hasNext_4 (by decide) ?_
    refine v_iconst C (v := (0 : Int32)) dJ32_hasNext_11 (by decide) ?_
    exact c_zret C rfl dJ32_hasNext_12 hF
  · have hF := k_mn1 hF
    show kV _ _ _ _ 4 [some (.ref x0)] [.ref a2]
    refine v_ifnull C dJ32_hasNext_4 ?_
    refine v_iconst C (v := (1 : Int32)) dJ32_hasNext_7 (by decide) ?_
    refine v_goto C (tgt := 12) dJ32_hasNext_8 (by decide) ?_
    exact c_zret C rfl dJ32_hasNext_12 hF
set_option maxHeartbeats 4000000 in
theorem wJ32_nextEntry_t18 (l : Launch) (g : GT) (hX : ∀ U, gX g U → SX g U) (N : Nat) (x0 : Nat) (w : Wd) (r : Option Nat) (w1 : Wd) (hF : FJ32_nextEntry_t18 N g x0 w = some (r, w1)) : kMt l g yJ32_nextEntry (ws_ yJ32_nextEntry cJ32_nextEntry 2 (some (.object "java/util/TreeMap$Entry"))) 2 200 w [.ref x0] (some (va_rf r)) w1 := by
  refine kMt.ofV (lv := [some (.ref x0), none]) (by decide) rfl (Nat.le_of_ble_eq_true rfl) rfl ?_
  intro X hl hin C
  unfold FJ32_nextEntry_t18 at hF
  refine v_aload_n C dJ32_nextEntry_0 rfl rfl ?_
  refine v_getQ C kc_J34 0 (Nat.le_of_ble_eq_true rfl) (kFl.p q1903) dJ32_nextEntry_1 hF (fun v1 hF => ?_)
  refine v_astore_nQ C dJ32_nextEntry_4 rfl (Nat.le_of_ble_eq_true rfl) rfl (lv' := [some (.ref x0), some (va_rf v1)]) rfl ?_
  refine v_aload_nQ C dJ32_nextEntry_5 rfl rfl ?_
  rcases v1 with _ | a2
  · have hF := k_mn0 hF
    show kV _ _ _ _ 6 [some (.ref x0), some (.null)] [.null]
    refine v_ifnonnullN C dJ32_nextEntry_6 ?_
    cases hF
  · have hF := k_mn1 hF
    show kV _ _ _ _ 6 [some (.ref x0), some (.ref a2)] [.ref a2]
    refine v_ifnonnull C (tgt := 17) dJ32_nextEntry_6 (by decide) ?_
    refine v_aload_n C dJ32_nextEntry_17 rfl rfl ?_
    refine v_getR C kc_J34 3 (Nat.le_of_ble_eq_true rfl) (kFl.p q1906) dJ32_nextEntry_18 hF (fun v3 hF => ?_)
    refine v_getI C kc_J18 5 (Nat.le_of_ble_eq_true rfl) (kFl.n q1649) dJ32_nextEntry_21 hF (fun v4 hF => ?_)
    refine v_aload_n C dJ32_nextEntry_24 rfl rfl ?_
    refine v_getI C kc_J34 2 (Nat.le_of_ble_eq_true rfl) (kFl.p q1905) dJ32_nextEntry_25 hF (fun v5 hF => ?_)
    refine v_icmp_eq C (tgt := 39) dJ32_nextEntry_28 (by decide) hF (fun c6 hF => ?_) (fun c6 hF => ?_)
    · refine v_aload_n C dJ32_nextEntry_39 rfl rfl ?_
      refine v_aload_n C dJ32_nextEntry_40 rfl rfl ?_
      refine c_callSq C lk_J32_35 (fr2 := 1) (lo2 := 100) (As := [.ref a2]) (st := [.ref x0]) (fun r9_ w9_ h9_ => by rw [hl]; exact wJ18_successor l g hX N a2 w r9_ w9_ h9_) (by decide) rfl rfl (Nat.le_of_ble_eq_true rfl) dJ32_nextEntry_41 hF (fun r7 u8 hF => ?_)
      refine v_putW C kc_J34 0 (Nat.le_of_ble_eq_true rfl) (kFl.p q1903) rfl (nar_rf _ (by decide)) (fit_rf _ (by decide)) dJ32_nextEntry_44 hF (fun u9 hF => ?_)
      refine v_aload_n C dJ32_nextEntry_47 rfl rfl ?_
      refine v_aload_n C dJ32_nextEntry_48 rfl rfl ?_
      refine v_putW C kc_J34 1 (Nat.le_of_ble_eq_true rfl) (kFl.p q1904) rfl rfl rfl dJ32_nextEntry_49 hF (fun u10 hF => ?_)
      refine v_aload_n C dJ32_nextEntry_52 rfl rfl ?_
      exact c_qret C (q := (some a2)) rfl (Or.inl ⟨_, rfl⟩) dJ32_nextEntry_53 hF
    · cases hF
set_option maxHeartbeats 4000000 in
theorem wJ32_init_t19 (l : Launch) (g : GT) (hX : ∀ U, gX g U → SX g U) (N : Nat) (x0 : Nat) (x1 : Nat) (x2 : Option Nat) (w : Wd) (r : Unit) (w1 : Wd) (hF : FJ32_init_t19 N g x0 x1 x2 w = some (r, w1)) : kMt l g yJ32_init (ws_ yJ32_init cJ32_init 3 none) 1 100 w [.ref x0, .ref x1, va_rf x2] none w1 := by
  refine kMt.ofV (lv := [some (.ref x0), some (.ref x1), some (va_rf x2)]) (by decide) rfl (by cases x2 <;> exact Nat.le_of_ble_eq_true rfl) (by cases x2 <;> rfl) ?_
  intro X hl hin C
  unfold FJ32_init_t19 at hF
  refine v_aload_n C dJ32_init_0 rfl rfl ?_
  refine v_aload_n C dJ32_init_1 rfl rfl ?_
  refine v_putFW C (hin.1.trans rfl) kc_J33 3 (Nat.le_of_ble_eq_true rfl) q1906 rfl rfl rfl rfl dJ32_init_2 hF (fun u1 hF => ?_)
  refine v_aload_n C dJ32_init_5 rfl rfl ?_
  refine v_objInit C q1902 q142 q143 (by decide) (Nat.le_of_ble_eq_true rfl) dJ32_init_6 ?_
  refine v_aload_n C dJ32_init_9 rfl rfl ?_
  refine v_aload_n C dJ32_init_10 rfl rfl ?_
  refine v_getI C kc_J18 5 (Nat.le_of_ble_eq_true rfl) (kFl.n q1649) dJ32_init_11 hF (fun v2 hF => ?_)
  refine v_putW C kc_J33 2 (Nat.le_of_ble_eq_true rfl) (kFl.p q1905) rfl rfl rfl dJ32_init_14 hF (fun u3 hF => ?_)
  refine v_aload_n C dJ32_init_17 rfl rfl ?_
  refine v_null C dJ32_init_18 ?_
  refine v_putW C kc_J33 1 (Nat.le_of_ble_eq_true rfl) (kFl.p q1904) rfl rfl rfl dJ32_init_19 hF (fun u4 hF => ?_)
  refine v_aload_n C dJ32_init_22 rfl rfl ?_
  refine v_aload_nQ C dJ32_init_23 rfl rfl ?_
  refine v_putW C kc_J33 0 (Nat.le_of_ble_eq_true rfl) (kFl.p q1903) rfl (nar_rf _ (by decide)) (fit_rf _ (by decide)) dJ32_init_24 hF (fun u5 hF => ?_)
  exact c_vret C dJ32_init_27 hF
set_option maxHeartbeats 4000000 in
theorem wJ32_hasNext_t19 (l : Launch) (g : GT) (hX : ∀ U, gX g U → SX g U) (N : Nat) (x0 : Nat) (w : Wd) (r : Int32) (w1 : Wd) (hF : FJ32_hasNext_t19 N g x0 w = some (r, w1)) : kMt l g yJ32_hasNext (ws_ yJ32_hasNext cJ32_hasNext 1 (some .boolean)) 1 100 w [.ref x0] (some (.int r)) w1 := by
  refine kMt.ofV (lv := [some (.ref x0)]) (by decide) rfl (Nat.le_of_ble_eq_true rfl) rfl ?_
  intro X hl hin C
  unfold FJ32_hasNext_t19 at hF
  refine v_aload_n C dJ32_hasNext_0 rfl rfl ?_
  refine v_getQ C kc_J33 0 (Nat.le_of_ble_eq_true rfl) (kFl.p q1903) dJ32_hasNext_1 hF (fun v1 hF => ?_)
  rcases v1 with _ | a2
  · have hF := k_mn0 hF
    show kV _ _ _ _ 4 [some (.ref x0)] [.null]
    refine v_ifnullN C (tgt := 11) dJ32_hasNext_4 (by decide) ?_
    refine v_iconst C (v := (0 : Int32)) dJ32_hasNext_11 (by decide) ?_
    exact c_zret C rfl dJ32_hasNext_12 hF
  · have hF := k_mn1 hF
    show kV _ _ _ _ 4 [some (.ref x0)] [.ref a2]
    refine v_ifnull C dJ32_hasNext_4 ?_
    refine v_iconst C (v := (1 : Int32)) dJ32_hasNext_7 (by decide) ?_
    refine v_goto C (tgt := 12) dJ32_hasNext_8 (by decide) ?_
    exact c_zret C rfl dJ32_hasNext_12 hF
set_option maxHeartbeats 4000000 in
theorem wJ32_nextEntry_t19 (l : Launch) (g : GT) (hX : ∀ U, gX g U → SX g U) (N : Nat) (x0 : Nat) (w : Wd) (r : Option Nat) (w1 : Wd) (hF : FJ32_nextEntry_t19 N g x0 w = some (r, w1)) : kMt l g yJ32_nextEntry (ws_ yJ32_nextEntry cJ32_nextEntry 2 (some (.object "java/util/TreeMap$Entry"))) 2 200 w [.ref x0] (some (va_rf r)) w1 := by
  refine kMt.ofV (lv := [some (.ref x0), none]) (by decide) rfl (Nat.le_of_ble_eq_true rfl) rfl ?_
  intro X hl hin C
  unfold FJ32_nextEntry_t19 at hF
  refine v_aload_n C dJ32_nextEntry_0 rfl rfl ?_
  refine v_getQ C kc_J33 0 (Nat.le_of_ble_eq_true rfl) (kFl.p q1903) dJ32_nextEntry_1 hF (fun v1 hF => ?_)
  refine v_astore_nQ C dJ32_nextEntry_4 rfl (Nat.le_of_ble_eq_true rfl) rfl (lv' := [some (.ref x0), some (va_rf v1)]) rfl ?_
  refine v_aload_nQ C dJ32_nextEntry_5 rfl rfl ?_
  rcases v1 with _ | a2
  · have hF := k_mn0 hF
    show kV _ _ _ _ 6 [some (.ref x0), some (.null)] [.null]
    refine v_ifnonnullN C dJ32_nextEntry_6 ?_
    cases hF
  · have hF := k_mn1 hF
    show kV _ _ _ _ 6 [some (.ref x0), some (.ref a2)] [.ref a2]
    refine v_ifnonnull C (tgt := 17) dJ32_nextEntry_6 (by decide) ?_
    refine v_aload_n C dJ32_nextEntry_17 rfl rfl ?_
    refine v_getR C kc_J33 3 (Nat.le_of_ble_eq_true rfl) (kFl.p q1906) dJ32_nextEntry_18 hF (fun v3 hF => ?_)
    refine v_getI C kc_J18 5 (Nat.le_of_ble_eq_true rfl) (kFl.n q1649) dJ32_nextEntry_21 hF (fun v4 hF => ?_)
    refine v_aload_n C dJ32_nextEntry_24 rfl rfl ?_
    refine v_getI C kc_J33 2 (Nat.le_of_ble_eq_true rfl) (kFl.p q1905) dJ32_nextEntry_25 hF (fun v5 hF => ?_)
    refine v_icmp_eq C (tgt := 39) dJ32_nextEntry_28 (by decide) hF (fun c6 hF => ?_) (fun c6 hF => ?_)
    · refine v_aload_n C dJ32_nextEntry_39 rfl rfl ?_
      refine v_aload_n C dJ32_nextEntry_40 rfl rfl ?_
      refine c_callSq C lk_J32_35 (fr2 := 1) (lo2 := 100) (As := [.ref a2]) (st := [.ref x0]) (fun r9_ w9_ h9_ => by rw [hl]; exact wJ18_successor l g hX N a2 w r9_ w9_ h9_) (by decide) rfl rfl (Nat.le_of_ble_eq_true rfl) dJ32_nextEntry_41 hF (fun r7 u8 hF => ?_)
      refine v_putW C kc_J33 0 (Nat.le_of_ble_eq_true rfl) (kFl.p q1903) rfl (nar_rf _ (by decide)) (fit_rf _ (by decide)) dJ32_nextEntry_44 hF (fun u9 hF => ?_)
      refine v_aload_n C dJ32_nextEntry_47 rfl rfl ?_
      refine v_aload_n C dJ32_nextEntry_48 rfl rfl ?_
      refine v_putW C kc_J33 1 (Nat.le_of_ble_eq_true rfl) (kFl.p q1904) rfl rfl rfl dJ32_nextEntry_49 hF (fun u10 hF => ?_)
      refine v_aload_n C dJ32_nextEntry_52 rfl rfl ?_
      exact c_qret C (q := (some a2)) rfl (Or.inl ⟨_, rfl⟩) dJ32_nextEntry_53 hF
    · cases hF
set_option maxHeartbeats 4000000 in
theorem wJ34_init (l : Launch) (g : GT) (hX : ∀ U, gX g U → SX g U) (N : Nat) (x0 : Nat) (x1 : Nat) (x2 : Option Nat) (w : Wd) (r : Unit) (w1 : Wd) (hF : FJ34_init N g x0 x1 x2 w = some (r, w1)) : kMt l g yJ34_init (ws_ yJ34_init cJ34_init 3 none) 2 200 w [.ref x0, .ref x1, va_rf x2] none w1 := by
  refine kMt.ofV (lv := [some (.ref x0), some (.ref x1), some (va_rf x2)]) (by decide) rfl (by cases x2 <;> exact Nat.le_of_ble_eq_true rfl) (by cases x2 <;> rfl) ?_
  intro X hl hin C
  unfold FJ34_init at hF
  refine v_aload_n C dJ34_init_0 rfl rfl ?_
  refine v_aload_n C dJ34_init_1 rfl rfl ?_
  refine v_aload_nQ C dJ34_init_2 rfl rfl ?_
  refine c_callI C lk_J34_1 (fr2 := 1) (lo2 := 100) (As := [.ref x1, va_rf x2]) (st := []) (fun r9_ w9_ h9_ => by rw [hl]; exact wJ32_init_t18 l g hX N x0 x1 x2 w r9_ w9_ h9_) (by decide) rfl rfl (Nat.le_of_ble_eq_true rfl) dJ34_init_3 hF (fun r1 u2 hF => ?_)
  exact c_vret C dJ34_init_6 hF
set_option maxHeartbeats 4000000 in
theorem wJ33_init (l : Launch) (g : GT) (hX : ∀ U, gX g U → SX g U) (N : Nat) (x0 : Nat) (x1 : Nat) (x2 : Option Nat) (w : Wd) (r : Unit) (w1 : Wd) (hF : FJ33_init N g x0 x1 x2 w = some (r, w1)) : kMt l g yJ33_init (ws_ yJ33_init cJ33_init 3 none) 2 200 w [.ref x0, .ref x1, va_rf x2] none w1 := by
  refine kMt.ofV (lv := [some (.ref x0), some (.ref x1), some (va_rf x2)]) (by decide) rfl (by cases x2 <;> exact Nat.le_of_ble_eq_true rfl) (by cases x2 <;> rfl) ?_
  intro X hl hin C
  unfold FJ33_init at hF
  refine v_aload_n C dJ33_init_0 rfl rfl ?_
  refine v_aload_n C dJ33_init_1 rfl rfl ?_
  refine v_aload_nQ C dJ33_init_2 rfl rfl ?_
  refine c_callI C lk_J33_1 (fr2 := 1) (lo2 := 100) (As := [.ref x1, va_rf x2]) (st := []) (fun r9_ w9_ h9_ => by rw [hl]; exact wJ32_init_t19 l g hX N x0 x1 x2 w r9_ w9_ h9_) (by decide) rfl rfl (Nat.le_of_ble_eq_true rfl) dJ33_init_3 hF (fun r1 u2 hF => ?_)
  exact c_vret C dJ33_init_6 hF
set_option maxHeartbeats 4000000 in
theorem wJ30_iterator (l : Launch) (g : GT) (hX : ∀ U, gX g U → SX g U) (N : Nat) (x0 : Nat) (w : Wd) (r : Nat) (w1 : Wd) (hF : FJ30_iterator N g x0 w = some (r, w1)) : kMt l g yJ30_iterator (ws_ yJ30_iterator cJ30_iterator 1 (some (.object "java/util/Iterator"))) 3 300 w [.ref x0] (some (.ref r)) w1 := by
  refine kMt.ofV (lv := [some (.ref x0)]) (by decide) rfl (Nat.le_of_ble_eq_true rfl) rfl ?_
  intro X hl hin C
  unfold FJ30_iterator at hF
  refine v_newW C kc_J34 q1926 q1927 q129 nw_J34 dJ30_iterator_0 hF (fun a1 u2 hF => ?_)
  refine v_dup C dJ30_iterator_3 rfl ?_
  refine v_aload_n C dJ30_iterator_4 rfl rfl ?_
  refine v_getR C kc_J30 0 (Nat.le_of_ble_eq_true rfl) (kFl.p q1836) dJ30_iterator_5 hF (fun v3 hF => ?_)
  refine v_aload_n C dJ30_iterator_8 rfl rfl ?_
  refine v_getR C kc_J30 0 (Nat.le_of_ble_eq_true rfl) (kFl.p q1836) dJ30_iterator_9 hF (fun v4 hF => ?_)
  obtain ⟨h7, hF⟩ := k_ite hF
  refine c_callVq C lk_J30_15 (ci := 15) rfl h7 (fr2 := 1) (lo2 := 100) (As := []) (st := [.ref v3, .ref a1, .ref a1]) (fun r9_ w9_ h9_ => by rw [hl]; exact wJ18_getFirstEntry l g hX N v4 u2 r9_ w9_ h9_) (by decide) rfl rfl (Nat.le_of_ble_eq_true rfl) dJ30_iterator_12 hF (fun r5 u6 hF => ?_)
  refine c_callI C lk_J30_21 (fr2 := 2) (lo2 := 200) (As := [.ref v3, va_rf r5]) (st := [.ref a1]) (fun r9_ w9_ h9_ => by rw [hl]; exact wJ34_init l g hX N a1 v3 r5 u6 r9_ w9_ h9_) (by decide) rfl rfl (Nat.le_of_ble_eq_true rfl) dJ30_iterator_15 hF (fun r8 u9 hF => ?_)
  exact c_aret C (Or.inl ⟨_, rfl⟩) dJ30_iterator_18 hF
set_option maxHeartbeats 4000000 in
theorem wJ34_next (l : Launch) (g : GT) (hX : ∀ U, gX g U → SX g U) (N : Nat) (x0 : Nat) (w : Wd) (r : Nat) (w1 : Wd) (hF : FJ34_next N g x0 w = some (r, w1)) : kMt l g yJ34_next (ws_ yJ34_next cJ34_next 1 (some (.object "java/lang/Object"))) 3 300 w [.ref x0] (some (.ref r)) w1 := by
  refine kMt.ofV (lv := [some (.ref x0)]) (by decide) rfl (Nat.le_of_ble_eq_true rfl) rfl ?_
  intro X hl hin C
  unfold FJ34_next at hF
  refine v_aload_n C dJ34_next_0 rfl rfl ?_
  obtain ⟨h3, hF⟩ := k_ite hF
  refine c_callUq C lk_J34_7_J32_nextEntry_t18 (kRc.of C (ci := 18) rfl h3) (fr2 := 2) (lo2 := 200) (As := []) (st := []) (fun r9_ w9_ h9_ => by rw [hl]; exact wJ32_nextEntry_t18 l g hX N x0 w r9_ w9_ h9_) (by decide) rfl rfl (Nat.le_of_ble_eq_true rfl) dJ34_next_1 hF (fun r1 u2 hF => ?_)
  rcases r1 with _ | a4
  · exact (k_ob0 hF).elim
  have hF := k_ob1 hF
  show kV _ _ _ _ 4 [some (.ref x0)] [.ref a4]
  refine v_getR C kc_J27 1 (Nat.le_of_ble_eq_true rfl) (kFl.p q1726) dJ34_next_4 hF (fun v5 hF => ?_)
  exact c_aret C (Or.inl ⟨_, rfl⟩) dJ34_next_7 hF
set_option maxHeartbeats 4000000 in
theorem wJ33_next (l : Launch) (g : GT) (hX : ∀ U, gX g U → SX g U) (N : Nat) (x0 : Nat) (w : Wd) (r : Nat) (w1 : Wd) (hF : FJ33_next N g x0 w = some (r, w1)) : kMt l g yJ33_next (ws_ yJ33_next cJ33_next 1 (some (.object "java/lang/Object"))) 3 300 w [.ref x0] (some (.ref r)) w1 := by
  refine kMt.ofV (lv := [some (.ref x0)]) (by decide) rfl (Nat.le_of_ble_eq_true rfl) rfl ?_
  intro X hl hin C
  unfold FJ33_next at hF
  refine v_aload_n C dJ33_next_0 rfl rfl ?_
  obtain ⟨h3, hF⟩ := k_ite hF
  refine c_callUq C lk_J33_7_J32_nextEntry_t19 (kRc.of C (ci := 19) rfl h3) (fr2 := 2) (lo2 := 200) (As := []) (st := []) (fun r9_ w9_ h9_ => by rw [hl]; exact wJ32_nextEntry_t19 l g hX N x0 w r9_ w9_ h9_) (by decide) rfl rfl (Nat.le_of_ble_eq_true rfl) dJ33_next_1 hF (fun r1 u2 hF => ?_)
  rcases r1 with _ | a4
  · exact (k_ob0 hF).elim
  have hF := k_ob1 hF
  show kV _ _ _ _ 4 [some (.ref x0)] [.ref a4]
  refine v_getR C kc_J27 0 (Nat.le_of_ble_eq_true rfl) (kFl.p q1723) dJ33_next_4 hF (fun v5 hF => ?_)
  exact c_aret C (Or.inl ⟨_, rfl⟩) dJ33_next_7 hF
set_option maxHeartbeats 4000000 in
theorem wJ18_keyIterator (l : Launch) (g : GT) (hX : ∀ U, gX g U → SX g U) (N : Nat) (x0 : Nat) (w : Wd) (r : Nat) (w1 : Wd) (hF : FJ18_keyIterator N g x0 w = some (r, w1)) : kMt l g yJ18_keyIterator (ws_ yJ18_keyIterator cJ18_keyIterator 1 (some (.object "java/util/Iterator"))) 3 300 w [.ref x0] (some (.ref r)) w1 := by
  refine kMt.ofV (lv := [some (.ref x0)]) (by decide) rfl (Nat.le_of_ble_eq_true rfl) rfl ?_
  intro X hl hin C
  unfold FJ18_keyIterator at hF
  refine v_newW C kc_J33 q1890 q1891 q128 nw_J33 dJ18_keyIterator_0 hF (fun a1 u2 hF => ?_)
  refine v_dup C dJ18_keyIterator_3 rfl ?_
  refine v_aload_n C dJ18_keyIterator_4 rfl rfl ?_
  refine v_aload_n C dJ18_keyIterator_5 rfl rfl ?_
  obtain ⟨h5, hF⟩ := k_ite hF
  refine c_callVq C lk_J18_54 (ci := 15) rfl h5 (fr2 := 1) (lo2 := 100) (As := []) (st := [.ref x0, .ref a1, .ref a1]) (fun r9_ w9_ h9_ => by rw [hl]; exact wJ18_getFirstEntry l g hX N x0 u2 r9_ w9_ h9_) (by decide) rfl rfl (Nat.le_of_ble_eq_true rfl) dJ18_keyIterator_6 hF (fun r3 u4 hF => ?_)
  refine c_callI C lk_J18_271 (fr2 := 2) (lo2 := 200) (As := [.ref x0, va_rf r3]) (st := [.ref a1]) (fun r9_ w9_ h9_ => by rw [hl]; exact wJ33_init l g hX N a1 x0 r3 u4 r9_ w9_ h9_) (by decide) rfl rfl (Nat.le_of_ble_eq_true rfl) dJ18_keyIterator_9 hF (fun r6 u7 hF => ?_)
  exact c_aret C (Or.inl ⟨_, rfl⟩) dJ18_keyIterator_12 hF
set_option maxHeartbeats 4000000 in
theorem wJ0_init_t21 (l : Launch) (g : GT) (hX : ∀ U, gX g U → SX g U) (N : Nat) (x0 : Nat) (w : Wd) (r : Unit) (w1 : Wd) (hF : FJ0_init_t21 N g x0 w = some (r, w1)) : kMt l g yJ0_init (ws_ yJ0_init cJ0_init 1 none) 1 100 w [.ref x0] none w1 := by
  refine kMt.ofV (lv := [some (.ref x0)]) (by decide) rfl (Nat.le_of_ble_eq_true rfl) rfl ?_
  intro X hl hin C
  unfold FJ0_init_t21 at hF
  refine v_aload_n C dJ0_init_0 rfl rfl ?_
  refine v_objInit C q155 q142 q143 (by decide) (Nat.le_of_ble_eq_true rfl) dJ0_init_1 ?_
  exact c_vret C dJ0_init_4 hF
set_option maxHeartbeats 4000000 in
theorem wJ28_init_t21 (l : Launch) (g : GT) (hX : ∀ U, gX g U → SX g U) (N : Nat) (x0 : Nat) (w : Wd) (r : Unit) (w1 : Wd) (hF : FJ28_init_t21 N g x0 w = some (r, w1)) : kMt l g yJ28_init (ws_ yJ28_init cJ28_init 1 none) 2 200 w [.ref x0] none w1 := by
  refine kMt.ofV (lv := [some (.ref x0)]) (by decide) rfl (Nat.le_of_ble_eq_true rfl) rfl ?_
  intro X hl hin C
  unfold FJ28_init_t21 at hF
  refine v_aload_n C dJ28_init_0 rfl rfl ?_
  refine c_callI C lk_J28_1 (fr2 := 1) (lo2 := 100) (As := []) (st := []) (fun r9_ w9_ h9_ => by rw [hl]; exact wJ0_init_t21 l g hX N x0 w r9_ w9_ h9_) (by decide) rfl rfl (Nat.le_of_ble_eq_true rfl) dJ28_init_1 hF (fun r1 u2 hF => ?_)
  exact c_vret C dJ28_init_4 hF
set_option maxHeartbeats 4000000 in
theorem wJ35_init (l : Launch) (g : GT) (hX : ∀ U, gX g U → SX g U) (N : Nat) (x0 : Nat) (x1 : Nat) (w : Wd) (r : Unit) (w1 : Wd) (hF : FJ35_init N g x0 x1 w = some (r, w1)) : kMt l g yJ35_init (ws_ yJ35_init cJ35_init 2 none) 3 300 w [.ref x0, .ref x1] none w1 := by
  refine kMt.ofV (lv := [some (.ref x0), some (.ref x1)]) (by decide) rfl (Nat.le_of_ble_eq_true rfl) rfl ?_
  intro X hl hin C
  unfold FJ35_init at hF
  refine v_aload_n C dJ35_init_0 rfl rfl ?_
  refine c_callI C lk_J35_1 (fr2 := 2) (lo2 := 200) (As := []) (st := []) (fun r9_ w9_ h9_ => by rw [hl]; exact wJ28_init_t21 l g hX N x0 w r9_ w9_ h9_) (by decide) rfl rfl (Nat.le_of_ble_eq_true rfl) dJ35_init_1 hF (fun r1 u2 hF => ?_)
  refine v_aload_n C dJ35_init_4 rfl rfl ?_
  refine v_aload_n C dJ35_init_5 rfl rfl ?_
  refine v_putFW C (hin.1.trans rfl) kc_J35 0 (Nat.le_of_ble_eq_true rfl) q1959 rfl rfl rfl rfl dJ35_init_6 hF (fun u3 hF => ?_)
  exact c_vret C dJ35_init_9 hF
set_option maxHeartbeats 4000000 in
theorem wJ18_navigableKeySet (l : Launch) (g : GT) (hX : ∀ U, gX g U → SX g U) (N : Nat) (x0 : Nat) (w : Wd) (r : Option Nat) (w1 : Wd) (hF : FJ18_navigableKeySet N g x0 w = some (r, w1)) : kMt l g yJ18_navigableKeySet (ws_ yJ18_navigableKeySet cJ18_navigableKeySet 2 (some (.object "java/util/NavigableSet"))) 4 400 w [.ref x0] (some (va_rf r)) w1 := by
  refine kMt.ofV (lv := [some (.ref x0), none]) (by decide) rfl (Nat.le_of_ble_eq_true rfl) rfl ?_
  intro X hl hin C
  unfold FJ18_navigableKeySet at hF
  refine v_aload_n C dJ18_navigableKeySet_0 rfl rfl ?_
  refine v_getQ C kc_J18 7 (Nat.le_of_ble_eq_true rfl) (kFl.p q1650) dJ18_navigableKeySet_1 hF (fun v1 hF => ?_)
  refine v_astore_nQ C dJ18_navigableKeySet_4 rfl (Nat.le_of_ble_eq_true rfl) rfl (lv' := [some (.ref x0), some (va_rf v1)]) rfl ?_
  refine v_aload_nQ C dJ18_navigableKeySet_5 rfl rfl ?_
  rcases v1 with _ | a2
  · have hF := k_mn0 hF
    show kV _ _ _ _ 6 [some (.ref x0), some (.null)] [.null]
    refine v_ifnullN C (tgt := 13) dJ18_navigableKeySet_6 (by decide) ?_
    refine v_aload_n C dJ18_navigableKeySet_13 rfl rfl ?_
    refine v_newW C kc_J35 q1953 q1954 q130 nw_J35 dJ18_navigableKeySet_14 hF (fun a3 u4 hF => ?_)
    refine v_dup C dJ18_navigableKeySet_17 rfl ?_
    refine v_aload_n C dJ18_navigableKeySet_18 rfl rfl ?_
    refine c_callI C lk_J18_224 (fr2 := 3) (lo2 := 300) (As := [.ref x0]) (st := [.ref a3, .ref x0]) (fun r9_ w9_ h9_ => by rw [hl]; exact wJ35_init l g hX N a3 x0 u4 r9_ w9_ h9_) (by decide) rfl rfl (Nat.le_of_ble_eq_true rfl) dJ18_navigableKeySet_19 hF (fun r5 u6 hF => ?_)
    refine v_dup_x1 C dJ18_navigableKeySet_22 rfl rfl ?_
    refine v_putW C kc_J18 7 (Nat.le_of_ble_eq_true rfl) (kFl.p q1650) rfl rfl rfl dJ18_navigableKeySet_23 hF (fun u7 hF => ?_)
    exact c_qret C (q := (some a3)) rfl (Or.inl ⟨_, rfl⟩) dJ18_navigableKeySet_26 hF
  · have hF := k_mn1 hF
    show kV _ _ _ _ 6 [some (.ref x0), some (.ref a2)] [.ref a2]
    refine v_ifnull C dJ18_navigableKeySet_6 ?_
    refine v_aload_n C dJ18_navigableKeySet_9 rfl rfl ?_
    refine v_goto C (tgt := 26) dJ18_navigableKeySet_10 (by decide) ?_
    exact c_qret C (q := (some a2)) rfl (Or.inl ⟨_, rfl⟩) dJ18_navigableKeySet_26 hF
set_option maxHeartbeats 4000000 in
theorem wJ35_iterator (l : Launch) (g : GT) (hX : ∀ U, gX g U → SX g U) (N : Nat) (x0 : Nat) (w : Wd) (r : Nat) (w1 : Wd) (hF : FJ35_iterator N g x0 w = some (r, w1)) : kMt l g yJ35_iterator (ws_ yJ35_iterator cJ35_iterator 1 (some (.object "java/util/Iterator"))) 4 400 w [.ref x0] (some (.ref r)) w1 := by
  refine kMt.ofV (lv := [some (.ref x0)]) (by decide) rfl (Nat.le_of_ble_eq_true rfl) rfl ?_
  intro X hl hin C
  unfold FJ35_iterator at hF
  refine v_aload_n C dJ35_iterator_0 rfl rfl ?_
  refine v_getR C kc_J35 0 (Nat.le_of_ble_eq_true rfl) (kFl.p q1959) dJ35_iterator_1 hF (fun v1 hF => ?_)
  refine v_instI C (ci := 15) rfl q1885 dJ35_iterator_4 hF (fun hF => ?_)
  refine v_if_eq C (tgt := 21) dJ35_iterator_7 (by decide) hF (fun c2 hF => ?_) (fun c2 hF => ?_)
  · cases hF
  · refine v_aload_n C dJ35_iterator_10 rfl rfl ?_
    refine v_getR C kc_J35 0 (Nat.le_of_ble_eq_true rfl) (kFl.p q1959) dJ35_iterator_11 hF (fun v3 hF => ?_)
    refine v_castI C (ci := 15) rfl q1885 dJ35_iterator_14 hF (fun hF => ?_)
    obtain ⟨h6, hF⟩ := k_ite hF
    refine c_callVr C lk_J35_15 (ci := 15) rfl h6 (fr2 := 3) (lo2 := 300) (As := []) (st := []) (fun r9_ w9_ h9_ => by rw [hl]; exact wJ18_keyIterator l g hX N v3 w r9_ w9_ h9_) (by decide) rfl rfl (Nat.le_of_ble_eq_true rfl) dJ35_iterator_17 hF (fun r4 u5 hF => ?_)
    exact c_aret C (Or.inl ⟨_, rfl⟩) dJ35_iterator_20 hF
set_option maxHeartbeats 4000000 in
theorem wJ0_init_t20 (l : Launch) (g : GT) (hX : ∀ U, gX g U → SX g U) (N : Nat) (x0 : Nat) (w : Wd) (r : Unit) (w1 : Wd) (hF : FJ0_init_t20 N g x0 w = some (r, w1)) : kMt l g yJ0_init (ws_ yJ0_init cJ0_init 1 none) 1 100 w [.ref x0] none w1 := by
  refine kMt.ofV (lv := [some (.ref x0)]) (by decide) rfl (Nat.le_of_ble_eq_true rfl) rfl ?_
  intro X hl hin C
  unfold FJ0_init_t20 at hF
  refine v_aload_n C dJ0_init_0 rfl rfl ?_
  refine v_objInit C q155 q142 q143 (by decide) (Nat.le_of_ble_eq_true rfl) dJ0_init_1 ?_
  exact c_vret C dJ0_init_4 hF
set_option maxHeartbeats 4000000 in
theorem wJ28_init_t20 (l : Launch) (g : GT) (hX : ∀ U, gX g U → SX g U) (N : Nat) (x0 : Nat) (w : Wd) (r : Unit) (w1 : Wd) (hF : FJ28_init_t20 N g x0 w = some (r, w1)) : kMt l g yJ28_init (ws_ yJ28_init cJ28_init 1 none) 2 200 w [.ref x0] none w1 := by
  refine kMt.ofV (lv := [some (.ref x0)]) (by decide) rfl (Nat.le_of_ble_eq_true rfl) rfl ?_
  intro X hl hin C
  unfold FJ28_init_t20 at hF
  refine v_aload_n C dJ28_init_0 rfl rfl ?_
  refine c_callI C lk_J28_1 (fr2 := 1) (lo2 := 100) (As := []) (st := []) (fun r9_ w9_ h9_ => by rw [hl]; exact wJ0_init_t20 l g hX N x0 w r9_ w9_ h9_) (by decide) rfl rfl (Nat.le_of_ble_eq_true rfl) dJ28_init_1 hF (fun r1 u2 hF => ?_)
  exact c_vret C dJ28_init_4 hF
set_option maxHeartbeats 4000000 in
theorem wJ29_init_2 (l : Launch) (g : GT) (hX : ∀ U, gX g U → SX g U) (N : Nat) (x0 : Nat) (x1 : Nat) (w : Wd) (r : Unit) (w1 : Wd) (hF : FJ29_init_2 N g x0 x1 w = some (r, w1)) : kMt l g yJ29_init_2 (ws_ yJ29_init_2 cJ29_init_2 2 none) 3 300 w [.ref x0, .ref x1] none w1 := by
  refine kMt.ofV (lv := [some (.ref x0), some (.ref x1)]) (by decide) rfl (Nat.le_of_ble_eq_true rfl) rfl ?_
  intro X hl hin C
  unfold FJ29_init_2 at hF
  refine v_aload_n C dJ29_init_2_0 rfl rfl ?_
  refine c_callI C lk_J29_1 (fr2 := 2) (lo2 := 200) (As := []) (st := []) (fun r9_ w9_ h9_ => by rw [hl]; exact wJ28_init_t20 l g hX N x0 w r9_ w9_ h9_) (by decide) rfl rfl (Nat.le_of_ble_eq_true rfl) dJ29_init_2_1 hF (fun r1 u2 hF => ?_)
  refine v_aload_n C dJ29_init_2_4 rfl rfl ?_
  refine v_aload_n C dJ29_init_2_5 rfl rfl ?_
  refine v_putW C kc_J29 0 (Nat.le_of_ble_eq_true rfl) (kFl.p q1822) rfl rfl rfl dJ29_init_2_6 hF (fun u3 hF => ?_)
  exact c_vret C dJ29_init_2_9 hF
set_option maxHeartbeats 4000000 in
theorem wJ29_init (l : Launch) (g : GT) (hX : ∀ U, gX g U → SX g U) (N : Nat) (x0 : Nat) (x1 : Nat) (w : Wd) (r : Unit) (w1 : Wd) (hF : FJ29_init N g x0 x1 w = some (r, w1)) : kMt l g yJ29_init (ws_ yJ29_init cJ29_init 2 none) 4 400 w [.ref x0, .ref x1] none w1 := by
  refine kMt.ofV (lv := [some (.ref x0), some (.ref x1)]) (by decide) rfl (Nat.le_of_ble_eq_true rfl) rfl ?_
  intro X hl hin C
  unfold FJ29_init at hF
  refine v_aload_n C dJ29_init_0 rfl rfl ?_
  refine v_newW C kc_J18 q1811 q1637 q106 nw_J18 dJ29_init_1 hF (fun a1 u2 hF => ?_)
  refine v_dup C dJ29_init_4 rfl ?_
  refine v_aload_n C dJ29_init_5 rfl rfl ?_
  refine c_callI C lk_J29_19 (fr2 := 2) (lo2 := 200) (As := [.ref x1]) (st := [.ref a1, .ref x0]) (fun r9_ w9_ h9_ => by rw [hl]; exact wJ18_init_2 l g hX N a1 x1 u2 r9_ w9_ h9_) (by decide) rfl rfl (Nat.le_of_ble_eq_true rfl) dJ29_init_6 hF (fun r3 u4 hF => ?_)
  refine c_callI C lk_J29_16 (fr2 := 3) (lo2 := 300) (As := [.ref a1]) (st := []) (fun r9_ w9_ h9_ => by rw [hl]; exact wJ29_init_2 l g hX N x0 a1 u4 r9_ w9_ h9_) (by decide) rfl rfl (Nat.le_of_ble_eq_true rfl) dJ29_init_9 hF (fun r5 u6 hF => ?_)
  exact c_vret C dJ29_init_12 hF
set_option maxHeartbeats 4000000 in
theorem wJ29_add (l : Launch) (g : GT) (hX : ∀ U, gX g U → SX g U) (N : Nat) (x0 : Nat) (x1 : Nat) (w : Wd) (r : Int32) (w1 : Wd) (hF : FJ29_add N g x0 x1 w = some (r, w1)) : kMt l g yJ29_add (ws_ yJ29_add cJ29_add 2 (some .boolean)) 8 800 w [.ref x0, .ref x1] (some (.int r)) w1 := by
  refine kMt.ofV (lv := [some (.ref x0), some (.ref x1)]) (by decide) rfl (Nat.le_of_ble_eq_true rfl) rfl ?_
  intro X hl hin C
  unfold FJ29_add at hF
  refine v_aload_n C dJ29_add_0 rfl rfl ?_
  refine v_getR C kc_J29 0 (Nat.le_of_ble_eq_true rfl) (kFl.p q1822) dJ29_add_1 hF (fun v1 hF => ?_)
  refine v_aload_n C dJ29_add_4 rfl rfl ?_
  refine v_gets C ((hX _ C.2.2.2.2.2.1.2.2.1).1 _ (List.mem_of_getElem? (i := 7) rfl)) q1975 (Or.inl rfl) dJ29_add_5 ?_
  obtain ⟨h4, hF⟩ := k_ite hF
  refine v_navput C hX h4 (fr2 := 7) (lo2 := 700) (st := []) (fun r9_ w9_ h9_ => by rw [hl]; exact wJ18_put l g hX N v1 x1 (gT g 6) w r9_ w9_ h9_) (by decide) (Nat.le_of_ble_eq_true rfl) dJ29_add_8 hF (fun r2 u3 hF => ?_)
  rcases r2 with _ | a5
  · have hF := k_mn0 hF
    show kV _ _ _ _ 13 [some (.ref x0), some (.ref x1)] [.null]
    refine v_ifnonnullN C dJ29_add_13 ?_
    refine v_iconst C (v := (1 : Int32)) dJ29_add_16 (by decide) ?_
    refine v_goto C (tgt := 21) dJ29_add_17 (by decide) ?_
    exact c_zret C rfl dJ29_add_21 hF
  · have hF := k_mn1 hF
    show kV _ _ _ _ 13 [some (.ref x0), some (.ref x1)] [.ref a5]
    refine v_ifnonnull C (tgt := 20) dJ29_add_13 (by decide) ?_
    refine v_iconst C (v := (0 : Int32)) dJ29_add_20 (by decide) ?_
    exact c_zret C rfl dJ29_add_21 hF
set_option maxHeartbeats 4000000 in
theorem wJ29_iterator (l : Launch) (g : GT) (hX : ∀ U, gX g U → SX g U) (N : Nat) (x0 : Nat) (w : Wd) (r : Nat) (w1 : Wd) (hF : FJ29_iterator N g x0 w = some (r, w1)) : kMt l g yJ29_iterator (ws_ yJ29_iterator cJ29_iterator 1 (some (.object "java/util/Iterator"))) 5 500 w [.ref x0] (some (.ref r)) w1 := by
  refine kMt.ofV (lv := [some (.ref x0)]) (by decide) rfl (Nat.le_of_ble_eq_true rfl) rfl ?_
  intro X hl hin C
  unfold FJ29_iterator at hF
  refine v_aload_n C dJ29_iterator_0 rfl rfl ?_
  refine v_getR C kc_J29 0 (Nat.le_of_ble_eq_true rfl) (kFl.p q1822) dJ29_iterator_1 hF (fun v1 hF => ?_)
  obtain ⟨h4, hF⟩ := k_ite hF
  refine c_callFq C lk_J29_34_J18_navigableKeySet ((hX _ C.2.2.2.2.2.1.2.2.1).2.2.1 _ (List.mem_of_getElem? (i := 12) rfl)) (C.2.2.2.2.2.1.1.1 15 _ rfl).2 (kRc.of C (ci := 15) rfl h4) (fr2 := 4) (lo2 := 400) (As := []) (st := []) (fun r9_ w9_ h9_ => by rw [hl]; exact wJ18_navigableKeySet l g hX N v1 w r9_ w9_ h9_) (by decide) rfl rfl (Nat.le_of_ble_eq_true rfl) dJ29_iterator_4 hF (fun r2 u3 hF => ?_)
  rcases r2 with _ | a5
  · exact (k_ob0 hF).elim
  have hF := k_ob1 hF
  show kV _ _ _ _ 9 [some (.ref x0)] [.ref a5]
  obtain ⟨h8, hF⟩ := k_ite hF
  refine c_callFr C lk_J29_40_J35_iterator ((hX _ C.2.2.2.2.2.1.2.2.1).2.2.1 _ (List.mem_of_getElem? (i := 13) rfl)) (C.2.2.2.2.2.1.1.1 21 _ rfl).2 (kRc.of C (ci := 21) rfl h8) (fr2 := 4) (lo2 := 400) (As := []) (st := []) (fun r9_ w9_ h9_ => by rw [hl]; exact wJ35_iterator l g hX N a5 u3 r9_ w9_ h9_) (by decide) rfl rfl (Nat.le_of_ble_eq_true rfl) dJ29_iterator_9 hF (fun r6 u7 hF => ?_)
  exact c_aret C (Or.inl ⟨_, rfl⟩) dJ29_iterator_14 hF
