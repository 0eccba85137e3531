set_option maxRecDepth 100000
set_option maxHeartbeats 4000000 in
theorem wX0_isAgainBy_b2 {l : Launch} {g : GT} {X : CxT} {r : Int32} {w1 : Wd} (C : kOk g X cX0_isAgainBy 3 RX0 (some .boolean) 4 400 (some (.int r)) w1) (hX : ∀ U, gX g U → SX g U) (hl : xl X = l) (hin : kHin X yX0_isAgainBy) (N : Nat) (k2 : Nat × Int32 × Int32 × Wd → Option (Int32 × Wd)) (hk2 : ∀ a, k2 a = some (r, w1) → kV g X 3 a.2.2.2 2 [some (.ref a.1), some (.int a.2.1), some (.int a.2.2.1)] []) (x0 : Nat) (x1 : Int32) (x2 : Int32) (w : Wd) (hF : FX0_isAgainBy_b2 N g k2 x0 x1 x2 w = some (r, w1)) : kV g X 3 w 2 [some (.ref x0), some (.int x1), some (.int x2)] [] := by
  unfold FX0_isAgainBy_b2 at hF
  refine v_iload_n C dX0_isAgainBy_2 rfl rfl ?_
  refine v_iload_n C dX0_isAgainBy_3 rfl rfl ?_
  refine v_iadd C dX0_isAgainBy_4 ?_
  refine v_aload_n C dX0_isAgainBy_5 rfl rfl ?_
  refine v_getR C kc_X0 1 (Nat.le_of_ble_eq_true rfl) (kFl.p q199) dX0_isAgainBy_6 hF (fun v1 hF => ?_)
  obtain ⟨h4, hF⟩ := k_ite hF
  refine c_callVi C lk_X0_86 (ci := 11) rfl h4 (fr2 := 1) (lo2 := 100) (As := []) (st := [.int (x2 + x1)]) (fun r9_ w9_ h9_ => by rw [hl]; exact wJ2_size l g hX N v1 w r9_ w9_ h9_) (by decide) rfl rfl (Nat.le_of_ble_eq_true rfl) dX0_isAgainBy_9 hF (fun r2 u3 hF => ?_)
  refine v_icmp_ge C (tgt := 53) dX0_isAgainBy_12 (by decide) hF (fun c5 hF => ?_) (fun c5 hF => ?_)
  · refine v_iconst C (v := (1 : Int32)) dX0_isAgainBy_53 (by decide) ?_
    exact c_zret C rfl dX0_isAgainBy_54 hF
  · refine v_aload_n C dX0_isAgainBy_15 rfl rfl ?_
    refine v_getR C kc_X0 1 (Nat.le_of_ble_eq_true rfl) (kFl.p q199) dX0_isAgainBy_16 hF (fun v6 hF => ?_)
    refine v_iload_n C dX0_isAgainBy_19 rfl rfl ?_
    obtain ⟨h9, hF⟩ := k_ite hF
    refine c_callVr C lk_X0_121 (ci := 11) rfl h9 (fr2 := 3) (lo2 := 300) (As := [.int x2]) (st := []) (fun r9_ w9_ h9_ => by rw [hl]; exact wJ2_get l g hX N v6 x2 u3 r9_ w9_ h9_) (by decide) rfl rfl (Nat.le_of_ble_eq_true rfl) dX0_isAgainBy_20 hF (fun r7 u8 hF => ?_)
    refine v_castI C (ci := 3) rfl q811 dX0_isAgainBy_23 hF (fun hF => ?_)
    refine v_aload_n C dX0_isAgainBy_26 rfl rfl ?_
    refine v_getR C kc_X0 1 (Nat.le_of_ble_eq_true rfl) (kFl.p q199) dX0_isAgainBy_27 hF (fun v10 hF => ?_)
    refine v_iload_n C dX0_isAgainBy_30 rfl rfl ?_
    refine v_iload_n C dX0_isAgainBy_31 rfl rfl ?_
    refine v_iadd C dX0_isAgainBy_32 ?_
    obtain ⟨h13, hF⟩ := k_ite hF
    refine c_callVr C lk_X0_121 (ci := 11) rfl h13 (fr2 := 3) (lo2 := 300) (As := [.int (x2 + x1)]) (st := [.ref r7]) (fun r9_ w9_ h9_ => by rw [hl]; exact wJ2_get l g hX N v10 (x2 + x1) u8 r9_ w9_ h9_) (by decide) rfl rfl (Nat.le_of_ble_eq_true rfl) dX0_isAgainBy_33 hF (fun r11 u12 hF => ?_)
    refine v_castI C (ci := 3) rfl q811 dX0_isAgainBy_36 hF (fun hF => ?_)
    obtain ⟨h16, hF⟩ := k_ite hF
    refine c_callVi C lk_X0_356 (ci := 3) rfl h16 (fr2 := 3) (lo2 := 300) (As := [.ref r11]) (st := []) (fun r9_ w9_ h9_ => by rw [hl]; exact wX9_isLike l g hX N r7 r11 u12 r9_ w9_ h9_) (by decide) rfl rfl (Nat.le_of_ble_eq_true rfl) dX0_isAgainBy_39 hF (fun r14 u15 hF => ?_)
    refine v_if_ne C (tgt := 47) dX0_isAgainBy_42 (by decide) hF (fun c17 hF => ?_) (fun c17 hF => ?_)
    · refine v_iconst C (v := (0 : Int32)) dX0_isAgainBy_45 (by decide) ?_
      exact c_zret C rfl dX0_isAgainBy_46 hF
    · refine v_iinc C dX0_isAgainBy_47 rfl (v := (x2 + (1 : Int32))) rfl (Nat.le_of_ble_eq_true rfl) rfl (lv' := [some (.ref x0), some (.int x1), some (.int (x2 + (1 : Int32)))]) rfl ?_
      refine v_goto C (tgt := 2) dX0_isAgainBy_50 (by decide) ?_
      refine v_mask [true, true, true] (lv' := [some (.ref x0), some (.int x1), some (.int (x2 + (1 : Int32)))]) rfl ?_
      exact hk2 (x0, x1, (x2 + (1 : Int32)), u15) hF
set_option maxHeartbeats 4000000 in
theorem wX0_isAgainBy (l : Launch) (g : GT) (hX : ∀ U, gX g U → SX g U) (N : Nat) (x0 : Nat) (x1 : Int32) (w : Wd) (r : Int32) (w1 : Wd) (hF : FX0_isAgainBy N g x0 x1 w = some (r, w1)) : kMt l g yX0_isAgainBy (ws_ yX0_isAgainBy cX0_isAgainBy 3 (some .boolean)) 4 400 w [.ref x0, .int x1] (some (.int r)) w1 := by
  refine kMt.ofV (lv := [some (.ref x0), some (.int x1), none]) (by decide) rfl (Nat.le_of_ble_eq_true rfl) rfl ?_
  intro X hl hin C
  unfold FX0_isAgainBy at hF
  refine v_iconst C (v := (0 : Int32)) dX0_isAgainBy_0 (by decide) ?_
  refine v_istore_n C dX0_isAgainBy_1 rfl (Nat.le_of_ble_eq_true rfl) rfl (lv' := [some (.ref x0), some (.int x1), some (.int (0 : Int32))]) rfl ?_
  refine v_mask [true, true, true] (lv' := [some (.ref x0), some (.int x1), some (.int (0 : Int32))]) rfl ?_
  exact kloop_ok (P := fun a => kV g X 3 a.2.2.2 2 [some (.ref a.1), some (.int a.2.1), some (.int a.2.2.1)] []) (fun self hs a hF => wX0_isAgainBy_b2 C hX hl hin N self hs a.1 a.2.1 a.2.2.1 a.2.2.2 hF) N (x0, x1, (0 : Int32), w) hF
set_option maxHeartbeats 4000000 in
theorem wX0_period_b2 {l : Launch} {g : GT} {X : CxT} {r : Int32} {w1 : Wd} (C : kOk g X cX0_period 2 RX0 (some .int) 5 500 (some (.int r)) w1) (hX : ∀ U, gX g U → SX g U) (hl : xl X = l) (hin : kHin X yX0_period) (N : Nat) (k2 : Nat × Int32 × Wd → Option (Int32 × Wd)) (hk2 : ∀ a, k2 a = some (r, w1) → kV g X 2 a.2.2 2 [some (.ref a.1), some (.int a.2.1)] []) (x0 : Nat) (x1 : Int32) (w : Wd) (hF : FX0_period_b2 N g k2 x0 x1 w = some (r, w1)) : kV g X 2 w 2 [some (.ref x0), some (.int x1)] [] := by
  unfold FX0_period_b2 at hF
  refine v_iload_n C dX0_period_2 rfl rfl ?_
  refine v_aload_n C dX0_period_3 rfl rfl ?_
  refine v_getR C kc_X0 1 (Nat.le_of_ble_eq_true rfl) (kFl.p q199) dX0_period_4 hF (fun v1 hF => ?_)
  obtain ⟨h4, hF⟩ := k_ite hF
  refine c_callVi C lk_X0_86 (ci := 11) rfl h4 (fr2 := 1) (lo2 := 100) (As := []) (st := [.int x1]) (fun r9_ w9_ h9_ => by rw [hl]; exact wJ2_size l g hX N v1 w r9_ w9_ h9_) (by decide) rfl rfl (Nat.le_of_ble_eq_true rfl) dX0_period_7 hF (fun r2 u3 hF => ?_)
  refine v_icmp_ge C (tgt := 29) dX0_period_10 (by decide) hF (fun c5 hF => ?_) (fun c5 hF => ?_)
  · refine v_bipush C (v := (-5 : Int32)) dX0_period_29 (by decide) ?_
    exact c_iret C dX0_period_31 hF
  · refine v_aload_n C dX0_period_13 rfl rfl ?_
    refine v_iload_n C dX0_period_14 rfl rfl ?_
    obtain ⟨h8, hF⟩ := k_ite hF
    refine c_callVi C lk_X0_360 (ci := 1) rfl h8 (fr2 := 4) (lo2 := 400) (As := [.int x1]) (st := []) (fun r9_ w9_ h9_ => by rw [hl]; exact wX0_isAgainBy l g hX N x0 x1 u3 r9_ w9_ h9_) (by decide) rfl rfl (Nat.le_of_ble_eq_true rfl) dX0_period_15 hF (fun r6 u7 hF => ?_)
    refine v_if_eq C (tgt := 23) dX0_period_18 (by decide) hF (fun c9 hF => ?_) (fun c9 hF => ?_)
    · refine v_iinc C dX0_period_23 rfl (v := (x1 + (1 : Int32))) rfl (Nat.le_of_ble_eq_true rfl) rfl (lv' := [some (.ref x0), some (.int (x1 + (1 : Int32)))]) rfl ?_
      refine v_goto C (tgt := 2) dX0_period_26 (by decide) ?_
      refine v_mask [true, true] (lv' := [some (.ref x0), some (.int (x1 + (1 : Int32)))]) rfl ?_
      exact hk2 (x0, (x1 + (1 : Int32)), u7) hF
    · refine v_iload_n C dX0_period_21 rfl rfl ?_
      exact c_iret C dX0_period_22 hF
set_option maxHeartbeats 4000000 in
theorem wX0_period (l : Launch) (g : GT) (hX : ∀ U, gX g U → SX g U) (N : Nat) (x0 : Nat) (w : Wd) (r : Int32) (w1 : Wd) (hF : FX0_period N g x0 w = some (r, w1)) : kMt l g yX0_period (ws_ yX0_period cX0_period 2 (some .int)) 5 500 w [.ref x0] (some (.int r)) w1 := by
  refine kMt.ofV (lv := [some (.ref x0), none]) (by decide) rfl (Nat.le_of_ble_eq_true rfl) rfl ?_
  intro X hl hin C
  unfold FX0_period at hF
  refine v_iconst C (v := (1 : Int32)) dX0_period_0 (by decide) ?_
  refine v_istore_n C dX0_period_1 rfl (Nat.le_of_ble_eq_true rfl) rfl (lv' := [some (.ref x0), some (.int (1 : Int32))]) rfl ?_
  refine v_mask [true, true] (lv' := [some (.ref x0), some (.int (1 : Int32))]) rfl ?_
  exact kloop_ok (P := fun a => kV g X 2 a.2.2 2 [some (.ref a.1), some (.int a.2.1)] []) (fun self hs a hF => wX0_period_b2 C hX hl hin N self hs a.1 a.2.1 a.2.2 hF) N (x0, (1 : Int32), w) hF
set_option maxHeartbeats 4000000 in
theorem wX0_mirrors_b42 {l : Launch} {g : GT} {X : CxT} {r : Int32} {w1 : Wd} (C : kOk g X cX0_mirrors 4 RX0 (some .int) 3 300 (some (.int r)) w1) (hX : ∀ U, gX g U → SX g U) (hl : xl X = l) (hin : kHin X yX0_mirrors) (N : Nat) (k10 : Int32 × Nat × Wd → Option (Int32 × Wd)) (hk10 : ∀ a, k10 a = some (r, w1) → kV g X 4 a.2.2 10 [none, some (.int a.1), some (.ref a.2.1), none] []) (x2 : Nat) (t0 : Int32) (t1 : Int32) (w : Wd) (hF : FX0_mirrors_b42 N g k10 x2 t0 t1 w = some (r, w1)) : kV g X 4 w 42 [none, none, some (.ref x2), none] [.int t0, .int t1] := by
  unfold FX0_mirrors_b42 at hF
  refine v_iadd C dX0_mirrors_42 ?_
  refine v_istore_n C dX0_mirrors_43 rfl (Nat.le_of_ble_eq_true rfl) rfl (lv' := [none, some (.int (t1 + t0)), some (.ref x2), none]) rfl ?_
  refine v_goto C (tgt := 10) dX0_mirrors_44 (by decide) ?_
  refine v_mask [false, true, true, false] (lv' := [none, some (.int (t1 + t0)), some (.ref x2), none]) rfl ?_
  exact hk10 ((t1 + t0), x2, w) hF
set_option maxHeartbeats 4000000 in
theorem wX0_mirrors_b10 {l : Launch} {g : GT} {X : CxT} {r : Int32} {w1 : Wd} (C : kOk g X cX0_mirrors 4 RX0 (some .int) 3 300 (some (.int r)) w1) (hX : ∀ U, gX g U → SX g U) (hl : xl X = l) (hin : kHin X yX0_mirrors) (N : Nat) (k10 : Int32 × Nat × Wd → Option (Int32 × Wd)) (hk10 : ∀ a, k10 a = some (r, w1) → kV g X 4 a.2.2 10 [none, some (.int a.1), some (.ref a.2.1), none] []) (x1 : Int32) (x2 : Nat) (w : Wd) (hF : FX0_mirrors_b10 N g k10 x1 x2 w = some (r, w1)) : kV g X 4 w 10 [none, some (.int x1), some (.ref x2), none] [] := by
  unfold FX0_mirrors_b10 at hF
  refine v_aload_n C dX0_mirrors_10 rfl rfl ?_
  obtain ⟨h7, hF⟩ := k_ite hF
  refine c_callFi C lk_X0_101_J15_hasNext ((hX _ C.2.2.2.2.2.1.2.2.1).2.2.1 _ (List.mem_of_getElem? (i := 0) rfl)) (C.2.2.2.2.2.1.1.1 12 _ rfl).2 (kRc.of C (ci := 12) rfl h7) (fr2 := 1) (lo2 := 100) (As := []) (st := []) (fun r9_ w9_ h9_ => by rw [hl]; exact wJ15_hasNext l g hX N x2 w r9_ w9_ h9_) (by decide) rfl rfl (Nat.le_of_ble_eq_true rfl) dX0_mirrors_11 hF (fun r5 u6 hF => ?_)
  refine v_if_eq C (tgt := 47) dX0_mirrors_16 (by decide) hF (fun c8 hF => ?_) (fun c8 hF => ?_)
  · refine v_iload_n C dX0_mirrors_47 rfl rfl ?_
    exact c_iret C dX0_mirrors_48 hF
  · refine v_aload_n C dX0_mirrors_19 rfl rfl ?_
    obtain ⟨h11, hF⟩ := k_ite hF
    refine c_callFr C lk_X0_107_J15_next ((hX _ C.2.2.2.2.2.1.2.2.1).2.2.1 _ (List.mem_of_getElem? (i := 1) rfl)) (C.2.2.2.2.2.1.1.1 12 _ rfl).2 (kRc.of C (ci := 12) rfl h11) (fr2 := 2) (lo2 := 200) (As := []) (st := []) (fun r9_ w9_ h9_ => by rw [hl]; exact wJ15_next l g hX N x2 u6 r9_ w9_ h9_) (by decide) rfl rfl (Nat.le_of_ble_eq_true rfl) dX0_mirrors_20 hF (fun r9 u10 hF => ?_)
    refine v_castI C (ci := 3) rfl q811 dX0_mirrors_25 hF (fun hF => ?_)
    refine v_astore_n C dX0_mirrors_28 rfl (Nat.le_of_ble_eq_true rfl) rfl (lv' := [none, some (.int x1), some (.ref x2), some (.ref r9)]) rfl ?_
    refine v_iload_n C dX0_mirrors_29 rfl rfl ?_
    refine v_aload_n C dX0_mirrors_30 rfl rfl ?_
    obtain ⟨h14, hF⟩ := k_ite hF
    refine c_callVi C lk_X0_363 (ci := 3) rfl h14 (fr2 := 2) (lo2 := 200) (As := []) (st := [.int x1]) (fun r9_ w9_ h9_ => by rw [hl]; exact wX9_isMirror l g hX N r9 u10 r9_ w9_ h9_) (by decide) rfl rfl (Nat.le_of_ble_eq_true rfl) dX0_mirrors_31 hF (fun r12 u13 hF => ?_)
    refine v_if_eq C (tgt := 41) dX0_mirrors_34 (by decide) hF (fun c15 hF => ?_) (fun c15 hF => ?_)
    · refine v_iconst C (v := (0 : Int32)) dX0_mirrors_41 (by decide) ?_
      refine v_mask [false, false, true, false] (lv' := [none, none, some (.ref x2), none]) rfl ?_
      exact wX0_mirrors_b42 C hX hl hin N k10 hk10 (x2) ((0 : Int32)) (x1) u13 hF
    · refine v_iconst C (v := (1 : Int32)) dX0_mirrors_37 (by decide) ?_
      refine v_goto C (tgt := 42) dX0_mirrors_38 (by decide) ?_
      refine v_mask [false, false, true, false] (lv' := [none, none, some (.ref x2), none]) rfl ?_
      exact wX0_mirrors_b42 C hX hl hin N k10 hk10 (x2) ((1 : Int32)) (x1) u13 hF
set_option maxHeartbeats 4000000 in
theorem wX0_mirrors (l : Launch) (g : GT) (hX : ∀ U, gX g U → SX g U) (N : Nat) (x0 : Nat) (w : Wd) (r : Int32) (w1 : Wd) (hF : FX0_mirrors N g x0 w = some (r, w1)) : kMt l g yX0_mirrors (ws_ yX0_mirrors cX0_mirrors 4 (some .int)) 3 300 w [.ref x0] (some (.int r)) w1 := by
  refine kMt.ofV (lv := [some (.ref x0), none, none, none]) (by decide) rfl (Nat.le_of_ble_eq_true rfl) rfl ?_
  intro X hl hin C
  unfold FX0_mirrors at hF
  refine v_iconst C (v := (0 : Int32)) dX0_mirrors_0 (by decide) ?_
  refine v_istore_n C dX0_mirrors_1 rfl (Nat.le_of_ble_eq_true rfl) rfl (lv' := [some (.ref x0), some (.int (0 : Int32)), none, none]) rfl ?_
  refine v_aload_n C dX0_mirrors_2 rfl rfl ?_
  refine v_getR C kc_X0 1 (Nat.le_of_ble_eq_true rfl) (kFl.p q199) dX0_mirrors_3 hF (fun v1 hF => ?_)
  obtain ⟨h4, hF⟩ := k_ite hF
  refine c_callVr C lk_X0_97 (ci := 11) rfl h4 (fr2 := 2) (lo2 := 200) (As := []) (st := []) (fun r9_ w9_ h9_ => by rw [hl]; exact wJ2_iterator l g hX N v1 w r9_ w9_ h9_) (by decide) rfl rfl (Nat.le_of_ble_eq_true rfl) dX0_mirrors_6 hF (fun r2 u3 hF => ?_)
  refine v_astore_n C dX0_mirrors_9 rfl (Nat.le_of_ble_eq_true rfl) rfl (lv' := [some (.ref x0), some (.int (0 : Int32)), some (.ref r2), none]) rfl ?_
  refine v_mask [false, true, true, false] (lv' := [none, some (.int (0 : Int32)), some (.ref r2), none]) rfl ?_
  exact kloop_ok (P := fun a => kV g X 4 a.2.2 10 [none, some (.int a.1), some (.ref a.2.1), none] []) (fun self hs a hF => wX0_mirrors_b10 C hX hl hin N self hs a.1 a.2.1 a.2.2 hF) N ((0 : Int32), r2, u3) hF
set_option maxHeartbeats 4000000 in
theorem wX0_runOf_b55 {l : Launch} {g : GT} {X : CxT} {r : Int32} {w1 : Wd} (C : kOk g X cX0_runOf 7 RX0 (some .int) 3 300 (some (.int r)) w1) (hX : ∀ U, gX g U → SX g U) (hl : xl X = l) (hin : kHin X yX0_runOf) (N : Nat) (k14 : Int32 × Int32 × Int32 × Int32 × Nat × Wd → Option (Int32 × Wd)) (hk14 : ∀ a, k14 a = some (r, w1) → kV g X 7 a.2.2.2.2.2 14 [none, some (.int a.1), some (.int a.2.1), some (.int a.2.2.1), some (.int a.2.2.2.1), some (.ref a.2.2.2.2.1), none] []) (x1 : Int32) (x2 : Int32) (x3 : Int32) (x5 : Nat) (t0 : Int32) (w : Wd) (hF : FX0_runOf_b55 N g k14 x1 x2 x3 x5 t0 w = some (r, w1)) : kV g X 7 w 55 [none, some (.int x1), some (.int x2), some (.int x3), none, some (.ref x5), none] [.int t0] := by
  unfold FX0_runOf_b55 at hF
  refine v_istore C dX0_runOf_55 (Nat.le_of_ble_eq_true rfl) rfl (lv' := [none, some (.int x1), some (.int x2), some (.int x3), some (.int t0), some (.ref x5), none]) rfl ?_
  refine v_iload_n C dX0_runOf_57 rfl rfl ?_
  refine v_iload C dX0_runOf_58 rfl ?_
  refine v_mmax C q812 (by decide) (Nat.le_of_ble_eq_true rfl) dX0_runOf_60 ?_
  refine v_istore_n C dX0_runOf_63 rfl (Nat.le_of_ble_eq_true rfl) rfl (lv' := [none, some (.int x1), some (.int x2), some (.int (kmax x3 t0)), some (.int t0), some (.ref x5), none]) rfl ?_
  refine v_goto C (tgt := 14) dX0_runOf_64 (by decide) ?_
  refine v_mask [false, true, true, true, true, true, false] (lv' := [none, some (.int x1), some (.int x2), some (.int (kmax x3 t0)), some (.int t0), some (.ref x5), none]) rfl ?_
  exact hk14 (x1, x2, (kmax x3 t0), t0, x5, w) hF
set_option maxHeartbeats 4000000 in
theorem wX0_runOf_b14 {l : Launch} {g : GT} {X : CxT} {r : Int32} {w1 : Wd} (C : kOk g X cX0_runOf 7 RX0 (some .int) 3 300 (some (.int r)) w1) (hX : ∀ U, gX g U → SX g U) (hl : xl X = l) (hin : kHin X yX0_runOf) (N : Nat) (k14 : Int32 × Int32 × Int32 × Int32 × Nat × Wd → Option (Int32 × Wd)) (hk14 : ∀ a, k14 a = some (r, w1) → kV g X 7 a.2.2.2.2.2 14 [none, some (.int a.1), some (.int a.2.1), some (.int a.2.2.1), some (.int a.2.2.2.1), some (.ref a.2.2.2.2.1), none] []) (x1 : Int32) (x2 : Int32) (x3 : Int32) (x4 : Int32) (x5 : Nat) (w : Wd) (hF : FX0_runOf_b14 N g k14 x1 x2 x3 x4 x5 w = some (r, w1)) : kV g X 7 w 14 [none, some (.int x1), some (.int x2), some (.int x3), some (.int x4), some (.ref x5), none] [] := by
  unfold FX0_runOf_b14 at hF
  refine v_aload C dX0_runOf_14 rfl ?_
  obtain ⟨h7, hF⟩ := k_ite hF
  refine c_callFi C lk_X0_101_J15_hasNext ((hX _ C.2.2.2.2.2.1.2.2.1).2.2.1 _ (List.mem_of_getElem? (i := 0) rfl)) (C.2.2.2.2.2.1.1.1 12 _ rfl).2 (kRc.of C (ci := 12) rfl h7) (fr2 := 1) (lo2 := 100) (As := []) (st := []) (fun r9_ w9_ h9_ => by rw [hl]; exact wJ15_hasNext l g hX N x5 w r9_ w9_ h9_) (by decide) rfl rfl (Nat.le_of_ble_eq_true rfl) dX0_runOf_16 hF (fun r5 u6 hF => ?_)
  refine v_if_eq C (tgt := 67) dX0_runOf_21 (by decide) hF (fun c8 hF => ?_) (fun c8 hF => ?_)
  · refine v_iload_n C dX0_runOf_67 rfl rfl ?_
    exact c_iret C dX0_runOf_68 hF
  · refine v_aload C dX0_runOf_24 rfl ?_
    obtain ⟨h11, hF⟩ := k_ite hF
    refine c_callFr C lk_X0_107_J15_next ((hX _ C.2.2.2.2.2.1.2.2.1).2.2.1 _ (List.mem_of_getElem? (i := 1) rfl)) (C.2.2.2.2.2.1.1.1 12 _ rfl).2 (kRc.of C (ci := 12) rfl h11) (fr2 := 2) (lo2 := 200) (As := []) (st := []) (fun r9_ w9_ h9_ => by rw [hl]; exact wJ15_next l g hX N x5 u6 r9_ w9_ h9_) (by decide) rfl rfl (Nat.le_of_ble_eq_true rfl) dX0_runOf_26 hF (fun r9 u10 hF => ?_)
    refine v_castI C (ci := 3) rfl q811 dX0_runOf_31 hF (fun hF => ?_)
    refine v_astore C dX0_runOf_34 (Nat.le_of_ble_eq_true rfl) rfl (lv' := [none, some (.int x1), some (.int x2), some (.int x3), some (.int x4), some (.ref x5), some (.ref r9)]) rfl ?_
    refine v_aload C dX0_runOf_36 rfl ?_
    refine v_getR C kc_X9 0 (Nat.le_of_ble_eq_true rfl) (kFl.n q978) dX0_runOf_38 hF (fun v12 hF => ?_)
    refine v_iload_n C dX0_runOf_41 rfl rfl ?_
    refine v_aIi C dX0_runOf_42 hF (fun v13 hF => ?_)
    refine v_iload_n C dX0_runOf_43 rfl rfl ?_
    refine v_icmp_ne C (tgt := 54) dX0_runOf_44 (by decide) hF (fun c14 hF => ?_) (fun c14 hF => ?_)
    · refine v_iload C dX0_runOf_47 rfl ?_
      refine v_iconst C (v := (1 : Int32)) dX0_runOf_49 (by decide) ?_
      refine v_iadd C dX0_runOf_50 ?_
      refine v_goto C (tgt := 55) dX0_runOf_51 (by decide) ?_
      refine v_mask [false, true, true, true, false, true, false] (lv' := [none, some (.int x1), some (.int x2), some (.int x3), none, some (.ref x5), none]) rfl ?_
      exact wX0_runOf_b55 C hX hl hin N k14 hk14 (x1) (x2) (x3) (x5) ((x4 + (1 : Int32))) u10 hF
    · refine v_iconst C (v := (0 : Int32)) dX0_runOf_54 (by decide) ?_
      refine v_mask [false, true, true, true, false, true, false] (lv' := [none, some (.int x1), some (.int x2), some (.int x3), none, some (.ref x5), none]) rfl ?_
      exact wX0_runOf_b55 C hX hl hin N k14 hk14 (x1) (x2) (x3) (x5) ((0 : Int32)) u10 hF
set_option maxHeartbeats 4000000 in
theorem wX0_runOf (l : Launch) (g : GT) (hX : ∀ U, gX g U → SX g U) (N : Nat) (x0 : Nat) (x1 : Int32) (x2 : Int32) (w : Wd) (r : Int32) (w1 : Wd) (hF : FX0_runOf N g x0 x1 x2 w = some (r, w1)) : kMt l g yX0_runOf (ws_ yX0_runOf cX0_runOf 7 (some .int)) 3 300 w [.ref x0, .int x1, .int x2] (some (.int r)) w1 := by
  refine kMt.ofV (lv := [some (.ref x0), some (.int x1), some (.int x2), none, none, none, none]) (by decide) rfl (Nat.le_of_ble_eq_true rfl) rfl ?_
  intro X hl hin C
  unfold FX0_runOf at hF
  refine v_iconst C (v := (0 : Int32)) dX0_runOf_0 (by decide) ?_
  refine v_istore_n C dX0_runOf_1 rfl (Nat.le_of_ble_eq_true rfl) rfl (lv' := [some (.ref x0), some (.int x1), some (.int x2), some (.int (0 : Int32)), none, none, none]) rfl ?_
  refine v_iconst C (v := (0 : Int32)) dX0_runOf_2 (by decide) ?_
  refine v_istore C dX0_runOf_3 (Nat.le_of_ble_eq_true rfl) rfl (lv' := [some (.ref x0), some (.int x1), some (.int x2), some (.int (0 : Int32)), some (.int (0 : Int32)), none, none]) rfl ?_
  refine v_aload_n C dX0_runOf_5 rfl rfl ?_
  refine v_getR C kc_X0 1 (Nat.le_of_ble_eq_true rfl) (kFl.p q199) dX0_runOf_6 hF (fun v1 hF => ?_)
  obtain ⟨h4, hF⟩ := k_ite hF
  refine c_callVr C lk_X0_97 (ci := 11) rfl h4 (fr2 := 2) (lo2 := 200) (As := []) (st := []) (fun r9_ w9_ h9_ => by rw [hl]; exact wJ2_iterator l g hX N v1 w r9_ w9_ h9_) (by decide) rfl rfl (Nat.le_of_ble_eq_true rfl) dX0_runOf_9 hF (fun r2 u3 hF => ?_)
  refine v_astore C dX0_runOf_12 (Nat.le_of_ble_eq_true rfl) rfl (lv' := [some (.ref x0), some (.int x1), some (.int x2), some (.int (0 : Int32)), some (.int (0 : Int32)), some (.ref r2), none]) rfl ?_
  refine v_mask [false, true, true, true, true, true, false] (lv' := [none, some (.int x1), some (.int x2), some (.int (0 : Int32)), some (.int (0 : Int32)), some (.ref r2), none]) rfl ?_
  exact kloop_ok (P := fun a => kV g X 7 a.2.2.2.2.2 14 [none, some (.int a.1), some (.int a.2.1), some (.int a.2.2.1), some (.int a.2.2.2.1), some (.ref a.2.2.2.2.1), none] []) (fun self hs a hF => wX0_runOf_b14 C hX hl hin N self hs a.1 a.2.1 a.2.2.1 a.2.2.2.1 a.2.2.2.2.1 a.2.2.2.2.2 hF) N (x1, x2, (0 : Int32), (0 : Int32), r2, u3) hF
set_option maxHeartbeats 4000000 in
theorem wX0_run_b14 {l : Launch} {g : GT} {X : CxT} {r : Int32} {w1 : Wd} (C : kOk g X cX0_run 4 RX0 (some .int) 4 400 (some (.int r)) w1) (hX : ∀ U, gX g U → SX g U) (hl : xl X = l) (hin : kHin X yX0_run) (N : Nat) (k14 : Nat × Int32 × Int32 × Int32 × Wd → Option (Int32 × Wd)) (hk14 : ∀ a, k14 a = some (r, w1) → kV g X 4 a.2.2.2.2 14 [some (.ref a.1), some (.int a.2.1), some (.int a.2.2.1), some (.int a.2.2.2.1)] []) (x0 : Nat) (x1 : Int32) (x2 : Int32) (x3 : Int32) (w : Wd) (hF : FX0_run_b14 N g k14 x0 x1 x2 x3 w = some (r, w1)) : kV g X 4 w 14 [some (.ref x0), some (.int x1), some (.int x2), some (.int x3)] [] := by
  unfold FX0_run_b14 at hF
  refine v_iload_n C dX0_run_14 rfl rfl ?_
  refine v_aload_n C dX0_run_15 rfl rfl ?_
  obtain ⟨h6, hF⟩ := k_ite hF
  refine c_callVi C lk_X0_90 (ci := 1) rfl h6 (fr2 := 2) (lo2 := 200) (As := []) (st := [.int x3]) (fun r9_ w9_ h9_ => by rw [hl]; exact wX0_many l g hX N x0 w r9_ w9_ h9_) (by decide) rfl rfl (Nat.le_of_ble_eq_true rfl) dX0_run_16 hF (fun r4 u5 hF => ?_)
  refine v_icmp_ge C (tgt := 39) dX0_run_19 (by decide) hF (fun c7 hF => ?_) (fun c7 hF => ?_)
  · refine v_iload_n C dX0_run_39 rfl rfl ?_
    exact c_iret C dX0_run_40 hF
  · refine v_iload_n C dX0_run_22 rfl rfl ?_
    refine v_aload_n C dX0_run_23 rfl rfl ?_
    refine v_iload_n C dX0_run_24 rfl rfl ?_
    refine v_iload_n C dX0_run_25 rfl rfl ?_
    obtain ⟨h10, hF⟩ := k_ite hF
    refine c_callVi C lk_X0_366 (ci := 1) rfl h10 (fr2 := 3) (lo2 := 300) (As := [.int x3, .int x1]) (st := [.int x2]) (fun r9_ w9_ h9_ => by rw [hl]; exact wX0_runOf l g hX N x0 x3 x1 u5 r9_ w9_ h9_) (by decide) rfl rfl (Nat.le_of_ble_eq_true rfl) dX0_run_26 hF (fun r8 u9 hF => ?_)
    refine v_mmax C q812 (by decide) (Nat.le_of_ble_eq_true rfl) dX0_run_29 ?_
    refine v_istore_n C dX0_run_32 rfl (Nat.le_of_ble_eq_true rfl) rfl (lv' := [some (.ref x0), some (.int x1), some (.int (kmax x2 r8)), some (.int x3)]) rfl ?_
    refine v_iinc C dX0_run_33 rfl (v := (x3 + (1 : Int32))) rfl (Nat.le_of_ble_eq_true rfl) rfl (lv' := [some (.ref x0), some (.int x1), some (.int (kmax x2 r8)), some (.int (x3 + (1 : Int32)))]) rfl ?_
    refine v_goto C (tgt := 14) dX0_run_36 (by decide) ?_
    refine v_mask [true, true, true, true] (lv' := [some (.ref x0), some (.int x1), some (.int (kmax x2 r8)), some (.int (x3 + (1 : Int32)))]) rfl ?_
    exact hk14 (x0, x1, (kmax x2 r8), (x3 + (1 : Int32)), u9) hF
set_option maxHeartbeats 4000000 in
theorem wX0_run (l : Launch) (g : GT) (hX : ∀ U, gX g U → SX g U) (N : Nat) (x0 : Nat) (x1 : Int32) (w : Wd) (r : Int32) (w1 : Wd) (hF : FX0_run N g x0 x1 w = some (r, w1)) : kMt l g yX0_run (ws_ yX0_run cX0_run 4 (some .int)) 4 400 w [.ref x0, .int x1] (some (.int r)) w1 := by
  refine kMt.ofV (lv := [some (.ref x0), some (.int x1), none, none]) (by decide) rfl (Nat.le_of_ble_eq_true rfl) rfl ?_
  intro X hl hin C
  unfold FX0_run at hF
  refine v_iload_n C dX0_run_0 rfl rfl ?_
  refine c_callSi C lk_X0_214 (fr2 := 2) (lo2 := 200) (As := [.int x1]) (st := []) (fun r9_ w9_ h9_ => by rw [hl]; exact wX0_isColour l g hX N x1 w r9_ w9_ h9_) (by decide) rfl rfl (Nat.le_of_ble_eq_true rfl) dX0_run_1 hF (fun r1 u2 hF => ?_)
  refine v_if_ne C (tgt := 10) dX0_run_4 (by decide) hF (fun c3 hF => ?_) (fun c3 hF => ?_)
  · refine v_bipush C (v := (-2 : Int32)) dX0_run_7 (by decide) ?_
    exact c_iret C dX0_run_9 hF
  · refine v_iconst C (v := (0 : Int32)) dX0_run_10 (by decide) ?_
    refine v_istore_n C dX0_run_11 rfl (Nat.le_of_ble_eq_true rfl) rfl (lv' := [some (.ref x0), some (.int x1), some (.int (0 : Int32)), none]) rfl ?_
    refine v_iconst C (v := (0 : Int32)) dX0_run_12 (by decide) ?_
    refine v_istore_n C dX0_run_13 rfl (Nat.le_of_ble_eq_true rfl) rfl (lv' := [some (.ref x0), some (.int x1), some (.int (0 : Int32)), some (.int (0 : Int32))]) rfl ?_
    refine v_mask [true, true, true, true] (lv' := [some (.ref x0), some (.int x1), some (.int (0 : Int32)), some (.int (0 : Int32))]) rfl ?_
    exact kloop_ok (P := fun a => kV g X 4 a.2.2.2.2 14 [some (.ref a.1), some (.int a.2.1), some (.int a.2.2.1), some (.int a.2.2.2.1)] []) (fun self hs a hF => wX0_run_b14 C hX hl hin N self hs a.1 a.2.1 a.2.2.1 a.2.2.2.1 a.2.2.2.2 hF) N (x0, x1, (0 : Int32), (0 : Int32), u2) hF
set_option maxHeartbeats 4000000 in
theorem wX0_coloursOf_b7 {l : Launch} {g : GT} {X : CxT} {r : Nat} {w1 : Wd} (C : kOk g X cX0_coloursOf 3 RX0 (some (.array (.object "CardLoom$Colour"))) 2 200 (some (.ref r)) w1) (hX : ∀ U, gX g U → SX g U) (hl : xl X = l) (hin : kHin X yX0_coloursOf) (N : Nat) (k7 : Int32 × Nat × Int32 × Wd → Option (Nat × Wd)) (hk7 : ∀ a, k7 a = some (r, w1) → kV g X 3 a.2.2.2 7 [some (.int a.1), some (.ref a.2.1), some (.int a.2.2.1)] []) (x0 : Int32) (x1 : Nat) (x2 : Int32) (w : Wd) (hF : FX0_coloursOf_b7 N g k7 x0 x1 x2 w = some (r, w1)) : kV g X 3 w 7 [some (.int x0), some (.ref x1), some (.int x2)] [] := by
  unfold FX0_coloursOf_b7 at hF
  refine v_iload_n C dX0_coloursOf_7 rfl rfl ?_
  refine v_iload_n C dX0_coloursOf_8 rfl rfl ?_
  refine v_icmp_ge C (tgt := 29) dX0_coloursOf_9 (by decide) hF (fun c3 hF => ?_) (fun c3 hF => ?_)
  · refine v_aload_n C dX0_coloursOf_29 rfl rfl ?_
    exact c_aret C (Or.inr ⟨_, rfl⟩) dX0_coloursOf_30 hF
  · refine v_aload_n C dX0_coloursOf_12 rfl rfl ?_
    refine v_iload_n C dX0_coloursOf_13 rfl rfl ?_
    refine v_newW C kc_X2 q182 q184 q84 nw_X2 dX0_coloursOf_14 hF (fun a4 u5 hF => ?_)
    refine v_dup C dX0_coloursOf_17 rfl ?_
    refine v_iload_n C dX0_coloursOf_18 rfl rfl ?_
    refine c_callI C lk_X0_371 (fr2 := 1) (lo2 := 100) (As := [.int x2]) (st := [.ref a4, .int x2, .ref x1]) (fun r9_ w9_ h9_ => by rw [hl]; exact wX2_init l g hX N a4 x2 u5 r9_ w9_ h9_) (by decide) rfl rfl (Nat.le_of_ble_eq_true rfl) dX0_coloursOf_19 hF (fun r6 u7 hF => ?_)
    obtain ⟨h9, hF⟩ := k_ite hF
    refine v_aSq C (t := 6) rfl (any_same C (ci := 9) rfl h9) dX0_coloursOf_22 hF (fun u8 hF => ?_)
    refine v_iinc C dX0_coloursOf_23 rfl (v := (x2 + (1 : Int32))) rfl (Nat.le_of_ble_eq_true rfl) rfl (lv' := [some (.int x0), some (.ref x1), some (.int (x2 + (1 : Int32)))]) rfl ?_
    refine v_goto C (tgt := 7) dX0_coloursOf_26 (by decide) ?_
    refine v_mask [true, true, true] (lv' := [some (.int x0), some (.ref x1), some (.int (x2 + (1 : Int32)))]) rfl ?_
    exact hk7 (x0, x1, (x2 + (1 : Int32)), u8) hF
set_option maxHeartbeats 4000000 in
theorem wX0_coloursOf (l : Launch) (g : GT) (hX : ∀ U, gX g U → SX g U) (N : Nat) (x0 : Int32) (w : Wd) (r : Nat) (w1 : Wd) (hF : FX0_coloursOf N g x0 w = some (r, w1)) : kMt l g yX0_coloursOf (ws_ yX0_coloursOf cX0_coloursOf 3 (some (.array (.object "CardLoom$Colour")))) 2 200 w [.int x0] (some (.ref r)) w1 := by
  refine kMt.ofV (lv := [some (.int x0), none, none]) (by decide) rfl (Nat.le_of_ble_eq_true rfl) rfl ?_
  intro X hl hin C
  unfold FX0_coloursOf at hF
  refine v_iload_n C dX0_coloursOf_0 rfl rfl ?_
  refine v_anew C (t := 6) rfl q182 ((hX _ C.2.2.2.2.2.1.2.2.1).2.1 _ (by decide)) dX0_coloursOf_1 hF (fun a1 u2 hF => ?_)
  refine v_astore_n C dX0_coloursOf_4 rfl (Nat.le_of_ble_eq_true rfl) rfl (lv' := [some (.int x0), some (.ref a1), none]) rfl ?_
  refine v_iconst C (v := (0 : Int32)) dX0_coloursOf_5 (by decide) ?_
  refine v_istore_n C dX0_coloursOf_6 rfl (Nat.le_of_ble_eq_true rfl) rfl (lv' := [some (.int x0), some (.ref a1), some (.int (0 : Int32))]) rfl ?_
  refine v_mask [true, true, true] (lv' := [some (.int x0), some (.ref a1), some (.int (0 : Int32))]) rfl ?_
  exact kloop_ok (P := fun a => kV g X 3 a.2.2.2 7 [some (.int a.1), some (.ref a.2.1), some (.int a.2.2.1)] []) (fun self hs a hF => wX0_coloursOf_b7 C hX hl hin N self hs a.1 a.2.1 a.2.2.1 a.2.2.2 hF) N (x0, a1, (0 : Int32), u2) hF
set_option maxHeartbeats 4000000 in
theorem wX0_often_b198 {l : Launch} {g : GT} {X : CxT} {r : Nat} {w1 : Wd} (C : kOk g X cX0_often 8 RX0 (some (.object "java/util/TreeMap")) 8 800 (some (.ref r)) w1) (hX : ∀ U, gX g U → SX g U) (hl : xl X = l) (hin : kHin X yX0_often) (N : Nat) (k165 : Nat × Nat × Nat × Wd → Option (Nat × Wd)) (hk165 : ∀ a, k165 a = some (r, w1) → kV g X 8 a.2.2.2 165 [some (.ref a.1), some (.ref a.2.1), some (.ref a.2.2.1), none, none, none, none, none] []) (k198 : Nat × Nat × Nat × Nat × Int32 × Int32 × Wd → Option (Nat × Wd)) (hk198 : ∀ a, k198 a = some (r, w1) → kV g X 8 a.2.2.2.2.2.2 198 [some (.ref a.1), some (.ref a.2.1), some (.ref a.2.2.1), none, some (.ref a.2.2.2.1), some (.int a.2.2.2.2.1), some (.int a.2.2.2.2.2.1), none] []) (x0 : Nat) (x1 : Nat) (x2 : Nat) (x4 : Nat) (x5 : Int32) (x6 : Int32) (w : Wd) (hF : FX0_often_b198 N g k165 k198 x0 x1 x2 x4 x5 x6 w = some (r, w1)) : kV g X 8 w 198 [some (.ref x0), some (.ref x1), some (.ref x2), none, some (.ref x4), some (.int x5), some (.int x6), none] [] := by
  unfold FX0_often_b198 at hF
  refine v_iload C dX0_often_198 rfl ?_
  refine v_iload C dX0_often_200 rfl ?_
  refine v_icmp_ge C (tgt := 241) dX0_often_202 (by decide) hF (fun c29 hF => ?_) (fun c29 hF => ?_)
  · refine v_goto C (tgt := 165) dX0_often_241 (by decide) ?_
    refine v_mask [true, true, true, false, false, false, false, false] (lv' := [some (.ref x0), some (.ref x1), some (.ref x2), none, none, none, none, none]) rfl ?_
    exact hk165 (x0, x1, x2, w) hF
  · refine v_aload C dX0_often_205 rfl ?_
    refine v_iload C dX0_often_207 rfl ?_
    refine v_aIi C dX0_often_209 hF (fun v30 hF => ?_)
    refine v_istore C dX0_often_210 (Nat.le_of_ble_eq_true rfl) rfl (lv' := [some (.ref x0), some (.ref x1), some (.ref x2), none, some (.ref x4), some (.int x5), some (.int x6), some (.int v30)]) rfl ?_
    refine v_aload_n C dX0_often_212 rfl rfl ?_
    refine v_aload_n C dX0_often_213 rfl rfl ?_
    refine v_getR C kc_X0 8 (Nat.le_of_ble_eq_true rfl) (kFl.p q210) dX0_often_214 hF (fun v31 hF => ?_)
    refine v_iload C dX0_often_217 rfl ?_
    refine v_aQl C (t := 6) rfl dX0_often_219 hF (fun v32 hF => ?_)
    rcases v32 with _ | a33
    · exact (k_ob0 hF).elim
    have hF := k_ob1 hF
    show kV _ _ _ _ 220 [some (.ref x0), some (.ref x1), some (.ref x2), none, some (.ref x4), some (.int x5), some (.int x6), some (.int v30)] [.ref a33, .ref x1]
    obtain ⟨h36, hF⟩ := k_ite hF
    refine c_callVq C lk_X0_384 (ci := 15) rfl h36 (fr2 := 4) (lo2 := 400) (As := [.ref a33]) (st := []) (fun r9_ w9_ h9_ => by rw [hl]; exact wJ18_get l g hX N x1 a33 w r9_ w9_ h9_) (by decide) rfl rfl (Nat.le_of_ble_eq_true rfl) dX0_often_220 hF (fun r34 u35 hF => ?_)
    rcases r34 with _ | a37
    · exact (k_ob0 hF).elim
    have hF := k_ob1 hF
    show kV _ _ _ _ 223 [some (.ref x0), some (.ref x1), some (.ref x2), none, some (.ref x4), some (.int x5), some (.int x6), some (.int v30)] [.ref a37]
    refine v_castI C (ci := 10) rfl q1672 dX0_often_223 hF (fun hF => ?_)
    refine v_dup C dX0_often_226 rfl ?_
    refine v_getI C kc_X12 3 (Nat.le_of_ble_eq_true rfl) (kFl.n q1685) dX0_often_227 hF (fun v38 hF => ?_)
    refine v_iconst C (v := (1 : Int32)) dX0_often_230 (by decide) ?_
    refine v_iadd C dX0_often_231 ?_
    refine v_putW C kc_X12 3 (Nat.le_of_ble_eq_true rfl) (kFl.n q1685) rfl rfl rfl dX0_often_232 hF (fun u39 hF => ?_)
    refine v_iinc C dX0_often_235 rfl (v := (x6 + (1 : Int32))) rfl (Nat.le_of_ble_eq_true rfl) rfl (lv' := [some (.ref x0), some (.ref x1), some (.ref x2), none, some (.ref x4), some (.int x5), some (.int (x6 + (1 : Int32))), some (.int v30)]) rfl ?_
    refine v_goto C (tgt := 198) dX0_often_238 (by decide) ?_
    refine v_mask [true, true, true, false, true, true, true, false] (lv' := [some (.ref x0), some (.ref x1), some (.ref x2), none, some (.ref x4), some (.int x5), some (.int (x6 + (1 : Int32))), none]) rfl ?_
    exact hk198 (x0, x1, x2, x4, x5, (x6 + (1 : Int32)), u39) hF
set_option maxHeartbeats 4000000 in
theorem wX0_often_b165 {l : Launch} {g : GT} {X : CxT} {r : Nat} {w1 : Wd} (C : kOk g X cX0_often 8 RX0 (some (.object "java/util/TreeMap")) 8 800 (some (.ref r)) w1) (hX : ∀ U, gX g U → SX g U) (hl : xl X = l) (hin : kHin X yX0_often) (N : Nat) (k165 : Nat × Nat × Nat × Wd → Option (Nat × Wd)) (hk165 : ∀ a, k165 a = some (r, w1) → kV g X 8 a.2.2.2 165 [some (.ref a.1), some (.ref a.2.1), some (.ref a.2.2.1), none, none, none, none, none] []) (x0 : Nat) (x1 : Nat) (x2 : Nat) (w : Wd) (hF : FX0_often_b165 N g k165 x0 x1 x2 w = some (r, w1)) : kV g X 8 w 165 [some (.ref x0), some (.ref x1), some (.ref x2), none, none, none, none, none] [] := by
  unfold FX0_often_b165 at hF
  refine v_aload_n C dX0_often_165 rfl rfl ?_
  obtain ⟨h22, hF⟩ := k_ite hF
  refine c_callFi C lk_X0_101_J15_hasNext ((hX _ C.2.2.2.2.2.1.2.2.1).2.2.1 _ (List.mem_of_getElem? (i := 0) rfl)) (C.2.2.2.2.2.1.1.1 12 _ rfl).2 (kRc.of C (ci := 12) rfl h22) (fr2 := 1) (lo2 := 100) (As := []) (st := []) (fun r9_ w9_ h9_ => by rw [hl]; exact wJ15_hasNext l g hX N x2 w r9_ w9_ h9_) (by decide) rfl rfl (Nat.le_of_ble_eq_true rfl) dX0_often_166 hF (fun r20 u21 hF => ?_)
  refine v_if_eq C (tgt := 244) dX0_often_171 (by decide) hF (fun c23 hF => ?_) (fun c23 hF => ?_)
  · refine v_aload_n C dX0_often_244 rfl rfl ?_
    exact c_aret C (Or.inl ⟨_, rfl⟩) dX0_often_245 hF
  · refine v_aload_n C dX0_often_174 rfl rfl ?_
    obtain ⟨h26, hF⟩ := k_ite hF
    refine c_callFr C lk_X0_107_J15_next ((hX _ C.2.2.2.2.2.1.2.2.1).2.2.1 _ (List.mem_of_getElem? (i := 1) rfl)) (C.2.2.2.2.2.1.1.1 12 _ rfl).2 (kRc.of C (ci := 12) rfl h26) (fr2 := 2) (lo2 := 200) (As := []) (st := []) (fun r9_ w9_ h9_ => by rw [hl]; exact wJ15_next l g hX N x2 u21 r9_ w9_ h9_) (by decide) rfl rfl (Nat.le_of_ble_eq_true rfl) dX0_often_175 hF (fun r24 u25 hF => ?_)
    refine v_castI C (ci := 2) rfl q700 dX0_often_180 hF (fun hF => ?_)
    refine v_astore_n C dX0_often_183 rfl (Nat.le_of_ble_eq_true rfl) rfl (lv' := [some (.ref x0), some (.ref x1), some (.ref x2), some (.ref r24), none, none, none, none]) rfl ?_
    refine v_aload_n C dX0_often_184 rfl rfl ?_
    refine v_getR C kc_X6 0 (Nat.le_of_ble_eq_true rfl) (kFl.n q380) dX0_often_185 hF (fun v27 hF => ?_)
    refine v_astore C dX0_often_188 (Nat.le_of_ble_eq_true rfl) rfl (lv' := [some (.ref x0), some (.ref x1), some (.ref x2), some (.ref r24), some (.ref v27), none, none, none]) rfl ?_
    refine v_aload C dX0_often_190 rfl ?_
    refine v_aL C (t := 0) rfl dX0_often_192 hF (fun v28 hF => ?_)
    refine v_istore C dX0_often_193 (Nat.le_of_ble_eq_true rfl) rfl (lv' := [some (.ref x0), some (.ref x1), some (.ref x2), some (.ref r24), some (.ref v27), some (.int v28), none, none]) rfl ?_
    refine v_iconst C (v := (0 : Int32)) dX0_often_195 (by decide) ?_
    refine v_istore C dX0_often_196 (Nat.le_of_ble_eq_true rfl) rfl (lv' := [some (.ref x0), some (.ref x1), some (.ref x2), some (.ref r24), some (.ref v27), some (.int v28), some (.int (0 : Int32)), none]) rfl ?_
    refine v_mask [true, true, true, false, true, true, true, false] (lv' := [some (.ref x0), some (.ref x1), some (.ref x2), none, some (.ref v27), some (.int v28), some (.int (0 : Int32)), none]) rfl ?_
    exact kloop_ok (P := fun a => kV g X 8 a.2.2.2.2.2.2 198 [some (.ref a.1), some (.ref a.2.1), some (.ref a.2.2.1), none, some (.ref a.2.2.2.1), some (.int a.2.2.2.2.1), some (.int a.2.2.2.2.2.1), none] []) (fun self hs a hF => wX0_often_b198 C hX hl hin N k165 hk165 self hs a.1 a.2.1 a.2.2.1 a.2.2.2.1 a.2.2.2.2.1 a.2.2.2.2.2.1 a.2.2.2.2.2.2 hF) N (x0, x1, x2, v27, v28, (0 : Int32), u25) hF
set_option maxHeartbeats 4000000 in
theorem wX0_often_b83 {l : Launch} {g : GT} {X : CxT} {r : Nat} {w1 : Wd} (C : kOk g X cX0_often 8 RX0 (some (.object "java/util/TreeMap")) 8 800 (some (.ref r)) w1) (hX : ∀ U, gX g U → SX g U) (hl : xl X = l) (hin : kHin X yX0_often) (N : Nat) (k61 : Nat × Nat × Nat × Wd → Option (Nat × Wd)) (hk61 : ∀ a, k61 a = some (r, w1) → kV g X 8 a.2.2.2 61 [some (.ref a.1), some (.ref a.2.1), some (.ref a.2.2.1), none, none, none, none, none] []) (k83 : Nat × Nat × Nat × Nat × Int32 × Wd → Option (Nat × Wd)) (hk83 : ∀ a, k83 a = some (r, w1) → kV g X 8 a.2.2.2.2.2 83 [some (.ref a.1), some (.ref a.2.1), some (.ref a.2.2.1), some (.ref a.2.2.2.1), some (.int a.2.2.2.2.1), none, none, none] []) (x0 : Nat) (x1 : Nat) (x2 : Nat) (x3 : Nat) (x4 : Int32) (w : Wd) (hF : FX0_often_b83 N g k61 k83 x0 x1 x2 x3 x4 w = some (r, w1)) : kV g X 8 w 83 [some (.ref x0), some (.ref x1), some (.ref x2), some (.ref x3), some (.int x4), none, none, none] [] := by
  unfold FX0_often_b83 at hF
  refine v_iload C dX0_often_83 rfl ?_
  refine v_aload_n C dX0_often_85 rfl rfl ?_
  obtain ⟨h45, hF⟩ := k_ite hF
  refine c_callVi C lk_X0_90 (ci := 1) rfl h45 (fr2 := 2) (lo2 := 200) (As := []) (st := [.int x4]) (fun r9_ w9_ h9_ => by rw [hl]; exact wX0_many l g hX N x0 w r9_ w9_ h9_) (by decide) rfl rfl (Nat.le_of_ble_eq_true rfl) dX0_often_86 hF (fun r43 u44 hF => ?_)
  refine v_icmp_ge C (tgt := 154) dX0_often_89 (by decide) hF (fun c46 hF => ?_) (fun c46 hF => ?_)
  · refine v_goto C (tgt := 61) dX0_often_154 (by decide) ?_
    refine v_mask [true, true, true, false, false, false, false, false] (lv' := [some (.ref x0), some (.ref x1), some (.ref x2), none, none, none, none, none]) rfl ?_
    exact hk61 (x0, x1, x2, u44) hF
  · refine v_aload_n C dX0_often_92 rfl rfl ?_
    refine v_aload_n C dX0_often_93 rfl rfl ?_
    refine v_getR C kc_X0 8 (Nat.le_of_ble_eq_true rfl) (kFl.p q210) dX0_often_94 hF (fun v47 hF => ?_)
    refine v_aload_n C dX0_often_97 rfl rfl ?_
    refine v_getR C kc_X9 0 (Nat.le_of_ble_eq_true rfl) (kFl.n q978) dX0_often_98 hF (fun v48 hF => ?_)
    refine v_iload C dX0_often_101 rfl ?_
    refine v_aIi C dX0_often_103 hF (fun v49 hF => ?_)
    refine v_aQl C (t := 6) rfl dX0_often_104 hF (fun v50 hF => ?_)
    rcases v50 with _ | a51
    · exact (k_ob0 hF).elim
    have hF := k_ob1 hF
    show kV _ _ _ _ 105 [some (.ref x0), some (.ref x1), some (.ref x2), some (.ref x3), some (.int x4), none, none, none] [.ref a51, .ref x1]
    obtain ⟨h54, hF⟩ := k_ite hF
    refine c_callVq C lk_X0_384 (ci := 15) rfl h54 (fr2 := 4) (lo2 := 400) (As := [.ref a51]) (st := []) (fun r9_ w9_ h9_ => by rw [hl]; exact wJ18_get l g hX N x1 a51 u44 r9_ w9_ h9_) (by decide) rfl rfl (Nat.le_of_ble_eq_true rfl) dX0_often_105 hF (fun r52 u53 hF => ?_)
    rcases r52 with _ | a55
    · exact (k_ob0 hF).elim
    have hF := k_ob1 hF
    show kV _ _ _ _ 108 [some (.ref x0), some (.ref x1), some (.ref x2), some (.ref x3), some (.int x4), none, none, none] [.ref a55]
    refine v_castI C (ci := 10) rfl q1672 dX0_often_108 hF (fun hF => ?_)
    refine v_dup C dX0_often_111 rfl ?_
    refine v_getI C kc_X12 1 (Nat.le_of_ble_eq_true rfl) (kFl.n q1682) dX0_often_112 hF (fun v56 hF => ?_)
    refine v_iconst C (v := (1 : Int32)) dX0_often_115 (by decide) ?_
    refine v_iadd C dX0_often_116 ?_
    refine v_putW C kc_X12 1 (Nat.le_of_ble_eq_true rfl) (kFl.n q1682) rfl rfl rfl dX0_often_117 hF (fun u57 hF => ?_)
    refine v_aload_n C dX0_often_120 rfl rfl ?_
    refine v_aload_n C dX0_often_121 rfl rfl ?_
    refine v_getR C kc_X0 8 (Nat.le_of_ble_eq_true rfl) (kFl.p q210) dX0_often_122 hF (fun v58 hF => ?_)
    refine v_aload_n C dX0_often_125 rfl rfl ?_
    refine v_getR C kc_X9 1 (Nat.le_of_ble_eq_true rfl) (kFl.n q980) dX0_often_126 hF (fun v59 hF => ?_)
    refine v_iload C dX0_often_129 rfl ?_
    refine v_aIi C dX0_often_131 hF (fun v60 hF => ?_)
    refine v_aQl C (t := 6) rfl dX0_often_132 hF (fun v61 hF => ?_)
    rcases v61 with _ | a62
    · exact (k_ob0 hF).elim
    have hF := k_ob1 hF
    show kV _ _ _ _ 133 [some (.ref x0), some (.ref x1), some (.ref x2), some (.ref x3), some (.int x4), none, none, none] [.ref a62, .ref x1]
    obtain ⟨h65, hF⟩ := k_ite hF
    refine c_callVq C lk_X0_384 (ci := 15) rfl h65 (fr2 := 4) (lo2 := 400) (As := [.ref a62]) (st := []) (fun r9_ w9_ h9_ => by rw [hl]; exact wJ18_get l g hX N x1 a62 u57 r9_ w9_ h9_) (by decide) rfl rfl (Nat.le_of_ble_eq_true rfl) dX0_often_133 hF (fun r63 u64 hF => ?_)
    rcases r63 with _ | a66
    · exact (k_ob0 hF).elim
    have hF := k_ob1 hF
    show kV _ _ _ _ 136 [some (.ref x0), some (.ref x1), some (.ref x2), some (.ref x3), some (.int x4), none, none, none] [.ref a66]
    refine v_castI C (ci := 10) rfl q1672 dX0_often_136 hF (fun hF => ?_)
    refine v_dup C dX0_often_139 rfl ?_
    refine v_getI C kc_X12 2 (Nat.le_of_ble_eq_true rfl) (kFl.n q1684) dX0_often_140 hF (fun v67 hF => ?_)
    refine v_iconst C (v := (1 : Int32)) dX0_often_143 (by decide) ?_
    refine v_iadd C dX0_often_144 ?_
    refine v_putW C kc_X12 2 (Nat.le_of_ble_eq_true rfl) (kFl.n q1684) rfl rfl rfl dX0_often_145 hF (fun u68 hF => ?_)
    refine v_iinc C dX0_often_148 rfl (v := (x4 + (1 : Int32))) rfl (Nat.le_of_ble_eq_true rfl) rfl (lv' := [some (.ref x0), some (.ref x1), some (.ref x2), some (.ref x3), some (.int (x4 + (1 : Int32))), none, none, none]) rfl ?_
    refine v_goto C (tgt := 83) dX0_often_151 (by decide) ?_
    refine v_mask [true, true, true, true, true, false, false, false] (lv' := [some (.ref x0), some (.ref x1), some (.ref x2), some (.ref x3), some (.int (x4 + (1 : Int32))), none, none, none]) rfl ?_
    exact hk83 (x0, x1, x2, x3, (x4 + (1 : Int32)), u68) hF
set_option maxHeartbeats 4000000 in
theorem wX0_often_b61 {l : Launch} {g : GT} {X : CxT} {r : Nat} {w1 : Wd} (C : kOk g X cX0_often 8 RX0 (some (.object "java/util/TreeMap")) 8 800 (some (.ref r)) w1) (hX : ∀ U, gX g U → SX g U) (hl : xl X = l) (hin : kHin X yX0_often) (N : Nat) (k61 : Nat × Nat × Nat × Wd → Option (Nat × Wd)) (hk61 : ∀ a, k61 a = some (r, w1) → kV g X 8 a.2.2.2 61 [some (.ref a.1), some (.ref a.2.1), some (.ref a.2.2.1), none, none, none, none, none] []) (x0 : Nat) (x1 : Nat) (x2 : Nat) (w : Wd) (hF : FX0_often_b61 N g k61 x0 x1 x2 w = some (r, w1)) : kV g X 8 w 61 [some (.ref x0), some (.ref x1), some (.ref x2), none, none, none, none, none] [] := by
  unfold FX0_often_b61 at hF
  refine v_aload_n C dX0_often_61 rfl rfl ?_
  obtain ⟨h14, hF⟩ := k_ite hF
  refine c_callFi C lk_X0_101_J15_hasNext ((hX _ C.2.2.2.2.2.1.2.2.1).2.2.1 _ (List.mem_of_getElem? (i := 0) rfl)) (C.2.2.2.2.2.1.1.1 12 _ rfl).2 (kRc.of C (ci := 12) rfl h14) (fr2 := 1) (lo2 := 100) (As := []) (st := []) (fun r9_ w9_ h9_ => by rw [hl]; exact wJ15_hasNext l g hX N x2 w r9_ w9_ h9_) (by decide) rfl rfl (Nat.le_of_ble_eq_true rfl) dX0_often_62 hF (fun r12 u13 hF => ?_)
  refine v_if_eq C (tgt := 157) dX0_often_67 (by decide) hF (fun c15 hF => ?_) (fun c15 hF => ?_)
  · refine v_aload_n C dX0_often_157 rfl rfl ?_
    refine v_getR C kc_X0 0 (Nat.le_of_ble_eq_true rfl) (kFl.p q198) dX0_often_158 hF (fun v16 hF => ?_)
    obtain ⟨h19, hF⟩ := k_ite hF
    refine c_callVr C lk_X0_97 (ci := 11) rfl h19 (fr2 := 2) (lo2 := 200) (As := []) (st := []) (fun r9_ w9_ h9_ => by rw [hl]; exact wJ2_iterator l g hX N v16 u13 r9_ w9_ h9_) (by decide) rfl rfl (Nat.le_of_ble_eq_true rfl) dX0_often_161 hF (fun r17 u18 hF => ?_)
    refine v_astore_n C dX0_often_164 rfl (Nat.le_of_ble_eq_true rfl) rfl (lv' := [some (.ref x0), some (.ref x1), some (.ref r17), none, none, none, none, none]) rfl ?_
    refine v_mask [true, true, true, false, false, false, false, false] (lv' := [some (.ref x0), some (.ref x1), some (.ref r17), none, none, none, none, none]) rfl ?_
    exact kloop_ok (P := fun a => kV g X 8 a.2.2.2 165 [some (.ref a.1), some (.ref a.2.1), some (.ref a.2.2.1), none, none, none, none, none] []) (fun self hs a hF => wX0_often_b165 C hX hl hin N self hs a.1 a.2.1 a.2.2.1 a.2.2.2 hF) N (x0, x1, r17, u18) hF
  · refine v_aload_n C dX0_often_70 rfl rfl ?_
    obtain ⟨h42, hF⟩ := k_ite hF
    refine c_callFr C lk_X0_107_J15_next ((hX _ C.2.2.2.2.2.1.2.2.1).2.2.1 _ (List.mem_of_getElem? (i := 1) rfl)) (C.2.2.2.2.2.1.1.1 12 _ rfl).2 (kRc.of C (ci := 12) rfl h42) (fr2 := 2) (lo2 := 200) (As := []) (st := []) (fun r9_ w9_ h9_ => by rw [hl]; exact wJ15_next l g hX N x2 u13 r9_ w9_ h9_) (by decide) rfl rfl (Nat.le_of_ble_eq_true rfl) dX0_often_71 hF (fun r40 u41 hF => ?_)
    refine v_castI C (ci := 3) rfl q811 dX0_often_76 hF (fun hF => ?_)
    refine v_astore_n C dX0_often_79 rfl (Nat.le_of_ble_eq_true rfl) rfl (lv' := [some (.ref x0), some (.ref x1), some (.ref x2), some (.ref r40), none, none, none, none]) rfl ?_
    refine v_iconst C (v := (0 : Int32)) dX0_often_80 (by decide) ?_
    refine v_istore C dX0_often_81 (Nat.le_of_ble_eq_true rfl) rfl (lv' := [some (.ref x0), some (.ref x1), some (.ref x2), some (.ref r40), some (.int (0 : Int32)), none, none, none]) rfl ?_
    refine v_mask [true, true, true, true, true, false, false, false] (lv' := [some (.ref x0), some (.ref x1), some (.ref x2), some (.ref r40), some (.int (0 : Int32)), none, none, none]) rfl ?_
    exact kloop_ok (P := fun a => kV g X 8 a.2.2.2.2.2 83 [some (.ref a.1), some (.ref a.2.1), some (.ref a.2.2.1), some (.ref a.2.2.2.1), some (.int a.2.2.2.2.1), none, none, none] []) (fun self hs a hF => wX0_often_b83 C hX hl hin N k61 hk61 self hs a.1 a.2.1 a.2.2.1 a.2.2.2.1 a.2.2.2.2.1 a.2.2.2.2.2 hF) N (x0, x1, x2, r40, (0 : Int32), u41) hF
set_option maxHeartbeats 4000000 in
theorem wX0_often_b19 {l : Launch} {g : GT} {X : CxT} {r : Nat} {w1 : Wd} (C : kOk g X cX0_often 8 RX0 (some (.object "java/util/TreeMap")) 8 800 (some (.ref r)) w1) (hX : ∀ U, gX g U → SX g U) (hl : xl X = l) (hin : kHin X yX0_often) (N : Nat) (k19 : Nat × Nat × Nat × Int32 × Int32 × Wd → Option (Nat × Wd)) (hk19 : ∀ a, k19 a = some (r, w1) → kV g X 8 a.2.2.2.2.2 19 [some (.ref a.1), some (.ref a.2.1), some (.ref a.2.2.1), some (.int a.2.2.2.1), some (.int a.2.2.2.2.1), none, none, none] []) (x0 : Nat) (x1 : Nat) (x2 : Nat) (x3 : Int32) (x4 : Int32) (w : Wd) (hF : FX0_often_b19 N g k19 x0 x1 x2 x3 x4 w = some (r, w1)) : kV g X 8 w 19 [some (.ref x0), some (.ref x1), some (.ref x2), some (.int x3), some (.int x4), none, none, none] [] := by
  unfold FX0_often_b19 at hF
  refine v_iload C dX0_often_19 rfl ?_
  refine v_iload_n C dX0_often_21 rfl rfl ?_
  refine v_icmp_ge C (tgt := 53) dX0_often_22 (by decide) hF (fun c7 hF => ?_) (fun c7 hF => ?_)
  · refine v_aload_n C dX0_often_53 rfl rfl ?_
    refine v_getR C kc_X0 1 (Nat.le_of_ble_eq_true rfl) (kFl.p q199) dX0_often_54 hF (fun v8 hF => ?_)
    obtain ⟨h11, hF⟩ := k_ite hF
    refine c_callVr C lk_X0_97 (ci := 11) rfl h11 (fr2 := 2) (lo2 := 200) (As := []) (st := []) (fun r9_ w9_ h9_ => by rw [hl]; exact wJ2_iterator l g hX N v8 w r9_ w9_ h9_) (by decide) rfl rfl (Nat.le_of_ble_eq_true rfl) dX0_often_57 hF (fun r9 u10 hF => ?_)
    refine v_astore_n C dX0_often_60 rfl (Nat.le_of_ble_eq_true rfl) rfl (lv' := [some (.ref x0), some (.ref x1), some (.ref r9), some (.int x3), some (.int x4), none, none, none]) rfl ?_
    refine v_mask [true, true, true, false, false, false, false, false] (lv' := [some (.ref x0), some (.ref x1), some (.ref r9), none, none, none, none, none]) rfl ?_
    exact kloop_ok (P := fun a => kV g X 8 a.2.2.2 61 [some (.ref a.1), some (.ref a.2.1), some (.ref a.2.2.1), none, none, none, none, none] []) (fun self hs a hF => wX0_often_b61 C hX hl hin N self hs a.1 a.2.1 a.2.2.1 a.2.2.2 hF) N (x0, x1, r9, u10) hF
  · refine v_aload_n C dX0_often_25 rfl rfl ?_
    refine v_iload C dX0_often_26 rfl ?_
    refine v_aQl C (t := 6) rfl dX0_often_28 hF (fun v69 hF => ?_)
    rcases v69 with _ | a70
    · exact (k_ob0 hF).elim
    have hF := k_ob1 hF
    show kV _ _ _ _ 29 [some (.ref x0), some (.ref x1), some (.ref x2), some (.int x3), some (.int x4), none, none, none] [.ref a70]
    refine v_astore C dX0_often_29 (Nat.le_of_ble_eq_true rfl) rfl (lv' := [some (.ref x0), some (.ref x1), some (.ref x2), some (.int x3), some (.int x4), some (.ref a70), none, none]) rfl ?_
    refine v_aload_n C dX0_often_31 rfl rfl ?_
    refine v_aload C dX0_often_32 rfl ?_
    refine v_newW C kc_X12 q1672 q1673 q120 nw_X12 dX0_often_34 hF (fun a71 u72 hF => ?_)
    refine v_dup C dX0_often_37 rfl ?_
    refine v_aload C dX0_often_38 rfl ?_
    refine c_callI C lk_X0_377 (fr2 := 1) (lo2 := 100) (As := [.ref a70]) (st := [.ref a71, .ref a70, .ref x1]) (fun r9_ w9_ h9_ => by rw [hl]; exact wX12_init l g hX N a71 a70 u72 r9_ w9_ h9_) (by decide) rfl rfl (Nat.le_of_ble_eq_true rfl) dX0_often_40 hF (fun r73 u74 hF => ?_)
    obtain ⟨h77, hF⟩ := k_ite hF
    refine c_callVq C lk_X0_380 (ci := 15) rfl h77 (fr2 := 7) (lo2 := 700) (As := [.ref a70, .ref a71]) (st := []) (fun r9_ w9_ h9_ => by rw [hl]; exact wJ18_put l g hX N x1 a70 a71 u74 r9_ w9_ h9_) (by decide) rfl rfl (Nat.le_of_ble_eq_true rfl) dX0_often_43 hF (fun r75 u76 hF => ?_)
    refine v_pop C dX0_often_46 (va_rf_cat _) ?_
    refine v_iinc C dX0_often_47 rfl (v := (x4 + (1 : Int32))) rfl (Nat.le_of_ble_eq_true rfl) rfl (lv' := [some (.ref x0), some (.ref x1), some (.ref x2), some (.int x3), some (.int (x4 + (1 : Int32))), some (.ref a70), none, none]) rfl ?_
    refine v_goto C (tgt := 19) dX0_often_50 (by decide) ?_
    refine v_mask [true, true, true, true, true, false, false, false] (lv' := [some (.ref x0), some (.ref x1), some (.ref x2), some (.int x3), some (.int (x4 + (1 : Int32))), none, none, none]) rfl ?_
    exact hk19 (x0, x1, x2, x3, (x4 + (1 : Int32)), u76) hF
set_option maxHeartbeats 4000000 in
theorem wX0_often (l : Launch) (g : GT) (hX : ∀ U, gX g U → SX g U) (N : Nat) (x0 : Nat) (w : Wd) (r : Nat) (w1 : Wd) (hF : FX0_often N g x0 w = some (r, w1)) : kMt l g yX0_often (ws_ yX0_often cX0_often 8 (some (.object "java/util/TreeMap"))) 8 800 w [.ref x0] (some (.ref r)) w1 := by
  refine kMt.ofV (lv := [some (.ref x0), none, none, none, none, none, none, none]) (by decide) rfl (Nat.le_of_ble_eq_true rfl) rfl ?_
  intro X hl hin C
  unfold FX0_often at hF
  refine v_newW C kc_J18 q1636 q1637 q106 nw_J18 dX0_often_0 hF (fun a1 u2 hF => ?_)
  refine v_dup C dX0_often_3 rfl ?_
  refine c_callI C lk_X0_374 (fr2 := 2) (lo2 := 200) (As := []) (st := [.ref a1]) (fun r9_ w9_ h9_ => by rw [hl]; exact wJ18_init l g hX N a1 u2 r9_ w9_ h9_) (by decide) rfl rfl (Nat.le_of_ble_eq_true rfl) dX0_often_4 hF (fun r3 u4 hF => ?_)
  refine v_astore_n C dX0_often_7 rfl (Nat.le_of_ble_eq_true rfl) rfl (lv' := [some (.ref x0), some (.ref a1), none, none, none, none, none, none]) rfl ?_
  refine v_aload_n C dX0_often_8 rfl rfl ?_
  refine v_getR C kc_X0 8 (Nat.le_of_ble_eq_true rfl) (kFl.p q210) dX0_often_9 hF (fun v5 hF => ?_)
  refine v_astore_n C dX0_often_12 rfl (Nat.le_of_ble_eq_true rfl) rfl (lv' := [some (.ref x0), some (.ref a1), some (.ref v5), none, none, none, none, none]) rfl ?_
  refine v_aload_n C dX0_often_13 rfl rfl ?_
  refine v_aL C (t := 6) rfl dX0_often_14 hF (fun v6 hF => ?_)
  refine v_istore_n C dX0_often_15 rfl (Nat.le_of_ble_eq_true rfl) rfl (lv' := [some (.ref x0), some (.ref a1), some (.ref v5), some (.int v6), none, none, none, none]) rfl ?_
  refine v_iconst C (v := (0 : Int32)) dX0_often_16 (by decide) ?_
  refine v_istore C dX0_often_17 (Nat.le_of_ble_eq_true rfl) rfl (lv' := [some (.ref x0), some (.ref a1), some (.ref v5), some (.int v6), some (.int (0 : Int32)), none, none, none]) rfl ?_
  refine v_mask [true, true, true, true, true, false, false, false] (lv' := [some (.ref x0), some (.ref a1), some (.ref v5), some (.int v6), some (.int (0 : Int32)), none, none, none]) rfl ?_
  exact kloop_ok (P := fun a => kV g X 8 a.2.2.2.2.2 19 [some (.ref a.1), some (.ref a.2.1), some (.ref a.2.2.1), some (.int a.2.2.2.1), some (.int a.2.2.2.2.1), none, none, none] []) (fun self hs a hF => wX0_often_b19 C hX hl hin N self hs a.1 a.2.1 a.2.2.1 a.2.2.2.1 a.2.2.2.2.1 a.2.2.2.2.2 hF) N (x0, a1, v5, v6, (0 : Int32), u4) hF
set_option maxHeartbeats 4000000 in
theorem wX0_colours (l : Launch) (g : GT) (hX : ∀ U, gX g U → SX g U) (N : Nat) (x0 : Nat) (x1 : Int32) (x2 : Int32) (w : Wd) (r : Int32) (w1 : Wd) (hF : FX0_colours N g x0 x1 x2 w = some (r, w1)) : kMt l g yX0_colours (ws_ yX0_colours cX0_colours 4 (some .int)) 9 900 w [.ref x0, .int x1, .int x2] (some (.int r)) w1 := by
  refine kMt.ofV (lv := [some (.ref x0), some (.int x1), some (.int x2), none]) (by decide) rfl (Nat.le_of_ble_eq_true rfl) rfl ?_
  intro X hl hin C
  unfold FX0_colours at hF
  refine v_iload_n C dX0_colours_0 rfl rfl ?_
  refine c_callSi C lk_X0_214 (fr2 := 2) (lo2 := 200) (As := [.int x1]) (st := []) (fun r9_ w9_ h9_ => by rw [hl]; exact wX0_isColour l g hX N x1 w r9_ w9_ h9_) (by decide) rfl rfl (Nat.le_of_ble_eq_true rfl) dX0_colours_1 hF (fun r1 u2 hF => ?_)
  refine v_if_ne C (tgt := 10) dX0_colours_4 (by decide) hF (fun c3 hF => ?_) (fun c3 hF => ?_)
  · refine v_bipush C (v := (-2 : Int32)) dX0_colours_7 (by decide) ?_
    exact c_iret C dX0_colours_9 hF
  · refine v_aload_n C dX0_colours_10 rfl rfl ?_
    obtain ⟨h6, hF⟩ := k_ite hF
    refine c_callVr C lk_X0_395 (ci := 1) rfl h6 (fr2 := 8) (lo2 := 800) (As := []) (st := []) (fun r9_ w9_ h9_ => by rw [hl]; exact wX0_often l g hX N x0 u2 r9_ w9_ h9_) (by decide) rfl rfl (Nat.le_of_ble_eq_true rfl) dX0_colours_11 hF (fun r4 u5 hF => ?_)
    refine v_aload_n C dX0_colours_14 rfl rfl ?_
    refine v_getR C kc_X0 8 (Nat.le_of_ble_eq_true rfl) (kFl.p q210) dX0_colours_15 hF (fun v7 hF => ?_)
    refine v_iload_n C dX0_colours_18 rfl rfl ?_
    refine v_aQl C (t := 6) rfl dX0_colours_19 hF (fun v8 hF => ?_)
    rcases v8 with _ | a9
    · exact (k_ob0 hF).elim
    have hF := k_ob1 hF
    show kV _ _ _ _ 20 [some (.ref x0), some (.int x1), some (.int x2), none] [.ref a9, .ref r4]
    obtain ⟨h12, hF⟩ := k_ite hF
    refine c_callVq C lk_X0_384 (ci := 15) rfl h12 (fr2 := 4) (lo2 := 400) (As := [.ref a9]) (st := []) (fun r9_ w9_ h9_ => by rw [hl]; exact wJ18_get l g hX N r4 a9 u5 r9_ w9_ h9_) (by decide) rfl rfl (Nat.le_of_ble_eq_true rfl) dX0_colours_20 hF (fun r10 u11 hF => ?_)
    rcases r10 with _ | a13
    · exact (k_ob0 hF).elim
    have hF := k_ob1 hF
    show kV _ _ _ _ 23 [some (.ref x0), some (.int x1), some (.int x2), none] [.ref a13]
    refine v_castI C (ci := 10) rfl q1672 dX0_colours_23 hF (fun hF => ?_)
    refine v_astore_n C dX0_colours_26 rfl (Nat.le_of_ble_eq_true rfl) rfl (lv' := [some (.ref x0), some (.int x1), some (.int x2), some (.ref a13)]) rfl ?_
    refine v_iload_n C dX0_colours_27 rfl rfl ?_
    rcases k_cases hF with ⟨c14, hF⟩ | ⟨c14, hF⟩
    · refine v_tswIn C (0 : Int32) c14 dX0_colours_28 (by decide) (by decide) (off := 28) rfl (tgt := 56) (by decide) ?_
      refine v_aload_n C dX0_colours_56 rfl rfl ?_
      refine v_getI C kc_X12 1 (Nat.le_of_ble_eq_true rfl) (kFl.n q1682) dX0_colours_57 hF (fun v15 hF => ?_)
      exact c_iret C dX0_colours_60 hF
    · rcases k_cases hF with ⟨c16, hF⟩ | ⟨c16, hF⟩
      · refine v_tswIn C (1 : Int32) c16 dX0_colours_28 (by decide) (by decide) (off := 33) rfl (tgt := 61) (by decide) ?_
        refine v_aload_n C dX0_colours_61 rfl rfl ?_
        refine v_getI C kc_X12 2 (Nat.le_of_ble_eq_true rfl) (kFl.n q1684) dX0_colours_62 hF (fun v17 hF => ?_)
        exact c_iret C dX0_colours_65 hF
      · rcases k_cases hF with ⟨c18, hF⟩ | ⟨c18, hF⟩
        · refine v_tswIn C (2 : Int32) c18 dX0_colours_28 (by decide) (by decide) (off := 38) rfl (tgt := 66) (by decide) ?_
          refine v_aload_n C dX0_colours_66 rfl rfl ?_
          refine v_getI C kc_X12 3 (Nat.le_of_ble_eq_true rfl) (kFl.n q1685) dX0_colours_67 hF (fun v19 hF => ?_)
          exact c_iret C dX0_colours_70 hF
        · refine v_tswOut C [(0 : Int32), (1 : Int32), (2 : Int32)] (List.forall_mem_cons.mpr ⟨c14, List.forall_mem_cons.mpr ⟨c16, List.forall_mem_cons.mpr ⟨c18, fun _ h => absurd h List.not_mem_nil⟩⟩⟩) dX0_colours_28 (by decide +kernel) (by decide) (tgt := 71) (by decide) ?_
          refine v_iconst C (v := (-1 : Int32)) dX0_colours_71 (by decide) ?_
          exact c_iret C dX0_colours_72 hF
set_option maxHeartbeats 4000000 in
theorem wX0_ranked_b78 {l : Launch} {g : GT} {X : CxT} {r : Int32} {w1 : Wd} (C : kOk g X cX0_ranked 6 RX0 (some .int) 9 900 (some (.int r)) w1) (hX : ∀ U, gX g U → SX g U) (hl : xl X = l) (hin : kHin X yX0_ranked) (N : Nat) (k78 : Int32 × Int32 × Nat × Wd → Option (Int32 × Wd)) (hk78 : ∀ a, k78 a = some (r, w1) → kV g X 6 a.2.2.2 78 [none, some (.int a.1), none, some (.int a.2.1), some (.ref a.2.2.1), none] []) (x1 : Int32) (x3 : Int32) (x4 : Nat) (w : Wd) (hF : FX0_ranked_b78 N g k78 x1 x3 x4 w = some (r, w1)) : kV g X 6 w 78 [none, some (.int x1), none, some (.int x3), some (.ref x4), none] [] := by
  unfold FX0_ranked_b78 at hF
  refine v_aload C dX0_ranked_78 rfl ?_
  obtain ⟨h31, hF⟩ := k_ite hF
  refine c_callFi C lk_X0_101_J32_hasNext_t19 ((hX _ C.2.2.2.2.2.1.2.2.1).2.2.1 _ (List.mem_of_getElem? (i := 4) rfl)) (C.2.2.2.2.2.1.1.1 19 _ rfl).2 (kRc.of C (ci := 19) rfl h31) (fr2 := 1) (lo2 := 100) (As := []) (st := []) (fun r9_ w9_ h9_ => by rw [hl]; exact wJ32_hasNext_t19 l g hX N x4 w r9_ w9_ h9_) (by decide) rfl rfl (Nat.le_of_ble_eq_true rfl) dX0_ranked_80 hF (fun r29 u30 hF => ?_)
  refine v_if_eq C (tgt := 120) dX0_ranked_85 (by decide) hF (fun c32 hF => ?_) (fun c32 hF => ?_)
  · refine v_iconst C (v := (-1 : Int32)) dX0_ranked_120 (by decide) ?_
    exact c_iret C dX0_ranked_121 hF
  · refine v_aload C dX0_ranked_88 rfl ?_
    obtain ⟨h35, hF⟩ := k_ite hF
    refine c_callFr C lk_X0_107_J33_next ((hX _ C.2.2.2.2.2.1.2.2.1).2.2.1 _ (List.mem_of_getElem? (i := 5) rfl)) (C.2.2.2.2.2.1.1.1 19 _ rfl).2 (kRc.of C (ci := 19) rfl h35) (fr2 := 3) (lo2 := 300) (As := []) (st := []) (fun r9_ w9_ h9_ => by rw [hl]; exact wJ33_next l g hX N x4 u30 r9_ w9_ h9_) (by decide) rfl rfl (Nat.le_of_ble_eq_true rfl) dX0_ranked_90 hF (fun r33 u34 hF => ?_)
    refine v_castI C (ci := 10) rfl q1672 dX0_ranked_95 hF (fun hF => ?_)
    refine v_astore C dX0_ranked_98 (Nat.le_of_ble_eq_true rfl) rfl (lv' := [none, some (.int x1), none, some (.int x3), some (.ref x4), some (.ref r33)]) rfl ?_
    refine v_iload_n C dX0_ranked_100 rfl rfl ?_
    refine v_iload_n C dX0_ranked_101 rfl rfl ?_
    refine v_icmp_ne C (tgt := 114) dX0_ranked_102 (by decide) hF (fun c36 hF => ?_) (fun c36 hF => ?_)
    · refine v_aload C dX0_ranked_105 rfl ?_
      refine v_getR C kc_X12 0 (Nat.le_of_ble_eq_true rfl) (kFl.n q1680) dX0_ranked_107 hF (fun v37 hF => ?_)
      refine v_getI C kc_X2 0 (Nat.le_of_ble_eq_true rfl) (kFl.n q190) dX0_ranked_110 hF (fun v38 hF => ?_)
      exact c_iret C dX0_ranked_113 hF
    · refine v_iinc C dX0_ranked_114 rfl (v := (x3 + (1 : Int32))) rfl (Nat.le_of_ble_eq_true rfl) rfl (lv' := [none, some (.int x1), none, some (.int (x3 + (1 : Int32))), some (.ref x4), some (.ref r33)]) rfl ?_
      refine v_goto C (tgt := 78) dX0_ranked_117 (by decide) ?_
      refine v_mask [false, true, false, true, true, false] (lv' := [none, some (.int x1), none, some (.int (x3 + (1 : Int32))), some (.ref x4), none]) rfl ?_
      exact hk78 (x1, (x3 + (1 : Int32)), x4, u34) hF
set_option maxHeartbeats 4000000 in
theorem wX0_ranked_b40 {l : Launch} {g : GT} {X : CxT} {r : Int32} {w1 : Wd} (C : kOk g X cX0_ranked 6 RX0 (some .int) 9 900 (some (.int r)) w1) (hX : ∀ U, gX g U → SX g U) (hl : xl X = l) (hin : kHin X yX0_ranked) (N : Nat) (k40 : Int32 × Nat × Nat × Wd → Option (Int32 × Wd)) (hk40 : ∀ a, k40 a = some (r, w1) → kV g X 6 a.2.2.2 40 [none, some (.int a.1), some (.ref a.2.1), some (.ref a.2.2.1), none, none] []) (x1 : Int32) (x2 : Nat) (x3 : Nat) (w : Wd) (hF : FX0_ranked_b40 N g k40 x1 x2 x3 w = some (r, w1)) : kV g X 6 w 40 [none, some (.int x1), some (.ref x2), some (.ref x3), none, none] [] := by
  unfold FX0_ranked_b40 at hF
  refine v_aload_n C dX0_ranked_40 rfl rfl ?_
  obtain ⟨h24, hF⟩ := k_ite hF
  refine c_callFi C lk_X0_101_J32_hasNext_t18 ((hX _ C.2.2.2.2.2.1.2.2.1).2.2.1 _ (List.mem_of_getElem? (i := 2) rfl)) (C.2.2.2.2.2.1.1.1 18 _ rfl).2 (kRc.of C (ci := 18) rfl h24) (fr2 := 1) (lo2 := 100) (As := []) (st := []) (fun r9_ w9_ h9_ => by rw [hl]; exact wJ32_hasNext_t18 l g hX N x3 w r9_ w9_ h9_) (by decide) rfl rfl (Nat.le_of_ble_eq_true rfl) dX0_ranked_41 hF (fun r22 u23 hF => ?_)
  refine v_if_eq C (tgt := 70) dX0_ranked_46 (by decide) hF (fun c25 hF => ?_) (fun c25 hF => ?_)
  · refine v_iconst C (v := (0 : Int32)) dX0_ranked_70 (by decide) ?_
    refine v_istore_n C dX0_ranked_71 rfl (Nat.le_of_ble_eq_true rfl) rfl (lv' := [none, some (.int x1), some (.ref x2), some (.int (0 : Int32)), none, none]) rfl ?_
    refine v_aload_n C dX0_ranked_72 rfl rfl ?_
    obtain ⟨h28, hF⟩ := k_ite hF
    refine c_callVr C lk_X0_415 (ci := 20) rfl h28 (fr2 := 5) (lo2 := 500) (As := []) (st := []) (fun r9_ w9_ h9_ => by rw [hl]; exact wJ29_iterator l g hX N x2 u23 r9_ w9_ h9_) (by decide) rfl rfl (Nat.le_of_ble_eq_true rfl) dX0_ranked_73 hF (fun r26 u27 hF => ?_)
    refine v_astore C dX0_ranked_76 (Nat.le_of_ble_eq_true rfl) rfl (lv' := [none, some (.int x1), some (.ref x2), some (.int (0 : Int32)), some (.ref r26), none]) rfl ?_
    refine v_mask [false, true, false, true, true, false] (lv' := [none, some (.int x1), none, some (.int (0 : Int32)), some (.ref r26), none]) rfl ?_
    exact kloop_ok (P := fun a => kV g X 6 a.2.2.2 78 [none, some (.int a.1), none, some (.int a.2.1), some (.ref a.2.2.1), none] []) (fun self hs a hF => wX0_ranked_b78 C hX hl hin N self hs a.1 a.2.1 a.2.2.1 a.2.2.2 hF) N (x1, (0 : Int32), r26, u27) hF
  · refine v_aload_n C dX0_ranked_49 rfl rfl ?_
    obtain ⟨h41, hF⟩ := k_ite hF
    refine c_callFr C lk_X0_107_J34_next ((hX _ C.2.2.2.2.2.1.2.2.1).2.2.1 _ (List.mem_of_getElem? (i := 3) rfl)) (C.2.2.2.2.2.1.1.1 18 _ rfl).2 (kRc.of C (ci := 18) rfl h41) (fr2 := 3) (lo2 := 300) (As := []) (st := []) (fun r9_ w9_ h9_ => by rw [hl]; exact wJ34_next l g hX N x3 u23 r9_ w9_ h9_) (by decide) rfl rfl (Nat.le_of_ble_eq_true rfl) dX0_ranked_50 hF (fun r39 u40 hF => ?_)
    refine v_castI C (ci := 10) rfl q1672 dX0_ranked_55 hF (fun hF => ?_)
    refine v_astore C dX0_ranked_58 (Nat.le_of_ble_eq_true rfl) rfl (lv' := [none, some (.int x1), some (.ref x2), some (.ref x3), some (.ref r39), none]) rfl ?_
    refine v_aload_n C dX0_ranked_60 rfl rfl ?_
    refine v_aload C dX0_ranked_61 rfl ?_
    obtain ⟨h44, hF⟩ := k_ite hF
    refine c_callVi C lk_X0_414 (ci := 20) rfl h44 (fr2 := 8) (lo2 := 800) (As := [.ref r39]) (st := []) (fun r9_ w9_ h9_ => by rw [hl]; exact wJ29_add l g hX N x2 r39 u40 r9_ w9_ h9_) (by decide) rfl rfl (Nat.le_of_ble_eq_true rfl) dX0_ranked_63 hF (fun r42 u43 hF => ?_)
    refine v_pop C dX0_ranked_66 rfl ?_
    refine v_goto C (tgt := 40) dX0_ranked_67 (by decide) ?_
    refine v_mask [false, true, true, true, false, false] (lv' := [none, some (.int x1), some (.ref x2), some (.ref x3), none, none]) rfl ?_
    exact hk40 (x1, x2, x3, u43) hF
set_option maxHeartbeats 4000000 in
theorem wX0_ranked (l : Launch) (g : GT) (hX : ∀ U, gX g U → SX g U) (N : Nat) (x0 : Nat) (x1 : Int32) (w : Wd) (r : Int32) (w1 : Wd) (hF : FX0_ranked N g x0 x1 w = some (r, w1)) : kMt l g yX0_ranked (ws_ yX0_ranked cX0_ranked 6 (some .int)) 9 900 w [.ref x0, .int x1] (some (.int r)) w1 := by
  refine kMt.ofV (lv := [some (.ref x0), some (.int x1), none, none, none, none]) (by decide) rfl (Nat.le_of_ble_eq_true rfl) rfl ?_
  intro X hl hin C
  unfold FX0_ranked at hF
  refine v_iload_n C dX0_ranked_0 rfl rfl ?_
  refine v_iconst C (v := (0 : Int32)) dX0_ranked_1 (by decide) ?_
  refine v_bipush C (v := (9 : Int32)) dX0_ranked_2 (by decide) ?_
  refine c_callSi C lk_X0_93 (fr2 := 1) (lo2 := 100) (As := [.int x1, .int (0 : Int32), .int (9 : Int32)]) (st := []) (fun r9_ w9_ h9_ => by rw [hl]; exact wX0_isIn l g hX N x1 (0 : Int32) (9 : Int32) w r9_ w9_ h9_) (by decide) rfl rfl (Nat.le_of_ble_eq_true rfl) dX0_ranked_4 hF (fun r1 u2 hF => ?_)
  refine v_if_ne C (tgt := 12) dX0_ranked_7 (by decide) hF (fun c3 hF => ?_) (fun c3 hF => ?_)
  · refine v_iconst C (v := (-1 : Int32)) dX0_ranked_10 (by decide) ?_
    exact c_iret C dX0_ranked_11 hF
  · refine v_newW C kc_J29 q1799 q1800 q123 nw_J29 dX0_ranked_12 hF (fun a4 u5 hF => ?_)
    refine v_dup C dX0_ranked_15 rfl ?_
    refine v_newW C kc_X13 q1801 q1802 q124 nw_X13 dX0_ranked_16 hF (fun a6 u7 hF => ?_)
    refine v_dup C dX0_ranked_19 rfl ?_
    refine c_callIN C lk_X0_403 (fr2 := 1) (lo2 := 100) (As := []) (st := [.ref a6, .ref a4, .ref a4]) (fun r9_ w9_ h9_ => by rw [hl]; exact wX13_init l g hX N a6 u7 r9_ w9_ h9_) (by decide) rfl rfl (Nat.le_of_ble_eq_true rfl) dX0_ranked_20 hF (fun r8 u9 hF => ?_)
    refine c_callI C lk_X0_404 (fr2 := 4) (lo2 := 400) (As := [.ref a6]) (st := [.ref a4]) (fun r9_ w9_ h9_ => by rw [hl]; exact wJ29_init l g hX N a4 a6 u9 r9_ w9_ h9_) (by decide) rfl rfl (Nat.le_of_ble_eq_true rfl) dX0_ranked_23 hF (fun r10 u11 hF => ?_)
    refine v_astore_n C dX0_ranked_26 rfl (Nat.le_of_ble_eq_true rfl) rfl (lv' := [some (.ref x0), some (.int x1), some (.ref a4), none, none, none]) rfl ?_
    refine v_aload_n C dX0_ranked_27 rfl rfl ?_
    obtain ⟨h14, hF⟩ := k_ite hF
    refine c_callVr C lk_X0_395 (ci := 1) rfl h14 (fr2 := 8) (lo2 := 800) (As := []) (st := []) (fun r9_ w9_ h9_ => by rw [hl]; exact wX0_often l g hX N x0 u11 r9_ w9_ h9_) (by decide) rfl rfl (Nat.le_of_ble_eq_true rfl) dX0_ranked_28 hF (fun r12 u13 hF => ?_)
    obtain ⟨h17, hF⟩ := k_ite hF
    refine c_callVq C lk_X0_407 (ci := 15) rfl h17 (fr2 := 3) (lo2 := 300) (As := []) (st := []) (fun r9_ w9_ h9_ => by rw [hl]; exact wJ18_values l g hX N r12 u13 r9_ w9_ h9_) (by decide) rfl rfl (Nat.le_of_ble_eq_true rfl) dX0_ranked_31 hF (fun r15 u16 hF => ?_)
    rcases r15 with _ | a18
    · exact (k_ob0 hF).elim
    have hF := k_ob1 hF
    show kV _ _ _ _ 34 [some (.ref x0), some (.int x1), some (.ref a4), none, none, none] [.ref a18]
    obtain ⟨h21, hF⟩ := k_ite hF
    refine c_callFr C lk_X0_411_J30_iterator ((hX _ C.2.2.2.2.2.1.2.2.1).2.2.1 _ (List.mem_of_getElem? (i := 6) rfl)) (C.2.2.2.2.2.1.1.1 17 _ rfl).2 (kRc.of C (ci := 17) rfl h21) (fr2 := 3) (lo2 := 300) (As := []) (st := []) (fun r9_ w9_ h9_ => by rw [hl]; exact wJ30_iterator l g hX N a18 u16 r9_ w9_ h9_) (by decide) rfl rfl (Nat.le_of_ble_eq_true rfl) dX0_ranked_34 hF (fun r19 u20 hF => ?_)
    refine v_astore_n C dX0_ranked_39 rfl (Nat.le_of_ble_eq_true rfl) rfl (lv' := [some (.ref x0), some (.int x1), some (.ref a4), some (.ref r19), none, none]) rfl ?_
    refine v_mask [false, true, true, true, false, false] (lv' := [none, some (.int x1), some (.ref a4), some (.ref r19), none, none]) rfl ?_
    exact kloop_ok (P := fun a => kV g X 6 a.2.2.2 40 [none, some (.int a.1), some (.ref a.2.1), some (.ref a.2.2.1), none, none] []) (fun self hs a hF => wX0_ranked_b40 C hX hl hin N self hs a.1 a.2.1 a.2.2.1 a.2.2.2 hF) N (x1, a4, r19, u20) hF
set_option maxHeartbeats 4000000 in
theorem wX0_alike (l : Launch) (g : GT) (hX : ∀ U, gX g U → SX g U) (N : Nat) (x0 : Nat) (x1 : Int32) (x2 : Int32) (w : Wd) (r : Int32) (w1 : Wd) (hF : FX0_alike N g x0 x1 x2 w = some (r, w1)) : kMt l g yX0_alike (ws_ yX0_alike cX0_alike 3 (some .int)) 4 400 w [.ref x0, .int x1, .int x2] (some (.int r)) w1 := by
  refine kMt.ofV (lv := [some (.ref x0), some (.int x1), some (.int x2)]) (by decide) rfl (Nat.le_of_ble_eq_true rfl) rfl ?_
  intro X hl hin C
  unfold FX0_alike at hF
  refine v_aload_n C dX0_alike_0 rfl rfl ?_
  refine v_iload_n C dX0_alike_1 rfl rfl ?_
  obtain ⟨h3, hF⟩ := k_ite hF
  refine c_callVi C lk_X0_249 (ci := 1) rfl h3 (fr2 := 2) (lo2 := 200) (As := [.int x1]) (st := []) (fun r9_ w9_ h9_ => by rw [hl]; exact wX0_isRow l g hX N x0 x1 w r9_ w9_ h9_) (by decide) rfl rfl (Nat.le_of_ble_eq_true rfl) dX0_alike_2 hF (fun r1 u2 hF => ?_)
  refine v_if_eq C (tgt := 44) dX0_alike_5 (by decide) hF (fun c4 hF => ?_) (fun c4 hF => ?_)
  · refine v_iconst C (v := (-1 : Int32)) dX0_alike_44 (by decide) ?_
    exact c_iret C dX0_alike_45 hF
  · refine v_aload_n C dX0_alike_8 rfl rfl ?_
    refine v_iload_n C dX0_alike_9 rfl rfl ?_
    obtain ⟨h7, hF⟩ := k_ite hF
    refine c_callVi C lk_X0_249 (ci := 1) rfl h7 (fr2 := 2) (lo2 := 200) (As := [.int x2]) (st := []) (fun r9_ w9_ h9_ => by rw [hl]; exact wX0_isRow l g hX N x0 x2 u2 r9_ w9_ h9_) (by decide) rfl rfl (Nat.le_of_ble_eq_true rfl) dX0_alike_10 hF (fun r5 u6 hF => ?_)
    refine v_if_eq C (tgt := 44) dX0_alike_13 (by decide) hF (fun c8 hF => ?_) (fun c8 hF => ?_)
    · refine v_iconst C (v := (-1 : Int32)) dX0_alike_44 (by decide) ?_
      exact c_iret C dX0_alike_45 hF
    · refine v_aload_n C dX0_alike_16 rfl rfl ?_
      refine v_getR C kc_X0 1 (Nat.le_of_ble_eq_true rfl) (kFl.p q199) dX0_alike_17 hF (fun v9 hF => ?_)
      refine v_iload_n C dX0_alike_20 rfl rfl ?_
      obtain ⟨h12, hF⟩ := k_ite hF
      refine c_callVr C lk_X0_121 (ci := 11) rfl h12 (fr2 := 3) (lo2 := 300) (As := [.int x1]) (st := []) (fun r9_ w9_ h9_ => by rw [hl]; exact wJ2_get l g hX N v9 x1 u6 r9_ w9_ h9_) (by decide) rfl rfl (Nat.le_of_ble_eq_true rfl) dX0_alike_21 hF (fun r10 u11 hF => ?_)
      refine v_castI C (ci := 3) rfl q811 dX0_alike_24 hF (fun hF => ?_)
      refine v_aload_n C dX0_alike_27 rfl rfl ?_
      refine v_getR C kc_X0 1 (Nat.le_of_ble_eq_true rfl) (kFl.p q199) dX0_alike_28 hF (fun v13 hF => ?_)
      refine v_iload_n C dX0_alike_31 rfl rfl ?_
      obtain ⟨h16, hF⟩ := k_ite hF
      refine c_callVr C lk_X0_121 (ci := 11) rfl h16 (fr2 := 3) (lo2 := 300) (As := [.int x2]) (st := [.ref r10]) (fun r9_ w9_ h9_ => by rw [hl]; exact wJ2_get l g hX N v13 x2 u11 r9_ w9_ h9_) (by decide) rfl rfl (Nat.le_of_ble_eq_true rfl) dX0_alike_32 hF (fun r14 u15 hF => ?_)
      refine v_castI C (ci := 3) rfl q811 dX0_alike_35 hF (fun hF => ?_)
      obtain ⟨h19, hF⟩ := k_ite hF
      refine c_callVi C lk_X0_420 (ci := 3) rfl h19 (fr2 := 2) (lo2 := 200) (As := [.ref r14]) (st := []) (fun r9_ w9_ h9_ => by rw [hl]; exact wX9_alike l g hX N r10 r14 u15 r9_ w9_ h9_) (by decide) rfl rfl (Nat.le_of_ble_eq_true rfl) dX0_alike_38 hF (fun r17 u18 hF => ?_)
      refine v_goto C (tgt := 45) dX0_alike_41 (by decide) ?_
      exact c_iret C dX0_alike_45 hF
set_option maxHeartbeats 4000000 in
theorem wX0_faces (l : Launch) (g : GT) (hX : ∀ U, gX g U → SX g U) (N : Nat) (x0 : Nat) (x1 : Int32) (w : Wd) (r : Int32) (w1 : Wd) (hF : FX0_faces N g x0 x1 w = some (r, w1)) : kMt l g yX0_faces (ws_ yX0_faces cX0_faces 2 (some .int)) 4 400 w [.ref x0, .int x1] (some (.int r)) w1 := by
  refine kMt.ofV (lv := [some (.ref x0), some (.int x1)]) (by decide) rfl (Nat.le_of_ble_eq_true rfl) rfl ?_
  intro X hl hin C
  unfold FX0_faces at hF
  refine v_aload_n C dX0_faces_0 rfl rfl ?_
  refine v_iload_n C dX0_faces_1 rfl rfl ?_
  obtain ⟨h3, hF⟩ := k_ite hF
  refine c_callVi C lk_X0_249 (ci := 1) rfl h3 (fr2 := 2) (lo2 := 200) (As := [.int x1]) (st := []) (fun r9_ w9_ h9_ => by rw [hl]; exact wX0_isRow l g hX N x0 x1 w r9_ w9_ h9_) (by decide) rfl rfl (Nat.le_of_ble_eq_true rfl) dX0_faces_2 hF (fun r1 u2 hF => ?_)
  refine v_if_eq C (tgt := 25) dX0_faces_5 (by decide) hF (fun c4 hF => ?_) (fun c4 hF => ?_)
  · refine v_iconst C (v := (-1 : Int32)) dX0_faces_25 (by decide) ?_
    exact c_iret C dX0_faces_26 hF
  · refine v_aload_n C dX0_faces_8 rfl rfl ?_
    refine v_getR C kc_X0 1 (Nat.le_of_ble_eq_true rfl) (kFl.p q199) dX0_faces_9 hF (fun v5 hF => ?_)
    refine v_iload_n C dX0_faces_12 rfl rfl ?_
    obtain ⟨h8, hF⟩ := k_ite hF
    refine c_callVr C lk_X0_121 (ci := 11) rfl h8 (fr2 := 3) (lo2 := 300) (As := [.int x1]) (st := []) (fun r9_ w9_ h9_ => by rw [hl]; exact wJ2_get l g hX N v5 x1 u2 r9_ w9_ h9_) (by decide) rfl rfl (Nat.le_of_ble_eq_true rfl) dX0_faces_13 hF (fun r6 u7 hF => ?_)
    refine v_castI C (ci := 3) rfl q811 dX0_faces_16 hF (fun hF => ?_)
    obtain ⟨h11, hF⟩ := k_ite hF
    refine c_callVi C lk_X0_424 (ci := 3) rfl h11 (fr2 := 2) (lo2 := 200) (As := []) (st := []) (fun r9_ w9_ h9_ => by rw [hl]; exact wX9_faces l g hX N r6 u7 r9_ w9_ h9_) (by decide) rfl rfl (Nat.le_of_ble_eq_true rfl) dX0_faces_19 hF (fun r9 u10 hF => ?_)
    refine v_goto C (tgt := 26) dX0_faces_22 (by decide) ?_
    exact c_iret C dX0_faces_26 hF
set_option maxHeartbeats 4000000 in
theorem wX0_twists_b10 {l : Launch} {g : GT} {X : CxT} {r : Int32} {w1 : Wd} (C : kOk g X cX0_twists 4 RX0 (some .int) 3 300 (some (.int r)) w1) (hX : ∀ U, gX g U → SX g U) (hl : xl X = l) (hin : kHin X yX0_twists) (N : Nat) (k10 : Int32 × Nat × Wd → Option (Int32 × Wd)) (hk10 : ∀ a, k10 a = some (r, w1) → kV g X 4 a.2.2 10 [none, some (.int a.1), some (.ref a.2.1), none] []) (x1 : Int32) (x2 : Nat) (w : Wd) (hF : FX0_twists_b10 N g k10 x1 x2 w = some (r, w1)) : kV g X 4 w 10 [none, some (.int x1), some (.ref x2), none] [] := by
  unfold FX0_twists_b10 at hF
  refine v_aload_n C dX0_twists_10 rfl rfl ?_
  obtain ⟨h7, hF⟩ := k_ite hF
  refine c_callFi C lk_X0_101_J15_hasNext ((hX _ C.2.2.2.2.2.1.2.2.1).2.2.1 _ (List.mem_of_getElem? (i := 0) rfl)) (C.2.2.2.2.2.1.1.1 12 _ rfl).2 (kRc.of C (ci := 12) rfl h7) (fr2 := 1) (lo2 := 100) (As := []) (st := []) (fun r9_ w9_ h9_ => by rw [hl]; exact wJ15_hasNext l g hX N x2 w r9_ w9_ h9_) (by decide) rfl rfl (Nat.le_of_ble_eq_true rfl) dX0_twists_11 hF (fun r5 u6 hF => ?_)
  refine v_if_eq C (tgt := 42) dX0_twists_16 (by decide) hF (fun c8 hF => ?_) (fun c8 hF => ?_)
  · refine v_iload_n C dX0_twists_42 rfl rfl ?_
    exact c_iret C dX0_twists_43 hF
  · refine v_aload_n C dX0_twists_19 rfl rfl ?_
    obtain ⟨h11, hF⟩ := k_ite hF
    refine c_callFr C lk_X0_107_J15_next ((hX _ C.2.2.2.2.2.1.2.2.1).2.2.1 _ (List.mem_of_getElem? (i := 1) rfl)) (C.2.2.2.2.2.1.1.1 12 _ rfl).2 (kRc.of C (ci := 12) rfl h11) (fr2 := 2) (lo2 := 200) (As := []) (st := []) (fun r9_ w9_ h9_ => by rw [hl]; exact wJ15_next l g hX N x2 u6 r9_ w9_ h9_) (by decide) rfl rfl (Nat.le_of_ble_eq_true rfl) dX0_twists_20 hF (fun r9 u10 hF => ?_)
    refine v_castI C (ci := 2) rfl q700 dX0_twists_25 hF (fun hF => ?_)
    refine v_astore_n C dX0_twists_28 rfl (Nat.le_of_ble_eq_true rfl) rfl (lv' := [none, some (.int x1), some (.ref x2), some (.ref r9)]) rfl ?_
    refine v_iload_n C dX0_twists_29 rfl rfl ?_
    refine v_aload_n C dX0_twists_30 rfl rfl ?_
    refine v_getI C kc_X6 3 (Nat.le_of_ble_eq_true rfl) (kFl.n q389) dX0_twists_31 hF (fun v12 hF => ?_)
    refine v_mabs C q2222 (by decide) (Nat.le_of_ble_eq_true rfl) dX0_twists_34 ?_
    refine v_iadd C dX0_twists_37 ?_
    refine v_istore_n C dX0_twists_38 rfl (Nat.le_of_ble_eq_true rfl) rfl (lv' := [none, some (.int (x1 + (kabs v12))), some (.ref x2), some (.ref r9)]) rfl ?_
    refine v_goto C (tgt := 10) dX0_twists_39 (by decide) ?_
    refine v_mask [false, true, true, false] (lv' := [none, some (.int (x1 + (kabs v12))), some (.ref x2), none]) rfl ?_
    exact hk10 ((x1 + (kabs v12)), x2, u10) hF
set_option maxHeartbeats 4000000 in
theorem wX0_twists (l : Launch) (g : GT) (hX : ∀ U, gX g U → SX g U) (N : Nat) (x0 : Nat) (w : Wd) (r : Int32) (w1 : Wd) (hF : FX0_twists N g x0 w = some (r, w1)) : kMt l g yX0_twists (ws_ yX0_twists cX0_twists 4 (some .int)) 3 300 w [.ref x0] (some (.int r)) w1 := by
  refine kMt.ofV (lv := [some (.ref x0), none, none, none]) (by decide) rfl (Nat.le_of_ble_eq_true rfl) rfl ?_
  intro X hl hin C
  unfold FX0_twists at hF
  refine v_iconst C (v := (0 : Int32)) dX0_twists_0 (by decide) ?_
  refine v_istore_n C dX0_twists_1 rfl (Nat.le_of_ble_eq_true rfl) rfl (lv' := [some (.ref x0), some (.int (0 : Int32)), none, none]) rfl ?_
  refine v_aload_n C dX0_twists_2 rfl rfl ?_
  refine v_getR C kc_X0 0 (Nat.le_of_ble_eq_true rfl) (kFl.p q198) dX0_twists_3 hF (fun v1 hF => ?_)
  obtain ⟨h4, hF⟩ := k_ite hF
  refine c_callVr C lk_X0_97 (ci := 11) rfl h4 (fr2 := 2) (lo2 := 200) (As := []) (st := []) (fun r9_ w9_ h9_ => by rw [hl]; exact wJ2_iterator l g hX N v1 w r9_ w9_ h9_) (by decide) rfl rfl (Nat.le_of_ble_eq_true rfl) dX0_twists_6 hF (fun r2 u3 hF => ?_)
  refine v_astore_n C dX0_twists_9 rfl (Nat.le_of_ble_eq_true rfl) rfl (lv' := [some (.ref x0), some (.int (0 : Int32)), some (.ref r2), none]) rfl ?_
  refine v_mask [false, true, true, false] (lv' := [none, some (.int (0 : Int32)), some (.ref r2), none]) rfl ?_
  exact kloop_ok (P := fun a => kV g X 4 a.2.2 10 [none, some (.int a.1), some (.ref a.2.1), none] []) (fun self hs a hF => wX0_twists_b10 C hX hl hin N self hs a.1 a.2.1 a.2.2 hF) N ((0 : Int32), r2, u3) hF
set_option maxHeartbeats 4000000 in
theorem wX0_greatestFloat_b4 {l : Launch} {g : GT} {X : CxT} {r : Int32} {w1 : Wd} (C : kOk g X cX0_greatestFloat 3 RX0 (some .int) 4 400 (some (.int r)) w1) (hX : ∀ U, gX g U → SX g U) (hl : xl X = l) (hin : kHin X yX0_greatestFloat) (N : Nat) (k4 : Nat × Int32 × Int32 × Wd → Option (Int32 × Wd)) (hk4 : ∀ a, k4 a = some (r, w1) → kV g X 3 a.2.2.2 4 [some (.ref a.1), some (.int a.2.1), some (.int a.2.2.1)] []) (x0 : Nat) (x1 : Int32) (x2 : Int32) (w : Wd) (hF : FX0_greatestFloat_b4 N g k4 x0 x1 x2 w = some (r, w1)) : kV g X 3 w 4 [some (.ref x0), some (.int x1), some (.int x2)] [] := by
  unfold FX0_greatestFloat_b4 at hF
  refine v_iload_n C dX0_greatestFloat_4 rfl rfl ?_
  refine v_aload_n C dX0_greatestFloat_5 rfl rfl ?_
  obtain ⟨h3, hF⟩ := k_ite hF
  refine c_callVi C lk_X0_90 (ci := 1) rfl h3 (fr2 := 2) (lo2 := 200) (As := []) (st := [.int x2]) (fun r9_ w9_ h9_ => by rw [hl]; exact wX0_many l g hX N x0 w r9_ w9_ h9_) (by decide) rfl rfl (Nat.le_of_ble_eq_true rfl) dX0_greatestFloat_6 hF (fun r1 u2 hF => ?_)
  refine v_icmp_ge C (tgt := 28) dX0_greatestFloat_9 (by decide) hF (fun c4 hF => ?_) (fun c4 hF => ?_)
  · refine v_iload_n C dX0_greatestFloat_28 rfl rfl ?_
    exact c_iret C dX0_greatestFloat_29 hF
  · refine v_iload_n C dX0_greatestFloat_12 rfl rfl ?_
    refine v_aload_n C dX0_greatestFloat_13 rfl rfl ?_
    refine v_iload_n C dX0_greatestFloat_14 rfl rfl ?_
    obtain ⟨h7, hF⟩ := k_ite hF
    refine c_callVi C lk_X0_208 (ci := 1) rfl h7 (fr2 := 3) (lo2 := 300) (As := [.int x2]) (st := [.int x1]) (fun r9_ w9_ h9_ => by rw [hl]; exact wX0_floatOf l g hX N x0 x2 u2 r9_ w9_ h9_) (by decide) rfl rfl (Nat.le_of_ble_eq_true rfl) dX0_greatestFloat_15 hF (fun r5 u6 hF => ?_)
    refine v_mmax C q812 (by decide) (Nat.le_of_ble_eq_true rfl) dX0_greatestFloat_18 ?_
    refine v_istore_n C dX0_greatestFloat_21 rfl (Nat.le_of_ble_eq_true rfl) rfl (lv' := [some (.ref x0), some (.int (kmax x1 r5)), some (.int x2)]) rfl ?_
    refine v_iinc C dX0_greatestFloat_22 rfl (v := (x2 + (1 : Int32))) rfl (Nat.le_of_ble_eq_true rfl) rfl (lv' := [some (.ref x0), some (.int (kmax x1 r5)), some (.int (x2 + (1 : Int32)))]) rfl ?_
    refine v_goto C (tgt := 4) dX0_greatestFloat_25 (by decide) ?_
    refine v_mask [true, true, true] (lv' := [some (.ref x0), some (.int (kmax x1 r5)), some (.int (x2 + (1 : Int32)))]) rfl ?_
    exact hk4 (x0, (kmax x1 r5), (x2 + (1 : Int32)), u6) hF
set_option maxHeartbeats 4000000 in
theorem wX0_greatestFloat (l : Launch) (g : GT) (hX : ∀ U, gX g U → SX g U) (N : Nat) (x0 : Nat) (w : Wd) (r : Int32) (w1 : Wd) (hF : FX0_greatestFloat N g x0 w = some (r, w1)) : kMt l g yX0_greatestFloat (ws_ yX0_greatestFloat cX0_greatestFloat 3 (some .int)) 4 400 w [.ref x0] (some (.int r)) w1 := by
  refine kMt.ofV (lv := [some (.ref x0), none, none]) (by decide) rfl (Nat.le_of_ble_eq_true rfl) rfl ?_
  intro X hl hin C
  unfold FX0_greatestFloat at hF
  refine v_iconst C (v := (0 : Int32)) dX0_greatestFloat_0 (by decide) ?_
  refine v_istore_n C dX0_greatestFloat_1 rfl (Nat.le_of_ble_eq_true rfl) rfl (lv' := [some (.ref x0), some (.int (0 : Int32)), none]) rfl ?_
  refine v_iconst C (v := (0 : Int32)) dX0_greatestFloat_2 (by decide) ?_
  refine v_istore_n C dX0_greatestFloat_3 rfl (Nat.le_of_ble_eq_true rfl) rfl (lv' := [some (.ref x0), some (.int (0 : Int32)), some (.int (0 : Int32))]) rfl ?_
  refine v_mask [true, true, true] (lv' := [some (.ref x0), some (.int (0 : Int32)), some (.int (0 : Int32))]) rfl ?_
  exact kloop_ok (P := fun a => kV g X 3 a.2.2.2 4 [some (.ref a.1), some (.int a.2.1), some (.int a.2.2.1)] []) (fun self hs a hF => wX0_greatestFloat_b4 C hX hl hin N self hs a.1 a.2.1 a.2.2.1 a.2.2.2 hF) N (x0, (0 : Int32), (0 : Int32), w) hF
set_option maxHeartbeats 4000000 in
theorem wX0_likewise_b13 {l : Launch} {g : GT} {X : CxT} {r : Nat} {w1 : Wd} (C : kOk g X cX0_likewise 4 RX0 (some (.object "java/util/ArrayList")) 7 700 (some (.ref r)) w1) (hX : ∀ U, gX g U → SX g U) (hl : xl X = l) (hin : kHin X yX0_likewise) (N : Nat) (k13 : Nat × Nat × Wd → Option (Nat × Wd)) (hk13 : ∀ a, k13 a = some (r, w1) → kV g X 4 a.2.2 13 [none, some (.ref a.1), some (.ref a.2.1), none] []) (x1 : Nat) (x2 : Nat) (w : Wd) (hF : FX0_likewise_b13 N g k13 x1 x2 w = some (r, w1)) : kV g X 4 w 13 [none, some (.ref x1), some (.ref x2), none] [] := by
  unfold FX0_likewise_b13 at hF
  refine v_aload_n C dX0_likewise_13 rfl rfl ?_
  obtain ⟨h10, hF⟩ := k_ite hF
  refine c_callFi C lk_X0_101_J15_hasNext ((hX _ C.2.2.2.2.2.1.2.2.1).2.2.1 _ (List.mem_of_getElem? (i := 0) rfl)) (C.2.2.2.2.2.1.1.1 12 _ rfl).2 (kRc.of C (ci := 12) rfl h10) (fr2 := 1) (lo2 := 100) (As := []) (st := []) (fun r9_ w9_ h9_ => by rw [hl]; exact wJ15_hasNext l g hX N x2 w r9_ w9_ h9_) (by decide) rfl rfl (Nat.le_of_ble_eq_true rfl) dX0_likewise_14 hF (fun r8 u9 hF => ?_)
  refine v_if_eq C (tgt := 41) dX0_likewise_19 (by decide) hF (fun c11 hF => ?_) (fun c11 hF => ?_)
  · refine v_aload_n C dX0_likewise_41 rfl rfl ?_
    exact c_aret C (Or.inl ⟨_, rfl⟩) dX0_likewise_42 hF
  · refine v_aload_n C dX0_likewise_22 rfl rfl ?_
    obtain ⟨h14, hF⟩ := k_ite hF
    refine c_callFr C lk_X0_107_J15_next ((hX _ C.2.2.2.2.2.1.2.2.1).2.2.1 _ (List.mem_of_getElem? (i := 1) rfl)) (C.2.2.2.2.2.1.1.1 12 _ rfl).2 (kRc.of C (ci := 12) rfl h14) (fr2 := 2) (lo2 := 200) (As := []) (st := []) (fun r9_ w9_ h9_ => by rw [hl]; exact wJ15_next l g hX N x2 u9 r9_ w9_ h9_) (by decide) rfl rfl (Nat.le_of_ble_eq_true rfl) dX0_likewise_23 hF (fun r12 u13 hF => ?_)
    refine v_castI C (ci := 3) rfl q811 dX0_likewise_28 hF (fun hF => ?_)
    refine v_astore_n C dX0_likewise_31 rfl (Nat.le_of_ble_eq_true rfl) rfl (lv' := [none, some (.ref x1), some (.ref x2), some (.ref r12)]) rfl ?_
    refine v_aload_n C dX0_likewise_32 rfl rfl ?_
    refine v_aload_n C dX0_likewise_33 rfl rfl ?_
    obtain ⟨h17, hF⟩ := k_ite hF
    refine c_callVi C lk_X0_117 (ci := 11) rfl h17 (fr2 := 6) (lo2 := 600) (As := [.ref r12]) (st := []) (fun r9_ w9_ h9_ => by rw [hl]; exact wJ2_add l g hX N x1 r12 u13 r9_ w9_ h9_) (by decide) rfl rfl (Nat.le_of_ble_eq_true rfl) dX0_likewise_34 hF (fun r15 u16 hF => ?_)
    refine v_pop C dX0_likewise_37 rfl ?_
    refine v_goto C (tgt := 13) dX0_likewise_38 (by decide) ?_
    refine v_mask [false, true, true, false] (lv' := [none, some (.ref x1), some (.ref x2), none]) rfl ?_
    exact hk13 (x1, x2, u16) hF
set_option maxHeartbeats 4000000 in
theorem wX0_likewise (l : Launch) (g : GT) (hX : ∀ U, gX g U → SX g U) (N : Nat) (x0 : Nat) (w : Wd) (r : Nat) (w1 : Wd) (hF : FX0_likewise N g x0 w = some (r, w1)) : kMt l g yX0_likewise (ws_ yX0_likewise cX0_likewise 4 (some (.object "java/util/ArrayList"))) 7 700 w [.ref x0] (some (.ref r)) w1 := by
  refine kMt.ofV (lv := [some (.ref x0), none, none, none]) (by decide) rfl (Nat.le_of_ble_eq_true rfl) rfl ?_
  intro X hl hin C
  unfold FX0_likewise at hF
  refine v_newW C kc_J2 q144 q145 q81 nw_J2 dX0_likewise_0 hF (fun a1 u2 hF => ?_)
  refine v_dup C dX0_likewise_3 rfl ?_
  refine c_callI C lk_X0_9 (fr2 := 3) (lo2 := 300) (As := []) (st := [.ref a1]) (fun r9_ w9_ h9_ => by rw [hl]; exact wJ2_init l g hX N a1 u2 r9_ w9_ h9_) (by decide) rfl rfl (Nat.le_of_ble_eq_true rfl) dX0_likewise_4 hF (fun r3 u4 hF => ?_)
  refine v_astore_n C dX0_likewise_7 rfl (Nat.le_of_ble_eq_true rfl) rfl (lv' := [some (.ref x0), some (.ref a1), none, none]) rfl ?_
  refine v_aload_n C dX0_likewise_8 rfl rfl ?_
  obtain ⟨h7, hF⟩ := k_ite hF
  refine c_callVr C lk_X0_97 (ci := 11) rfl h7 (fr2 := 2) (lo2 := 200) (As := []) (st := []) (fun r9_ w9_ h9_ => by rw [hl]; exact wJ2_iterator l g hX N x0 u4 r9_ w9_ h9_) (by decide) rfl rfl (Nat.le_of_ble_eq_true rfl) dX0_likewise_9 hF (fun r5 u6 hF => ?_)
  refine v_astore_n C dX0_likewise_12 rfl (Nat.le_of_ble_eq_true rfl) rfl (lv' := [some (.ref x0), some (.ref a1), some (.ref r5), none]) rfl ?_
  refine v_mask [false, true, true, false] (lv' := [none, some (.ref a1), some (.ref r5), none]) rfl ?_
  exact kloop_ok (P := fun a => kV g X 4 a.2.2 13 [none, some (.ref a.1), some (.ref a.2.1), none] []) (fun self hs a hF => wX0_likewise_b13 C hX hl hin N self hs a.1 a.2.1 a.2.2 hF) N (a1, r5, u6) hF
set_option maxHeartbeats 4000000 in
theorem wX0_image (l : Launch) (g : GT) (hX : ∀ U, gX g U → SX g U) (N : Nat) (x0 : Nat) (w : Wd) (r : Int32) (w1 : Wd) (hF : FX0_image N g x0 w = some (r, w1)) : kMt l g yX0_image (ws_ yX0_image cX0_image 1 (some .int)) 8 800 w [.ref x0] (some (.int r)) w1 := by
  refine kMt.ofV (lv := [some (.ref x0)]) (by decide) rfl (Nat.le_of_ble_eq_true rfl) rfl ?_
  intro X hl hin C
  unfold FX0_image at hF
  refine v_aload_n C dX0_image_0 rfl rfl ?_
  refine v_aload_n C dX0_image_1 rfl rfl ?_
  refine v_getR C kc_X0 0 (Nat.le_of_ble_eq_true rfl) (kFl.p q198) dX0_image_2 hF (fun v1 hF => ?_)
  refine c_callSr C lk_X0_265 (fr2 := 7) (lo2 := 700) (As := [.ref v1]) (st := [.ref x0]) (fun r9_ w9_ h9_ => by rw [hl]; exact wX0_twins l g hX N v1 w r9_ w9_ h9_) (by decide) rfl rfl (Nat.le_of_ble_eq_true rfl) dX0_image_5 hF (fun r2 u3 hF => ?_)
  refine v_putW C kc_X0 11 (Nat.le_of_ble_eq_true rfl) (kFl.p q213) rfl rfl rfl dX0_image_8 hF (fun u4 hF => ?_)
  refine v_aload_n C dX0_image_11 rfl rfl ?_
  refine v_aload_n C dX0_image_12 rfl rfl ?_
  refine v_getR C kc_X0 1 (Nat.le_of_ble_eq_true rfl) (kFl.p q199) dX0_image_13 hF (fun v5 hF => ?_)
  refine c_callSr C lk_X0_476 (fr2 := 7) (lo2 := 700) (As := [.ref v5]) (st := [.ref x0]) (fun r9_ w9_ h9_ => by rw [hl]; exact wX0_likewise l g hX N v5 u4 r9_ w9_ h9_) (by decide) rfl rfl (Nat.le_of_ble_eq_true rfl) dX0_image_16 hF (fun r6 u7 hF => ?_)
  refine v_putW C kc_X0 12 (Nat.le_of_ble_eq_true rfl) (kFl.p q214) rfl rfl rfl dX0_image_19 hF (fun u8 hF => ?_)
  refine v_aload_n C dX0_image_22 rfl rfl ?_
  refine v_aload_n C dX0_image_23 rfl rfl ?_
  refine v_getR C kc_X0 2 (Nat.le_of_ble_eq_true rfl) (kFl.p q200) dX0_image_24 hF (fun v9 hF => ?_)
  refine v_putW C kc_X0 13 (Nat.le_of_ble_eq_true rfl) (kFl.p q215) rfl rfl rfl dX0_image_27 hF (fun u10 hF => ?_)
  refine v_aload_n C dX0_image_30 rfl rfl ?_
  refine v_getR C kc_X0 1 (Nat.le_of_ble_eq_true rfl) (kFl.p q199) dX0_image_31 hF (fun v11 hF => ?_)
  obtain ⟨h14, hF⟩ := k_ite hF
  refine c_callVi C lk_X0_86 (ci := 11) rfl h14 (fr2 := 1) (lo2 := 100) (As := []) (st := []) (fun r9_ w9_ h9_ => by rw [hl]; exact wJ2_size l g hX N v11 u10 r9_ w9_ h9_) (by decide) rfl rfl (Nat.le_of_ble_eq_true rfl) dX0_image_34 hF (fun r12 u13 hF => ?_)
  exact c_iret C dX0_image_37 hF
set_option maxHeartbeats 4000000 in
theorem wX0_undo (l : Launch) (g : GT) (hX : ∀ U, gX g U → SX g U) (N : Nat) (x0 : Nat) (w : Wd) (r : Int32) (w1 : Wd) (hF : FX0_undo N g x0 w = some (r, w1)) : kMt l g yX0_undo (ws_ yX0_undo cX0_undo 1 (some .int)) 8 800 w [.ref x0] (some (.int r)) w1 := by
  refine kMt.ofV (lv := [some (.ref x0)]) (by decide) rfl (Nat.le_of_ble_eq_true rfl) rfl ?_
  intro X hl hin C
  unfold FX0_undo at hF
  refine v_aload_n C dX0_undo_0 rfl rfl ?_
  refine v_getQ C kc_X0 11 (Nat.le_of_ble_eq_true rfl) (kFl.p q213) dX0_undo_1 hF (fun v1 hF => ?_)
  rcases v1 with _ | a2
  · have hF := k_mn0 hF
    show kV _ _ _ _ 4 [some (.ref x0)] [.null]
    refine v_ifnonnullN C dX0_undo_4 ?_
    refine v_bipush C (v := (-3 : Int32)) dX0_undo_7 (by decide) ?_
    exact c_iret C dX0_undo_9 hF
  · have hF := k_mn1 hF
    show kV _ _ _ _ 4 [some (.ref x0)] [.ref a2]
    refine v_ifnonnull C (tgt := 10) dX0_undo_4 (by decide) ?_
    refine v_aload_n C dX0_undo_10 rfl rfl ?_
    refine v_aload_n C dX0_undo_11 rfl rfl ?_
    refine v_getQ C kc_X0 11 (Nat.le_of_ble_eq_true rfl) (kFl.p q213) dX0_undo_12 hF (fun v3 hF => ?_)
    rcases v3 with _ | a4
    · exact (k_ob0 hF).elim
    have hF := k_ob1 hF
    show kV _ _ _ _ 15 [some (.ref x0)] [.ref a4, .ref x0]
    refine c_callSr C lk_X0_265 (fr2 := 7) (lo2 := 700) (As := [.ref a4]) (st := [.ref x0]) (fun r9_ w9_ h9_ => by rw [hl]; exact wX0_twins l g hX N a4 w r9_ w9_ h9_) (by decide) rfl rfl (Nat.le_of_ble_eq_true rfl) dX0_undo_15 hF (fun r5 u6 hF => ?_)
    refine v_putW C kc_X0 0 (Nat.le_of_ble_eq_true rfl) (kFl.p q198) rfl rfl rfl dX0_undo_18 hF (fun u7 hF => ?_)
    refine v_aload_n C dX0_undo_21 rfl rfl ?_
    refine v_aload_n C dX0_undo_22 rfl rfl ?_
    refine v_getQ C kc_X0 12 (Nat.le_of_ble_eq_true rfl) (kFl.p q214) dX0_undo_23 hF (fun v8 hF => ?_)
    rcases v8 with _ | a9
    · exact (k_ob0 hF).elim
    have hF := k_ob1 hF
    show kV _ _ _ _ 26 [some (.ref x0)] [.ref a9, .ref x0]
    refine c_callSr C lk_X0_476 (fr2 := 7) (lo2 := 700) (As := [.ref a9]) (st := [.ref x0]) (fun r9_ w9_ h9_ => by rw [hl]; exact wX0_likewise l g hX N a9 u7 r9_ w9_ h9_) (by decide) rfl rfl (Nat.le_of_ble_eq_true rfl) dX0_undo_26 hF (fun r10 u11 hF => ?_)
    refine v_putW C kc_X0 1 (Nat.le_of_ble_eq_true rfl) (kFl.p q199) rfl rfl rfl dX0_undo_29 hF (fun u12 hF => ?_)
    refine v_aload_n C dX0_undo_32 rfl rfl ?_
    refine v_aload_n C dX0_undo_33 rfl rfl ?_
    refine v_getR C kc_X0 13 (Nat.le_of_ble_eq_true rfl) (kFl.p q215) dX0_undo_34 hF (fun v13 hF => ?_)
    refine v_putW C kc_X0 2 (Nat.le_of_ble_eq_true rfl) (kFl.p q200) rfl rfl rfl dX0_undo_37 hF (fun u14 hF => ?_)
    refine v_aload_n C dX0_undo_40 rfl rfl ?_
    refine v_getR C kc_X0 1 (Nat.le_of_ble_eq_true rfl) (kFl.p q199) dX0_undo_41 hF (fun v15 hF => ?_)
    obtain ⟨h18, hF⟩ := k_ite hF
    refine c_callVi C lk_X0_86 (ci := 11) rfl h18 (fr2 := 1) (lo2 := 100) (As := []) (st := []) (fun r9_ w9_ h9_ => by rw [hl]; exact wJ2_size l g hX N v15 u14 r9_ w9_ h9_) (by decide) rfl rfl (Nat.le_of_ble_eq_true rfl) dX0_undo_44 hF (fun r16 u17 hF => ?_)
    exact c_iret C dX0_undo_47 hF
