set_option maxRecDepth 100000
set_option maxHeartbeats 4000000 in
theorem wX0_firstOn_b38 {l : Launch} {g : GT} {X : CxT} {r : Int32} {w1 : Wd} (C : kOk g X cX0_firstOn 6 RX0 (some .int) 47 4700 (some (.int r)) w1) (hX : ∀ U, gX g U → SX g U) (hl : xl X = l) (hin : kHin X yX0_firstOn) (N : Nat) (k11 : Nat × Int32 × Nat × Nat × Int32 × Wd → Option (Int32 × Wd)) (hk11 : ∀ a, k11 a = some (r, w1) → kV g X 6 a.2.2.2.2.2 11 [some (.ref a.1), some (.int a.2.1), some (.ref a.2.2.1), some (.ref a.2.2.2.1), some (.int a.2.2.2.2.1), none] []) (x0 : Nat) (x1 : Int32) (x2 : Nat) (x3 : Nat) (x4 : Int32) (w : Wd) (hF : FX0_firstOn_b38 N g k11 x0 x1 x2 x3 x4 w = some (r, w1)) : kV g X 6 w 38 [some (.ref x0), some (.int x1), some (.ref x2), some (.ref x3), some (.int x4), none] [] := by
  unfold FX0_firstOn_b38 at hF
  refine v_aload_n C dX0_firstOn_38 rfl rfl ?_
  refine v_aload_n C dX0_firstOn_39 rfl rfl ?_
  refine v_getR C kc_X0 1 (Nat.le_of_ble_eq_true rfl) (kFl.p q199) dX0_firstOn_40 hF (fun v6 hF => ?_)
  obtain ⟨h9, hF⟩ := k_ite hF
  refine c_callVi C lk_X0_86 (ci := 11) rfl h9 (fr2 := 1) (lo2 := 100) (As := []) (st := [.ref x0]) (fun r9_ w9_ h9_ => by rw [hl]; exact wJ2_size l g hX N v6 w r9_ w9_ h9_) (by decide) rfl rfl (Nat.le_of_ble_eq_true rfl) dX0_firstOn_43 hF (fun r7 u8 hF => ?_)
  refine v_iload C dX0_firstOn_46 rfl ?_
  refine v_iadd C dX0_firstOn_48 ?_
  obtain ⟨h12, hF⟩ := k_ite hF
  refine c_callVr C lk_X0_236 (ci := 1) rfl h12 (fr2 := 46) (lo2 := 4600) (As := [.int (r7 + x4)]) (st := []) (fun r9_ w9_ h9_ => by rw [hl]; exact wX0_pickOf l g hX N x0 (r7 + x4) u8 r9_ w9_ h9_) (by decide) rfl rfl (Nat.le_of_ble_eq_true rfl) dX0_firstOn_49 hF (fun r10 u11 hF => ?_)
  refine v_astore C dX0_firstOn_52 (Nat.le_of_ble_eq_true rfl) rfl (lv' := [some (.ref x0), some (.int x1), some (.ref x2), some (.ref x3), some (.int x4), some (.ref r10)]) rfl ?_
  refine v_aload_n C dX0_firstOn_54 rfl rfl ?_
  refine v_aload C dX0_firstOn_55 rfl ?_
  refine c_callSi C lk_X0_138 (fr2 := 4) (lo2 := 400) (As := [.ref x3, .ref r10]) (st := []) (fun r9_ w9_ h9_ => by rw [hl]; exact wX0_jams l g hX N x3 r10 u11 r9_ w9_ h9_) (by decide) rfl rfl (Nat.le_of_ble_eq_true rfl) dX0_firstOn_57 hF (fun r13 u14 hF => ?_)
  refine v_if_eq C (tgt := 66) dX0_firstOn_60 (by decide) hF (fun c15 hF => ?_) (fun c15 hF => ?_)
  · refine v_aload_n C dX0_firstOn_66 rfl rfl ?_
    refine v_aload C dX0_firstOn_67 rfl ?_
    refine c_callSv C lk_X0_141 (fr2 := 4) (lo2 := 400) (As := [.ref x3, .ref r10]) (st := []) (fun r9_ w9_ h9_ => by rw [hl]; exact wX0_turns l g hX N x3 r10 u14 r9_ w9_ h9_) (by decide) rfl rfl (Nat.le_of_ble_eq_true rfl) dX0_firstOn_69 hF (fun r16 u17 hF => ?_)
    refine v_iinc C dX0_firstOn_72 rfl (v := (x4 + (1 : Int32))) rfl (Nat.le_of_ble_eq_true rfl) rfl (lv' := [some (.ref x0), some (.int x1), some (.ref x2), some (.ref x3), some (.int (x4 + (1 : Int32))), some (.ref r10)]) rfl ?_
    refine v_goto C (tgt := 11) dX0_firstOn_75 (by decide) ?_
    refine v_mask [true, true, true, true, true, false] (lv' := [some (.ref x0), some (.int x1), some (.ref x2), some (.ref x3), some (.int (x4 + (1 : Int32))), none]) rfl ?_
    exact hk11 (x0, x1, x2, x3, (x4 + (1 : Int32)), u17) hF
  · refine v_bipush C (v := (-5 : Int32)) dX0_firstOn_63 (by decide) ?_
    exact c_iret C dX0_firstOn_65 hF
set_option maxHeartbeats 4000000 in
theorem wX0_firstOn_b11 {l : Launch} {g : GT} {X : CxT} {r : Int32} {w1 : Wd} (C : kOk g X cX0_firstOn 6 RX0 (some .int) 47 4700 (some (.int r)) w1) (hX : ∀ U, gX g U → SX g U) (hl : xl X = l) (hin : kHin X yX0_firstOn) (N : Nat) (k11 : Nat × Int32 × Nat × Nat × Int32 × Wd → Option (Int32 × Wd)) (hk11 : ∀ a, k11 a = some (r, w1) → kV g X 6 a.2.2.2.2.2 11 [some (.ref a.1), some (.int a.2.1), some (.ref a.2.2.1), some (.ref a.2.2.2.1), some (.int a.2.2.2.2.1), none] []) (x0 : Nat) (x1 : Int32) (x2 : Nat) (x3 : Nat) (x4 : Int32) (w : Wd) (hF : FX0_firstOn_b11 N g k11 x0 x1 x2 x3 x4 w = some (r, w1)) : kV g X 6 w 11 [some (.ref x0), some (.int x1), some (.ref x2), some (.ref x3), some (.int x4), none] [] := by
  unfold FX0_firstOn_b11 at hF
  refine v_iload C dX0_firstOn_11 rfl ?_
  refine v_sipush C (v := (200 : Int32)) dX0_firstOn_13 (by decide) ?_
  refine v_icmp_gt C (tgt := 78) dX0_firstOn_16 (by decide) hF (fun c4 hF => ?_) (fun c4 hF => ?_)
  · refine v_bipush C (v := (-5 : Int32)) dX0_firstOn_78 (by decide) ?_
    exact c_iret C dX0_firstOn_80 hF
  · refine v_iload C dX0_firstOn_19 rfl ?_
    refine v_iload_n C dX0_firstOn_21 rfl rfl ?_
    refine v_icmp_lt C (tgt := 38) dX0_firstOn_22 (by decide) hF (fun c5 hF => ?_) (fun c5 hF => ?_)
    · refine v_mask [true, true, true, true, true, false] (lv' := [some (.ref x0), some (.int x1), some (.ref x2), some (.ref x3), some (.int x4), none]) rfl ?_
      exact wX0_firstOn_b38 C hX hl hin N k11 hk11 (x0) (x1) (x2) (x3) (x4) w hF
    · refine v_aload_n C dX0_firstOn_25 rfl rfl ?_
      refine v_aload_n C dX0_firstOn_26 rfl rfl ?_
      refine v_asks C hX hl N q1078 (by decide) (Nat.le_of_ble_eq_true rfl) dX0_firstOn_27 hF (fun r18 u19 hF => ?_)
      refine v_if_eq C (tgt := 38) dX0_firstOn_32 (by decide) hF (fun c20 hF => ?_) (fun c20 hF => ?_)
      · refine v_mask [true, true, true, true, true, false] (lv' := [some (.ref x0), some (.int x1), some (.ref x2), some (.ref x3), some (.int x4), none]) rfl ?_
        exact wX0_firstOn_b38 C hX hl hin N k11 hk11 (x0) (x1) (x2) (x3) (x4) u19 hF
      · refine v_iload C dX0_firstOn_35 rfl ?_
        exact c_iret C dX0_firstOn_37 hF
set_option maxHeartbeats 4000000 in
theorem wX0_firstOn (l : Launch) (g : GT) (hX : ∀ U, gX g U → SX g U) (N : Nat) (x0 : Nat) (x1 : Int32) (x2 : Nat) (w : Wd) (r : Int32) (w1 : Wd) (hF : FX0_firstOn N g x0 x1 x2 w = some (r, w1)) : kMt l g yX0_firstOn (ws_ yX0_firstOn cX0_firstOn 6 (some .int)) 47 4700 w [.ref x0, .int x1, .ref x2] (some (.int r)) w1 := by
  refine kMt.ofV (lv := [some (.ref x0), some (.int x1), some (.ref x2), none, none, none]) (by decide) rfl (Nat.le_of_ble_eq_true rfl) rfl ?_
  intro X hl hin C
  unfold FX0_firstOn at hF
  refine v_aload_n C dX0_firstOn_0 rfl rfl ?_
  refine v_getR C kc_X0 0 (Nat.le_of_ble_eq_true rfl) (kFl.p q198) dX0_firstOn_1 hF (fun v1 hF => ?_)
  refine c_callSr C lk_X0_265 (fr2 := 7) (lo2 := 700) (As := [.ref v1]) (st := []) (fun r9_ w9_ h9_ => by rw [hl]; exact wX0_twins l g hX N v1 w r9_ w9_ h9_) (by decide) rfl rfl (Nat.le_of_ble_eq_true rfl) dX0_firstOn_4 hF (fun r2 u3 hF => ?_)
  refine v_astore_n C dX0_firstOn_7 rfl (Nat.le_of_ble_eq_true rfl) rfl (lv' := [some (.ref x0), some (.int x1), some (.ref x2), some (.ref r2), none, none]) rfl ?_
  refine v_iconst C (v := (0 : Int32)) dX0_firstOn_8 (by decide) ?_
  refine v_istore C dX0_firstOn_9 (Nat.le_of_ble_eq_true rfl) rfl (lv' := [some (.ref x0), some (.int x1), some (.ref x2), some (.ref r2), some (.int (0 : Int32)), none]) rfl ?_
  refine v_mask [true, true, true, true, true, false] (lv' := [some (.ref x0), some (.int x1), some (.ref x2), some (.ref r2), some (.int (0 : Int32)), none]) rfl ?_
  exact kloop_ok (P := fun a => kV g X 6 a.2.2.2.2.2 11 [some (.ref a.1), some (.int a.2.1), some (.ref a.2.2.1), some (.ref a.2.2.2.1), some (.int a.2.2.2.2.1), none] []) (fun self hs a hF => wX0_firstOn_b11 C hX hl hin N self hs a.1 a.2.1 a.2.2.1 a.2.2.2.1 a.2.2.2.2.1 a.2.2.2.2.2 hF) N (x0, x1, x2, r2, (0 : Int32), u3) hF
set_option maxHeartbeats 4000000 in
theorem wX0_returns (l : Launch) (g : GT) (hX : ∀ U, gX g U → SX g U) (N : Nat) (x0 : Nat) (w : Wd) (r : Int32) (w1 : Wd) (hF : FX0_returns N g x0 w = some (r, w1)) : kMt l g yX0_returns (ws_ yX0_returns cX0_returns 1 (some .int)) 48 4800 w [.ref x0] (some (.int r)) w1 := by
  refine kMt.ofV (lv := [some (.ref x0)]) (by decide) rfl (Nat.le_of_ble_eq_true rfl) rfl ?_
  intro X hl hin C
  unfold FX0_returns at hF
  refine v_aload_n C dX0_returns_0 rfl rfl ?_
  obtain ⟨h3, hF⟩ := k_ite hF
  refine c_callVi C lk_X0_90 (ci := 1) rfl h3 (fr2 := 2) (lo2 := 200) (As := []) (st := []) (fun r9_ w9_ h9_ => by rw [hl]; exact wX0_many l g hX N x0 w r9_ w9_ h9_) (by decide) rfl rfl (Nat.le_of_ble_eq_true rfl) dX0_returns_1 hF (fun r1 u2 hF => ?_)
  refine v_if_ne C (tgt := 12) dX0_returns_4 (by decide) hF (fun c4 hF => ?_) (fun c4 hF => ?_)
  · refine v_bipush C (v := (-3 : Int32)) dX0_returns_7 (by decide) ?_
    refine v_goto C (tgt := 23) dX0_returns_9 (by decide) ?_
    exact c_iret C dX0_returns_23 hF
  · refine v_aload_n C dX0_returns_12 rfl rfl ?_
    refine v_iconst C (v := (1 : Int32)) dX0_returns_13 (by decide) ?_
    refine v_aload_n C dX0_returns_14 rfl rfl ?_
    refine v_lmk C hX hin rfl 11 (List.mem_of_getElem? (i := 11) rfl) rfl rfl rfl rfl la_11 rfl (vs := [.ref x0]) rfl rfl rfl rfl rfl (by decide) (Nat.le_of_ble_eq_true rfl) dX0_returns_15 hF (fun a5 u6 hF => ?_)
    obtain ⟨h9, hF⟩ := k_ite hF
    refine c_callVi C lk_X0_278 (ci := 1) rfl h9 (fr2 := 47) (lo2 := 4700) (As := [.int (1 : Int32), .ref a5]) (st := []) (fun r9_ w9_ h9_ => by rw [hl]; exact wX0_firstOn l g hX N x0 (1 : Int32) a5 u6 r9_ w9_ h9_) (by decide) rfl rfl (Nat.le_of_ble_eq_true rfl) dX0_returns_20 hF (fun r7 u8 hF => ?_)
    exact c_iret C dX0_returns_23 hF
set_option maxHeartbeats 4000000 in
theorem wX0_flat (l : Launch) (g : GT) (hX : ∀ U, gX g U → SX g U) (N : Nat) (x0 : Nat) (w : Wd) (r : Int32) (w1 : Wd) (hF : FX0_flat N g x0 w = some (r, w1)) : kMt l g yX0_flat (ws_ yX0_flat cX0_flat 1 (some .int)) 48 4800 w [.ref x0] (some (.int r)) w1 := by
  refine kMt.ofV (lv := [some (.ref x0)]) (by decide) rfl (Nat.le_of_ble_eq_true rfl) rfl ?_
  intro X hl hin C
  unfold FX0_flat at hF
  refine v_aload_n C dX0_flat_0 rfl rfl ?_
  obtain ⟨h3, hF⟩ := k_ite hF
  refine c_callVi C lk_X0_90 (ci := 1) rfl h3 (fr2 := 2) (lo2 := 200) (As := []) (st := []) (fun r9_ w9_ h9_ => by rw [hl]; exact wX0_many l g hX N x0 w r9_ w9_ h9_) (by decide) rfl rfl (Nat.le_of_ble_eq_true rfl) dX0_flat_1 hF (fun r1 u2 hF => ?_)
  refine v_if_ne C (tgt := 12) dX0_flat_4 (by decide) hF (fun c4 hF => ?_) (fun c4 hF => ?_)
  · refine v_bipush C (v := (-3 : Int32)) dX0_flat_7 (by decide) ?_
    refine v_goto C (tgt := 22) dX0_flat_9 (by decide) ?_
    exact c_iret C dX0_flat_22 hF
  · refine v_aload_n C dX0_flat_12 rfl rfl ?_
    refine v_iconst C (v := (0 : Int32)) dX0_flat_13 (by decide) ?_
    refine v_lco C hX hin 9 (List.mem_of_getElem? (i := 12) rfl) rfl rfl rfl (by decide) (Nat.le_of_ble_eq_true rfl) dX0_flat_14 ?_
    obtain ⟨h7, hF⟩ := k_ite hF
    refine c_callVi C lk_X0_278 (ci := 1) rfl h7 (fr2 := 47) (lo2 := 4700) (As := [.int (0 : Int32), .ref (gT g 9)]) (st := []) (fun r9_ w9_ h9_ => by rw [hl]; exact wX0_firstOn l g hX N x0 (0 : Int32) (gT g 9) u2 r9_ w9_ h9_) (by decide) rfl rfl (Nat.le_of_ble_eq_true rfl) dX0_flat_19 hF (fun r5 u6 hF => ?_)
    exact c_iret C dX0_flat_22 hF
set_option maxHeartbeats 4000000 in
theorem wX0_jam_b20 {l : Launch} {g : GT} {X : CxT} {r : Int32} {w1 : Wd} (C : kOk g X cX0_jam 4 RX0 (some .int) 47 4700 (some (.int r)) w1) (hX : ∀ U, gX g U → SX g U) (hl : xl X = l) (hin : kHin X yX0_jam) (N : Nat) (k20 : Nat × Nat × Int32 × Wd → Option (Int32 × Wd)) (hk20 : ∀ a, k20 a = some (r, w1) → kV g X 4 a.2.2.2 20 [some (.ref a.1), some (.ref a.2.1), some (.int a.2.2.1), none] []) (x0 : Nat) (x1 : Nat) (x2 : Int32) (w : Wd) (hF : FX0_jam_b20 N g k20 x0 x1 x2 w = some (r, w1)) : kV g X 4 w 20 [some (.ref x0), some (.ref x1), some (.int x2), none] [] := by
  unfold FX0_jam_b20 at hF
  refine v_iload_n C dX0_jam_20 rfl rfl ?_
  refine v_sipush C (v := (200 : Int32)) dX0_jam_21 (by decide) ?_
  refine v_icmp_gt C (tgt := 64) dX0_jam_24 (by decide) hF (fun c8 hF => ?_) (fun c8 hF => ?_)
  · refine v_bipush C (v := (-5 : Int32)) dX0_jam_64 (by decide) ?_
    exact c_iret C dX0_jam_66 hF
  · refine v_aload_n C dX0_jam_27 rfl rfl ?_
    refine v_aload_n C dX0_jam_28 rfl rfl ?_
    refine v_getR C kc_X0 1 (Nat.le_of_ble_eq_true rfl) (kFl.p q199) dX0_jam_29 hF (fun v9 hF => ?_)
    obtain ⟨h12, hF⟩ := k_ite hF
    refine c_callVi C lk_X0_86 (ci := 11) rfl h12 (fr2 := 1) (lo2 := 100) (As := []) (st := [.ref x0]) (fun r9_ w9_ h9_ => by rw [hl]; exact wJ2_size l g hX N v9 w r9_ w9_ h9_) (by decide) rfl rfl (Nat.le_of_ble_eq_true rfl) dX0_jam_32 hF (fun r10 u11 hF => ?_)
    refine v_iload_n C dX0_jam_35 rfl rfl ?_
    refine v_iadd C dX0_jam_36 ?_
    refine v_iconst C (v := (1 : Int32)) dX0_jam_37 (by decide) ?_
    refine v_isub C dX0_jam_38 ?_
    obtain ⟨h15, hF⟩ := k_ite hF
    refine c_callVr C lk_X0_236 (ci := 1) rfl h15 (fr2 := 46) (lo2 := 4600) (As := [.int ((r10 + x2) - (1 : Int32))]) (st := []) (fun r9_ w9_ h9_ => by rw [hl]; exact wX0_pickOf l g hX N x0 ((r10 + x2) - (1 : Int32)) u11 r9_ w9_ h9_) (by decide) rfl rfl (Nat.le_of_ble_eq_true rfl) dX0_jam_39 hF (fun r13 u14 hF => ?_)
    refine v_astore_n C dX0_jam_42 rfl (Nat.le_of_ble_eq_true rfl) rfl (lv' := [some (.ref x0), some (.ref x1), some (.int x2), some (.ref r13)]) rfl ?_
    refine v_aload_n C dX0_jam_43 rfl rfl ?_
    refine v_aload_n C dX0_jam_44 rfl rfl ?_
    refine c_callSi C lk_X0_138 (fr2 := 4) (lo2 := 400) (As := [.ref x1, .ref r13]) (st := []) (fun r9_ w9_ h9_ => by rw [hl]; exact wX0_jams l g hX N x1 r13 u14 r9_ w9_ h9_) (by decide) rfl rfl (Nat.le_of_ble_eq_true rfl) dX0_jam_45 hF (fun r16 u17 hF => ?_)
    refine v_if_eq C (tgt := 53) dX0_jam_48 (by decide) hF (fun c18 hF => ?_) (fun c18 hF => ?_)
    · refine v_aload_n C dX0_jam_53 rfl rfl ?_
      refine v_aload_n C dX0_jam_54 rfl rfl ?_
      refine c_callSv C lk_X0_141 (fr2 := 4) (lo2 := 400) (As := [.ref x1, .ref r13]) (st := []) (fun r9_ w9_ h9_ => by rw [hl]; exact wX0_turns l g hX N x1 r13 u17 r9_ w9_ h9_) (by decide) rfl rfl (Nat.le_of_ble_eq_true rfl) dX0_jam_55 hF (fun r19 u20 hF => ?_)
      refine v_iinc C dX0_jam_58 rfl (v := (x2 + (1 : Int32))) rfl (Nat.le_of_ble_eq_true rfl) rfl (lv' := [some (.ref x0), some (.ref x1), some (.int (x2 + (1 : Int32))), some (.ref r13)]) rfl ?_
      refine v_goto C (tgt := 20) dX0_jam_61 (by decide) ?_
      refine v_mask [true, true, true, false] (lv' := [some (.ref x0), some (.ref x1), some (.int (x2 + (1 : Int32))), none]) rfl ?_
      exact hk20 (x0, x1, (x2 + (1 : Int32)), u20) hF
    · refine v_iload_n C dX0_jam_51 rfl rfl ?_
      exact c_iret C dX0_jam_52 hF
set_option maxHeartbeats 4000000 in
theorem wX0_jam (l : Launch) (g : GT) (hX : ∀ U, gX g U → SX g U) (N : Nat) (x0 : Nat) (w : Wd) (r : Int32) (w1 : Wd) (hF : FX0_jam N g x0 w = some (r, w1)) : kMt l g yX0_jam (ws_ yX0_jam cX0_jam 4 (some .int)) 47 4700 w [.ref x0] (some (.int r)) w1 := by
  refine kMt.ofV (lv := [some (.ref x0), none, none, none]) (by decide) rfl (Nat.le_of_ble_eq_true rfl) rfl ?_
  intro X hl hin C
  unfold FX0_jam at hF
  refine v_aload_n C dX0_jam_0 rfl rfl ?_
  obtain ⟨h3, hF⟩ := k_ite hF
  refine c_callVi C lk_X0_90 (ci := 1) rfl h3 (fr2 := 2) (lo2 := 200) (As := []) (st := []) (fun r9_ w9_ h9_ => by rw [hl]; exact wX0_many l g hX N x0 w r9_ w9_ h9_) (by decide) rfl rfl (Nat.le_of_ble_eq_true rfl) dX0_jam_1 hF (fun r1 u2 hF => ?_)
  refine v_if_ne C (tgt := 10) dX0_jam_4 (by decide) hF (fun c4 hF => ?_) (fun c4 hF => ?_)
  · refine v_bipush C (v := (-3 : Int32)) dX0_jam_7 (by decide) ?_
    exact c_iret C dX0_jam_9 hF
  · refine v_aload_n C dX0_jam_10 rfl rfl ?_
    refine v_getR C kc_X0 0 (Nat.le_of_ble_eq_true rfl) (kFl.p q198) dX0_jam_11 hF (fun v5 hF => ?_)
    refine c_callSr C lk_X0_265 (fr2 := 7) (lo2 := 700) (As := [.ref v5]) (st := []) (fun r9_ w9_ h9_ => by rw [hl]; exact wX0_twins l g hX N v5 u2 r9_ w9_ h9_) (by decide) rfl rfl (Nat.le_of_ble_eq_true rfl) dX0_jam_14 hF (fun r6 u7 hF => ?_)
    refine v_astore_n C dX0_jam_17 rfl (Nat.le_of_ble_eq_true rfl) rfl (lv' := [some (.ref x0), some (.ref r6), none, none]) rfl ?_
    refine v_iconst C (v := (1 : Int32)) dX0_jam_18 (by decide) ?_
    refine v_istore_n C dX0_jam_19 rfl (Nat.le_of_ble_eq_true rfl) rfl (lv' := [some (.ref x0), some (.ref r6), some (.int (1 : Int32)), none]) rfl ?_
    refine v_mask [true, true, true, false] (lv' := [some (.ref x0), some (.ref r6), some (.int (1 : Int32)), none]) rfl ?_
    exact kloop_ok (P := fun a => kV g X 4 a.2.2.2 20 [some (.ref a.1), some (.ref a.2.1), some (.int a.2.2.1), none] []) (fun self hs a hF => wX0_jam_b20 C hX hl hin N self hs a.1 a.2.1 a.2.2.1 a.2.2.2 hF) N (x0, r6, (1 : Int32), u7) hF
set_option maxHeartbeats 4000000 in
theorem wX0_mostTwisted_b26 {l : Launch} {g : GT} {X : CxT} {r : Int32} {w1 : Wd} (C : kOk g X cX0_mostTwisted 5 RX0 (some .int) 7 700 (some (.int r)) w1) (hX : ∀ U, gX g U → SX g U) (hl : xl X = l) (hin : kHin X yX0_mostTwisted) (N : Nat) (k26 : Int32 × Nat × Nat × Wd → Option (Int32 × Wd)) (hk26 : ∀ a, k26 a = some (r, w1) → kV g X 5 a.2.2.2 26 [none, some (.int a.1), some (.ref a.2.1), some (.ref a.2.2.1), none] []) (x1 : Int32) (x2 : Nat) (x3 : Nat) (w : Wd) (hF : FX0_mostTwisted_b26 N g k26 x1 x2 x3 w = some (r, w1)) : kV g X 5 w 26 [none, some (.int x1), some (.ref x2), some (.ref x3), none] [] := by
  unfold FX0_mostTwisted_b26 at hF
  refine v_aload_n C dX0_mostTwisted_26 rfl rfl ?_
  obtain ⟨h15, hF⟩ := k_ite hF
  refine c_callFi C lk_X0_101_J15_hasNext ((hX _ C.2.2.2.2.2.1.2.2.1).2.2.1 _ (List.mem_of_getElem? (i := 0) rfl)) (C.2.2.2.2.2.1.1.1 12 _ rfl).2 (kRc.of C (ci := 12) rfl h15) (fr2 := 1) (lo2 := 100) (As := []) (st := []) (fun r9_ w9_ h9_ => by rw [hl]; exact wJ15_hasNext l g hX N x3 w r9_ w9_ h9_) (by decide) rfl rfl (Nat.le_of_ble_eq_true rfl) dX0_mostTwisted_27 hF (fun r13 u14 hF => ?_)
  refine v_if_eq C (tgt := 56) dX0_mostTwisted_32 (by decide) hF (fun c16 hF => ?_) (fun c16 hF => ?_)
  · refine v_aload_n C dX0_mostTwisted_56 rfl rfl ?_
    obtain ⟨h19, hF⟩ := k_ite hF
    refine c_callUi C lk_X0_295_J0_isEmpty_t14 (kRc.of C (ci := 14) rfl h19) (fr2 := 2) (lo2 := 200) (As := []) (st := []) (fun r9_ w9_ h9_ => by rw [hl]; exact wJ0_isEmpty_t14 l g hX N x2 u14 r9_ w9_ h9_) (by decide) rfl rfl (Nat.le_of_ble_eq_true rfl) dX0_mostTwisted_57 hF (fun r17 u18 hF => ?_)
    refine v_if_eq C (tgt := 67) dX0_mostTwisted_60 (by decide) hF (fun c20 hF => ?_) (fun c20 hF => ?_)
    · refine v_iconst C (v := (0 : Int32)) dX0_mostTwisted_67 (by decide) ?_
      refine v_iload_n C dX0_mostTwisted_68 rfl rfl ?_
      refine v_aload_n C dX0_mostTwisted_69 rfl rfl ?_
      obtain ⟨h23, hF⟩ := k_ite hF
      refine c_callVr C lk_X0_296 (ci := 14) rfl h23 (fr2 := 1) (lo2 := 100) (As := []) (st := [.int x1, .int (0 : Int32)]) (fun r9_ w9_ h9_ => by rw [hl]; exact wJ21_peek l g hX N x2 u18 r9_ w9_ h9_) (by decide) rfl rfl (Nat.le_of_ble_eq_true rfl) dX0_mostTwisted_70 hF (fun r21 u22 hF => ?_)
      refine v_castI C (ci := 2) rfl q700 dX0_mostTwisted_73 hF (fun hF => ?_)
      refine v_getI C kc_X6 3 (Nat.le_of_ble_eq_true rfl) (kFl.n q389) dX0_mostTwisted_76 hF (fun v24 hF => ?_)
      refine v_imul C dX0_mostTwisted_79 ?_
      refine v_mmax C q812 (by decide) (Nat.le_of_ble_eq_true rfl) dX0_mostTwisted_80 ?_
      exact c_iret C dX0_mostTwisted_83 hF
    · refine v_iconst C (v := (0 : Int32)) dX0_mostTwisted_63 (by decide) ?_
      refine v_goto C (tgt := 83) dX0_mostTwisted_64 (by decide) ?_
      exact c_iret C dX0_mostTwisted_83 hF
  · refine v_aload_n C dX0_mostTwisted_35 rfl rfl ?_
    obtain ⟨h27, hF⟩ := k_ite hF
    refine c_callFr C lk_X0_107_J15_next ((hX _ C.2.2.2.2.2.1.2.2.1).2.2.1 _ (List.mem_of_getElem? (i := 1) rfl)) (C.2.2.2.2.2.1.1.1 12 _ rfl).2 (kRc.of C (ci := 12) rfl h27) (fr2 := 2) (lo2 := 200) (As := []) (st := []) (fun r9_ w9_ h9_ => by rw [hl]; exact wJ15_next l g hX N x3 u14 r9_ w9_ h9_) (by decide) rfl rfl (Nat.le_of_ble_eq_true rfl) dX0_mostTwisted_36 hF (fun r25 u26 hF => ?_)
    refine v_castI C (ci := 2) rfl q700 dX0_mostTwisted_41 hF (fun hF => ?_)
    refine v_astore C dX0_mostTwisted_44 (Nat.le_of_ble_eq_true rfl) rfl (lv' := [none, some (.int x1), some (.ref x2), some (.ref x3), some (.ref r25)]) rfl ?_
    refine v_aload_n C dX0_mostTwisted_46 rfl rfl ?_
    refine v_aload C dX0_mostTwisted_47 rfl ?_
    obtain ⟨h30, hF⟩ := k_ite hF
    refine c_callVi C lk_X0_294 (ci := 14) rfl h30 (fr2 := 6) (lo2 := 600) (As := [.ref r25]) (st := []) (fun r9_ w9_ h9_ => by rw [hl]; exact wJ21_add l g hX N x2 r25 u26 r9_ w9_ h9_) (by decide) rfl rfl (Nat.le_of_ble_eq_true rfl) dX0_mostTwisted_49 hF (fun r28 u29 hF => ?_)
    refine v_pop C dX0_mostTwisted_52 rfl ?_
    refine v_goto C (tgt := 26) dX0_mostTwisted_53 (by decide) ?_
    refine v_mask [false, true, true, true, false] (lv' := [none, some (.int x1), some (.ref x2), some (.ref x3), none]) rfl ?_
    exact hk26 (x1, x2, x3, u29) hF
set_option maxHeartbeats 4000000 in
theorem wX0_mostTwisted (l : Launch) (g : GT) (hX : ∀ U, gX g U → SX g U) (N : Nat) (x0 : Nat) (x1 : Int32) (w : Wd) (r : Int32) (w1 : Wd) (hF : FX0_mostTwisted N g x0 x1 w = some (r, w1)) : kMt l g yX0_mostTwisted (ws_ yX0_mostTwisted cX0_mostTwisted 5 (some .int)) 7 700 w [.ref x0, .int x1] (some (.int r)) w1 := by
  refine kMt.ofV (lv := [some (.ref x0), some (.int x1), none, none, none]) (by decide) rfl (Nat.le_of_ble_eq_true rfl) rfl ?_
  intro X hl hin C
  unfold FX0_mostTwisted at hF
  refine v_newW C kc_J21 q1099 q1100 q110 nw_J21 dX0_mostTwisted_0 hF (fun a1 u2 hF => ?_)
  refine v_dup C dX0_mostTwisted_3 rfl ?_
  refine v_bipush C (v := (10 : Int32)) dX0_mostTwisted_4 (by decide) ?_
  refine v_newW C kc_X10 q1101 q1102 q111 nw_X10 dX0_mostTwisted_6 hF (fun a3 u4 hF => ?_)
  refine v_dup C dX0_mostTwisted_9 rfl ?_
  refine v_iload_n C dX0_mostTwisted_10 rfl rfl ?_
  refine c_callI C lk_X0_289 (fr2 := 1) (lo2 := 100) (As := [.int x1]) (st := [.ref a3, .int (10 : Int32), .ref a1, .ref a1]) (fun r9_ w9_ h9_ => by rw [hl]; exact wX10_init l g hX N a3 x1 u4 r9_ w9_ h9_) (by decide) rfl rfl (Nat.le_of_ble_eq_true rfl) dX0_mostTwisted_11 hF (fun r5 u6 hF => ?_)
  refine c_callI C lk_X0_291 (fr2 := 3) (lo2 := 300) (As := [.int (10 : Int32), .ref a3]) (st := [.ref a1]) (fun r9_ w9_ h9_ => by rw [hl]; exact wJ21_init l g hX N a1 (10 : Int32) a3 u6 r9_ w9_ h9_) (by decide) rfl rfl (Nat.le_of_ble_eq_true rfl) dX0_mostTwisted_14 hF (fun r7 u8 hF => ?_)
  refine v_astore_n C dX0_mostTwisted_17 rfl (Nat.le_of_ble_eq_true rfl) rfl (lv' := [some (.ref x0), some (.int x1), some (.ref a1), none, none]) rfl ?_
  refine v_aload_n C dX0_mostTwisted_18 rfl rfl ?_
  refine v_getR C kc_X0 0 (Nat.le_of_ble_eq_true rfl) (kFl.p q198) dX0_mostTwisted_19 hF (fun v9 hF => ?_)
  obtain ⟨h12, hF⟩ := k_ite hF
  refine c_callVr C lk_X0_97 (ci := 11) rfl h12 (fr2 := 2) (lo2 := 200) (As := []) (st := []) (fun r9_ w9_ h9_ => by rw [hl]; exact wJ2_iterator l g hX N v9 u8 r9_ w9_ h9_) (by decide) rfl rfl (Nat.le_of_ble_eq_true rfl) dX0_mostTwisted_22 hF (fun r10 u11 hF => ?_)
  refine v_astore_n C dX0_mostTwisted_25 rfl (Nat.le_of_ble_eq_true rfl) rfl (lv' := [some (.ref x0), some (.int x1), some (.ref a1), some (.ref r10), none]) rfl ?_
  refine v_mask [false, true, true, true, false] (lv' := [none, some (.int x1), some (.ref a1), some (.ref r10), none]) rfl ?_
  exact kloop_ok (P := fun a => kV g X 5 a.2.2.2 26 [none, some (.int a.1), some (.ref a.2.1), some (.ref a.2.2.1), none] []) (fun self hs a hF => wX0_mostTwisted_b26 C hX hl hin N self hs a.1 a.2.1 a.2.2.1 a.2.2.2 hF) N (x1, a1, r10, u11) hF
set_option maxHeartbeats 4000000 in
theorem wX0_twistedAbove_b47 {l : Launch} {g : GT} {X : CxT} {r : Nat} {w1 : Wd} (C : kOk g X cX0_twistedAbove 5 RX0 (some (.object "java/util/BitSet")) 4 400 (some (.ref r)) w1) (hX : ∀ U, gX g U → SX g U) (hl : xl X = l) (hin : kHin X yX0_twistedAbove) (N : Nat) (k11 : Nat × Int32 × Int32 × Nat × Int32 × Wd → Option (Nat × Wd)) (hk11 : ∀ a, k11 a = some (r, w1) → kV g X 5 a.2.2.2.2.2 11 [some (.ref a.1), some (.int a.2.1), some (.int a.2.2.1), some (.ref a.2.2.2.1), some (.int a.2.2.2.2.1)] []) (x0 : Nat) (x1 : Int32) (x2 : Int32) (x3 : Nat) (x4 : Int32) (w : Wd) (hF : FX0_twistedAbove_b47 N g k11 x0 x1 x2 x3 x4 w = some (r, w1)) : kV g X 5 w 47 [some (.ref x0), some (.int x1), some (.int x2), some (.ref x3), some (.int x4)] [] := by
  unfold FX0_twistedAbove_b47 at hF
  refine v_iinc C dX0_twistedAbove_47 rfl (v := (x4 + (1 : Int32))) rfl (Nat.le_of_ble_eq_true rfl) rfl (lv' := [some (.ref x0), some (.int x1), some (.int x2), some (.ref x3), some (.int (x4 + (1 : Int32)))]) rfl ?_
  refine v_goto C (tgt := 11) dX0_twistedAbove_50 (by decide) ?_
  refine v_mask [true, true, true, true, true] (lv' := [some (.ref x0), some (.int x1), some (.int x2), some (.ref x3), some (.int (x4 + (1 : Int32)))]) rfl ?_
  exact hk11 (x0, x1, x2, x3, (x4 + (1 : Int32)), w) hF
set_option maxHeartbeats 4000000 in
theorem wX0_twistedAbove_b11 {l : Launch} {g : GT} {X : CxT} {r : Nat} {w1 : Wd} (C : kOk g X cX0_twistedAbove 5 RX0 (some (.object "java/util/BitSet")) 4 400 (some (.ref r)) w1) (hX : ∀ U, gX g U → SX g U) (hl : xl X = l) (hin : kHin X yX0_twistedAbove) (N : Nat) (k11 : Nat × Int32 × Int32 × Nat × Int32 × Wd → Option (Nat × Wd)) (hk11 : ∀ a, k11 a = some (r, w1) → kV g X 5 a.2.2.2.2.2 11 [some (.ref a.1), some (.int a.2.1), some (.int a.2.2.1), some (.ref a.2.2.2.1), some (.int a.2.2.2.2.1)] []) (x0 : Nat) (x1 : Int32) (x2 : Int32) (x3 : Nat) (x4 : Int32) (w : Wd) (hF : FX0_twistedAbove_b11 N g k11 x0 x1 x2 x3 x4 w = some (r, w1)) : kV g X 5 w 11 [some (.ref x0), some (.int x1), some (.int x2), some (.ref x3), some (.int x4)] [] := by
  unfold FX0_twistedAbove_b11 at hF
  refine v_iload C dX0_twistedAbove_11 rfl ?_
  refine v_aload_n C dX0_twistedAbove_13 rfl rfl ?_
  obtain ⟨h7, hF⟩ := k_ite hF
  refine c_callVi C lk_X0_90 (ci := 1) rfl h7 (fr2 := 2) (lo2 := 200) (As := []) (st := [.int x4]) (fun r9_ w9_ h9_ => by rw [hl]; exact wX0_many l g hX N x0 w r9_ w9_ h9_) (by decide) rfl rfl (Nat.le_of_ble_eq_true rfl) dX0_twistedAbove_14 hF (fun r5 u6 hF => ?_)
  refine v_icmp_ge C (tgt := 53) dX0_twistedAbove_17 (by decide) hF (fun c8 hF => ?_) (fun c8 hF => ?_)
  · refine v_aload_n C dX0_twistedAbove_53 rfl rfl ?_
    exact c_aret C (Or.inl ⟨_, rfl⟩) dX0_twistedAbove_54 hF
  · refine v_iload_n C dX0_twistedAbove_20 rfl rfl ?_
    refine v_aload_n C dX0_twistedAbove_21 rfl rfl ?_
    refine v_getR C kc_X0 0 (Nat.le_of_ble_eq_true rfl) (kFl.p q198) dX0_twistedAbove_22 hF (fun v9 hF => ?_)
    refine v_iload C dX0_twistedAbove_25 rfl ?_
    obtain ⟨h12, hF⟩ := k_ite hF
    refine c_callVr C lk_X0_121 (ci := 11) rfl h12 (fr2 := 3) (lo2 := 300) (As := [.int x4]) (st := [.int x1]) (fun r9_ w9_ h9_ => by rw [hl]; exact wJ2_get l g hX N v9 x4 u6 r9_ w9_ h9_) (by decide) rfl rfl (Nat.le_of_ble_eq_true rfl) dX0_twistedAbove_27 hF (fun r10 u11 hF => ?_)
    refine v_castI C (ci := 2) rfl q700 dX0_twistedAbove_30 hF (fun hF => ?_)
    refine v_getI C kc_X6 3 (Nat.le_of_ble_eq_true rfl) (kFl.n q389) dX0_twistedAbove_33 hF (fun v13 hF => ?_)
    refine v_imul C dX0_twistedAbove_36 ?_
    refine v_iload_n C dX0_twistedAbove_37 rfl rfl ?_
    refine v_icmp_le C (tgt := 47) dX0_twistedAbove_38 (by decide) hF (fun c14 hF => ?_) (fun c14 hF => ?_)
    · refine v_mask [true, true, true, true, true] (lv' := [some (.ref x0), some (.int x1), some (.int x2), some (.ref x3), some (.int x4)]) rfl ?_
      exact wX0_twistedAbove_b47 C hX hl hin N k11 hk11 (x0) (x1) (x2) (x3) (x4) u11 hF
    · refine v_aload_n C dX0_twistedAbove_41 rfl rfl ?_
      refine v_iload C dX0_twistedAbove_42 rfl ?_
      obtain ⟨h17, hF⟩ := k_ite hF
      refine c_callVv C lk_X0_154 (ci := 13) rfl h17 (fr2 := 3) (lo2 := 300) (As := [.int x4]) (st := []) (fun r9_ w9_ h9_ => by rw [hl]; exact wJ19_set l g hX N x3 x4 u11 r9_ w9_ h9_) (by decide) rfl rfl (Nat.le_of_ble_eq_true rfl) dX0_twistedAbove_44 hF (fun r15 u16 hF => ?_)
      refine v_mask [true, true, true, true, true] (lv' := [some (.ref x0), some (.int x1), some (.int x2), some (.ref x3), some (.int x4)]) rfl ?_
      exact wX0_twistedAbove_b47 C hX hl hin N k11 hk11 (x0) (x1) (x2) (x3) (x4) u16 hF
set_option maxHeartbeats 4000000 in
theorem wX0_twistedAbove (l : Launch) (g : GT) (hX : ∀ U, gX g U → SX g U) (N : Nat) (x0 : Nat) (x1 : Int32) (x2 : Int32) (w : Wd) (r : Nat) (w1 : Wd) (hF : FX0_twistedAbove N g x0 x1 x2 w = some (r, w1)) : kMt l g yX0_twistedAbove (ws_ yX0_twistedAbove cX0_twistedAbove 5 (some (.object "java/util/BitSet"))) 4 400 w [.ref x0, .int x1, .int x2] (some (.ref r)) w1 := by
  refine kMt.ofV (lv := [some (.ref x0), some (.int x1), some (.int x2), none, none]) (by decide) rfl (Nat.le_of_ble_eq_true rfl) rfl ?_
  intro X hl hin C
  unfold FX0_twistedAbove at hF
  refine v_newW C kc_J19 q838 q839 q107 nw_J19 dX0_twistedAbove_0 hF (fun a1 u2 hF => ?_)
  refine v_dup C dX0_twistedAbove_3 rfl ?_
  refine c_callI C lk_X0_153 (fr2 := 3) (lo2 := 300) (As := []) (st := [.ref a1]) (fun r9_ w9_ h9_ => by rw [hl]; exact wJ19_init l g hX N a1 u2 r9_ w9_ h9_) (by decide) rfl rfl (Nat.le_of_ble_eq_true rfl) dX0_twistedAbove_4 hF (fun r3 u4 hF => ?_)
  refine v_astore_n C dX0_twistedAbove_7 rfl (Nat.le_of_ble_eq_true rfl) rfl (lv' := [some (.ref x0), some (.int x1), some (.int x2), some (.ref a1), none]) rfl ?_
  refine v_iconst C (v := (0 : Int32)) dX0_twistedAbove_8 (by decide) ?_
  refine v_istore C dX0_twistedAbove_9 (Nat.le_of_ble_eq_true rfl) rfl (lv' := [some (.ref x0), some (.int x1), some (.int x2), some (.ref a1), some (.int (0 : Int32))]) rfl ?_
  refine v_mask [true, true, true, true, true] (lv' := [some (.ref x0), some (.int x1), some (.int x2), some (.ref a1), some (.int (0 : Int32))]) rfl ?_
  exact kloop_ok (P := fun a => kV g X 5 a.2.2.2.2.2 11 [some (.ref a.1), some (.int a.2.1), some (.int a.2.2.1), some (.ref a.2.2.2.1), some (.int a.2.2.2.2.1)] []) (fun self hs a hF => wX0_twistedAbove_b11 C hX hl hin N self hs a.1 a.2.1 a.2.2.1 a.2.2.2.1 a.2.2.2.2.1 a.2.2.2.2.2 hF) N (x0, x1, x2, a1, (0 : Int32), u4) hF
set_option maxHeartbeats 4000000 in
theorem wX0_undoing_b94 {l : Launch} {g : GT} {X : CxT} {r : Int32} {w1 : Wd} (C : kOk g X cX0_undoing 5 RX0 (some .int) 8 800 (some (.int r)) w1) (hX : ∀ U, gX g U → SX g U) (hl : xl X = l) (hin : kHin X yX0_undoing) (N : Nat)  (t0 : Nat) (w : Wd) (hF : FX0_undoing_b94 N g  t0 w = some (r, w1)) : kV g X 5 w 94 [none, none, none, none, none] [.ref t0] := by
  unfold FX0_undoing_b94 at hF
  refine c_callSi C lk_X0_312 (fr2 := 4) (lo2 := 400) (As := [.ref t0]) (st := []) (fun r9_ w9_ h9_ => by rw [hl]; exact wX0_bitsOf l g hX N t0 w r9_ w9_ h9_) (by decide) rfl rfl (Nat.le_of_ble_eq_true rfl) dX0_undoing_94 hF (fun r22 u23 hF => ?_)
  exact c_iret C dX0_undoing_97 hF
set_option maxHeartbeats 4000000 in
theorem wX0_undoing (l : Launch) (g : GT) (hX : ∀ U, gX g U → SX g U) (N : Nat) (x0 : Nat) (x1 : Int32) (x2 : Int32) (w : Wd) (r : Int32) (w1 : Wd) (hF : FX0_undoing N g x0 x1 x2 w = some (r, w1)) : kMt l g yX0_undoing (ws_ yX0_undoing cX0_undoing 5 (some .int)) 8 800 w [.ref x0, .int x1, .int x2] (some (.int r)) w1 := by
  refine kMt.ofV (lv := [some (.ref x0), some (.int x1), some (.int x2), none, none]) (by decide) rfl (Nat.le_of_ble_eq_true rfl) rfl ?_
  intro X hl hin C
  unfold FX0_undoing at hF
  refine v_aload_n C dX0_undoing_0 rfl rfl ?_
  refine v_iconst C (v := (1 : Int32)) dX0_undoing_1 (by decide) ?_
  obtain ⟨h3, hF⟩ := k_ite hF
  refine c_callVi C lk_X0_299 (ci := 1) rfl h3 (fr2 := 7) (lo2 := 700) (As := [.int (1 : Int32)]) (st := []) (fun r9_ w9_ h9_ => by rw [hl]; exact wX0_mostTwisted l g hX N x0 (1 : Int32) w r9_ w9_ h9_) (by decide) rfl rfl (Nat.le_of_ble_eq_true rfl) dX0_undoing_2 hF (fun r1 u2 hF => ?_)
  refine v_istore_n C dX0_undoing_5 rfl (Nat.le_of_ble_eq_true rfl) rfl (lv' := [some (.ref x0), some (.int x1), some (.int x2), some (.int r1), none]) rfl ?_
  refine v_iload_n C dX0_undoing_6 rfl rfl ?_
  refine v_aload_n C dX0_undoing_7 rfl rfl ?_
  refine v_iconst C (v := (-1 : Int32)) dX0_undoing_8 (by decide) ?_
  obtain ⟨h6, hF⟩ := k_ite hF
  refine c_callVi C lk_X0_299 (ci := 1) rfl h6 (fr2 := 7) (lo2 := 700) (As := [.int (-1 : Int32)]) (st := [.int r1]) (fun r9_ w9_ h9_ => by rw [hl]; exact wX0_mostTwisted l g hX N x0 (-1 : Int32) u2 r9_ w9_ h9_) (by decide) rfl rfl (Nat.le_of_ble_eq_true rfl) dX0_undoing_9 hF (fun r4 u5 hF => ?_)
  refine v_iadd C dX0_undoing_12 ?_
  refine v_istore C dX0_undoing_13 (Nat.le_of_ble_eq_true rfl) rfl (lv' := [some (.ref x0), some (.int x1), some (.int x2), some (.int r1), some (.int (r1 + r4))]) rfl ?_
  refine v_iload_n C dX0_undoing_15 rfl rfl ?_
  refine v_iconst C (v := (-1 : Int32)) dX0_undoing_16 (by decide) ?_
  refine v_iload C dX0_undoing_17 rfl ?_
  refine v_iconst C (v := (1 : Int32)) dX0_undoing_19 (by decide) ?_
  refine v_isub C dX0_undoing_20 ?_
  refine c_callSi C lk_X0_93 (fr2 := 1) (lo2 := 100) (As := [.int x1, .int (-1 : Int32), .int ((r1 + r4) - (1 : Int32))]) (st := []) (fun r9_ w9_ h9_ => by rw [hl]; exact wX0_isIn l g hX N x1 (-1 : Int32) ((r1 + r4) - (1 : Int32)) u5 r9_ w9_ h9_) (by decide) rfl rfl (Nat.le_of_ble_eq_true rfl) dX0_undoing_21 hF (fun r7 u8 hF => ?_)
  refine v_if_eq C (tgt := 36) dX0_undoing_24 (by decide) hF (fun c9 hF => ?_) (fun c9 hF => ?_)
  · refine v_iconst C (v := (-1 : Int32)) dX0_undoing_36 (by decide) ?_
    exact c_iret C dX0_undoing_37 hF
  · refine v_iload_n C dX0_undoing_27 rfl rfl ?_
    refine v_iconst C (v := (0 : Int32)) dX0_undoing_28 (by decide) ?_
    refine v_iconst C (v := (1 : Int32)) dX0_undoing_29 (by decide) ?_
    refine c_callSi C lk_X0_93 (fr2 := 1) (lo2 := 100) (As := [.int x2, .int (0 : Int32), .int (1 : Int32)]) (st := []) (fun r9_ w9_ h9_ => by rw [hl]; exact wX0_isIn l g hX N x2 (0 : Int32) (1 : Int32) u8 r9_ w9_ h9_) (by decide) rfl rfl (Nat.le_of_ble_eq_true rfl) dX0_undoing_30 hF (fun r10 u11 hF => ?_)
    refine v_if_ne C (tgt := 38) dX0_undoing_33 (by decide) hF (fun c12 hF => ?_) (fun c12 hF => ?_)
    · refine v_iconst C (v := (-1 : Int32)) dX0_undoing_36 (by decide) ?_
      exact c_iret C dX0_undoing_37 hF
    · refine v_iload_n C dX0_undoing_38 rfl rfl ?_
      refine v_iconst C (v := (-1 : Int32)) dX0_undoing_39 (by decide) ?_
      refine v_icmp_ne C (tgt := 46) dX0_undoing_40 (by decide) hF (fun c13 hF => ?_) (fun c13 hF => ?_)
      · refine v_iload C dX0_undoing_43 rfl ?_
        exact c_iret C dX0_undoing_45 hF
      · refine v_iload_n C dX0_undoing_46 rfl rfl ?_
        refine v_iconst C (v := (1 : Int32)) dX0_undoing_47 (by decide) ?_
        refine v_icmp_ne C (tgt := 72) dX0_undoing_48 (by decide) hF (fun c14 hF => ?_) (fun c14 hF => ?_)
        · refine v_iload_n C dX0_undoing_51 rfl rfl ?_
          refine v_iload_n C dX0_undoing_52 rfl rfl ?_
          refine v_icmp_ge C (tgt := 65) dX0_undoing_53 (by decide) hF (fun c15 hF => ?_) (fun c15 hF => ?_)
          · refine v_gets C ((hX _ C.2.2.2.2.2.1.2.2.1).1 _ (List.mem_of_getElem? (i := 2) rfl)) q1483 (Or.inl rfl) dX0_undoing_65 ?_
            refine v_tnum C hX (Or.inr ⟨_, q2806⟩) dX0_undoing_68 hF (fun v16 hF => ?_)
            exact c_iret C dX0_undoing_71 hF
          · refine v_gets C ((hX _ C.2.2.2.2.2.1.2.2.1).1 _ (List.mem_of_getElem? (i := 3) rfl)) q1482 (Or.inl rfl) dX0_undoing_56 ?_
            refine v_tnum C hX (Or.inr ⟨_, q2806⟩) dX0_undoing_59 hF (fun v17 hF => ?_)
            refine v_goto C (tgt := 71) dX0_undoing_62 (by decide) ?_
            exact c_iret C dX0_undoing_71 hF
        · refine v_iload_n C dX0_undoing_72 rfl rfl ?_
          refine v_iload_n C dX0_undoing_73 rfl rfl ?_
          refine v_icmp_ge C (tgt := 86) dX0_undoing_74 (by decide) hF (fun c18 hF => ?_) (fun c18 hF => ?_)
          · refine v_aload_n C dX0_undoing_86 rfl rfl ?_
            refine v_iconst C (v := (-1 : Int32)) dX0_undoing_87 (by decide) ?_
            refine v_iload_n C dX0_undoing_88 rfl rfl ?_
            refine v_iload_n C dX0_undoing_89 rfl rfl ?_
            refine v_isub C dX0_undoing_90 ?_
            obtain ⟨h21, hF⟩ := k_ite hF
            refine c_callVr C lk_X0_308 (ci := 1) rfl h21 (fr2 := 4) (lo2 := 400) (As := [.int (-1 : Int32), .int (x1 - r1)]) (st := []) (fun r9_ w9_ h9_ => by rw [hl]; exact wX0_twistedAbove l g hX N x0 (-1 : Int32) (x1 - r1) u11 r9_ w9_ h9_) (by decide) rfl rfl (Nat.le_of_ble_eq_true rfl) dX0_undoing_91 hF (fun r19 u20 hF => ?_)
            refine v_mask [false, false, false, false, false] (lv' := [none, none, none, none, none]) rfl ?_
            exact wX0_undoing_b94 C hX hl hin N (r19) u20 hF
          · refine v_aload_n C dX0_undoing_77 rfl rfl ?_
            refine v_iconst C (v := (1 : Int32)) dX0_undoing_78 (by decide) ?_
            refine v_iload_n C dX0_undoing_79 rfl rfl ?_
            obtain ⟨h26, hF⟩ := k_ite hF
            refine c_callVr C lk_X0_308 (ci := 1) rfl h26 (fr2 := 4) (lo2 := 400) (As := [.int (1 : Int32), .int x1]) (st := []) (fun r9_ w9_ h9_ => by rw [hl]; exact wX0_twistedAbove l g hX N x0 (1 : Int32) x1 u11 r9_ w9_ h9_) (by decide) rfl rfl (Nat.le_of_ble_eq_true rfl) dX0_undoing_80 hF (fun r24 u25 hF => ?_)
            refine v_goto C (tgt := 94) dX0_undoing_83 (by decide) ?_
            refine v_mask [false, false, false, false, false] (lv' := [none, none, none, none, none]) rfl ?_
            exact wX0_undoing_b94 C hX hl hin N (r24) u25 hF
set_option maxHeartbeats 4000000 in
theorem wX0_paint (l : Launch) (g : GT) (hX : ∀ U, gX g U → SX g U) (N : Nat) (x0 : Nat) (x1 : Int32) (x2 : Int32) (x3 : Int32) (w : Wd) (r : Int32) (w1 : Wd) (hF : FX0_paint N g x0 x1 x2 x3 w = some (r, w1)) : kMt l g yX0_paint (ws_ yX0_paint cX0_paint 5 (some .int)) 3 300 w [.ref x0, .int x1, .int x2, .int x3] (some (.int r)) w1 := by
  refine kMt.ofV (lv := [some (.ref x0), some (.int x1), some (.int x2), some (.int x3), none]) (by decide) rfl (Nat.le_of_ble_eq_true rfl) rfl ?_
  intro X hl hin C
  unfold FX0_paint at hF
  refine v_iload_n C dX0_paint_0 rfl rfl ?_
  refine v_iconst C (v := (0 : Int32)) dX0_paint_1 (by decide) ?_
  refine v_aload_n C dX0_paint_2 rfl rfl ?_
  refine v_getI C kc_X0 6 (Nat.le_of_ble_eq_true rfl) (kFl.p q207) dX0_paint_3 hF (fun v1 hF => ?_)
  refine v_iconst C (v := (1 : Int32)) dX0_paint_6 (by decide) ?_
  refine v_isub C dX0_paint_7 ?_
  refine c_callSi C lk_X0_93 (fr2 := 1) (lo2 := 100) (As := [.int x1, .int (0 : Int32), .int (v1 - (1 : Int32))]) (st := []) (fun r9_ w9_ h9_ => by rw [hl]; exact wX0_isIn l g hX N x1 (0 : Int32) (v1 - (1 : Int32)) w r9_ w9_ h9_) (by decide) rfl rfl (Nat.le_of_ble_eq_true rfl) dX0_paint_8 hF (fun r2 u3 hF => ?_)
  refine v_if_eq C (tgt := 24) dX0_paint_11 (by decide) hF (fun c4 hF => ?_) (fun c4 hF => ?_)
  · refine v_iconst C (v := (-1 : Int32)) dX0_paint_24 (by decide) ?_
    exact c_iret C dX0_paint_25 hF
  · refine v_iload_n C dX0_paint_14 rfl rfl ?_
    refine v_iconst C (v := (0 : Int32)) dX0_paint_15 (by decide) ?_
    refine v_bipush C (v := (9 : Int32)) dX0_paint_16 (by decide) ?_
    refine c_callSi C lk_X0_93 (fr2 := 1) (lo2 := 100) (As := [.int x2, .int (0 : Int32), .int (9 : Int32)]) (st := []) (fun r9_ w9_ h9_ => by rw [hl]; exact wX0_isIn l g hX N x2 (0 : Int32) (9 : Int32) u3 r9_ w9_ h9_) (by decide) rfl rfl (Nat.le_of_ble_eq_true rfl) dX0_paint_18 hF (fun r5 u6 hF => ?_)
    refine v_if_ne C (tgt := 26) dX0_paint_21 (by decide) hF (fun c7 hF => ?_) (fun c7 hF => ?_)
    · refine v_iconst C (v := (-1 : Int32)) dX0_paint_24 (by decide) ?_
      exact c_iret C dX0_paint_25 hF
    · refine v_iload_n C dX0_paint_26 rfl rfl ?_
      refine c_callSi C lk_X0_214 (fr2 := 2) (lo2 := 200) (As := [.int x3]) (st := []) (fun r9_ w9_ h9_ => by rw [hl]; exact wX0_isColour l g hX N x3 u6 r9_ w9_ h9_) (by decide) rfl rfl (Nat.le_of_ble_eq_true rfl) dX0_paint_27 hF (fun r8 u9 hF => ?_)
      refine v_if_ne C (tgt := 36) dX0_paint_30 (by decide) hF (fun c10 hF => ?_) (fun c10 hF => ?_)
      · refine v_bipush C (v := (-2 : Int32)) dX0_paint_33 (by decide) ?_
        exact c_iret C dX0_paint_35 hF
      · refine v_aload_n C dX0_paint_36 rfl rfl ?_
        refine v_getR C kc_X0 5 (Nat.le_of_ble_eq_true rfl) (kFl.p q205) dX0_paint_37 hF (fun v11 hF => ?_)
        refine v_iload_n C dX0_paint_40 rfl rfl ?_
        refine v_aQl7 C dX0_paint_41 hF (fun v12 hF => ?_)
        rcases v12 with _ | a13
        · exact (k_ob0 hF).elim
        have hF := k_ob1 hF
        show kV _ _ _ _ 42 [some (.ref x0), some (.int x1), some (.int x2), some (.int x3), none] [.ref a13]
        refine v_iload_n C dX0_paint_42 rfl rfl ?_
        refine v_aIi C dX0_paint_43 hF (fun v14 hF => ?_)
        refine v_istore C dX0_paint_44 (Nat.le_of_ble_eq_true rfl) rfl (lv' := [some (.ref x0), some (.int x1), some (.int x2), some (.int x3), some (.int v14)]) rfl ?_
        refine v_aload_n C dX0_paint_46 rfl rfl ?_
        refine v_getR C kc_X0 5 (Nat.le_of_ble_eq_true rfl) (kFl.p q205) dX0_paint_47 hF (fun v15 hF => ?_)
        refine v_iload_n C dX0_paint_50 rfl rfl ?_
        refine v_aQl7 C dX0_paint_51 hF (fun v16 hF => ?_)
        rcases v16 with _ | a17
        · exact (k_ob0 hF).elim
        have hF := k_ob1 hF
        show kV _ _ _ _ 52 [some (.ref x0), some (.int x1), some (.int x2), some (.int x3), some (.int v14)] [.ref a17]
        refine v_iload_n C dX0_paint_52 rfl rfl ?_
        refine v_iload_n C dX0_paint_53 rfl rfl ?_
        refine v_aSi C dX0_paint_54 hF (fun u18 hF => ?_)
        refine v_iload C dX0_paint_55 rfl ?_
        exact c_iret C dX0_paint_57 hF
set_option maxHeartbeats 4000000 in
theorem wX0_lines_b28 {l : Launch} {g : GT} {X : CxT} {r : Int32} {w1 : Wd} (C : kOk g X cX0_lines 5 RX0 (some .int) 2 200 (some (.int r)) w1) (hX : ∀ U, gX g U → SX g U) (hl : xl X = l) (hin : kHin X yX0_lines) (N : Nat) (k20 : Nat × Int32 × Int32 × Int32 × Wd → Option (Int32 × Wd)) (hk20 : ∀ a, k20 a = some (r, w1) → kV g X 5 a.2.2.2.2 20 [some (.ref a.1), some (.int a.2.1), some (.int a.2.2.1), some (.int a.2.2.2.1), none] []) (k28 : Nat × Int32 × Int32 × Int32 × Int32 × Wd → Option (Int32 × Wd)) (hk28 : ∀ a, k28 a = some (r, w1) → kV g X 5 a.2.2.2.2.2 28 [some (.ref a.1), some (.int a.2.1), some (.int a.2.2.1), some (.int a.2.2.2.1), some (.int a.2.2.2.2.1)] []) (x0 : Nat) (x1 : Int32) (x2 : Int32) (x3 : Int32) (x4 : Int32) (w : Wd) (hF : FX0_lines_b28 N g k20 k28 x0 x1 x2 x3 x4 w = some (r, w1)) : kV g X 5 w 28 [some (.ref x0), some (.int x1), some (.int x2), some (.int x3), some (.int x4)] [] := by
  unfold FX0_lines_b28 at hF
  refine v_iload C dX0_lines_28 rfl ?_
  refine v_bipush C (v := (10 : Int32)) dX0_lines_30 (by decide) ?_
  refine v_icmp_ge C (tgt := 51) dX0_lines_32 (by decide) hF (fun c7 hF => ?_) (fun c7 hF => ?_)
  · refine v_iinc C dX0_lines_51 rfl (v := (x3 + (1 : Int32))) rfl (Nat.le_of_ble_eq_true rfl) rfl (lv' := [some (.ref x0), some (.int x1), some (.int x2), some (.int (x3 + (1 : Int32))), some (.int x4)]) rfl ?_
    refine v_goto C (tgt := 20) dX0_lines_54 (by decide) ?_
    refine v_mask [true, true, true, true, false] (lv' := [some (.ref x0), some (.int x1), some (.int x2), some (.int (x3 + (1 : Int32))), none]) rfl ?_
    exact hk20 (x0, x1, x2, (x3 + (1 : Int32)), w) hF
  · refine v_aload_n C dX0_lines_35 rfl rfl ?_
    refine v_getR C kc_X0 5 (Nat.le_of_ble_eq_true rfl) (kFl.p q205) dX0_lines_36 hF (fun v8 hF => ?_)
    refine v_iload_n C dX0_lines_39 rfl rfl ?_
    refine v_aQl7 C dX0_lines_40 hF (fun v9 hF => ?_)
    rcases v9 with _ | a10
    · exact (k_ob0 hF).elim
    have hF := k_ob1 hF
    show kV _ _ _ _ 41 [some (.ref x0), some (.int x1), some (.int x2), some (.int x3), some (.int x4)] [.ref a10]
    refine v_iload C dX0_lines_41 rfl ?_
    refine v_iconst C (v := (0 : Int32)) dX0_lines_43 (by decide) ?_
    refine v_aSi C dX0_lines_44 hF (fun u11 hF => ?_)
    refine v_iinc C dX0_lines_45 rfl (v := (x4 + (1 : Int32))) rfl (Nat.le_of_ble_eq_true rfl) rfl (lv' := [some (.ref x0), some (.int x1), some (.int x2), some (.int x3), some (.int (x4 + (1 : Int32)))]) rfl ?_
    refine v_goto C (tgt := 28) dX0_lines_48 (by decide) ?_
    refine v_mask [true, true, true, true, true] (lv' := [some (.ref x0), some (.int x1), some (.int x2), some (.int x3), some (.int (x4 + (1 : Int32)))]) rfl ?_
    exact hk28 (x0, x1, x2, x3, (x4 + (1 : Int32)), u11) hF
set_option maxHeartbeats 4000000 in
theorem wX0_lines_b20 {l : Launch} {g : GT} {X : CxT} {r : Int32} {w1 : Wd} (C : kOk g X cX0_lines 5 RX0 (some .int) 2 200 (some (.int r)) w1) (hX : ∀ U, gX g U → SX g U) (hl : xl X = l) (hin : kHin X yX0_lines) (N : Nat) (k20 : Nat × Int32 × Int32 × Int32 × Wd → Option (Int32 × Wd)) (hk20 : ∀ a, k20 a = some (r, w1) → kV g X 5 a.2.2.2.2 20 [some (.ref a.1), some (.int a.2.1), some (.int a.2.2.1), some (.int a.2.2.2.1), none] []) (x0 : Nat) (x1 : Int32) (x2 : Int32) (x3 : Int32) (w : Wd) (hF : FX0_lines_b20 N g k20 x0 x1 x2 x3 w = some (r, w1)) : kV g X 5 w 20 [some (.ref x0), some (.int x1), some (.int x2), some (.int x3), none] [] := by
  unfold FX0_lines_b20 at hF
  refine v_iload_n C dX0_lines_20 rfl rfl ?_
  refine v_iload_n C dX0_lines_21 rfl rfl ?_
  refine v_icmp_ge C (tgt := 57) dX0_lines_22 (by decide) hF (fun c5 hF => ?_) (fun c5 hF => ?_)
  · refine v_aload_n C dX0_lines_57 rfl rfl ?_
    refine v_iload_n C dX0_lines_58 rfl rfl ?_
    refine v_putW C kc_X0 6 (Nat.le_of_ble_eq_true rfl) (kFl.p q207) rfl rfl rfl dX0_lines_59 hF (fun u6 hF => ?_)
    refine v_iload_n C dX0_lines_62 rfl rfl ?_
    exact c_iret C dX0_lines_63 hF
  · refine v_iconst C (v := (0 : Int32)) dX0_lines_25 (by decide) ?_
    refine v_istore C dX0_lines_26 (Nat.le_of_ble_eq_true rfl) rfl (lv' := [some (.ref x0), some (.int x1), some (.int x2), some (.int x3), some (.int (0 : Int32))]) rfl ?_
    refine v_mask [true, true, true, true, true] (lv' := [some (.ref x0), some (.int x1), some (.int x2), some (.int x3), some (.int (0 : Int32))]) rfl ?_
    exact kloop_ok (P := fun a => kV g X 5 a.2.2.2.2.2 28 [some (.ref a.1), some (.int a.2.1), some (.int a.2.2.1), some (.int a.2.2.2.1), some (.int a.2.2.2.2.1)] []) (fun self hs a hF => wX0_lines_b28 C hX hl hin N k20 hk20 self hs a.1 a.2.1 a.2.2.1 a.2.2.2.1 a.2.2.2.2.1 a.2.2.2.2.2 hF) N (x0, x1, x2, x3, (0 : Int32), w) hF
set_option maxHeartbeats 4000000 in
theorem wX0_lines (l : Launch) (g : GT) (hX : ∀ U, gX g U → SX g U) (N : Nat) (x0 : Nat) (x1 : Int32) (w : Wd) (r : Int32) (w1 : Wd) (hF : FX0_lines N g x0 x1 w = some (r, w1)) : kMt l g yX0_lines (ws_ yX0_lines cX0_lines 5 (some .int)) 2 200 w [.ref x0, .int x1] (some (.int r)) w1 := by
  refine kMt.ofV (lv := [some (.ref x0), some (.int x1), none, none, none]) (by decide) rfl (Nat.le_of_ble_eq_true rfl) rfl ?_
  intro X hl hin C
  unfold FX0_lines at hF
  refine v_iload_n C dX0_lines_0 rfl rfl ?_
  refine v_iconst C (v := (0 : Int32)) dX0_lines_1 (by decide) ?_
  refine v_bipush C (v := (8 : Int32)) dX0_lines_2 (by decide) ?_
  refine c_callSi C lk_X0_93 (fr2 := 1) (lo2 := 100) (As := [.int x1, .int (0 : Int32), .int (8 : Int32)]) (st := []) (fun r9_ w9_ h9_ => by rw [hl]; exact wX0_isIn l g hX N x1 (0 : Int32) (8 : Int32) w r9_ w9_ h9_) (by decide) rfl rfl (Nat.le_of_ble_eq_true rfl) dX0_lines_4 hF (fun r1 u2 hF => ?_)
  refine v_if_ne C (tgt := 13) dX0_lines_7 (by decide) hF (fun c3 hF => ?_) (fun c3 hF => ?_)
  · refine v_bipush C (v := (-2 : Int32)) dX0_lines_10 (by decide) ?_
    exact c_iret C dX0_lines_12 hF
  · refine v_aload_n C dX0_lines_13 rfl rfl ?_
    refine v_getI C kc_X0 6 (Nat.le_of_ble_eq_true rfl) (kFl.p q207) dX0_lines_14 hF (fun v4 hF => ?_)
    refine v_istore_n C dX0_lines_17 rfl (Nat.le_of_ble_eq_true rfl) rfl (lv' := [some (.ref x0), some (.int x1), some (.int v4), none, none]) rfl ?_
    refine v_iload_n C dX0_lines_18 rfl rfl ?_
    refine v_istore_n C dX0_lines_19 rfl (Nat.le_of_ble_eq_true rfl) rfl (lv' := [some (.ref x0), some (.int x1), some (.int v4), some (.int v4), none]) rfl ?_
    refine v_mask [true, true, true, true, false] (lv' := [some (.ref x0), some (.int x1), some (.int v4), some (.int v4), none]) rfl ?_
    exact kloop_ok (P := fun a => kV g X 5 a.2.2.2.2 20 [some (.ref a.1), some (.int a.2.1), some (.int a.2.2.1), some (.int a.2.2.2.1), none] []) (fun self hs a hF => wX0_lines_b20 C hX hl hin N self hs a.1 a.2.1 a.2.2.1 a.2.2.2.1 a.2.2.2.2 hF) N (x0, x1, v4, v4, u2) hF
set_option maxHeartbeats 4000000 in
theorem wX11_init (l : Launch) (g : GT) (hX : ∀ U, gX g U → SX g U) (N : Nat) (x0 : Nat) (x1 : Nat) (x2 : Nat) (x3 : Int32) (w : Wd) (r : Unit) (w1 : Wd) (hF : FX11_init N g x0 x1 x2 x3 w = some (r, w1)) : kMt l g yX11_init (ws_ yX11_init cX11_init 4 none) 1 100 w [.ref x0, .ref x1, .ref x2, .int x3] none w1 := by
  refine kMt.ofV (lv := [some (.ref x0), some (.ref x1), some (.ref x2), some (.int x3)]) (by decide) rfl (Nat.le_of_ble_eq_true rfl) rfl ?_
  intro X hl hin C
  unfold FX11_init at hF
  refine v_aload_n C dX11_init_0 rfl rfl ?_
  refine v_aload_n C dX11_init_1 rfl rfl ?_
  refine v_putFW C (hin.1.trans rfl) kc_X11 2 (Nat.le_of_ble_eq_true rfl) q1525 rfl rfl rfl rfl dX11_init_2 hF (fun u1 hF => ?_)
  refine v_aload_n C dX11_init_5 rfl rfl ?_
  refine v_aload_n C dX11_init_6 rfl rfl ?_
  refine v_putFW C (hin.1.trans rfl) kc_X11 0 (Nat.le_of_ble_eq_true rfl) q1523 rfl rfl rfl rfl dX11_init_7 hF (fun u2 hF => ?_)
  refine v_aload_n C dX11_init_10 rfl rfl ?_
  refine v_iload_n C dX11_init_11 rfl rfl ?_
  refine v_putFW C (hin.1.trans rfl) kc_X11 1 (Nat.le_of_ble_eq_true rfl) q1524 rfl rfl rfl rfl dX11_init_12 hF (fun u3 hF => ?_)
  refine v_aload_n C dX11_init_15 rfl rfl ?_
  refine v_objInit C q1522 q142 q143 (by decide) (Nat.le_of_ble_eq_true rfl) dX11_init_16 ?_
  exact c_vret C dX11_init_19 hF
set_option maxHeartbeats 4000000 in
theorem wX11_cost (l : Launch) (g : GT) (hX : ∀ U, gX g U → SX g U) (N : Nat) (x0 : Nat) (x1 : Int32) (x2 : Int32) (x3 : Nat) (w : Wd) (r : Int32) (w1 : Wd) (hF : FX11_cost N g x0 x1 x2 x3 w = some (r, w1)) : kMt l g yX11_cost (ws_ yX11_cost cX11_cost 5 (some .int)) 2 200 w [.ref x0, .int x1, .int x2, .ref x3] (some (.int r)) w1 := by
  refine kMt.ofV (lv := [some (.ref x0), some (.int x1), some (.int x2), some (.ref x3), none]) (by decide) rfl (Nat.le_of_ble_eq_true rfl) rfl ?_
  intro X hl hin C
  unfold FX11_cost at hF
  refine v_iload_n C dX11_cost_0 rfl rfl ?_
  refine v_aload_n C dX11_cost_1 rfl rfl ?_
  refine v_tquarters C hX q1554 (by decide) (Nat.le_of_ble_eq_true rfl) dX11_cost_2 hF (fun v1 hF => ?_)
  refine v_iadd C dX11_cost_5 ?_
  refine v_iconst C (v := (4 : Int32)) dX11_cost_6 (by decide) ?_
  refine v_irem C dX11_cost_7 (by decide) ?_
  refine v_istore C dX11_cost_8 (Nat.le_of_ble_eq_true rfl) rfl (lv' := [some (.ref x0), some (.int x1), some (.int x2), some (.ref x3), some (.int ((x2 + v1) - (x2 + v1) / (4 : Int32) * (4 : Int32)))]) rfl ?_
  refine v_aload_n C dX11_cost_10 rfl rfl ?_
  refine v_getR C kc_X11 0 (Nat.le_of_ble_eq_true rfl) (kFl.p q1523) dX11_cost_11 hF (fun v2 hF => ?_)
  refine v_getR C kc_X6 0 (Nat.le_of_ble_eq_true rfl) (kFl.n q379) dX11_cost_14 hF (fun v3 hF => ?_)
  refine v_iload C dX11_cost_17 rfl ?_
  refine v_aIi C dX11_cost_19 hF (fun v4 hF => ?_)
  refine v_aload_n C dX11_cost_20 rfl rfl ?_
  refine v_getR C kc_X11 2 (Nat.le_of_ble_eq_true rfl) (kFl.p q1525) dX11_cost_21 hF (fun v5 hF => ?_)
  refine v_getR C kc_X0 5 (Nat.le_of_ble_eq_true rfl) (kFl.n q206) dX11_cost_24 hF (fun v6 hF => ?_)
  refine v_iload_n C dX11_cost_27 rfl rfl ?_
  refine v_aQl7 C dX11_cost_28 hF (fun v7 hF => ?_)
  rcases v7 with _ | a8
  · exact (k_ob0 hF).elim
  have hF := k_ob1 hF
  show kV _ _ _ _ 29 [some (.ref x0), some (.int x1), some (.int x2), some (.ref x3), some (.int ((x2 + v1) - (x2 + v1) / (4 : Int32) * (4 : Int32)))] [.ref a8, .int v4]
  refine v_aload_n C dX11_cost_29 rfl rfl ?_
  refine v_getI C kc_X11 1 (Nat.le_of_ble_eq_true rfl) (kFl.p q1524) dX11_cost_30 hF (fun v9 hF => ?_)
  refine v_aIi C dX11_cost_33 hF (fun v10 hF => ?_)
  refine v_icmp_ne C (tgt := 67) dX11_cost_34 (by decide) hF (fun c11 hF => ?_) (fun c11 hF => ?_)
  · refine v_aload_n C dX11_cost_37 rfl rfl ?_
    refine v_getR C kc_X11 2 (Nat.le_of_ble_eq_true rfl) (kFl.p q1525) dX11_cost_38 hF (fun v12 hF => ?_)
    refine v_getR C kc_X0 7 (Nat.le_of_ble_eq_true rfl) (kFl.n q209) dX11_cost_41 hF (fun v13 hF => ?_)
    refine v_iload_n C dX11_cost_44 rfl rfl ?_
    refine v_iconst C (v := (1 : Int32)) dX11_cost_45 (by decide) ?_
    refine v_iadd C dX11_cost_46 ?_
    refine v_aQl7 C dX11_cost_47 hF (fun v14 hF => ?_)
    rcases v14 with _ | a15
    · exact (k_ob0 hF).elim
    have hF := k_ob1 hF
    show kV _ _ _ _ 48 [some (.ref x0), some (.int x1), some (.int x2), some (.ref x3), some (.int ((x2 + v1) - (x2 + v1) / (4 : Int32) * (4 : Int32)))] [.ref a15]
    refine v_iload C dX11_cost_48 rfl ?_
    refine v_aIi C dX11_cost_50 hF (fun v16 hF => ?_)
    refine v_aload_n C dX11_cost_51 rfl rfl ?_
    refine v_gets C ((hX _ C.2.2.2.2.2.1.2.2.1).1 _ (List.mem_of_getElem? (i := 1) rfl)) q1555 (Or.inl rfl) dX11_cost_52 ?_
    refine v_acmp_ne C (rx := (some x3)) (ry := (some (gT g 0))) rfl rfl (tgt := 62) dX11_cost_55 (by decide) hF (fun c17 hF => ?_) (fun c17 hF => ?_)
    · refine v_iconst C (v := (0 : Int32)) dX11_cost_58 (by decide) ?_
      refine v_goto C (tgt := 63) dX11_cost_59 (by decide) ?_
      refine v_iadd C dX11_cost_63 ?_
      refine v_goto C (tgt := 69) dX11_cost_64 (by decide) ?_
      exact c_iret C dX11_cost_69 hF
    · refine v_iconst C (v := (1 : Int32)) dX11_cost_62 (by decide) ?_
      refine v_iadd C dX11_cost_63 ?_
      refine v_goto C (tgt := 69) dX11_cost_64 (by decide) ?_
      exact c_iret C dX11_cost_69 hF
  · refine v_ldc C q1543 dX11_cost_67 ?_
    exact c_iret C dX11_cost_69 hF
set_option maxHeartbeats 4000000 in
theorem wX11_best_b27 {l : Launch} {g : GT} {X : CxT} {r : Nat} {w1 : Wd} (C : kOk g X cX11_best 4 RX11 (some (.object "CardLoom$Turning")) 3 300 (some (.ref r)) w1) (hX : ∀ U, gX g U → SX g U) (hl : xl X = l) (hin : kHin X yX11_best) (N : Nat)  (x0 : Nat) (x1 : Int32) (x2 : Int32) (x3 : Nat) (w : Wd) (hF : FX11_best_b27 N g  x0 x1 x2 x3 w = some (r, w1)) : kV g X 4 w 27 [some (.ref x0), some (.int x1), some (.int x2), some (.ref x3)] [] := by
  unfold FX11_best_b27 at hF
  refine v_aload_n C dX11_best_27 rfl rfl ?_
  refine v_iload_n C dX11_best_28 rfl rfl ?_
  refine v_iload_n C dX11_best_29 rfl rfl ?_
  refine v_gets C ((hX _ C.2.2.2.2.2.1.2.2.1).1 _ (List.mem_of_getElem? (i := 1) rfl)) q1555 (Or.inl rfl) dX11_best_30 ?_
  obtain ⟨h10, hF⟩ := k_ite hF
  refine c_callVi C lk_X11_53 (ci := 6) rfl h10 (fr2 := 2) (lo2 := 200) (As := [.int x1, .int x2, .ref (gT g 0)]) (st := []) (fun r9_ w9_ h9_ => by rw [hl]; exact wX11_cost l g hX N x0 x1 x2 (gT g 0) w r9_ w9_ h9_) (by decide) rfl rfl (Nat.le_of_ble_eq_true rfl) dX11_best_33 hF (fun r8 u9 hF => ?_)
  refine v_aload_n C dX11_best_36 rfl rfl ?_
  refine v_iload_n C dX11_best_37 rfl rfl ?_
  refine v_iload_n C dX11_best_38 rfl rfl ?_
  refine v_aload_n C dX11_best_39 rfl rfl ?_
  obtain ⟨h13, hF⟩ := k_ite hF
  refine c_callVi C lk_X11_53 (ci := 6) rfl h13 (fr2 := 2) (lo2 := 200) (As := [.int x1, .int x2, .ref x3]) (st := [.int r8]) (fun r9_ w9_ h9_ => by rw [hl]; exact wX11_cost l g hX N x0 x1 x2 x3 u9 r9_ w9_ h9_) (by decide) rfl rfl (Nat.le_of_ble_eq_true rfl) dX11_best_40 hF (fun r11 u12 hF => ?_)
  refine v_icmp_ge C (tgt := 52) dX11_best_43 (by decide) hF (fun c14 hF => ?_) (fun c14 hF => ?_)
  · refine v_aload_n C dX11_best_52 rfl rfl ?_
    exact c_aret C (Or.inl ⟨_, rfl⟩) dX11_best_53 hF
  · refine v_gets C ((hX _ C.2.2.2.2.2.1.2.2.1).1 _ (List.mem_of_getElem? (i := 1) rfl)) q1555 (Or.inl rfl) dX11_best_46 ?_
    refine v_goto C (tgt := 53) dX11_best_49 (by decide) ?_
    exact c_aret C (Or.inl ⟨_, rfl⟩) dX11_best_53 hF
set_option maxHeartbeats 4000000 in
theorem wX11_best (l : Launch) (g : GT) (hX : ∀ U, gX g U → SX g U) (N : Nat) (x0 : Nat) (x1 : Int32) (x2 : Int32) (w : Wd) (r : Nat) (w1 : Wd) (hF : FX11_best N g x0 x1 x2 w = some (r, w1)) : kMt l g yX11_best (ws_ yX11_best cX11_best 4 (some (.object "CardLoom$Turning"))) 3 300 w [.ref x0, .int x1, .int x2] (some (.ref r)) w1 := by
  refine kMt.ofV (lv := [some (.ref x0), some (.int x1), some (.int x2), none]) (by decide) rfl (Nat.le_of_ble_eq_true rfl) rfl ?_
  intro X hl hin C
  unfold FX11_best at hF
  refine v_gets C ((hX _ C.2.2.2.2.2.1.2.2.1).1 _ (List.mem_of_getElem? (i := 2) rfl)) q1548 (Or.inl rfl) dX11_best_0 ?_
  refine v_astore_n C dX11_best_3 rfl (Nat.le_of_ble_eq_true rfl) rfl (lv' := [some (.ref x0), some (.int x1), some (.int x2), some (.ref (gT g 1))]) rfl ?_
  refine v_aload_n C dX11_best_4 rfl rfl ?_
  refine v_iload_n C dX11_best_5 rfl rfl ?_
  refine v_iload_n C dX11_best_6 rfl rfl ?_
  refine v_gets C ((hX _ C.2.2.2.2.2.1.2.2.1).1 _ (List.mem_of_getElem? (i := 3) rfl)) q1549 (Or.inl rfl) dX11_best_7 ?_
  obtain ⟨h3, hF⟩ := k_ite hF
  refine c_callVi C lk_X11_53 (ci := 6) rfl h3 (fr2 := 2) (lo2 := 200) (As := [.int x1, .int x2, .ref (gT g 2)]) (st := []) (fun r9_ w9_ h9_ => by rw [hl]; exact wX11_cost l g hX N x0 x1 x2 (gT g 2) w r9_ w9_ h9_) (by decide) rfl rfl (Nat.le_of_ble_eq_true rfl) dX11_best_10 hF (fun r1 u2 hF => ?_)
  refine v_aload_n C dX11_best_13 rfl rfl ?_
  refine v_iload_n C dX11_best_14 rfl rfl ?_
  refine v_iload_n C dX11_best_15 rfl rfl ?_
  refine v_aload_n C dX11_best_16 rfl rfl ?_
  obtain ⟨h6, hF⟩ := k_ite hF
  refine c_callVi C lk_X11_53 (ci := 6) rfl h6 (fr2 := 2) (lo2 := 200) (As := [.int x1, .int x2, .ref (gT g 1)]) (st := [.int r1]) (fun r9_ w9_ h9_ => by rw [hl]; exact wX11_cost l g hX N x0 x1 x2 (gT g 1) u2 r9_ w9_ h9_) (by decide) rfl rfl (Nat.le_of_ble_eq_true rfl) dX11_best_17 hF (fun r4 u5 hF => ?_)
  refine v_icmp_ge C (tgt := 27) dX11_best_20 (by decide) hF (fun c7 hF => ?_) (fun c7 hF => ?_)
  · refine v_mask [true, true, true, true] (lv' := [some (.ref x0), some (.int x1), some (.int x2), some (.ref (gT g 1))]) rfl ?_
    exact wX11_best_b27 C hX hl hin N (x0) (x1) (x2) ((gT g 1)) u5 hF
  · refine v_gets C ((hX _ C.2.2.2.2.2.1.2.2.1).1 _ (List.mem_of_getElem? (i := 3) rfl)) q1549 (Or.inl rfl) dX11_best_23 ?_
    refine v_astore_n C dX11_best_26 rfl (Nat.le_of_ble_eq_true rfl) rfl (lv' := [some (.ref x0), some (.int x1), some (.int x2), some (.ref (gT g 2))]) rfl ?_
    refine v_mask [true, true, true, true] (lv' := [some (.ref x0), some (.int x1), some (.int x2), some (.ref (gT g 2))]) rfl ?_
    exact wX11_best_b27 C hX hl hin N (x0) (x1) (x2) ((gT g 2)) u5 hF
set_option maxHeartbeats 4000000 in
theorem wX11_least (l : Launch) (g : GT) (hX : ∀ U, gX g U → SX g U) (N : Nat) (x0 : Nat) (x1 : Int32) (x2 : Int32) (w : Wd) (r : Int32) (w1 : Wd) (hF : FX11_least N g x0 x1 x2 w = some (r, w1)) : kMt l g yX11_least (ws_ yX11_least cX11_least 3 (some .int)) 4 400 w [.ref x0, .int x1, .int x2] (some (.int r)) w1 := by
  refine kMt.ofV (lv := [some (.ref x0), some (.int x1), some (.int x2)]) (by decide) rfl (Nat.le_of_ble_eq_true rfl) rfl ?_
  intro X hl hin C
  unfold FX11_least at hF
  refine v_ldc C q1543 dX11_least_0 ?_
  refine v_aload_n C dX11_least_2 rfl rfl ?_
  refine v_iload_n C dX11_least_3 rfl rfl ?_
  refine v_iload_n C dX11_least_4 rfl rfl ?_
  refine v_aload_n C dX11_least_5 rfl rfl ?_
  refine v_iload_n C dX11_least_6 rfl rfl ?_
  refine v_iload_n C dX11_least_7 rfl rfl ?_
  obtain ⟨h3, hF⟩ := k_ite hF
  refine c_callVr C lk_X11_57 (ci := 6) rfl h3 (fr2 := 3) (lo2 := 300) (As := [.int x1, .int x2]) (st := [.int x2, .int x1, .ref x0, .int (1000000 : Int32)]) (fun r9_ w9_ h9_ => by rw [hl]; exact wX11_best l g hX N x0 x1 x2 w r9_ w9_ h9_) (by decide) rfl rfl (Nat.le_of_ble_eq_true rfl) dX11_least_8 hF (fun r1 u2 hF => ?_)
  obtain ⟨h6, hF⟩ := k_ite hF
  refine c_callVi C lk_X11_53 (ci := 6) rfl h6 (fr2 := 2) (lo2 := 200) (As := [.int x1, .int x2, .ref r1]) (st := [.int (1000000 : Int32)]) (fun r9_ w9_ h9_ => by rw [hl]; exact wX11_cost l g hX N x0 x1 x2 r1 u2 r9_ w9_ h9_) (by decide) rfl rfl (Nat.le_of_ble_eq_true rfl) dX11_least_11 hF (fun r4 u5 hF => ?_)
  refine v_mmin C q1556 (by decide) (Nat.le_of_ble_eq_true rfl) dX11_least_14 ?_
  exact c_iret C dX11_least_17 hF
set_option maxHeartbeats 4000000 in
theorem wX0_draftOf_b67 {l : Launch} {g : GT} {X : CxT} {r : Nat} {w1 : Wd} (C : kOk g X cX0_draftOf 6 RX0 (some (.object "CardLoom$Drafting")) 5 500 (some (.ref r)) w1) (hX : ∀ U, gX g U → SX g U) (hl : xl X = l) (hin : kHin X yX0_draftOf) (N : Nat) (k59 : Nat × Nat × Int32 × Wd → Option (Nat × Wd)) (hk59 : ∀ a, k59 a = some (r, w1) → kV g X 6 a.2.2.2 59 [some (.ref a.1), none, none, some (.ref a.2.1), some (.int a.2.2.1), none] []) (k67 : Nat × Nat × Int32 × Int32 × Wd → Option (Nat × Wd)) (hk67 : ∀ a, k67 a = some (r, w1) → kV g X 6 a.2.2.2.2 67 [some (.ref a.1), none, none, some (.ref a.2.1), some (.int a.2.2.1), some (.int a.2.2.2.1)] []) (x0 : Nat) (x3 : Nat) (x4 : Int32) (x5 : Int32) (w : Wd) (hF : FX0_draftOf_b67 N g k59 k67 x0 x3 x4 x5 w = some (r, w1)) : kV g X 6 w 67 [some (.ref x0), none, none, some (.ref x3), some (.int x4), some (.int x5)] [] := by
  unfold FX0_draftOf_b67 at hF
  refine v_iload C dX0_draftOf_67 rfl ?_
  refine v_iconst C (v := (4 : Int32)) dX0_draftOf_69 (by decide) ?_
  refine v_icmp_ge C (tgt := 99) dX0_draftOf_70 (by decide) hF (fun c12 hF => ?_) (fun c12 hF => ?_)
  · refine v_iinc C dX0_draftOf_99 rfl (v := (x4 + (-1 : Int32))) rfl (Nat.le_of_ble_eq_true rfl) rfl (lv' := [some (.ref x0), none, none, some (.ref x3), some (.int (x4 + (-1 : Int32))), some (.int x5)]) rfl ?_
    refine v_goto C (tgt := 59) dX0_draftOf_102 (by decide) ?_
    refine v_mask [true, false, false, true, true, false] (lv' := [some (.ref x0), none, none, some (.ref x3), some (.int (x4 + (-1 : Int32))), none]) rfl ?_
    exact hk59 (x0, x3, (x4 + (-1 : Int32)), w) hF
  · refine v_aload_n C dX0_draftOf_73 rfl rfl ?_
    refine v_getR C kc_X0 7 (Nat.le_of_ble_eq_true rfl) (kFl.p q208) dX0_draftOf_74 hF (fun v13 hF => ?_)
    refine v_iload C dX0_draftOf_77 rfl ?_
    refine v_aQl7 C dX0_draftOf_79 hF (fun v14 hF => ?_)
    rcases v14 with _ | a15
    · exact (k_ob0 hF).elim
    have hF := k_ob1 hF
    show kV _ _ _ _ 80 [some (.ref x0), none, none, some (.ref x3), some (.int x4), some (.int x5)] [.ref a15]
    refine v_iload C dX0_draftOf_80 rfl ?_
    refine v_aload_n C dX0_draftOf_82 rfl rfl ?_
    refine v_iload C dX0_draftOf_83 rfl ?_
    refine v_iload C dX0_draftOf_85 rfl ?_
    obtain ⟨h18, hF⟩ := k_ite hF
    refine c_callFi C lk_X0_324_X11_least ((hX _ C.2.2.2.2.2.1.2.2.1).2.2.1 _ (List.mem_of_getElem? (i := 10) rfl)) (C.2.2.2.2.2.1.1.1 6 _ rfl).2 (kRc.of C (ci := 6) rfl h18) (fr2 := 4) (lo2 := 400) (As := [.int x4, .int x5]) (st := [.int x5, .ref a15]) (fun r9_ w9_ h9_ => by rw [hl]; exact wX11_least l g hX N x3 x4 x5 w r9_ w9_ h9_) (by decide) rfl rfl (Nat.le_of_ble_eq_true rfl) dX0_draftOf_87 hF (fun r16 u17 hF => ?_)
    refine v_aSi C dX0_draftOf_92 hF (fun u19 hF => ?_)
    refine v_iinc C dX0_draftOf_93 rfl (v := (x5 + (1 : Int32))) rfl (Nat.le_of_ble_eq_true rfl) rfl (lv' := [some (.ref x0), none, none, some (.ref x3), some (.int x4), some (.int (x5 + (1 : Int32)))]) rfl ?_
    refine v_goto C (tgt := 67) dX0_draftOf_96 (by decide) ?_
    refine v_mask [true, false, false, true, true, true] (lv' := [some (.ref x0), none, none, some (.ref x3), some (.int x4), some (.int (x5 + (1 : Int32)))]) rfl ?_
    exact hk67 (x0, x3, x4, (x5 + (1 : Int32)), u19) hF
set_option maxHeartbeats 4000000 in
theorem wX0_draftOf_b59 {l : Launch} {g : GT} {X : CxT} {r : Nat} {w1 : Wd} (C : kOk g X cX0_draftOf 6 RX0 (some (.object "CardLoom$Drafting")) 5 500 (some (.ref r)) w1) (hX : ∀ U, gX g U → SX g U) (hl : xl X = l) (hin : kHin X yX0_draftOf) (N : Nat) (k59 : Nat × Nat × Int32 × Wd → Option (Nat × Wd)) (hk59 : ∀ a, k59 a = some (r, w1) → kV g X 6 a.2.2.2 59 [some (.ref a.1), none, none, some (.ref a.2.1), some (.int a.2.2.1), none] []) (x0 : Nat) (x3 : Nat) (x4 : Int32) (w : Wd) (hF : FX0_draftOf_b59 N g k59 x0 x3 x4 w = some (r, w1)) : kV g X 6 w 59 [some (.ref x0), none, none, some (.ref x3), some (.int x4), none] [] := by
  unfold FX0_draftOf_b59 at hF
  refine v_iload C dX0_draftOf_59 rfl ?_
  refine v_if_lt C (tgt := 105) dX0_draftOf_61 (by decide) hF (fun c11 hF => ?_) (fun c11 hF => ?_)
  · refine v_aload_n C dX0_draftOf_105 rfl rfl ?_
    exact c_aret C (Or.inl ⟨_, rfl⟩) dX0_draftOf_106 hF
  · refine v_iconst C (v := (0 : Int32)) dX0_draftOf_64 (by decide) ?_
    refine v_istore C dX0_draftOf_65 (Nat.le_of_ble_eq_true rfl) rfl (lv' := [some (.ref x0), none, none, some (.ref x3), some (.int x4), some (.int (0 : Int32))]) rfl ?_
    refine v_mask [true, false, false, true, true, true] (lv' := [some (.ref x0), none, none, some (.ref x3), some (.int x4), some (.int (0 : Int32))]) rfl ?_
    exact kloop_ok (P := fun a => kV g X 6 a.2.2.2.2 67 [some (.ref a.1), none, none, some (.ref a.2.1), some (.int a.2.2.1), some (.int a.2.2.2.1)] []) (fun self hs a hF => wX0_draftOf_b67 C hX hl hin N k59 hk59 self hs a.1 a.2.1 a.2.2.1 a.2.2.2.1 a.2.2.2.2 hF) N (x0, x3, x4, (0 : Int32), w) hF
set_option maxHeartbeats 4000000 in
theorem wX0_draftOf_b26 {l : Launch} {g : GT} {X : CxT} {r : Nat} {w1 : Wd} (C : kOk g X cX0_draftOf 6 RX0 (some (.object "CardLoom$Drafting")) 5 500 (some (.ref r)) w1) (hX : ∀ U, gX g U → SX g U) (hl : xl X = l) (hin : kHin X yX0_draftOf) (N : Nat) (k26 : Nat × Nat × Int32 × Wd → Option (Nat × Wd)) (hk26 : ∀ a, k26 a = some (r, w1) → kV g X 6 a.2.2.2 26 [some (.ref a.1), none, none, some (.ref a.2.1), some (.int a.2.2.1), none] []) (x0 : Nat) (x3 : Nat) (x4 : Int32) (w : Wd) (hF : FX0_draftOf_b26 N g k26 x0 x3 x4 w = some (r, w1)) : kV g X 6 w 26 [some (.ref x0), none, none, some (.ref x3), some (.int x4), none] [] := by
  unfold FX0_draftOf_b26 at hF
  refine v_iload C dX0_draftOf_26 rfl ?_
  refine v_iconst C (v := (4 : Int32)) dX0_draftOf_28 (by decide) ?_
  refine v_icmp_ge C (tgt := 51) dX0_draftOf_29 (by decide) hF (fun c9 hF => ?_) (fun c9 hF => ?_)
  · refine v_aload_n C dX0_draftOf_51 rfl rfl ?_
    refine v_getI C kc_X0 6 (Nat.le_of_ble_eq_true rfl) (kFl.p q207) dX0_draftOf_52 hF (fun v10 hF => ?_)
    refine v_iconst C (v := (1 : Int32)) dX0_draftOf_55 (by decide) ?_
    refine v_isub C dX0_draftOf_56 ?_
    refine v_istore C dX0_draftOf_57 (Nat.le_of_ble_eq_true rfl) rfl (lv' := [some (.ref x0), none, none, some (.ref x3), some (.int (v10 - (1 : Int32))), none]) rfl ?_
    refine v_mask [true, false, false, true, true, false] (lv' := [some (.ref x0), none, none, some (.ref x3), some (.int (v10 - (1 : Int32))), none]) rfl ?_
    exact kloop_ok (P := fun a => kV g X 6 a.2.2.2 59 [some (.ref a.1), none, none, some (.ref a.2.1), some (.int a.2.2.1), none] []) (fun self hs a hF => wX0_draftOf_b59 C hX hl hin N self hs a.1 a.2.1 a.2.2.1 a.2.2.2 hF) N (x0, x3, (v10 - (1 : Int32)), w) hF
  · refine v_aload_n C dX0_draftOf_32 rfl rfl ?_
    refine v_getR C kc_X0 7 (Nat.le_of_ble_eq_true rfl) (kFl.p q208) dX0_draftOf_33 hF (fun v20 hF => ?_)
    refine v_aload_n C dX0_draftOf_36 rfl rfl ?_
    refine v_getI C kc_X0 6 (Nat.le_of_ble_eq_true rfl) (kFl.p q207) dX0_draftOf_37 hF (fun v21 hF => ?_)
    refine v_aQl7 C dX0_draftOf_40 hF (fun v22 hF => ?_)
    rcases v22 with _ | a23
    · exact (k_ob0 hF).elim
    have hF := k_ob1 hF
    show kV _ _ _ _ 41 [some (.ref x0), none, none, some (.ref x3), some (.int x4), none] [.ref a23]
    refine v_iload C dX0_draftOf_41 rfl ?_
    refine v_iconst C (v := (0 : Int32)) dX0_draftOf_43 (by decide) ?_
    refine v_aSi C dX0_draftOf_44 hF (fun u24 hF => ?_)
    refine v_iinc C dX0_draftOf_45 rfl (v := (x4 + (1 : Int32))) rfl (Nat.le_of_ble_eq_true rfl) rfl (lv' := [some (.ref x0), none, none, some (.ref x3), some (.int (x4 + (1 : Int32))), none]) rfl ?_
    refine v_goto C (tgt := 26) dX0_draftOf_48 (by decide) ?_
    refine v_mask [true, false, false, true, true, false] (lv' := [some (.ref x0), none, none, some (.ref x3), some (.int (x4 + (1 : Int32))), none]) rfl ?_
    exact hk26 (x0, x3, (x4 + (1 : Int32)), u24) hF
set_option maxHeartbeats 4000000 in
theorem wX0_draftOf (l : Launch) (g : GT) (hX : ∀ U, gX g U → SX g U) (N : Nat) (x0 : Nat) (x1 : Int32) (w : Wd) (r : Nat) (w1 : Wd) (hF : FX0_draftOf N g x0 x1 w = some (r, w1)) : kMt l g yX0_draftOf (ws_ yX0_draftOf cX0_draftOf 6 (some (.object "CardLoom$Drafting"))) 5 500 w [.ref x0, .int x1] (some (.ref r)) w1 := by
  refine kMt.ofV (lv := [some (.ref x0), some (.int x1), none, none, none, none]) (by decide) rfl (Nat.le_of_ble_eq_true rfl) rfl ?_
  intro X hl hin C
  unfold FX0_draftOf at hF
  refine v_aload_n C dX0_draftOf_0 rfl rfl ?_
  refine v_getR C kc_X0 0 (Nat.le_of_ble_eq_true rfl) (kFl.p q198) dX0_draftOf_1 hF (fun v1 hF => ?_)
  refine v_iload_n C dX0_draftOf_4 rfl rfl ?_
  obtain ⟨h4, hF⟩ := k_ite hF
  refine c_callVr C lk_X0_121 (ci := 11) rfl h4 (fr2 := 3) (lo2 := 300) (As := [.int x1]) (st := []) (fun r9_ w9_ h9_ => by rw [hl]; exact wJ2_get l g hX N v1 x1 w r9_ w9_ h9_) (by decide) rfl rfl (Nat.le_of_ble_eq_true rfl) dX0_draftOf_5 hF (fun r2 u3 hF => ?_)
  refine v_castI C (ci := 2) rfl q700 dX0_draftOf_8 hF (fun hF => ?_)
  refine v_astore_n C dX0_draftOf_11 rfl (Nat.le_of_ble_eq_true rfl) rfl (lv' := [some (.ref x0), some (.int x1), some (.ref r2), none, none, none]) rfl ?_
  refine v_newW C kc_X11 q1517 q1518 q119 nw_X11 dX0_draftOf_12 hF (fun a5 u6 hF => ?_)
  refine v_dup C dX0_draftOf_15 rfl ?_
  refine v_aload_n C dX0_draftOf_16 rfl rfl ?_
  refine v_aload_n C dX0_draftOf_17 rfl rfl ?_
  refine v_iload_n C dX0_draftOf_18 rfl rfl ?_
  refine c_callI C lk_X0_321 (fr2 := 1) (lo2 := 100) (As := [.ref x0, .ref r2, .int x1]) (st := [.ref a5]) (fun r9_ w9_ h9_ => by rw [hl]; exact wX11_init l g hX N a5 x0 r2 x1 u6 r9_ w9_ h9_) (by decide) rfl rfl (Nat.le_of_ble_eq_true rfl) dX0_draftOf_19 hF (fun r7 u8 hF => ?_)
  refine v_astore_n C dX0_draftOf_22 rfl (Nat.le_of_ble_eq_true rfl) rfl (lv' := [some (.ref x0), some (.int x1), some (.ref r2), some (.ref a5), none, none]) rfl ?_
  refine v_iconst C (v := (0 : Int32)) dX0_draftOf_23 (by decide) ?_
  refine v_istore C dX0_draftOf_24 (Nat.le_of_ble_eq_true rfl) rfl (lv' := [some (.ref x0), some (.int x1), some (.ref r2), some (.ref a5), some (.int (0 : Int32)), none]) rfl ?_
  refine v_mask [true, false, false, true, true, false] (lv' := [some (.ref x0), none, none, some (.ref a5), some (.int (0 : Int32)), none]) rfl ?_
  exact kloop_ok (P := fun a => kV g X 6 a.2.2.2 26 [some (.ref a.1), none, none, some (.ref a.2.1), some (.int a.2.2.1), none] []) (fun self hs a hF => wX0_draftOf_b26 C hX hl hin N self hs a.1 a.2.1 a.2.2.1 a.2.2.2 hF) N (x0, a5, (0 : Int32), u8) hF
set_option maxHeartbeats 4000000 in
theorem wX0_isLost (l : Launch) (g : GT) (hX : ∀ U, gX g U → SX g U) (N : Nat) (x0 : Nat) (x1 : Int32) (w : Wd) (r : Int32) (w1 : Wd) (hF : FX0_isLost N g x0 x1 w = some (r, w1)) : kMt l g yX0_isLost (ws_ yX0_isLost cX0_isLost 2 (some .boolean)) 4 400 w [.ref x0, .int x1] (some (.int r)) w1 := by
  refine kMt.ofV (lv := [some (.ref x0), some (.int x1)]) (by decide) rfl (Nat.le_of_ble_eq_true rfl) rfl ?_
  intro X hl hin C
  unfold FX0_isLost at hF
  refine v_aload_n C dX0_isLost_0 rfl rfl ?_
  refine v_getR C kc_X0 7 (Nat.le_of_ble_eq_true rfl) (kFl.p q208) dX0_isLost_1 hF (fun v1 hF => ?_)
  refine v_iconst C (v := (0 : Int32)) dX0_isLost_4 (by decide) ?_
  refine v_aQl7 C dX0_isLost_5 hF (fun v2 hF => ?_)
  rcases v2 with _ | a3
  · exact (k_ob0 hF).elim
  have hF := k_ob1 hF
  show kV _ _ _ _ 6 [some (.ref x0), some (.int x1)] [.ref a3]
  refine v_aload_n C dX0_isLost_6 rfl rfl ?_
  refine v_getR C kc_X0 0 (Nat.le_of_ble_eq_true rfl) (kFl.p q198) dX0_isLost_7 hF (fun v4 hF => ?_)
  refine v_iload_n C dX0_isLost_10 rfl rfl ?_
  obtain ⟨h7, hF⟩ := k_ite hF
  refine c_callVr C lk_X0_121 (ci := 11) rfl h7 (fr2 := 3) (lo2 := 300) (As := [.int x1]) (st := [.ref a3]) (fun r9_ w9_ h9_ => by rw [hl]; exact wJ2_get l g hX N v4 x1 w r9_ w9_ h9_) (by decide) rfl rfl (Nat.le_of_ble_eq_true rfl) dX0_isLost_11 hF (fun r5 u6 hF => ?_)
  refine v_castI C (ci := 2) rfl q700 dX0_isLost_14 hF (fun hF => ?_)
  refine v_getI C kc_X6 2 (Nat.le_of_ble_eq_true rfl) (kFl.n q386) dX0_isLost_17 hF (fun v8 hF => ?_)
  refine v_aIi C dX0_isLost_20 hF (fun v9 hF => ?_)
  refine v_ldcw C q1569 dX0_isLost_21 ?_
  refine v_icmp_lt C (tgt := 31) dX0_isLost_24 (by decide) hF (fun c10 hF => ?_) (fun c10 hF => ?_)
  · refine v_iconst C (v := (0 : Int32)) dX0_isLost_31 (by decide) ?_
    exact c_zret C rfl dX0_isLost_32 hF
  · refine v_iconst C (v := (1 : Int32)) dX0_isLost_27 (by decide) ?_
    refine v_goto C (tgt := 32) dX0_isLost_28 (by decide) ?_
    exact c_zret C rfl dX0_isLost_32 hF
set_option maxHeartbeats 4000000 in
theorem wX0_drafted_b30 {l : Launch} {g : GT} {X : CxT} {r : Nat} {w1 : Wd} (C : kOk g X cX0_drafted 7 RX0 (some (.object "CardLoom$Turning")) 6 600 (some (.ref r)) w1) (hX : ∀ U, gX g U → SX g U) (hl : xl X = l) (hin : kHin X yX0_drafted) (N : Nat) (k30 : Int32 × Nat × Int32 × Nat × Int32 × Wd → Option (Nat × Wd)) (hk30 : ∀ a, k30 a = some (r, w1) → kV g X 7 a.2.2.2.2.2 30 [none, some (.int a.1), none, some (.ref a.2.1), some (.int a.2.2.1), some (.ref a.2.2.2.1), some (.int a.2.2.2.2.1)] []) (x1 : Int32) (x3 : Nat) (x4 : Int32) (x5 : Nat) (x6 : Int32) (w : Wd) (hF : FX0_drafted_b30 N g k30 x1 x3 x4 x5 x6 w = some (r, w1)) : kV g X 7 w 30 [none, some (.int x1), none, some (.ref x3), some (.int x4), some (.ref x5), some (.int x6)] [] := by
  unfold FX0_drafted_b30 at hF
  refine v_iload C dX0_drafted_30 rfl ?_
  refine v_iload_n C dX0_drafted_32 rfl rfl ?_
  refine v_icmp_gt C (tgt := 66) dX0_drafted_33 (by decide) hF (fun c9 hF => ?_) (fun c9 hF => ?_)
  · refine v_aload C dX0_drafted_66 rfl ?_
    exact c_aret C (Or.inl ⟨_, rfl⟩) dX0_drafted_68 hF
  · refine v_aload_n C dX0_drafted_36 rfl rfl ?_
    refine v_iload C dX0_drafted_37 rfl ?_
    refine v_iload C dX0_drafted_39 rfl ?_
    obtain ⟨h12, hF⟩ := k_ite hF
    refine c_callFr C lk_X0_334_X11_best ((hX _ C.2.2.2.2.2.1.2.2.1).2.2.1 _ (List.mem_of_getElem? (i := 11) rfl)) (C.2.2.2.2.2.1.1.1 6 _ rfl).2 (kRc.of C (ci := 6) rfl h12) (fr2 := 3) (lo2 := 300) (As := [.int x6, .int x4]) (st := []) (fun r9_ w9_ h9_ => by rw [hl]; exact wX11_best l g hX N x3 x6 x4 w r9_ w9_ h9_) (by decide) rfl rfl (Nat.le_of_ble_eq_true rfl) dX0_drafted_41 hF (fun r10 u11 hF => ?_)
    refine v_astore C dX0_drafted_46 (Nat.le_of_ble_eq_true rfl) rfl (lv' := [none, some (.int x1), none, some (.ref x3), some (.int x4), some (.ref r10), some (.int x6)]) rfl ?_
    refine v_iload C dX0_drafted_48 rfl ?_
    refine v_aload C dX0_drafted_50 rfl ?_
    refine v_tquarters C hX q1564 (by decide) (Nat.le_of_ble_eq_true rfl) dX0_drafted_52 hF (fun v13 hF => ?_)
    refine v_iadd C dX0_drafted_55 ?_
    refine v_iconst C (v := (4 : Int32)) dX0_drafted_56 (by decide) ?_
    refine v_irem C dX0_drafted_57 (by decide) ?_
    refine v_istore C dX0_drafted_58 (Nat.le_of_ble_eq_true rfl) rfl (lv' := [none, some (.int x1), none, some (.ref x3), some (.int ((x4 + v13) - (x4 + v13) / (4 : Int32) * (4 : Int32))), some (.ref r10), some (.int x6)]) rfl ?_
    refine v_iinc C dX0_drafted_60 rfl (v := (x6 + (1 : Int32))) rfl (Nat.le_of_ble_eq_true rfl) rfl (lv' := [none, some (.int x1), none, some (.ref x3), some (.int ((x4 + v13) - (x4 + v13) / (4 : Int32) * (4 : Int32))), some (.ref r10), some (.int (x6 + (1 : Int32)))]) rfl ?_
    refine v_goto C (tgt := 30) dX0_drafted_63 (by decide) ?_
    refine v_mask [false, true, false, true, true, true, true] (lv' := [none, some (.int x1), none, some (.ref x3), some (.int ((x4 + v13) - (x4 + v13) / (4 : Int32) * (4 : Int32))), some (.ref r10), some (.int (x6 + (1 : Int32)))]) rfl ?_
    exact hk30 (x1, x3, ((x4 + v13) - (x4 + v13) / (4 : Int32) * (4 : Int32)), r10, (x6 + (1 : Int32)), u11) hF
set_option maxHeartbeats 4000000 in
theorem wX0_drafted (l : Launch) (g : GT) (hX : ∀ U, gX g U → SX g U) (N : Nat) (x0 : Nat) (x1 : Int32) (x2 : Int32) (w : Wd) (r : Nat) (w1 : Wd) (hF : FX0_drafted N g x0 x1 x2 w = some (r, w1)) : kMt l g yX0_drafted (ws_ yX0_drafted cX0_drafted 7 (some (.object "CardLoom$Turning"))) 6 600 w [.ref x0, .int x1, .int x2] (some (.ref r)) w1 := by
  refine kMt.ofV (lv := [some (.ref x0), some (.int x1), some (.int x2), none, none, none, none]) (by decide) rfl (Nat.le_of_ble_eq_true rfl) rfl ?_
  intro X hl hin C
  unfold FX0_drafted at hF
  refine v_aload_n C dX0_drafted_0 rfl rfl ?_
  refine v_iload_n C dX0_drafted_1 rfl rfl ?_
  obtain ⟨h3, hF⟩ := k_ite hF
  refine c_callVr C lk_X0_330 (ci := 1) rfl h3 (fr2 := 5) (lo2 := 500) (As := [.int x2]) (st := []) (fun r9_ w9_ h9_ => by rw [hl]; exact wX0_draftOf l g hX N x0 x2 w r9_ w9_ h9_) (by decide) rfl rfl (Nat.le_of_ble_eq_true rfl) dX0_drafted_2 hF (fun r1 u2 hF => ?_)
  refine v_astore_n C dX0_drafted_5 rfl (Nat.le_of_ble_eq_true rfl) rfl (lv' := [some (.ref x0), some (.int x1), some (.int x2), some (.ref r1), none, none, none]) rfl ?_
  refine v_aload_n C dX0_drafted_6 rfl rfl ?_
  refine v_getR C kc_X0 0 (Nat.le_of_ble_eq_true rfl) (kFl.p q198) dX0_drafted_7 hF (fun v4 hF => ?_)
  refine v_iload_n C dX0_drafted_10 rfl rfl ?_
  obtain ⟨h7, hF⟩ := k_ite hF
  refine c_callVr C lk_X0_121 (ci := 11) rfl h7 (fr2 := 3) (lo2 := 300) (As := [.int x2]) (st := []) (fun r9_ w9_ h9_ => by rw [hl]; exact wJ2_get l g hX N v4 x2 u2 r9_ w9_ h9_) (by decide) rfl rfl (Nat.le_of_ble_eq_true rfl) dX0_drafted_11 hF (fun r5 u6 hF => ?_)
  refine v_castI C (ci := 2) rfl q700 dX0_drafted_14 hF (fun hF => ?_)
  refine v_getI C kc_X6 2 (Nat.le_of_ble_eq_true rfl) (kFl.n q386) dX0_drafted_17 hF (fun v8 hF => ?_)
  refine v_istore C dX0_drafted_20 (Nat.le_of_ble_eq_true rfl) rfl (lv' := [some (.ref x0), some (.int x1), some (.int x2), some (.ref r1), some (.int v8), none, none]) rfl ?_
  refine v_gets C ((hX _ C.2.2.2.2.2.1.2.2.1).1 _ (List.mem_of_getElem? (i := 1) rfl)) q175 (Or.inl rfl) dX0_drafted_22 ?_
  refine v_astore C dX0_drafted_25 (Nat.le_of_ble_eq_true rfl) rfl (lv' := [some (.ref x0), some (.int x1), some (.int x2), some (.ref r1), some (.int v8), some (.ref (gT g 0)), none]) rfl ?_
  refine v_iconst C (v := (0 : Int32)) dX0_drafted_27 (by decide) ?_
  refine v_istore C dX0_drafted_28 (Nat.le_of_ble_eq_true rfl) rfl (lv' := [some (.ref x0), some (.int x1), some (.int x2), some (.ref r1), some (.int v8), some (.ref (gT g 0)), some (.int (0 : Int32))]) rfl ?_
  refine v_mask [false, true, false, true, true, true, true] (lv' := [none, some (.int x1), none, some (.ref r1), some (.int v8), some (.ref (gT g 0)), some (.int (0 : Int32))]) rfl ?_
  exact kloop_ok (P := fun a => kV g X 7 a.2.2.2.2.2 30 [none, some (.int a.1), none, some (.ref a.2.1), some (.int a.2.2.1), some (.ref a.2.2.2.1), some (.int a.2.2.2.2.1)] []) (fun self hs a hF => wX0_drafted_b30 C hX hl hin N self hs a.1 a.2.1 a.2.2.1 a.2.2.2.1 a.2.2.2.2.1 a.2.2.2.2.2 hF) N (x1, r1, v8, (gT g 0), (0 : Int32), u6) hF
set_option maxHeartbeats 4000000 in
theorem wX0_draft (l : Launch) (g : GT) (hX : ∀ U, gX g U → SX g U) (N : Nat) (x0 : Nat) (x1 : Int32) (x2 : Int32) (w : Wd) (r : Int32) (w1 : Wd) (hF : FX0_draft N g x0 x1 x2 w = some (r, w1)) : kMt l g yX0_draft (ws_ yX0_draft cX0_draft 4 (some .int)) 7 700 w [.ref x0, .int x1, .int x2] (some (.int r)) w1 := by
  refine kMt.ofV (lv := [some (.ref x0), some (.int x1), some (.int x2), none]) (by decide) rfl (Nat.le_of_ble_eq_true rfl) rfl ?_
  intro X hl hin C
  unfold FX0_draft at hF
  refine v_iload_n C dX0_draft_0 rfl rfl ?_
  refine v_iconst C (v := (0 : Int32)) dX0_draft_1 (by decide) ?_
  refine v_aload_n C dX0_draft_2 rfl rfl ?_
  refine v_getI C kc_X0 6 (Nat.le_of_ble_eq_true rfl) (kFl.p q207) dX0_draft_3 hF (fun v1 hF => ?_)
  refine v_iconst C (v := (1 : Int32)) dX0_draft_6 (by decide) ?_
  refine v_isub C dX0_draft_7 ?_
  refine c_callSi C lk_X0_93 (fr2 := 1) (lo2 := 100) (As := [.int x1, .int (0 : Int32), .int (v1 - (1 : Int32))]) (st := []) (fun r9_ w9_ h9_ => by rw [hl]; exact wX0_isIn l g hX N x1 (0 : Int32) (v1 - (1 : Int32)) w r9_ w9_ h9_) (by decide) rfl rfl (Nat.le_of_ble_eq_true rfl) dX0_draft_8 hF (fun r2 u3 hF => ?_)
  refine v_if_eq C (tgt := 22) dX0_draft_11 (by decide) hF (fun c4 hF => ?_) (fun c4 hF => ?_)
  · refine v_iconst C (v := (-1 : Int32)) dX0_draft_22 (by decide) ?_
    exact c_iret C dX0_draft_23 hF
  · refine v_aload_n C dX0_draft_14 rfl rfl ?_
    refine v_iload_n C dX0_draft_15 rfl rfl ?_
    obtain ⟨h7, hF⟩ := k_ite hF
    refine c_callVi C lk_X0_195 (ci := 1) rfl h7 (fr2 := 3) (lo2 := 300) (As := [.int x2]) (st := []) (fun r9_ w9_ h9_ => by rw [hl]; exact wX0_isCard l g hX N x0 x2 u3 r9_ w9_ h9_) (by decide) rfl rfl (Nat.le_of_ble_eq_true rfl) dX0_draft_16 hF (fun r5 u6 hF => ?_)
    refine v_if_ne C (tgt := 24) dX0_draft_19 (by decide) hF (fun c8 hF => ?_) (fun c8 hF => ?_)
    · refine v_iconst C (v := (-1 : Int32)) dX0_draft_22 (by decide) ?_
      exact c_iret C dX0_draft_23 hF
    · refine v_aload_n C dX0_draft_24 rfl rfl ?_
      refine v_iload_n C dX0_draft_25 rfl rfl ?_
      refine v_iload_n C dX0_draft_26 rfl rfl ?_
      obtain ⟨h11, hF⟩ := k_ite hF
      refine c_callVr C lk_X0_341 (ci := 1) rfl h11 (fr2 := 6) (lo2 := 600) (As := [.int x1, .int x2]) (st := []) (fun r9_ w9_ h9_ => by rw [hl]; exact wX0_drafted l g hX N x0 x1 x2 u6 r9_ w9_ h9_) (by decide) rfl rfl (Nat.le_of_ble_eq_true rfl) dX0_draft_27 hF (fun r9 u10 hF => ?_)
      refine v_astore_n C dX0_draft_30 rfl (Nat.le_of_ble_eq_true rfl) rfl (lv' := [some (.ref x0), some (.int x1), some (.int x2), some (.ref r9)]) rfl ?_
      refine v_aload_n C dX0_draft_31 rfl rfl ?_
      refine v_iload_n C dX0_draft_32 rfl rfl ?_
      obtain ⟨h14, hF⟩ := k_ite hF
      refine c_callVi C lk_X0_344 (ci := 1) rfl h14 (fr2 := 4) (lo2 := 400) (As := [.int x2]) (st := []) (fun r9_ w9_ h9_ => by rw [hl]; exact wX0_isLost l g hX N x0 x2 u10 r9_ w9_ h9_) (by decide) rfl rfl (Nat.le_of_ble_eq_true rfl) dX0_draft_33 hF (fun r12 u13 hF => ?_)
      refine v_if_eq C (tgt := 44) dX0_draft_36 (by decide) hF (fun c15 hF => ?_) (fun c15 hF => ?_)
      · refine v_aload_n C dX0_draft_44 rfl rfl ?_
        refine v_tnum C hX (Or.inr ⟨_, q2806⟩) dX0_draft_45 hF (fun v16 hF => ?_)
        exact c_iret C dX0_draft_48 hF
      · refine v_bipush C (v := (-5 : Int32)) dX0_draft_39 (by decide) ?_
        refine v_goto C (tgt := 48) dX0_draft_41 (by decide) ?_
        exact c_iret C dX0_draft_48 hF
set_option maxHeartbeats 4000000 in
theorem wX0_fewestOf (l : Launch) (g : GT) (hX : ∀ U, gX g U → SX g U) (N : Nat) (x0 : Nat) (x1 : Int32) (w : Wd) (r : Int32) (w1 : Wd) (hF : FX0_fewestOf N g x0 x1 w = some (r, w1)) : kMt l g yX0_fewestOf (ws_ yX0_fewestOf cX0_fewestOf 2 (some .int)) 6 600 w [.ref x0, .int x1] (some (.int r)) w1 := by
  refine kMt.ofV (lv := [some (.ref x0), some (.int x1)]) (by decide) rfl (Nat.le_of_ble_eq_true rfl) rfl ?_
  intro X hl hin C
  unfold FX0_fewestOf at hF
  refine v_aload_n C dX0_fewestOf_0 rfl rfl ?_
  refine v_iload_n C dX0_fewestOf_1 rfl rfl ?_
  obtain ⟨h3, hF⟩ := k_ite hF
  refine c_callVr C lk_X0_330 (ci := 1) rfl h3 (fr2 := 5) (lo2 := 500) (As := [.int x1]) (st := []) (fun r9_ w9_ h9_ => by rw [hl]; exact wX0_draftOf l g hX N x0 x1 w r9_ w9_ h9_) (by decide) rfl rfl (Nat.le_of_ble_eq_true rfl) dX0_fewestOf_2 hF (fun r1 u2 hF => ?_)
  refine v_pop C dX0_fewestOf_5 rfl ?_
  refine v_aload_n C dX0_fewestOf_6 rfl rfl ?_
  refine v_iload_n C dX0_fewestOf_7 rfl rfl ?_
  obtain ⟨h6, hF⟩ := k_ite hF
  refine c_callVi C lk_X0_344 (ci := 1) rfl h6 (fr2 := 4) (lo2 := 400) (As := [.int x1]) (st := []) (fun r9_ w9_ h9_ => by rw [hl]; exact wX0_isLost l g hX N x0 x1 u2 r9_ w9_ h9_) (by decide) rfl rfl (Nat.le_of_ble_eq_true rfl) dX0_fewestOf_8 hF (fun r4 u5 hF => ?_)
  refine v_if_eq C (tgt := 19) dX0_fewestOf_11 (by decide) hF (fun c7 hF => ?_) (fun c7 hF => ?_)
  · refine v_aload_n C dX0_fewestOf_19 rfl rfl ?_
    refine v_getR C kc_X0 7 (Nat.le_of_ble_eq_true rfl) (kFl.p q208) dX0_fewestOf_20 hF (fun v8 hF => ?_)
    refine v_iconst C (v := (0 : Int32)) dX0_fewestOf_23 (by decide) ?_
    refine v_aQl7 C dX0_fewestOf_24 hF (fun v9 hF => ?_)
    rcases v9 with _ | a10
    · exact (k_ob0 hF).elim
    have hF := k_ob1 hF
    show kV _ _ _ _ 25 [some (.ref x0), some (.int x1)] [.ref a10]
    refine v_aload_n C dX0_fewestOf_25 rfl rfl ?_
    refine v_getR C kc_X0 0 (Nat.le_of_ble_eq_true rfl) (kFl.p q198) dX0_fewestOf_26 hF (fun v11 hF => ?_)
    refine v_iload_n C dX0_fewestOf_29 rfl rfl ?_
    obtain ⟨h14, hF⟩ := k_ite hF
    refine c_callVr C lk_X0_121 (ci := 11) rfl h14 (fr2 := 3) (lo2 := 300) (As := [.int x1]) (st := [.ref a10]) (fun r9_ w9_ h9_ => by rw [hl]; exact wJ2_get l g hX N v11 x1 u5 r9_ w9_ h9_) (by decide) rfl rfl (Nat.le_of_ble_eq_true rfl) dX0_fewestOf_30 hF (fun r12 u13 hF => ?_)
    refine v_castI C (ci := 2) rfl q700 dX0_fewestOf_33 hF (fun hF => ?_)
    refine v_getI C kc_X6 2 (Nat.le_of_ble_eq_true rfl) (kFl.n q386) dX0_fewestOf_36 hF (fun v15 hF => ?_)
    refine v_aIi C dX0_fewestOf_39 hF (fun v16 hF => ?_)
    exact c_iret C dX0_fewestOf_40 hF
  · refine v_bipush C (v := (-5 : Int32)) dX0_fewestOf_14 (by decide) ?_
    refine v_goto C (tgt := 40) dX0_fewestOf_16 (by decide) ?_
    exact c_iret C dX0_fewestOf_40 hF
set_option maxHeartbeats 4000000 in
theorem wX0_fewest_b61 {l : Launch} {g : GT} {X : CxT} {r : Int32} {w1 : Wd} (C : kOk g X cX0_fewest 4 RX0 (some .int) 7 700 (some (.int r)) w1) (hX : ∀ U, gX g U → SX g U) (hl : xl X = l) (hin : kHin X yX0_fewest) (N : Nat) (k29 : Nat × Int32 × Int32 × Wd → Option (Int32 × Wd)) (hk29 : ∀ a, k29 a = some (r, w1) → kV g X 4 a.2.2.2 29 [some (.ref a.1), none, some (.int a.2.1), some (.int a.2.2.1)] []) (x0 : Nat) (x3 : Int32) (t0 : Int32) (w : Wd) (hF : FX0_fewest_b61 N g k29 x0 x3 t0 w = some (r, w1)) : kV g X 4 w 61 [some (.ref x0), none, none, some (.int x3)] [.int t0] := by
  unfold FX0_fewest_b61 at hF
  refine v_istore_n C dX0_fewest_61 rfl (Nat.le_of_ble_eq_true rfl) rfl (lv' := [some (.ref x0), none, some (.int t0), some (.int x3)]) rfl ?_
  refine v_iinc C dX0_fewest_62 rfl (v := (x3 + (1 : Int32))) rfl (Nat.le_of_ble_eq_true rfl) rfl (lv' := [some (.ref x0), none, some (.int t0), some (.int (x3 + (1 : Int32)))]) rfl ?_
  refine v_goto C (tgt := 29) dX0_fewest_65 (by decide) ?_
  refine v_mask [true, false, true, true] (lv' := [some (.ref x0), none, some (.int t0), some (.int (x3 + (1 : Int32)))]) rfl ?_
  exact hk29 (x0, t0, (x3 + (1 : Int32)), w) hF
set_option maxHeartbeats 4000000 in
theorem wX0_fewest_b29 {l : Launch} {g : GT} {X : CxT} {r : Int32} {w1 : Wd} (C : kOk g X cX0_fewest 4 RX0 (some .int) 7 700 (some (.int r)) w1) (hX : ∀ U, gX g U → SX g U) (hl : xl X = l) (hin : kHin X yX0_fewest) (N : Nat) (k29 : Nat × Int32 × Int32 × Wd → Option (Int32 × Wd)) (hk29 : ∀ a, k29 a = some (r, w1) → kV g X 4 a.2.2.2 29 [some (.ref a.1), none, some (.int a.2.1), some (.int a.2.2.1)] []) (x0 : Nat) (x2 : Int32) (x3 : Int32) (w : Wd) (hF : FX0_fewest_b29 N g k29 x0 x2 x3 w = some (r, w1)) : kV g X 4 w 29 [some (.ref x0), none, some (.int x2), some (.int x3)] [] := by
  unfold FX0_fewest_b29 at hF
  refine v_iload_n C dX0_fewest_29 rfl rfl ?_
  refine v_aload_n C dX0_fewest_30 rfl rfl ?_
  obtain ⟨h9, hF⟩ := k_ite hF
  refine c_callVi C lk_X0_90 (ci := 1) rfl h9 (fr2 := 2) (lo2 := 200) (As := []) (st := [.int x3]) (fun r9_ w9_ h9_ => by rw [hl]; exact wX0_many l g hX N x0 w r9_ w9_ h9_) (by decide) rfl rfl (Nat.le_of_ble_eq_true rfl) dX0_fewest_31 hF (fun r7 u8 hF => ?_)
  refine v_icmp_ge C (tgt := 68) dX0_fewest_34 (by decide) hF (fun c10 hF => ?_) (fun c10 hF => ?_)
  · refine v_iload_n C dX0_fewest_68 rfl rfl ?_
    exact c_iret C dX0_fewest_69 hF
  · refine v_iload_n C dX0_fewest_37 rfl rfl ?_
    refine v_if_lt C (tgt := 68) dX0_fewest_38 (by decide) hF (fun c11 hF => ?_) (fun c11 hF => ?_)
    · refine v_iload_n C dX0_fewest_68 rfl rfl ?_
      exact c_iret C dX0_fewest_69 hF
    · refine v_aload_n C dX0_fewest_41 rfl rfl ?_
      refine v_iload_n C dX0_fewest_42 rfl rfl ?_
      obtain ⟨h14, hF⟩ := k_ite hF
      refine c_callVi C lk_X0_347 (ci := 1) rfl h14 (fr2 := 6) (lo2 := 600) (As := [.int x3]) (st := []) (fun r9_ w9_ h9_ => by rw [hl]; exact wX0_fewestOf l g hX N x0 x3 u8 r9_ w9_ h9_) (by decide) rfl rfl (Nat.le_of_ble_eq_true rfl) dX0_fewest_43 hF (fun r12 u13 hF => ?_)
      refine v_if_ge C (tgt := 54) dX0_fewest_46 (by decide) hF (fun c15 hF => ?_) (fun c15 hF => ?_)
      · refine v_iload_n C dX0_fewest_54 rfl rfl ?_
        refine v_aload_n C dX0_fewest_55 rfl rfl ?_
        refine v_iload_n C dX0_fewest_56 rfl rfl ?_
        obtain ⟨h18, hF⟩ := k_ite hF
        refine c_callVi C lk_X0_347 (ci := 1) rfl h18 (fr2 := 6) (lo2 := 600) (As := [.int x3]) (st := [.int x2]) (fun r9_ w9_ h9_ => by rw [hl]; exact wX0_fewestOf l g hX N x0 x3 u13 r9_ w9_ h9_) (by decide) rfl rfl (Nat.le_of_ble_eq_true rfl) dX0_fewest_57 hF (fun r16 u17 hF => ?_)
        refine v_iadd C dX0_fewest_60 ?_
        refine v_mask [true, false, false, true] (lv' := [some (.ref x0), none, none, some (.int x3)]) rfl ?_
        exact wX0_fewest_b61 C hX hl hin N k29 hk29 (x0) (x3) ((x2 + r16)) u17 hF
      · refine v_bipush C (v := (-5 : Int32)) dX0_fewest_49 (by decide) ?_
        refine v_goto C (tgt := 61) dX0_fewest_51 (by decide) ?_
        refine v_mask [true, false, false, true] (lv' := [some (.ref x0), none, none, some (.int x3)]) rfl ?_
        exact wX0_fewest_b61 C hX hl hin N k29 hk29 (x0) (x3) ((-5 : Int32)) u13 hF
set_option maxHeartbeats 4000000 in
theorem wX0_fewest (l : Launch) (g : GT) (hX : ∀ U, gX g U → SX g U) (N : Nat) (x0 : Nat) (x1 : Int32) (w : Wd) (r : Int32) (w1 : Wd) (hF : FX0_fewest N g x0 x1 w = some (r, w1)) : kMt l g yX0_fewest (ws_ yX0_fewest cX0_fewest 4 (some .int)) 7 700 w [.ref x0, .int x1] (some (.int r)) w1 := by
  refine kMt.ofV (lv := [some (.ref x0), some (.int x1), none, none]) (by decide) rfl (Nat.le_of_ble_eq_true rfl) rfl ?_
  intro X hl hin C
  unfold FX0_fewest at hF
  refine v_iload_n C dX0_fewest_0 rfl rfl ?_
  refine v_iconst C (v := (-1 : Int32)) dX0_fewest_1 (by decide) ?_
  refine v_icmp_lt C (tgt := 13) dX0_fewest_2 (by decide) hF (fun c1 hF => ?_) (fun c1 hF => ?_)
  · refine v_iconst C (v := (-1 : Int32)) dX0_fewest_13 (by decide) ?_
    exact c_iret C dX0_fewest_14 hF
  · refine v_iload_n C dX0_fewest_5 rfl rfl ?_
    refine v_aload_n C dX0_fewest_6 rfl rfl ?_
    obtain ⟨h4, hF⟩ := k_ite hF
    refine c_callVi C lk_X0_90 (ci := 1) rfl h4 (fr2 := 2) (lo2 := 200) (As := []) (st := [.int x1]) (fun r9_ w9_ h9_ => by rw [hl]; exact wX0_many l g hX N x0 w r9_ w9_ h9_) (by decide) rfl rfl (Nat.le_of_ble_eq_true rfl) dX0_fewest_7 hF (fun r2 u3 hF => ?_)
    refine v_icmp_lt C (tgt := 15) dX0_fewest_10 (by decide) hF (fun c5 hF => ?_) (fun c5 hF => ?_)
    · refine v_iload_n C dX0_fewest_15 rfl rfl ?_
      refine v_if_lt C (tgt := 25) dX0_fewest_16 (by decide) hF (fun c6 hF => ?_) (fun c6 hF => ?_)
      · refine v_iconst C (v := (0 : Int32)) dX0_fewest_25 (by decide) ?_
        refine v_istore_n C dX0_fewest_26 rfl (Nat.le_of_ble_eq_true rfl) rfl (lv' := [some (.ref x0), some (.int x1), some (.int (0 : Int32)), none]) rfl ?_
        refine v_iconst C (v := (0 : Int32)) dX0_fewest_27 (by decide) ?_
        refine v_istore_n C dX0_fewest_28 rfl (Nat.le_of_ble_eq_true rfl) rfl (lv' := [some (.ref x0), some (.int x1), some (.int (0 : Int32)), some (.int (0 : Int32))]) rfl ?_
        refine v_mask [true, false, true, true] (lv' := [some (.ref x0), none, some (.int (0 : Int32)), some (.int (0 : Int32))]) rfl ?_
        exact kloop_ok (P := fun a => kV g X 4 a.2.2.2 29 [some (.ref a.1), none, some (.int a.2.1), some (.int a.2.2.1)] []) (fun self hs a hF => wX0_fewest_b29 C hX hl hin N self hs a.1 a.2.1 a.2.2.1 a.2.2.2 hF) N (x0, (0 : Int32), (0 : Int32), u3) hF
      · refine v_aload_n C dX0_fewest_19 rfl rfl ?_
        refine v_iload_n C dX0_fewest_20 rfl rfl ?_
        obtain ⟨h21, hF⟩ := k_ite hF
        refine c_callVi C lk_X0_347 (ci := 1) rfl h21 (fr2 := 6) (lo2 := 600) (As := [.int x1]) (st := []) (fun r9_ w9_ h9_ => by rw [hl]; exact wX0_fewestOf l g hX N x0 x1 u3 r9_ w9_ h9_) (by decide) rfl rfl (Nat.le_of_ble_eq_true rfl) dX0_fewest_21 hF (fun r19 u20 hF => ?_)
        exact c_iret C dX0_fewest_24 hF
    · refine v_iconst C (v := (-1 : Int32)) dX0_fewest_13 (by decide) ?_
      exact c_iret C dX0_fewest_14 hF
set_option maxHeartbeats 4000000 in
theorem wX0_draftedPick_b10 {l : Launch} {g : GT} {X : CxT} {r : Nat} {w1 : Wd} (C : kOk g X cX0_draftedPick 4 RX0 (some (.array (.object "CardLoom$Turning"))) 7 700 (some (.ref r)) w1) (hX : ∀ U, gX g U → SX g U) (hl : xl X = l) (hin : kHin X yX0_draftedPick) (N : Nat) (k10 : Nat × Int32 × Nat × Int32 × Wd → Option (Nat × Wd)) (hk10 : ∀ a, k10 a = some (r, w1) → kV g X 4 a.2.2.2.2 10 [some (.ref a.1), some (.int a.2.1), some (.ref a.2.2.1), some (.int a.2.2.2.1)] []) (x0 : Nat) (x1 : Int32) (x2 : Nat) (x3 : Int32) (w : Wd) (hF : FX0_draftedPick_b10 N g k10 x0 x1 x2 x3 w = some (r, w1)) : kV g X 4 w 10 [some (.ref x0), some (.int x1), some (.ref x2), some (.int x3)] [] := by
  unfold FX0_draftedPick_b10 at hF
  refine v_iload_n C dX0_draftedPick_10 rfl rfl ?_
  refine v_aload_n C dX0_draftedPick_11 rfl rfl ?_
  refine v_aL C (t := 5) rfl dX0_draftedPick_12 hF (fun v6 hF => ?_)
  refine v_icmp_ge C (tgt := 31) dX0_draftedPick_13 (by decide) hF (fun c7 hF => ?_) (fun c7 hF => ?_)
  · refine v_aload_n C dX0_draftedPick_31 rfl rfl ?_
    exact c_aret C (Or.inr ⟨_, rfl⟩) dX0_draftedPick_32 hF
  · refine v_aload_n C dX0_draftedPick_16 rfl rfl ?_
    refine v_iload_n C dX0_draftedPick_17 rfl rfl ?_
    refine v_aload_n C dX0_draftedPick_18 rfl rfl ?_
    refine v_iload_n C dX0_draftedPick_19 rfl rfl ?_
    refine v_iload_n C dX0_draftedPick_20 rfl rfl ?_
    obtain ⟨h10, hF⟩ := k_ite hF
    refine c_callVr C lk_X0_341 (ci := 1) rfl h10 (fr2 := 6) (lo2 := 600) (As := [.int x1, .int x3]) (st := [.int x3, .ref x2]) (fun r9_ w9_ h9_ => by rw [hl]; exact wX0_drafted l g hX N x0 x1 x3 w r9_ w9_ h9_) (by decide) rfl rfl (Nat.le_of_ble_eq_true rfl) dX0_draftedPick_21 hF (fun r8 u9 hF => ?_)
    obtain ⟨h12, hF⟩ := k_ite hF
    refine v_aSq C (t := 5) rfl (any_T C hX h12) dX0_draftedPick_24 hF (fun u11 hF => ?_)
    refine v_iinc C dX0_draftedPick_25 rfl (v := (x3 + (1 : Int32))) rfl (Nat.le_of_ble_eq_true rfl) rfl (lv' := [some (.ref x0), some (.int x1), some (.ref x2), some (.int (x3 + (1 : Int32)))]) rfl ?_
    refine v_goto C (tgt := 10) dX0_draftedPick_28 (by decide) ?_
    refine v_mask [true, true, true, true] (lv' := [some (.ref x0), some (.int x1), some (.ref x2), some (.int (x3 + (1 : Int32)))]) rfl ?_
    exact hk10 (x0, x1, x2, (x3 + (1 : Int32)), u11) hF
set_option maxHeartbeats 4000000 in
theorem wX0_draftedPick (l : Launch) (g : GT) (hX : ∀ U, gX g U → SX g U) (N : Nat) (x0 : Nat) (x1 : Int32) (w : Wd) (r : Nat) (w1 : Wd) (hF : FX0_draftedPick N g x0 x1 w = some (r, w1)) : kMt l g yX0_draftedPick (ws_ yX0_draftedPick cX0_draftedPick 4 (some (.array (.object "CardLoom$Turning")))) 7 700 w [.ref x0, .int x1] (some (.ref r)) w1 := by
  refine kMt.ofV (lv := [some (.ref x0), some (.int x1), none, none]) (by decide) rfl (Nat.le_of_ble_eq_true rfl) rfl ?_
  intro X hl hin C
  unfold FX0_draftedPick at hF
  refine v_aload_n C dX0_draftedPick_0 rfl rfl ?_
  obtain ⟨h3, hF⟩ := k_ite hF
  refine c_callVi C lk_X0_90 (ci := 1) rfl h3 (fr2 := 2) (lo2 := 200) (As := []) (st := []) (fun r9_ w9_ h9_ => by rw [hl]; exact wX0_many l g hX N x0 w r9_ w9_ h9_) (by decide) rfl rfl (Nat.le_of_ble_eq_true rfl) dX0_draftedPick_1 hF (fun r1 u2 hF => ?_)
  refine v_anew C (t := 5) rfl q896 ((hX _ C.2.2.2.2.2.1.2.2.1).2.1 _ (by decide)) dX0_draftedPick_4 hF (fun a4 u5 hF => ?_)
  refine v_astore_n C dX0_draftedPick_7 rfl (Nat.le_of_ble_eq_true rfl) rfl (lv' := [some (.ref x0), some (.int x1), some (.ref a4), none]) rfl ?_
  refine v_iconst C (v := (0 : Int32)) dX0_draftedPick_8 (by decide) ?_
  refine v_istore_n C dX0_draftedPick_9 rfl (Nat.le_of_ble_eq_true rfl) rfl (lv' := [some (.ref x0), some (.int x1), some (.ref a4), some (.int (0 : Int32))]) rfl ?_
  refine v_mask [true, true, true, true] (lv' := [some (.ref x0), some (.int x1), some (.ref a4), some (.int (0 : Int32))]) rfl ?_
  exact kloop_ok (P := fun a => kV g X 4 a.2.2.2.2 10 [some (.ref a.1), some (.int a.2.1), some (.ref a.2.2.1), some (.int a.2.2.2.1)] []) (fun self hs a hF => wX0_draftedPick_b10 C hX hl hin N self hs a.1 a.2.1 a.2.2.1 a.2.2.2.1 a.2.2.2.2 hF) N (x0, x1, a4, (0 : Int32), u5) hF
set_option maxHeartbeats 4000000 in
theorem wX0_weaveDraft_b138 {l : Launch} {g : GT} {X : CxT} {r : Int32} {w1 : Wd} (C : kOk g X cX0_weaveDraft 5 RX0 (some .int) 8 800 (some (.int r)) w1) (hX : ∀ U, gX g U → SX g U) (hl : xl X = l) (hin : kHin X yX0_weaveDraft) (N : Nat) (k138 : Nat × Nat × Wd → Option (Int32 × Wd)) (hk138 : ∀ a, k138 a = some (r, w1) → kV g X 5 a.2.2 138 [some (.ref a.1), none, none, some (.ref a.2.1), none] []) (x0 : Nat) (x3 : Nat) (w : Wd) (hF : FX0_weaveDraft_b138 N g k138 x0 x3 w = some (r, w1)) : kV g X 5 w 138 [some (.ref x0), none, none, some (.ref x3), none] [] := by
  unfold FX0_weaveDraft_b138 at hF
  refine v_aload_n C dX0_weaveDraft_138 rfl rfl ?_
  obtain ⟨h38, hF⟩ := k_ite hF
  refine c_callFi C lk_X0_101_J15_hasNext ((hX _ C.2.2.2.2.2.1.2.2.1).2.2.1 _ (List.mem_of_getElem? (i := 0) rfl)) (C.2.2.2.2.2.1.1.1 12 _ rfl).2 (kRc.of C (ci := 12) rfl h38) (fr2 := 1) (lo2 := 100) (As := []) (st := []) (fun r9_ w9_ h9_ => by rw [hl]; exact wJ15_hasNext l g hX N x3 w r9_ w9_ h9_) (by decide) rfl rfl (Nat.le_of_ble_eq_true rfl) dX0_weaveDraft_139 hF (fun r36 u37 hF => ?_)
  refine v_if_eq C (tgt := 168) dX0_weaveDraft_144 (by decide) hF (fun c39 hF => ?_) (fun c39 hF => ?_)
  · refine v_aload_n C dX0_weaveDraft_168 rfl rfl ?_
    refine v_getR C kc_X0 1 (Nat.le_of_ble_eq_true rfl) (kFl.p q199) dX0_weaveDraft_169 hF (fun v40 hF => ?_)
    obtain ⟨h43, hF⟩ := k_ite hF
    refine c_callVi C lk_X0_86 (ci := 11) rfl h43 (fr2 := 1) (lo2 := 100) (As := []) (st := []) (fun r9_ w9_ h9_ => by rw [hl]; exact wJ2_size l g hX N v40 u37 r9_ w9_ h9_) (by decide) rfl rfl (Nat.le_of_ble_eq_true rfl) dX0_weaveDraft_172 hF (fun r41 u42 hF => ?_)
    exact c_iret C dX0_weaveDraft_175 hF
  · refine v_aload_n C dX0_weaveDraft_147 rfl rfl ?_
    obtain ⟨h46, hF⟩ := k_ite hF
    refine c_callFr C lk_X0_107_J15_next ((hX _ C.2.2.2.2.2.1.2.2.1).2.2.1 _ (List.mem_of_getElem? (i := 1) rfl)) (C.2.2.2.2.2.1.1.1 12 _ rfl).2 (kRc.of C (ci := 12) rfl h46) (fr2 := 2) (lo2 := 200) (As := []) (st := []) (fun r9_ w9_ h9_ => by rw [hl]; exact wJ15_next l g hX N x3 u37 r9_ w9_ h9_) (by decide) rfl rfl (Nat.le_of_ble_eq_true rfl) dX0_weaveDraft_148 hF (fun r44 u45 hF => ?_)
    refine v_castA C (t := 5) rfl rfl q1587 dX0_weaveDraft_153 hF (fun hF => ?_)
    refine v_astore C dX0_weaveDraft_156 (Nat.le_of_ble_eq_true rfl) rfl (lv' := [some (.ref x0), none, none, some (.ref x3), some (.ref r44)]) rfl ?_
    refine v_aload_n C dX0_weaveDraft_158 rfl rfl ?_
    refine v_aload C dX0_weaveDraft_159 rfl ?_
    obtain ⟨h49, hF⟩ := k_ite hF
    refine c_callVi C lk_X0_232 (ci := 1) rfl h49 (fr2 := 7) (lo2 := 700) (As := [.ref r44]) (st := []) (fun r9_ w9_ h9_ => by rw [hl]; exact wX0_picks l g hX N x0 r44 u45 r9_ w9_ h9_) (by decide) rfl rfl (Nat.le_of_ble_eq_true rfl) dX0_weaveDraft_161 hF (fun r47 u48 hF => ?_)
    refine v_pop C dX0_weaveDraft_164 rfl ?_
    refine v_goto C (tgt := 138) dX0_weaveDraft_165 (by decide) ?_
    refine v_mask [true, false, false, true, false] (lv' := [some (.ref x0), none, none, some (.ref x3), none]) rfl ?_
    exact hk138 (x0, x3, u48) hF
set_option maxHeartbeats 4000000 in
theorem wX0_weaveDraft_b92 {l : Launch} {g : GT} {X : CxT} {r : Int32} {w1 : Wd} (C : kOk g X cX0_weaveDraft 5 RX0 (some .int) 8 800 (some (.int r)) w1) (hX : ∀ U, gX g U → SX g U) (hl : xl X = l) (hin : kHin X yX0_weaveDraft) (N : Nat) (k92 : Nat × Nat × Nat × Nat × Wd → Option (Int32 × Wd)) (hk92 : ∀ a, k92 a = some (r, w1) → kV g X 5 a.2.2.2.2 92 [some (.ref a.1), some (.ref a.2.1), some (.ref a.2.2.1), some (.ref a.2.2.2.1), none] []) (x0 : Nat) (x1 : Nat) (x2 : Nat) (x3 : Nat) (w : Wd) (hF : FX0_weaveDraft_b92 N g k92 x0 x1 x2 x3 w = some (r, w1)) : kV g X 5 w 92 [some (.ref x0), some (.ref x1), some (.ref x2), some (.ref x3), none] [] := by
  unfold FX0_weaveDraft_b92 at hF
  refine v_aload_n C dX0_weaveDraft_92 rfl rfl ?_
  obtain ⟨h31, hF⟩ := k_ite hF
  refine c_callFi C lk_X0_101_J15_hasNext ((hX _ C.2.2.2.2.2.1.2.2.1).2.2.1 _ (List.mem_of_getElem? (i := 0) rfl)) (C.2.2.2.2.2.1.1.1 12 _ rfl).2 (kRc.of C (ci := 12) rfl h31) (fr2 := 1) (lo2 := 100) (As := []) (st := []) (fun r9_ w9_ h9_ => by rw [hl]; exact wJ15_hasNext l g hX N x3 w r9_ w9_ h9_) (by decide) rfl rfl (Nat.le_of_ble_eq_true rfl) dX0_weaveDraft_93 hF (fun r29 u30 hF => ?_)
  refine v_if_eq C (tgt := 133) dX0_weaveDraft_98 (by decide) hF (fun c32 hF => ?_) (fun c32 hF => ?_)
  · refine v_aload_n C dX0_weaveDraft_133 rfl rfl ?_
    obtain ⟨h35, hF⟩ := k_ite hF
    refine c_callVr C lk_X0_97 (ci := 11) rfl h35 (fr2 := 2) (lo2 := 200) (As := []) (st := []) (fun r9_ w9_ h9_ => by rw [hl]; exact wJ2_iterator l g hX N x1 u30 r9_ w9_ h9_) (by decide) rfl rfl (Nat.le_of_ble_eq_true rfl) dX0_weaveDraft_134 hF (fun r33 u34 hF => ?_)
    refine v_astore_n C dX0_weaveDraft_137 rfl (Nat.le_of_ble_eq_true rfl) rfl (lv' := [some (.ref x0), some (.ref x1), some (.ref x2), some (.ref r33), none]) rfl ?_
    refine v_mask [true, false, false, true, false] (lv' := [some (.ref x0), none, none, some (.ref r33), none]) rfl ?_
    exact kloop_ok (P := fun a => kV g X 5 a.2.2 138 [some (.ref a.1), none, none, some (.ref a.2.1), none] []) (fun self hs a hF => wX0_weaveDraft_b138 C hX hl hin N self hs a.1 a.2.1 a.2.2 hF) N (x0, r33, u34) hF
  · refine v_aload_n C dX0_weaveDraft_101 rfl rfl ?_
    obtain ⟨h52, hF⟩ := k_ite hF
    refine c_callFr C lk_X0_107_J15_next ((hX _ C.2.2.2.2.2.1.2.2.1).2.2.1 _ (List.mem_of_getElem? (i := 1) rfl)) (C.2.2.2.2.2.1.1.1 12 _ rfl).2 (kRc.of C (ci := 12) rfl h52) (fr2 := 2) (lo2 := 200) (As := []) (st := []) (fun r9_ w9_ h9_ => by rw [hl]; exact wJ15_next l g hX N x3 u30 r9_ w9_ h9_) (by decide) rfl rfl (Nat.le_of_ble_eq_true rfl) dX0_weaveDraft_102 hF (fun r50 u51 hF => ?_)
    refine v_castA C (t := 5) rfl rfl q1587 dX0_weaveDraft_107 hF (fun hF => ?_)
    refine v_astore C dX0_weaveDraft_110 (Nat.le_of_ble_eq_true rfl) rfl (lv' := [some (.ref x0), some (.ref x1), some (.ref x2), some (.ref x3), some (.ref r50)]) rfl ?_
    refine v_aload_n C dX0_weaveDraft_112 rfl rfl ?_
    refine v_aload C dX0_weaveDraft_113 rfl ?_
    refine c_callSi C lk_X0_138 (fr2 := 4) (lo2 := 400) (As := [.ref x2, .ref r50]) (st := []) (fun r9_ w9_ h9_ => by rw [hl]; exact wX0_jams l g hX N x2 r50 u51 r9_ w9_ h9_) (by decide) rfl rfl (Nat.le_of_ble_eq_true rfl) dX0_weaveDraft_115 hF (fun r53 u54 hF => ?_)
    refine v_if_eq C (tgt := 124) dX0_weaveDraft_118 (by decide) hF (fun c55 hF => ?_) (fun c55 hF => ?_)
    · refine v_aload_n C dX0_weaveDraft_124 rfl rfl ?_
      refine v_aload C dX0_weaveDraft_125 rfl ?_
      refine c_callSv C lk_X0_141 (fr2 := 4) (lo2 := 400) (As := [.ref x2, .ref r50]) (st := []) (fun r9_ w9_ h9_ => by rw [hl]; exact wX0_turns l g hX N x2 r50 u54 r9_ w9_ h9_) (by decide) rfl rfl (Nat.le_of_ble_eq_true rfl) dX0_weaveDraft_127 hF (fun r56 u57 hF => ?_)
      refine v_goto C (tgt := 92) dX0_weaveDraft_130 (by decide) ?_
      refine v_mask [true, true, true, true, false] (lv' := [some (.ref x0), some (.ref x1), some (.ref x2), some (.ref x3), none]) rfl ?_
      exact hk92 (x0, x1, x2, x3, u57) hF
    · refine v_bipush C (v := (-6 : Int32)) dX0_weaveDraft_121 (by decide) ?_
      exact c_iret C dX0_weaveDraft_123 hF
set_option maxHeartbeats 4000000 in
theorem wX0_weaveDraft_b55 {l : Launch} {g : GT} {X : CxT} {r : Int32} {w1 : Wd} (C : kOk g X cX0_weaveDraft 5 RX0 (some .int) 8 800 (some (.int r)) w1) (hX : ∀ U, gX g U → SX g U) (hl : xl X = l) (hin : kHin X yX0_weaveDraft) (N : Nat) (k55 : Nat × Nat × Int32 × Wd → Option (Int32 × Wd)) (hk55 : ∀ a, k55 a = some (r, w1) → kV g X 5 a.2.2.2 55 [some (.ref a.1), some (.ref a.2.1), some (.int a.2.2.1), none, none] []) (x0 : Nat) (x1 : Nat) (x2 : Int32) (w : Wd) (hF : FX0_weaveDraft_b55 N g k55 x0 x1 x2 w = some (r, w1)) : kV g X 5 w 55 [some (.ref x0), some (.ref x1), some (.int x2), none, none] [] := by
  unfold FX0_weaveDraft_b55 at hF
  refine v_iload_n C dX0_weaveDraft_55 rfl rfl ?_
  refine v_aload_n C dX0_weaveDraft_56 rfl rfl ?_
  refine v_getI C kc_X0 6 (Nat.le_of_ble_eq_true rfl) (kFl.p q207) dX0_weaveDraft_57 hF (fun v21 hF => ?_)
  refine v_icmp_ge C (tgt := 79) dX0_weaveDraft_60 (by decide) hF (fun c22 hF => ?_) (fun c22 hF => ?_)
  · refine v_aload_n C dX0_weaveDraft_79 rfl rfl ?_
    refine v_getR C kc_X0 0 (Nat.le_of_ble_eq_true rfl) (kFl.p q198) dX0_weaveDraft_80 hF (fun v23 hF => ?_)
    refine c_callSr C lk_X0_265 (fr2 := 7) (lo2 := 700) (As := [.ref v23]) (st := []) (fun r9_ w9_ h9_ => by rw [hl]; exact wX0_twins l g hX N v23 w r9_ w9_ h9_) (by decide) rfl rfl (Nat.le_of_ble_eq_true rfl) dX0_weaveDraft_83 hF (fun r24 u25 hF => ?_)
    refine v_astore_n C dX0_weaveDraft_86 rfl (Nat.le_of_ble_eq_true rfl) rfl (lv' := [some (.ref x0), some (.ref x1), some (.ref r24), none, none]) rfl ?_
    refine v_aload_n C dX0_weaveDraft_87 rfl rfl ?_
    obtain ⟨h28, hF⟩ := k_ite hF
    refine c_callVr C lk_X0_97 (ci := 11) rfl h28 (fr2 := 2) (lo2 := 200) (As := []) (st := []) (fun r9_ w9_ h9_ => by rw [hl]; exact wJ2_iterator l g hX N x1 u25 r9_ w9_ h9_) (by decide) rfl rfl (Nat.le_of_ble_eq_true rfl) dX0_weaveDraft_88 hF (fun r26 u27 hF => ?_)
    refine v_astore_n C dX0_weaveDraft_91 rfl (Nat.le_of_ble_eq_true rfl) rfl (lv' := [some (.ref x0), some (.ref x1), some (.ref r24), some (.ref r26), none]) rfl ?_
    refine v_mask [true, true, true, true, false] (lv' := [some (.ref x0), some (.ref x1), some (.ref r24), some (.ref r26), none]) rfl ?_
    exact kloop_ok (P := fun a => kV g X 5 a.2.2.2.2 92 [some (.ref a.1), some (.ref a.2.1), some (.ref a.2.2.1), some (.ref a.2.2.2.1), none] []) (fun self hs a hF => wX0_weaveDraft_b92 C hX hl hin N self hs a.1 a.2.1 a.2.2.1 a.2.2.2.1 a.2.2.2.2 hF) N (x0, x1, r24, r26, u27) hF
  · refine v_aload_n C dX0_weaveDraft_63 rfl rfl ?_
    refine v_aload_n C dX0_weaveDraft_64 rfl rfl ?_
    refine v_iload_n C dX0_weaveDraft_65 rfl rfl ?_
    obtain ⟨h60, hF⟩ := k_ite hF
    refine c_callVr C lk_X0_352 (ci := 1) rfl h60 (fr2 := 7) (lo2 := 700) (As := [.int x2]) (st := [.ref x1]) (fun r9_ w9_ h9_ => by rw [hl]; exact wX0_draftedPick l g hX N x0 x2 w r9_ w9_ h9_) (by decide) rfl rfl (Nat.le_of_ble_eq_true rfl) dX0_weaveDraft_66 hF (fun r58 u59 hF => ?_)
    obtain ⟨h63, hF⟩ := k_ite hF
    refine c_callVi C lk_X0_117 (ci := 11) rfl h63 (fr2 := 6) (lo2 := 600) (As := [.ref r58]) (st := []) (fun r9_ w9_ h9_ => by rw [hl]; exact wJ2_add l g hX N x1 r58 u59 r9_ w9_ h9_) (by decide) rfl rfl (Nat.le_of_ble_eq_true rfl) dX0_weaveDraft_69 hF (fun r61 u62 hF => ?_)
    refine v_pop C dX0_weaveDraft_72 rfl ?_
    refine v_iinc C dX0_weaveDraft_73 rfl (v := (x2 + (1 : Int32))) rfl (Nat.le_of_ble_eq_true rfl) rfl (lv' := [some (.ref x0), some (.ref x1), some (.int (x2 + (1 : Int32))), none, none]) rfl ?_
    refine v_goto C (tgt := 55) dX0_weaveDraft_76 (by decide) ?_
    refine v_mask [true, true, true, false, false] (lv' := [some (.ref x0), some (.ref x1), some (.int (x2 + (1 : Int32))), none, none]) rfl ?_
    exact hk55 (x0, x1, (x2 + (1 : Int32)), u62) hF
set_option maxHeartbeats 4000000 in
theorem wX0_weaveDraft (l : Launch) (g : GT) (hX : ∀ U, gX g U → SX g U) (N : Nat) (x0 : Nat) (w : Wd) (r : Int32) (w1 : Wd) (hF : FX0_weaveDraft N g x0 w = some (r, w1)) : kMt l g yX0_weaveDraft (ws_ yX0_weaveDraft cX0_weaveDraft 5 (some .int)) 8 800 w [.ref x0] (some (.int r)) w1 := by
  refine kMt.ofV (lv := [some (.ref x0), none, none, none, none]) (by decide) rfl (Nat.le_of_ble_eq_true rfl) rfl ?_
  intro X hl hin C
  unfold FX0_weaveDraft at hF
  refine v_aload_n C dX0_weaveDraft_0 rfl rfl ?_
  obtain ⟨h3, hF⟩ := k_ite hF
  refine c_callVi C lk_X0_90 (ci := 1) rfl h3 (fr2 := 2) (lo2 := 200) (As := []) (st := []) (fun r9_ w9_ h9_ => by rw [hl]; exact wX0_many l g hX N x0 w r9_ w9_ h9_) (by decide) rfl rfl (Nat.le_of_ble_eq_true rfl) dX0_weaveDraft_1 hF (fun r1 u2 hF => ?_)
  refine v_if_eq C (tgt := 22) dX0_weaveDraft_4 (by decide) hF (fun c4 hF => ?_) (fun c4 hF => ?_)
  · refine v_bipush C (v := (-3 : Int32)) dX0_weaveDraft_22 (by decide) ?_
    exact c_iret C dX0_weaveDraft_24 hF
  · refine v_aload_n C dX0_weaveDraft_7 rfl rfl ?_
    refine v_getI C kc_X0 6 (Nat.le_of_ble_eq_true rfl) (kFl.p q207) dX0_weaveDraft_8 hF (fun v5 hF => ?_)
    refine v_if_eq C (tgt := 22) dX0_weaveDraft_11 (by decide) hF (fun c6 hF => ?_) (fun c6 hF => ?_)
    · refine v_bipush C (v := (-3 : Int32)) dX0_weaveDraft_22 (by decide) ?_
      exact c_iret C dX0_weaveDraft_24 hF
    · refine v_aload_n C dX0_weaveDraft_14 rfl rfl ?_
      refine v_iconst C (v := (-1 : Int32)) dX0_weaveDraft_15 (by decide) ?_
      obtain ⟨h9, hF⟩ := k_ite hF
      refine c_callVi C lk_X0_350 (ci := 1) rfl h9 (fr2 := 7) (lo2 := 700) (As := [.int (-1 : Int32)]) (st := []) (fun r9_ w9_ h9_ => by rw [hl]; exact wX0_fewest l g hX N x0 (-1 : Int32) u2 r9_ w9_ h9_) (by decide) rfl rfl (Nat.le_of_ble_eq_true rfl) dX0_weaveDraft_16 hF (fun r7 u8 hF => ?_)
      refine v_if_ge C (tgt := 25) dX0_weaveDraft_19 (by decide) hF (fun c10 hF => ?_) (fun c10 hF => ?_)
      · refine v_aload_n C dX0_weaveDraft_25 rfl rfl ?_
        refine v_getR C kc_X0 1 (Nat.le_of_ble_eq_true rfl) (kFl.p q199) dX0_weaveDraft_26 hF (fun v11 hF => ?_)
        obtain ⟨h14, hF⟩ := k_ite hF
        refine c_callVi C lk_X0_86 (ci := 11) rfl h14 (fr2 := 1) (lo2 := 100) (As := []) (st := []) (fun r9_ w9_ h9_ => by rw [hl]; exact wJ2_size l g hX N v11 u8 r9_ w9_ h9_) (by decide) rfl rfl (Nat.le_of_ble_eq_true rfl) dX0_weaveDraft_29 hF (fun r12 u13 hF => ?_)
        refine v_aload_n C dX0_weaveDraft_32 rfl rfl ?_
        refine v_getI C kc_X0 6 (Nat.le_of_ble_eq_true rfl) (kFl.p q207) dX0_weaveDraft_33 hF (fun v15 hF => ?_)
        refine v_iadd C dX0_weaveDraft_36 ?_
        refine v_bipush C (v := (50 : Int32)) dX0_weaveDraft_37 (by decide) ?_
        refine v_icmp_le C (tgt := 45) dX0_weaveDraft_39 (by decide) hF (fun c16 hF => ?_) (fun c16 hF => ?_)
        · refine v_newW C kc_J2 q144 q145 q81 nw_J2 dX0_weaveDraft_45 hF (fun a17 u18 hF => ?_)
          refine v_dup C dX0_weaveDraft_48 rfl ?_
          refine c_callI C lk_X0_9 (fr2 := 3) (lo2 := 300) (As := []) (st := [.ref a17]) (fun r9_ w9_ h9_ => by rw [hl]; exact wJ2_init l g hX N a17 u18 r9_ w9_ h9_) (by decide) rfl rfl (Nat.le_of_ble_eq_true rfl) dX0_weaveDraft_49 hF (fun r19 u20 hF => ?_)
          refine v_astore_n C dX0_weaveDraft_52 rfl (Nat.le_of_ble_eq_true rfl) rfl (lv' := [some (.ref x0), some (.ref a17), none, none, none]) rfl ?_
          refine v_iconst C (v := (0 : Int32)) dX0_weaveDraft_53 (by decide) ?_
          refine v_istore_n C dX0_weaveDraft_54 rfl (Nat.le_of_ble_eq_true rfl) rfl (lv' := [some (.ref x0), some (.ref a17), some (.int (0 : Int32)), none, none]) rfl ?_
          refine v_mask [true, true, true, false, false] (lv' := [some (.ref x0), some (.ref a17), some (.int (0 : Int32)), none, none]) rfl ?_
          exact kloop_ok (P := fun a => kV g X 5 a.2.2.2 55 [some (.ref a.1), some (.ref a.2.1), some (.int a.2.2.1), none, none] []) (fun self hs a hF => wX0_weaveDraft_b55 C hX hl hin N self hs a.1 a.2.1 a.2.2.1 a.2.2.2 hF) N (x0, a17, (0 : Int32), u20) hF
        · refine v_bipush C (v := (-4 : Int32)) dX0_weaveDraft_42 (by decide) ?_
          exact c_iret C dX0_weaveDraft_44 hF
      · refine v_bipush C (v := (-3 : Int32)) dX0_weaveDraft_22 (by decide) ?_
        exact c_iret C dX0_weaveDraft_24 hF
set_option maxHeartbeats 4000000 in
theorem wX0_matches_b84 {l : Launch} {g : GT} {X : CxT} {r : Int32} {w1 : Wd} (C : kOk g X cX0_matches 5 RX0 (some .int) 4 400 (some (.int r)) w1) (hX : ∀ U, gX g U → SX g U) (hl : xl X = l) (hin : kHin X yX0_matches) (N : Nat) (k14 : Nat × Int32 × Int32 × Int32 × Wd → Option (Int32 × Wd)) (hk14 : ∀ a, k14 a = some (r, w1) → kV g X 5 a.2.2.2.2 14 [some (.ref a.1), some (.int a.2.1), some (.int a.2.2.1), some (.int a.2.2.2.1), none] []) (k38 : Nat × Int32 × Int32 × Int32 × Int32 × Wd → Option (Int32 × Wd)) (hk38 : ∀ a, k38 a = some (r, w1) → kV g X 5 a.2.2.2.2.2 38 [some (.ref a.1), some (.int a.2.1), some (.int a.2.2.1), some (.int a.2.2.2.1), some (.int a.2.2.2.2.1)] []) (x0 : Nat) (x1 : Int32) (x3 : Int32) (x4 : Int32) (t0 : Int32) (t1 : Int32) (w : Wd) (hF : FX0_matches_b84 N g k14 k38 x0 x1 x3 x4 t0 t1 w = some (r, w1)) : kV g X 5 w 84 [some (.ref x0), some (.int x1), none, some (.int x3), some (.int x4)] [.int t0, .int t1] := by
  unfold FX0_matches_b84 at hF
  refine v_iadd C dX0_matches_84 ?_
  refine v_istore_n C dX0_matches_85 rfl (Nat.le_of_ble_eq_true rfl) rfl (lv' := [some (.ref x0), some (.int x1), some (.int (t1 + t0)), some (.int x3), some (.int x4)]) rfl ?_
  refine v_iinc C dX0_matches_86 rfl (v := (x4 + (1 : Int32))) rfl (Nat.le_of_ble_eq_true rfl) rfl (lv' := [some (.ref x0), some (.int x1), some (.int (t1 + t0)), some (.int x3), some (.int (x4 + (1 : Int32)))]) rfl ?_
  refine v_goto C (tgt := 38) dX0_matches_89 (by decide) ?_
  refine v_mask [true, true, true, true, true] (lv' := [some (.ref x0), some (.int x1), some (.int (t1 + t0)), some (.int x3), some (.int (x4 + (1 : Int32)))]) rfl ?_
  exact hk38 (x0, x1, (t1 + t0), x3, (x4 + (1 : Int32)), w) hF
set_option maxHeartbeats 4000000 in
theorem wX0_matches_b38 {l : Launch} {g : GT} {X : CxT} {r : Int32} {w1 : Wd} (C : kOk g X cX0_matches 5 RX0 (some .int) 4 400 (some (.int r)) w1) (hX : ∀ U, gX g U → SX g U) (hl : xl X = l) (hin : kHin X yX0_matches) (N : Nat) (k14 : Nat × Int32 × Int32 × Int32 × Wd → Option (Int32 × Wd)) (hk14 : ∀ a, k14 a = some (r, w1) → kV g X 5 a.2.2.2.2 14 [some (.ref a.1), some (.int a.2.1), some (.int a.2.2.1), some (.int a.2.2.2.1), none] []) (k38 : Nat × Int32 × Int32 × Int32 × Int32 × Wd → Option (Int32 × Wd)) (hk38 : ∀ a, k38 a = some (r, w1) → kV g X 5 a.2.2.2.2.2 38 [some (.ref a.1), some (.int a.2.1), some (.int a.2.2.1), some (.int a.2.2.2.1), some (.int a.2.2.2.2.1)] []) (x0 : Nat) (x1 : Int32) (x2 : Int32) (x3 : Int32) (x4 : Int32) (w : Wd) (hF : FX0_matches_b38 N g k14 k38 x0 x1 x2 x3 x4 w = some (r, w1)) : kV g X 5 w 38 [some (.ref x0), some (.int x1), some (.int x2), some (.int x3), some (.int x4)] [] := by
  unfold FX0_matches_b38 at hF
  refine v_iload C dX0_matches_38 rfl ?_
  refine v_aload_n C dX0_matches_40 rfl rfl ?_
  obtain ⟨h14, hF⟩ := k_ite hF
  refine c_callVi C lk_X0_90 (ci := 1) rfl h14 (fr2 := 2) (lo2 := 200) (As := []) (st := [.int x4]) (fun r9_ w9_ h9_ => by rw [hl]; exact wX0_many l g hX N x0 w r9_ w9_ h9_) (by decide) rfl rfl (Nat.le_of_ble_eq_true rfl) dX0_matches_41 hF (fun r12 u13 hF => ?_)
  refine v_icmp_ge C (tgt := 92) dX0_matches_44 (by decide) hF (fun c15 hF => ?_) (fun c15 hF => ?_)
  · refine v_iinc C dX0_matches_92 rfl (v := (x3 + (1 : Int32))) rfl (Nat.le_of_ble_eq_true rfl) rfl (lv' := [some (.ref x0), some (.int x1), some (.int x2), some (.int (x3 + (1 : Int32))), some (.int x4)]) rfl ?_
    refine v_goto C (tgt := 14) dX0_matches_95 (by decide) ?_
    refine v_mask [true, true, true, true, false] (lv' := [some (.ref x0), some (.int x1), some (.int x2), some (.int (x3 + (1 : Int32))), none]) rfl ?_
    exact hk14 (x0, x1, x2, (x3 + (1 : Int32)), u13) hF
  · refine v_iload_n C dX0_matches_47 rfl rfl ?_
    refine v_aload_n C dX0_matches_48 rfl rfl ?_
    refine v_getR C kc_X0 1 (Nat.le_of_ble_eq_true rfl) (kFl.p q199) dX0_matches_49 hF (fun v16 hF => ?_)
    refine v_iload_n C dX0_matches_52 rfl rfl ?_
    refine v_iload_n C dX0_matches_53 rfl rfl ?_
    refine v_iadd C dX0_matches_54 ?_
    obtain ⟨h19, hF⟩ := k_ite hF
    refine c_callVr C lk_X0_121 (ci := 11) rfl h19 (fr2 := 3) (lo2 := 300) (As := [.int (x1 + x3)]) (st := [.int x2]) (fun r9_ w9_ h9_ => by rw [hl]; exact wJ2_get l g hX N v16 (x1 + x3) u13 r9_ w9_ h9_) (by decide) rfl rfl (Nat.le_of_ble_eq_true rfl) dX0_matches_55 hF (fun r17 u18 hF => ?_)
    refine v_castI C (ci := 3) rfl q811 dX0_matches_58 hF (fun hF => ?_)
    refine v_getR C kc_X9 0 (Nat.le_of_ble_eq_true rfl) (kFl.n q978) dX0_matches_61 hF (fun v20 hF => ?_)
    refine v_iload C dX0_matches_64 rfl ?_
    refine v_aIi C dX0_matches_66 hF (fun v21 hF => ?_)
    refine v_aload_n C dX0_matches_67 rfl rfl ?_
    refine v_getR C kc_X0 5 (Nat.le_of_ble_eq_true rfl) (kFl.p q205) dX0_matches_68 hF (fun v22 hF => ?_)
    refine v_iload_n C dX0_matches_71 rfl rfl ?_
    refine v_aQl7 C dX0_matches_72 hF (fun v23 hF => ?_)
    rcases v23 with _ | a24
    · exact (k_ob0 hF).elim
    have hF := k_ob1 hF
    show kV _ _ _ _ 73 [some (.ref x0), some (.int x1), some (.int x2), some (.int x3), some (.int x4)] [.ref a24, .int v21, .int x2]
    refine v_iload C dX0_matches_73 rfl ?_
    refine v_aIi C dX0_matches_75 hF (fun v25 hF => ?_)
    refine v_icmp_ne C (tgt := 83) dX0_matches_76 (by decide) hF (fun c26 hF => ?_) (fun c26 hF => ?_)
    · refine v_iconst C (v := (1 : Int32)) dX0_matches_79 (by decide) ?_
      refine v_goto C (tgt := 84) dX0_matches_80 (by decide) ?_
      refine v_mask [true, true, false, true, true] (lv' := [some (.ref x0), some (.int x1), none, some (.int x3), some (.int x4)]) rfl ?_
      exact wX0_matches_b84 C hX hl hin N k14 hk14 k38 hk38 (x0) (x1) (x3) (x4) ((1 : Int32)) (x2) u18 hF
    · refine v_iconst C (v := (0 : Int32)) dX0_matches_83 (by decide) ?_
      refine v_mask [true, true, false, true, true] (lv' := [some (.ref x0), some (.int x1), none, some (.int x3), some (.int x4)]) rfl ?_
      exact wX0_matches_b84 C hX hl hin N k14 hk14 k38 hk38 (x0) (x1) (x3) (x4) ((0 : Int32)) (x2) u18 hF
set_option maxHeartbeats 4000000 in
theorem wX0_matches_b14 {l : Launch} {g : GT} {X : CxT} {r : Int32} {w1 : Wd} (C : kOk g X cX0_matches 5 RX0 (some .int) 4 400 (some (.int r)) w1) (hX : ∀ U, gX g U → SX g U) (hl : xl X = l) (hin : kHin X yX0_matches) (N : Nat) (k14 : Nat × Int32 × Int32 × Int32 × Wd → Option (Int32 × Wd)) (hk14 : ∀ a, k14 a = some (r, w1) → kV g X 5 a.2.2.2.2 14 [some (.ref a.1), some (.int a.2.1), some (.int a.2.2.1), some (.int a.2.2.2.1), none] []) (x0 : Nat) (x1 : Int32) (x2 : Int32) (x3 : Int32) (w : Wd) (hF : FX0_matches_b14 N g k14 x0 x1 x2 x3 w = some (r, w1)) : kV g X 5 w 14 [some (.ref x0), some (.int x1), some (.int x2), some (.int x3), none] [] := by
  unfold FX0_matches_b14 at hF
  refine v_iload_n C dX0_matches_14 rfl rfl ?_
  refine v_aload_n C dX0_matches_15 rfl rfl ?_
  refine v_getI C kc_X0 6 (Nat.le_of_ble_eq_true rfl) (kFl.p q207) dX0_matches_16 hF (fun v5 hF => ?_)
  refine v_icmp_ge C (tgt := 98) dX0_matches_19 (by decide) hF (fun c6 hF => ?_) (fun c6 hF => ?_)
  · refine v_iload_n C dX0_matches_98 rfl rfl ?_
    exact c_iret C dX0_matches_99 hF
  · refine v_iload_n C dX0_matches_22 rfl rfl ?_
    refine v_iload_n C dX0_matches_23 rfl rfl ?_
    refine v_iadd C dX0_matches_24 ?_
    refine v_aload_n C dX0_matches_25 rfl rfl ?_
    refine v_getR C kc_X0 1 (Nat.le_of_ble_eq_true rfl) (kFl.p q199) dX0_matches_26 hF (fun v7 hF => ?_)
    obtain ⟨h10, hF⟩ := k_ite hF
    refine c_callVi C lk_X0_86 (ci := 11) rfl h10 (fr2 := 1) (lo2 := 100) (As := []) (st := [.int (x1 + x3)]) (fun r9_ w9_ h9_ => by rw [hl]; exact wJ2_size l g hX N v7 w r9_ w9_ h9_) (by decide) rfl rfl (Nat.le_of_ble_eq_true rfl) dX0_matches_29 hF (fun r8 u9 hF => ?_)
    refine v_icmp_ge C (tgt := 98) dX0_matches_32 (by decide) hF (fun c11 hF => ?_) (fun c11 hF => ?_)
    · refine v_iload_n C dX0_matches_98 rfl rfl ?_
      exact c_iret C dX0_matches_99 hF
    · refine v_iconst C (v := (0 : Int32)) dX0_matches_35 (by decide) ?_
      refine v_istore C dX0_matches_36 (Nat.le_of_ble_eq_true rfl) rfl (lv' := [some (.ref x0), some (.int x1), some (.int x2), some (.int x3), some (.int (0 : Int32))]) rfl ?_
      refine v_mask [true, true, true, true, true] (lv' := [some (.ref x0), some (.int x1), some (.int x2), some (.int x3), some (.int (0 : Int32))]) rfl ?_
      exact kloop_ok (P := fun a => kV g X 5 a.2.2.2.2.2 38 [some (.ref a.1), some (.int a.2.1), some (.int a.2.2.1), some (.int a.2.2.2.1), some (.int a.2.2.2.2.1)] []) (fun self hs a hF => wX0_matches_b38 C hX hl hin N k14 hk14 self hs a.1 a.2.1 a.2.2.1 a.2.2.2.1 a.2.2.2.2.1 a.2.2.2.2.2 hF) N (x0, x1, x2, x3, (0 : Int32), u9) hF
set_option maxHeartbeats 4000000 in
theorem wX0_matches (l : Launch) (g : GT) (hX : ∀ U, gX g U → SX g U) (N : Nat) (x0 : Nat) (x1 : Int32) (w : Wd) (r : Int32) (w1 : Wd) (hF : FX0_matches N g x0 x1 w = some (r, w1)) : kMt l g yX0_matches (ws_ yX0_matches cX0_matches 5 (some .int)) 4 400 w [.ref x0, .int x1] (some (.int r)) w1 := by
  refine kMt.ofV (lv := [some (.ref x0), some (.int x1), none, none, none]) (by decide) rfl (Nat.le_of_ble_eq_true rfl) rfl ?_
  intro X hl hin C
  unfold FX0_matches at hF
  refine v_aload_n C dX0_matches_0 rfl rfl ?_
  refine v_iload_n C dX0_matches_1 rfl rfl ?_
  obtain ⟨h3, hF⟩ := k_ite hF
  refine c_callVi C lk_X0_249 (ci := 1) rfl h3 (fr2 := 2) (lo2 := 200) (As := [.int x1]) (st := []) (fun r9_ w9_ h9_ => by rw [hl]; exact wX0_isRow l g hX N x0 x1 w r9_ w9_ h9_) (by decide) rfl rfl (Nat.le_of_ble_eq_true rfl) dX0_matches_2 hF (fun r1 u2 hF => ?_)
  refine v_if_ne C (tgt := 10) dX0_matches_5 (by decide) hF (fun c4 hF => ?_) (fun c4 hF => ?_)
  · refine v_iconst C (v := (-1 : Int32)) dX0_matches_8 (by decide) ?_
    exact c_iret C dX0_matches_9 hF
  · refine v_iconst C (v := (0 : Int32)) dX0_matches_10 (by decide) ?_
    refine v_istore_n C dX0_matches_11 rfl (Nat.le_of_ble_eq_true rfl) rfl (lv' := [some (.ref x0), some (.int x1), some (.int (0 : Int32)), none, none]) rfl ?_
    refine v_iconst C (v := (0 : Int32)) dX0_matches_12 (by decide) ?_
    refine v_istore_n C dX0_matches_13 rfl (Nat.le_of_ble_eq_true rfl) rfl (lv' := [some (.ref x0), some (.int x1), some (.int (0 : Int32)), some (.int (0 : Int32)), none]) rfl ?_
    refine v_mask [true, true, true, true, false] (lv' := [some (.ref x0), some (.int x1), some (.int (0 : Int32)), some (.int (0 : Int32)), none]) rfl ?_
    exact kloop_ok (P := fun a => kV g X 5 a.2.2.2.2 14 [some (.ref a.1), some (.int a.2.1), some (.int a.2.2.1), some (.int a.2.2.2.1), none] []) (fun self hs a hF => wX0_matches_b14 C hX hl hin N self hs a.1 a.2.1 a.2.2.1 a.2.2.2.1 a.2.2.2.2 hF) N (x0, x1, (0 : Int32), (0 : Int32), u2) hF
