set_option maxRecDepth 100000
set_option maxHeartbeats 4000000 in
theorem wJ4_init_2_t5 (l : Launch) (g : GT) (hX : ∀ U, gX g U → SX g U) (N : Nat) (x0 : Nat) (x1 : Option Nat) (x2 : Option Nat) (x3 : Int32) (x4 : Int32) (w : Wd) (r : Unit) (w1 : Wd) (hF : FJ4_init_2_t5 N g x0 x1 x2 x3 x4 w = some (r, w1)) : kMt l g yJ4_init_2 (ws_ yJ4_init_2 cJ4_init_2 5 none) 1 100 w [.ref x0, va_rf x1, va_rf x2, .int x3, .int x4] none w1 := by
  refine kMt.ofV (lv := [some (.ref x0), some (va_rf x1), some (va_rf x2), some (.int x3), some (.int x4)]) (by decide) rfl (by cases x1 <;> cases x2 <;> exact Nat.le_of_ble_eq_true rfl) (by cases x1 <;> cases x2 <;> rfl) ?_
  intro X hl hin C
  unfold FJ4_init_2_t5 at hF
  refine v_aload_n C dJ4_init_2_0 rfl rfl ?_
  refine v_objInit C q316 q142 q143 (by decide) (Nat.le_of_ble_eq_true rfl) dJ4_init_2_1 ?_
  refine v_aload_n C dJ4_init_2_4 rfl rfl ?_
  refine v_aload_n C dJ4_init_2_5 rfl rfl ?_
  refine v_putW C kc_X5 0 (Nat.le_of_ble_eq_true rfl) (kFl.p q359) rfl rfl rfl dJ4_init_2_6 hF (fun u1 hF => ?_)
  refine v_aload_n C dJ4_init_2_9 rfl rfl ?_
  refine v_gets C ((hX _ C.2.2.2.2.2.1.2.2.1).1 _ (List.mem_of_getElem? (i := 9) rfl)) q317 (Or.inl rfl) dJ4_init_2_10 ?_
  refine v_putW C kc_X5 1 (Nat.le_of_ble_eq_true rfl) (kFl.p q360) rfl (nar_rf _ (by decide)) (fit_rf _ (by decide)) dJ4_init_2_13 hF (fun u2 hF => ?_)
  refine v_aload_n C dJ4_init_2_16 rfl rfl ?_
  refine v_gets C ((hX _ C.2.2.2.2.2.1.2.2.1).1 _ (List.mem_of_getElem? (i := 10) rfl)) q319 (Or.inl rfl) dJ4_init_2_17 ?_
  refine v_putW C kc_X5 2 (Nat.le_of_ble_eq_true rfl) (kFl.p q361) rfl (nar_rf _ (by decide)) (fit_rf _ (by decide)) dJ4_init_2_20 hF (fun u3 hF => ?_)
  refine v_iload C dJ4_init_2_23 rfl ?_
  refine v_if_eq C (tgt := 36) dJ4_init_2_25 (by decide) hF (fun c4 hF => ?_) (fun c4 hF => ?_)
  · refine v_aload_n C dJ4_init_2_36 rfl rfl ?_
    refine v_null C dJ4_init_2_37 ?_
    refine v_putW C kc_X5 1 (Nat.le_of_ble_eq_true rfl) (kFl.p q360) rfl rfl rfl dJ4_init_2_38 hF (fun u5 hF => ?_)
    refine v_aload_n C dJ4_init_2_41 rfl rfl ?_
    refine v_aload_nQ C dJ4_init_2_42 rfl rfl ?_
    refine v_putW C kc_X5 3 (Nat.le_of_ble_eq_true rfl) (kFl.p q358) rfl (nar_rf _ (by decide)) (fit_rf _ (by decide)) dJ4_init_2_43 hF (fun u6 hF => ?_)
    refine v_aload_n C dJ4_init_2_46 rfl rfl ?_
    refine v_aload_nQ C dJ4_init_2_47 rfl rfl ?_
    refine v_putW C kc_X5 0 (Nat.le_of_ble_eq_true rfl) (kFl.p q359) rfl (nar_rf _ (by decide)) (fit_rf _ (by decide)) dJ4_init_2_48 hF (fun u7 hF => ?_)
    refine v_iload_n C dJ4_init_2_51 rfl rfl ?_
    refine v_if_ne C (tgt := 60) dJ4_init_2_52 (by decide) hF (fun c8 hF => ?_) (fun c8 hF => ?_)
    · refine v_aload_n C dJ4_init_2_55 rfl rfl ?_
      refine v_null C dJ4_init_2_56 ?_
      refine v_putW C kc_X5 2 (Nat.le_of_ble_eq_true rfl) (kFl.p q361) rfl rfl rfl dJ4_init_2_57 hF (fun u9 hF => ?_)
      exact c_vret C dJ4_init_2_60 hF
    · exact c_vret C dJ4_init_2_60 hF
  · cases hF
set_option maxHeartbeats 4000000 in
theorem wJ5_init_t5 (l : Launch) (g : GT) (hX : ∀ U, gX g U → SX g U) (N : Nat) (x0 : Nat) (x1 : Option Nat) (x2 : Option Nat) (x3 : Int32) (x4 : Int32) (w : Wd) (r : Unit) (w1 : Wd) (hF : FJ5_init_t5 N g x0 x1 x2 x3 x4 w = some (r, w1)) : kMt l g yJ5_init (ws_ yJ5_init cJ5_init 5 none) 2 200 w [.ref x0, va_rf x1, va_rf x2, .int x3, .int x4] none w1 := by
  refine kMt.ofV (lv := [some (.ref x0), some (va_rf x1), some (va_rf x2), some (.int x3), some (.int x4)]) (by decide) rfl (by cases x1 <;> cases x2 <;> exact Nat.le_of_ble_eq_true rfl) (by cases x1 <;> cases x2 <;> rfl) ?_
  intro X hl hin C
  unfold FJ5_init_t5 at hF
  refine v_aload_n C dJ5_init_0 rfl rfl ?_
  refine v_aload_nQ C dJ5_init_1 rfl rfl ?_
  refine v_aload_nQ C dJ5_init_2 rfl rfl ?_
  refine v_iload_n C dJ5_init_3 rfl rfl ?_
  refine v_iload C dJ5_init_4 rfl ?_
  refine c_callI C lk_J5_16 (fr2 := 1) (lo2 := 100) (As := [va_rf x1, va_rf x2, .int x3, .int x4]) (st := []) (fun r9_ w9_ h9_ => by rw [hl]; exact wJ4_init_2_t5 l g hX N x0 x1 x2 x3 x4 w r9_ w9_ h9_) (by decide) rfl rfl (Nat.le_of_ble_eq_true rfl) dJ5_init_6 hF (fun r1 u2 hF => ?_)
  exact c_vret C dJ5_init_9 hF
set_option maxHeartbeats 4000000 in
theorem wX5_init (l : Launch) (g : GT) (hX : ∀ U, gX g U → SX g U) (N : Nat) (x0 : Nat) (x1 : Int32) (w : Wd) (r : Unit) (w1 : Wd) (hF : FX5_init N g x0 x1 w = some (r, w1)) : kMt l g yX5_init (ws_ yX5_init cX5_init 2 none) 3 300 w [.ref x0, .int x1] none w1 := by
  refine kMt.ofV (lv := [some (.ref x0), some (.int x1)]) (by decide) rfl (Nat.le_of_ble_eq_true rfl) rfl ?_
  intro X hl hin C
  unfold FX5_init at hF
  refine v_aload_n C dX5_init_0 rfl rfl ?_
  refine v_null C dX5_init_1 ?_
  refine v_null C dX5_init_2 ?_
  refine v_iconst C (v := (0 : Int32)) dX5_init_3 (by decide) ?_
  refine v_iconst C (v := (0 : Int32)) dX5_init_4 (by decide) ?_
  refine c_callI C lk_X5_1 (fr2 := 2) (lo2 := 200) (As := [va_rf none, va_rf none, .int (0 : Int32), .int (0 : Int32)]) (st := []) (fun r9_ w9_ h9_ => by rw [hl]; exact wJ5_init_t5 l g hX N x0 none none (0 : Int32) (0 : Int32) w r9_ w9_ h9_) (by decide) rfl rfl (Nat.le_of_ble_eq_true rfl) dX5_init_5 hF (fun r1 u2 hF => ?_)
  refine v_aload_n C dX5_init_8 rfl rfl ?_
  refine v_iload_n C dX5_init_9 rfl rfl ?_
  refine v_putFW C (hin.1.trans rfl) kc_X5 6 (Nat.le_of_ble_eq_true rfl) q355 rfl rfl rfl rfl dX5_init_10 hF (fun u3 hF => ?_)
  exact c_vret C dX5_init_13 hF
set_option maxHeartbeats 4000000 in
theorem wX4_init (l : Launch) (g : GT) (hX : ∀ U, gX g U → SX g U) (N : Nat) (x0 : Nat) (x1 : Nat) (w : Wd) (r : Unit) (w1 : Wd) (hF : FX4_init N g x0 x1 w = some (r, w1)) : kMt l g yX4_init (ws_ yX4_init cX4_init 2 none) 1 100 w [.ref x0, .ref x1] none w1 := by
  refine kMt.ofV (lv := [some (.ref x0), some (.ref x1)]) (by decide) rfl (Nat.le_of_ble_eq_true rfl) rfl ?_
  intro X hl hin C
  unfold FX4_init at hF
  refine v_aload_n C dX4_init_0 rfl rfl ?_
  refine v_aload_n C dX4_init_1 rfl rfl ?_
  refine v_putFW C (hin.1.trans rfl) kc_X4 2 (Nat.le_of_ble_eq_true rfl) q270 rfl rfl rfl rfl dX4_init_2 hF (fun u1 hF => ?_)
  refine v_aload_n C dX4_init_5 rfl rfl ?_
  refine v_objInit C q266 q142 q143 (by decide) (Nat.le_of_ble_eq_true rfl) dX4_init_6 ?_
  exact c_vret C dX4_init_9 hF
set_option maxHeartbeats 4000000 in
theorem wX4_here (l : Launch) (g : GT) (hX : ∀ U, gX g U → SX g U) (N : Nat) (x0 : Nat) (w : Wd) (r : Int32) (w1 : Wd) (hF : FX4_here N g x0 w = some (r, w1)) : kMt l g yX4_here (ws_ yX4_here cX4_here 1 (some .int)) 1 100 w [.ref x0] (some (.int r)) w1 := by
  refine kMt.ofV (lv := [some (.ref x0)]) (by decide) rfl (Nat.le_of_ble_eq_true rfl) rfl ?_
  intro X hl hin C
  unfold FX4_here at hF
  refine v_aload_n C dX4_here_0 rfl rfl ?_
  refine v_getI C kc_X4 0 (Nat.le_of_ble_eq_true rfl) (kFl.p q267) dX4_here_1 hF (fun v1 hF => ?_)
  refine v_aload_n C dX4_here_4 rfl rfl ?_
  refine v_getR C kc_X4 2 (Nat.le_of_ble_eq_true rfl) (kFl.p q270) dX4_here_5 hF (fun v2 hF => ?_)
  refine v_getI C kc_X0 4 (Nat.le_of_ble_eq_true rfl) (kFl.n q203) dX4_here_8 hF (fun v3 hF => ?_)
  refine v_icmp_ge C (tgt := 29) dX4_here_11 (by decide) hF (fun c4 hF => ?_) (fun c4 hF => ?_)
  · refine v_iconst C (v := (-1 : Int32)) dX4_here_29 (by decide) ?_
    exact c_iret C dX4_here_30 hF
  · refine v_aload_n C dX4_here_14 rfl rfl ?_
    refine v_getR C kc_X4 2 (Nat.le_of_ble_eq_true rfl) (kFl.p q270) dX4_here_15 hF (fun v5 hF => ?_)
    refine v_getR C kc_X0 3 (Nat.le_of_ble_eq_true rfl) (kFl.n q202) dX4_here_18 hF (fun v6 hF => ?_)
    refine v_aload_n C dX4_here_21 rfl rfl ?_
    refine v_getI C kc_X4 0 (Nat.le_of_ble_eq_true rfl) (kFl.p q267) dX4_here_22 hF (fun v7 hF => ?_)
    refine v_aIb C dX4_here_25 hF (fun v8 hF => ?_)
    refine v_goto C (tgt := 30) dX4_here_26 (by decide) ?_
    exact c_iret C dX4_here_30 hF
set_option maxHeartbeats 4000000 in
theorem wX4_must (l : Launch) (g : GT) (hX : ∀ U, gX g U → SX g U) (N : Nat) (x0 : Nat) (x1 : Int32) (w : Wd) (r : (Unit ⊕ Nat)) (w1 : Wd) (hF : FX4_must N g x0 x1 w = some (r, w1)) : kMx l g yX4_must (ws_ yX4_must cX4_must 2 none) 4 400 w [.ref x0, .int x1] (kres (fun _ => none) r) w1 := by
  refine kMx.ofV (lv := [some (.ref x0), some (.int x1)]) (by decide) rfl (Nat.le_of_ble_eq_true rfl) rfl ?_
  intro X hl hin C CR0 CT0
  have CR : ∀ v, r = .inl v → kOk g X cX4_must 2 RX4 none 4 400 ((fun _ => none) v) w1 := fun v h => CR0 _ (by rw [h]; rfl)
  have CT : ∀ q, r = .inr q → kTh g X w1 q := fun q h => CT0 q (by rw [h]; rfl)
  unfold FX4_must at hF
  refine v_aload_n C dX4_must_0 rfl rfl ?_
  obtain ⟨h3, hF⟩ := k_ite hF
  refine c_callVi C lk_X4_26 (ci := 4) rfl h3 (fr2 := 1) (lo2 := 100) (As := []) (st := []) (fun r9_ w9_ h9_ => by rw [hl]; exact wX4_here l g hX N x0 w r9_ w9_ h9_) (by decide) rfl rfl (Nat.le_of_ble_eq_true rfl) dX4_must_1 hF (fun r1 u2 hF => ?_)
  refine v_iload_n C dX4_must_4 rfl rfl ?_
  refine v_icmp_eq C (tgt := 20) dX4_must_5 (by decide) hF (fun c4 hF => ?_) (fun c4 hF => ?_)
  · refine v_aload_n C dX4_must_20 rfl rfl ?_
    refine v_dup C dX4_must_21 rfl ?_
    refine v_getI C kc_X4 0 (Nat.le_of_ble_eq_true rfl) (kFl.p q267) dX4_must_22 hF (fun v5 hF => ?_)
    refine v_iconst C (v := (1 : Int32)) dX4_must_25 (by decide) ?_
    refine v_iadd C dX4_must_26 ?_
    refine v_putW C kc_X4 0 (Nat.le_of_ble_eq_true rfl) (kFl.p q267) rfl rfl rfl dX4_must_27 hF (fun u6 hF => ?_)
    exact x_vret CR dX4_must_30 hF
  · refine v_newW C kc_X5 q293 q294 q89 nw_X5 dX4_must_8 hF (fun a7 u8 hF => ?_)
    refine v_dup C dX4_must_11 rfl ?_
    refine v_aload_n C dX4_must_12 rfl rfl ?_
    refine v_getI C kc_X4 0 (Nat.le_of_ble_eq_true rfl) (kFl.p q267) dX4_must_13 hF (fun v9 hF => ?_)
    refine c_callI C lk_X4_32 (fr2 := 3) (lo2 := 300) (As := [.int v9]) (st := [.ref a7]) (fun r9_ w9_ h9_ => by rw [hl]; exact wX5_init l g hX N a7 v9 u8 r9_ w9_ h9_) (by decide) rfl rfl (Nat.le_of_ble_eq_true rfl) dX4_must_16 hF (fun r10 u11 hF => ?_)
    exact x_throw C dX4_must_19 CT hF
set_option maxHeartbeats 4000000 in
theorem wX4_number_b85 {l : Launch} {g : GT} {X : CxT} {r : (Int32 ⊕ Nat)} {w1 : Wd} (C : kOk g X cX4_number 5 RX4 (some .int) 4 400 none (kBad g)) (CR : ∀ v, r = .inl v → kOk g X cX4_number 5 RX4 (some .int) 4 400 ((fun v => some (.int v)) v) w1) (CT : ∀ q, r = .inr q → kTh g X w1 q) (hX : ∀ U, gX g U → SX g U) (hl : xl X = l) (hin : kHin X yX4_number) (N : Nat)  (x1 : Int32) (x2 : Int32) (x3 : Int32) (w : Wd) (hF : FX4_number_b85 N g  x1 x2 x3 w = some (r, w1)) : kV g X 5 w 85 [none, some (.int x1), some (.int x2), some (.int x3), none] [] := by
  unfold FX4_number_b85 at hF
  refine v_iload_n C dX4_number_85 rfl rfl ?_
  refine v_iload_n C dX4_number_86 rfl rfl ?_
  refine v_icmp_ge C (tgt := 99) dX4_number_87 (by decide) hF (fun c14 hF => ?_) (fun c14 hF => ?_)
  · refine v_iload_n C dX4_number_99 rfl rfl ?_
    exact x_iret CR dX4_number_100 hF
  · refine v_newW C kc_X5 q293 q294 q89 nw_X5 dX4_number_90 hF (fun a15 u16 hF => ?_)
    refine v_dup C dX4_number_93 rfl ?_
    refine v_iload_n C dX4_number_94 rfl rfl ?_
    refine c_callI C lk_X4_32 (fr2 := 3) (lo2 := 300) (As := [.int x2]) (st := [.ref a15]) (fun r9_ w9_ h9_ => by rw [hl]; exact wX5_init l g hX N a15 x2 u16 r9_ w9_ h9_) (by decide) rfl rfl (Nat.le_of_ble_eq_true rfl) dX4_number_95 hF (fun r17 u18 hF => ?_)
    exact x_throw C dX4_number_98 CT hF
set_option maxHeartbeats 4000000 in
theorem wX4_number_b36 {l : Launch} {g : GT} {X : CxT} {r : (Int32 ⊕ Nat)} {w1 : Wd} (C : kOk g X cX4_number 5 RX4 (some .int) 4 400 none (kBad g)) (CR : ∀ v, r = .inl v → kOk g X cX4_number 5 RX4 (some .int) 4 400 ((fun v => some (.int v)) v) w1) (CT : ∀ q, r = .inr q → kTh g X w1 q) (hX : ∀ U, gX g U → SX g U) (hl : xl X = l) (hin : kHin X yX4_number) (N : Nat) (k36 : Nat × Int32 × Int32 × Int32 × Int32 × Wd → Option ((Int32 ⊕ Nat) × Wd)) (hk36 : ∀ a, k36 a = some (r, w1) → kV g X 5 a.2.2.2.2.2 36 [some (.ref a.1), some (.int a.2.1), some (.int a.2.2.1), some (.int a.2.2.2.1), some (.int a.2.2.2.2.1)] []) (x0 : Nat) (x1 : Int32) (x2 : Int32) (x3 : Int32) (x4 : Int32) (w : Wd) (hF : FX4_number_b36 N g k36 x0 x1 x2 x3 x4 w = some (r, w1)) : kV g X 5 w 36 [some (.ref x0), some (.int x1), some (.int x2), some (.int x3), some (.int x4)] [] := by
  unfold FX4_number_b36 at hF
  refine v_iload C dX4_number_36 rfl ?_
  refine v_iconst C (v := (2 : Int32)) dX4_number_38 (by decide) ?_
  refine v_icmp_ge C (tgt := 85) dX4_number_39 (by decide) hF (fun c13 hF => ?_) (fun c13 hF => ?_)
  · refine v_mask [false, true, true, true, false] (lv' := [none, some (.int x1), some (.int x2), some (.int x3), none]) rfl ?_
    exact wX4_number_b85 C CR CT hX hl hin N (x1) (x2) (x3) w hF
  · refine v_aload_n C dX4_number_42 rfl rfl ?_
    obtain ⟨h21, hF⟩ := k_ite hF
    refine c_callVi C lk_X4_26 (ci := 4) rfl h21 (fr2 := 1) (lo2 := 100) (As := []) (st := []) (fun r9_ w9_ h9_ => by rw [hl]; exact wX4_here l g hX N x0 w r9_ w9_ h9_) (by decide) rfl rfl (Nat.le_of_ble_eq_true rfl) dX4_number_43 hF (fun r19 u20 hF => ?_)
    refine v_bipush C (v := (48 : Int32)) dX4_number_46 (by decide) ?_
    refine v_bipush C (v := (57 : Int32)) dX4_number_48 (by decide) ?_
    refine c_callNi C lk_X4_35 (fr2 := 1) (lo2 := 100) (As := [.int r19, .int (48 : Int32), .int (57 : Int32)]) (st := []) (fun r9_ w9_ h9_ => by rw [hl]; exact wX0_isIn l g hX N r19 (48 : Int32) (57 : Int32) u20 r9_ w9_ h9_) (by decide) rfl rfl (Nat.le_of_ble_eq_true rfl) dX4_number_50 hF (fun r22 u23 hF => ?_)
    refine v_if_eq C (tgt := 85) dX4_number_53 (by decide) hF (fun c24 hF => ?_) (fun c24 hF => ?_)
    · refine v_mask [false, true, true, true, false] (lv' := [none, some (.int x1), some (.int x2), some (.int x3), none]) rfl ?_
      exact wX4_number_b85 C CR CT hX hl hin N (x1) (x2) (x3) u23 hF
    · refine v_bipush C (v := (10 : Int32)) dX4_number_56 (by decide) ?_
      refine v_iload_n C dX4_number_58 rfl rfl ?_
      refine v_imul C dX4_number_59 ?_
      refine v_aload_n C dX4_number_60 rfl rfl ?_
      obtain ⟨h27, hF⟩ := k_ite hF
      refine c_callVi C lk_X4_26 (ci := 4) rfl h27 (fr2 := 1) (lo2 := 100) (As := []) (st := [.int ((10 : Int32) * x3)]) (fun r9_ w9_ h9_ => by rw [hl]; exact wX4_here l g hX N x0 u23 r9_ w9_ h9_) (by decide) rfl rfl (Nat.le_of_ble_eq_true rfl) dX4_number_61 hF (fun r25 u26 hF => ?_)
      refine v_iadd C dX4_number_64 ?_
      refine v_bipush C (v := (48 : Int32)) dX4_number_65 (by decide) ?_
      refine v_isub C dX4_number_67 ?_
      refine v_istore_n C dX4_number_68 rfl (Nat.le_of_ble_eq_true rfl) rfl (lv' := [some (.ref x0), some (.int x1), some (.int x2), some (.int ((((10 : Int32) * x3) + r25) - (48 : Int32))), some (.int x4)]) rfl ?_
      refine v_aload_n C dX4_number_69 rfl rfl ?_
      refine v_dup C dX4_number_70 rfl ?_
      refine v_getI C kc_X4 0 (Nat.le_of_ble_eq_true rfl) (kFl.p q267) dX4_number_71 hF (fun v28 hF => ?_)
      refine v_iconst C (v := (1 : Int32)) dX4_number_74 (by decide) ?_
      refine v_iadd C dX4_number_75 ?_
      refine v_putW C kc_X4 0 (Nat.le_of_ble_eq_true rfl) (kFl.p q267) rfl rfl rfl dX4_number_76 hF (fun u29 hF => ?_)
      refine v_iinc C dX4_number_79 rfl (v := (x4 + (1 : Int32))) rfl (Nat.le_of_ble_eq_true rfl) rfl (lv' := [some (.ref x0), some (.int x1), some (.int x2), some (.int ((((10 : Int32) * x3) + r25) - (48 : Int32))), some (.int (x4 + (1 : Int32)))]) rfl ?_
      refine v_goto C (tgt := 36) dX4_number_82 (by decide) ?_
      refine v_mask [true, true, true, true, true] (lv' := [some (.ref x0), some (.int x1), some (.int x2), some (.int ((((10 : Int32) * x3) + r25) - (48 : Int32))), some (.int (x4 + (1 : Int32)))]) rfl ?_
      exact hk36 (x0, x1, x2, ((((10 : Int32) * x3) + r25) - (48 : Int32)), (x4 + (1 : Int32)), u29) hF
set_option maxHeartbeats 4000000 in
theorem wX4_number (l : Launch) (g : GT) (hX : ∀ U, gX g U → SX g U) (N : Nat) (x0 : Nat) (x1 : Int32) (w : Wd) (r : (Int32 ⊕ Nat)) (w1 : Wd) (hF : FX4_number N g x0 x1 w = some (r, w1)) : kMx l g yX4_number (ws_ yX4_number cX4_number 5 (some .int)) 4 400 w [.ref x0, .int x1] (kres (fun v => some (.int v)) r) w1 := by
  refine kMx.ofV (lv := [some (.ref x0), some (.int x1), none, none, none]) (by decide) rfl (Nat.le_of_ble_eq_true rfl) rfl ?_
  intro X hl hin C CR0 CT0
  have CR : ∀ v, r = .inl v → kOk g X cX4_number 5 RX4 (some .int) 4 400 ((fun v => some (.int v)) v) w1 := fun v h => CR0 _ (by rw [h]; rfl)
  have CT : ∀ q, r = .inr q → kTh g X w1 q := fun q h => CT0 q (by rw [h]; rfl)
  unfold FX4_number at hF
  refine v_aload_n C dX4_number_0 rfl rfl ?_
  refine v_getI C kc_X4 0 (Nat.le_of_ble_eq_true rfl) (kFl.p q267) dX4_number_1 hF (fun v1 hF => ?_)
  refine v_istore_n C dX4_number_4 rfl (Nat.le_of_ble_eq_true rfl) rfl (lv' := [some (.ref x0), some (.int x1), some (.int v1), none, none]) rfl ?_
  refine v_iconst C (v := (0 : Int32)) dX4_number_5 (by decide) ?_
  refine v_istore_n C dX4_number_6 rfl (Nat.le_of_ble_eq_true rfl) rfl (lv' := [some (.ref x0), some (.int x1), some (.int v1), some (.int (0 : Int32)), none]) rfl ?_
  refine v_aload_n C dX4_number_7 rfl rfl ?_
  obtain ⟨h4, hF⟩ := k_ite hF
  refine c_callVi C lk_X4_26 (ci := 4) rfl h4 (fr2 := 1) (lo2 := 100) (As := []) (st := []) (fun r9_ w9_ h9_ => by rw [hl]; exact wX4_here l g hX N x0 w r9_ w9_ h9_) (by decide) rfl rfl (Nat.le_of_ble_eq_true rfl) dX4_number_8 hF (fun r2 u3 hF => ?_)
  refine v_bipush C (v := (48 : Int32)) dX4_number_11 (by decide) ?_
  refine v_bipush C (v := (57 : Int32)) dX4_number_13 (by decide) ?_
  refine c_callNi C lk_X4_35 (fr2 := 1) (lo2 := 100) (As := [.int r2, .int (48 : Int32), .int (57 : Int32)]) (st := []) (fun r9_ w9_ h9_ => by rw [hl]; exact wX0_isIn l g hX N r2 (48 : Int32) (57 : Int32) u3 r9_ w9_ h9_) (by decide) rfl rfl (Nat.le_of_ble_eq_true rfl) dX4_number_15 hF (fun r5 u6 hF => ?_)
  refine v_if_ne C (tgt := 33) dX4_number_18 (by decide) hF (fun c7 hF => ?_) (fun c7 hF => ?_)
  · refine v_newW C kc_X5 q293 q294 q89 nw_X5 dX4_number_21 hF (fun a8 u9 hF => ?_)
    refine v_dup C dX4_number_24 rfl ?_
    refine v_aload_n C dX4_number_25 rfl rfl ?_
    refine v_getI C kc_X4 0 (Nat.le_of_ble_eq_true rfl) (kFl.p q267) dX4_number_26 hF (fun v10 hF => ?_)
    refine c_callI C lk_X4_32 (fr2 := 3) (lo2 := 300) (As := [.int v10]) (st := [.ref a8]) (fun r9_ w9_ h9_ => by rw [hl]; exact wX5_init l g hX N a8 v10 u9 r9_ w9_ h9_) (by decide) rfl rfl (Nat.le_of_ble_eq_true rfl) dX4_number_29 hF (fun r11 u12 hF => ?_)
    exact x_throw C dX4_number_32 CT hF
  · refine v_iconst C (v := (0 : Int32)) dX4_number_33 (by decide) ?_
    refine v_istore C dX4_number_34 (Nat.le_of_ble_eq_true rfl) rfl (lv' := [some (.ref x0), some (.int x1), some (.int v1), some (.int (0 : Int32)), some (.int (0 : Int32))]) rfl ?_
    refine v_mask [true, true, true, true, true] (lv' := [some (.ref x0), some (.int x1), some (.int v1), some (.int (0 : Int32)), some (.int (0 : Int32))]) rfl ?_
    exact kloop_ok (P := fun a => kV g X 5 a.2.2.2.2.2 36 [some (.ref a.1), some (.int a.2.1), some (.int a.2.2.1), some (.int a.2.2.2.1), some (.int a.2.2.2.2.1)] []) (fun self hs a hF => wX4_number_b36 C CR CT hX hl hin N self hs a.1 a.2.1 a.2.2.1 a.2.2.2.1 a.2.2.2.2.1 a.2.2.2.2.2 hF) N (x0, x1, v1, (0 : Int32), (0 : Int32), u6) hF
set_option maxHeartbeats 4000000 in
theorem wX4_readCard_b117 {l : Launch} {g : GT} {X : CxT} {r : (Nat ⊕ Nat)} {w1 : Wd} (C : kOk g X cX4_readCard 3 RX4 (some (.object "CardLoom$Card")) 4 400 none (kBad g)) (CR : ∀ v, r = .inl v → kOk g X cX4_readCard 3 RX4 (some (.object "CardLoom$Card")) 4 400 ((fun v => some (.ref v)) v) w1) (CT : ∀ q, r = .inr q → kTh g X w1 q) (hX : ∀ U, gX g U → SX g U) (hl : xl X = l) (hin : kHin X yX4_readCard) (N : Nat)  (x0 : Nat) (x2 : Nat) (t0 : Int32) (t1 : Nat) (w : Wd) (hF : FX4_readCard_b117 N g  x0 x2 t0 t1 w = some (r, w1)) : kV g X 3 w 117 [some (.ref x0), none, some (.ref x2)] [.int t0, .ref t1] := by
  unfold FX4_readCard_b117 at hF
  refine v_putW C kc_X6 1 (Nat.le_of_ble_eq_true rfl) (kFl.n q383) rfl rfl rfl dX4_readCard_117 hF (fun u16 hF => ?_)
  refine v_aload_n C dX4_readCard_120 rfl rfl ?_
  refine v_dup C dX4_readCard_121 rfl ?_
  refine v_getI C kc_X4 0 (Nat.le_of_ble_eq_true rfl) (kFl.p q267) dX4_readCard_122 hF (fun v17 hF => ?_)
  refine v_iconst C (v := (1 : Int32)) dX4_readCard_125 (by decide) ?_
  refine v_iadd C dX4_readCard_126 ?_
  refine v_putW C kc_X4 0 (Nat.le_of_ble_eq_true rfl) (kFl.p q267) rfl rfl rfl dX4_readCard_127 hF (fun u18 hF => ?_)
  refine v_aload_n C dX4_readCard_130 rfl rfl ?_
  exact x_aret CR (Or.inl ⟨_, rfl⟩) dX4_readCard_131 hF
set_option maxHeartbeats 4000000 in
theorem wX4_readCard_b102 {l : Launch} {g : GT} {X : CxT} {r : (Nat ⊕ Nat)} {w1 : Wd} (C : kOk g X cX4_readCard 3 RX4 (some (.object "CardLoom$Card")) 4 400 none (kBad g)) (CR : ∀ v, r = .inl v → kOk g X cX4_readCard 3 RX4 (some (.object "CardLoom$Card")) 4 400 ((fun v => some (.ref v)) v) w1) (CT : ∀ q, r = .inr q → kTh g X w1 q) (hX : ∀ U, gX g U → SX g U) (hl : xl X = l) (hin : kHin X yX4_readCard) (N : Nat)  (x0 : Nat) (x2 : Nat) (w : Wd) (hF : FX4_readCard_b102 N g  x0 x2 w = some (r, w1)) : kV g X 3 w 102 [some (.ref x0), none, some (.ref x2)] [] := by
  unfold FX4_readCard_b102 at hF
  refine v_aload_n C dX4_readCard_102 rfl rfl ?_
  refine v_aload_n C dX4_readCard_103 rfl rfl ?_
  obtain ⟨h14, hF⟩ := k_ite hF
  refine c_callVi C lk_X4_26 (ci := 4) rfl h14 (fr2 := 1) (lo2 := 100) (As := []) (st := [.ref x2]) (fun r9_ w9_ h9_ => by rw [hl]; exact wX4_here l g hX N x0 w r9_ w9_ h9_) (by decide) rfl rfl (Nat.le_of_ble_eq_true rfl) dX4_readCard_104 hF (fun r12 u13 hF => ?_)
  refine v_bipush C (v := (83 : Int32)) dX4_readCard_107 (by decide) ?_
  refine v_icmp_ne C (tgt := 116) dX4_readCard_109 (by decide) hF (fun c15 hF => ?_) (fun c15 hF => ?_)
  · refine v_iconst C (v := (0 : Int32)) dX4_readCard_112 (by decide) ?_
    refine v_goto C (tgt := 117) dX4_readCard_113 (by decide) ?_
    refine v_mask [true, false, true] (lv' := [some (.ref x0), none, some (.ref x2)]) rfl ?_
    exact wX4_readCard_b117 C CR CT hX hl hin N (x0) (x2) ((0 : Int32)) (x2) u13 hF
  · refine v_iconst C (v := (1 : Int32)) dX4_readCard_116 (by decide) ?_
    refine v_mask [true, false, true] (lv' := [some (.ref x0), none, some (.ref x2)]) rfl ?_
    exact wX4_readCard_b117 C CR CT hX hl hin N (x0) (x2) ((1 : Int32)) (x2) u13 hF
set_option maxHeartbeats 4000000 in
theorem wX4_readCard_b6 {l : Launch} {g : GT} {X : CxT} {r : (Nat ⊕ Nat)} {w1 : Wd} (C : kOk g X cX4_readCard 3 RX4 (some (.object "CardLoom$Card")) 4 400 none (kBad g)) (CR : ∀ v, r = .inl v → kOk g X cX4_readCard 3 RX4 (some (.object "CardLoom$Card")) 4 400 ((fun v => some (.ref v)) v) w1) (CT : ∀ q, r = .inr q → kTh g X w1 q) (hX : ∀ U, gX g U → SX g U) (hl : xl X = l) (hin : kHin X yX4_readCard) (N : Nat) (k6 : Nat × Nat × Int32 × Wd → Option ((Nat ⊕ Nat) × Wd)) (hk6 : ∀ a, k6 a = some (r, w1) → kV g X 3 a.2.2.2 6 [some (.ref a.1), some (.ref a.2.1), some (.int a.2.2.1)] []) (x0 : Nat) (x1 : Nat) (x2 : Int32) (w : Wd) (hF : FX4_readCard_b6 N g k6 x0 x1 x2 w = some (r, w1)) : kV g X 3 w 6 [some (.ref x0), some (.ref x1), some (.int x2)] [] := by
  unfold FX4_readCard_b6 at hF
  refine v_iload_n C dX4_readCard_6 rfl rfl ?_
  refine v_iconst C (v := (4 : Int32)) dX4_readCard_7 (by decide) ?_
  refine v_icmp_ge C (tgt := 63) dX4_readCard_8 (by decide) hF (fun c3 hF => ?_) (fun c3 hF => ?_)
  · refine v_newW C kc_X6 q372 q373 q90 nw_X6 dX4_readCard_63 hF (fun a4 u5 hF => ?_)
    refine v_dup C dX4_readCard_66 rfl ?_
    refine v_aload_n C dX4_readCard_67 rfl rfl ?_
    refine c_callI C lk_X4_109 (fr2 := 1) (lo2 := 100) (As := [.ref x1]) (st := [.ref a4]) (fun r9_ w9_ h9_ => by rw [hl]; exact wX6_init l g hX N a4 x1 u5 r9_ w9_ h9_) (by decide) rfl rfl (Nat.le_of_ble_eq_true rfl) dX4_readCard_68 hF (fun r6 u7 hF => ?_)
    refine v_astore_n C dX4_readCard_71 rfl (Nat.le_of_ble_eq_true rfl) rfl (lv' := [some (.ref x0), some (.ref x1), some (.ref a4)]) rfl ?_
    refine v_aload_n C dX4_readCard_72 rfl rfl ?_
    obtain ⟨h10, hF⟩ := k_ite hF
    refine c_callVi C lk_X4_26 (ci := 4) rfl h10 (fr2 := 1) (lo2 := 100) (As := []) (st := []) (fun r9_ w9_ h9_ => by rw [hl]; exact wX4_here l g hX N x0 u7 r9_ w9_ h9_) (by decide) rfl rfl (Nat.le_of_ble_eq_true rfl) dX4_readCard_73 hF (fun r8 u9 hF => ?_)
    refine v_bipush C (v := (83 : Int32)) dX4_readCard_76 (by decide) ?_
    refine v_icmp_eq C (tgt := 102) dX4_readCard_78 (by decide) hF (fun c11 hF => ?_) (fun c11 hF => ?_)
    · refine v_mask [true, false, true] (lv' := [some (.ref x0), none, some (.ref a4)]) rfl ?_
      exact wX4_readCard_b102 C CR CT hX hl hin N (x0) (a4) u9 hF
    · refine v_aload_n C dX4_readCard_81 rfl rfl ?_
      obtain ⟨h21, hF⟩ := k_ite hF
      refine c_callVi C lk_X4_26 (ci := 4) rfl h21 (fr2 := 1) (lo2 := 100) (As := []) (st := []) (fun r9_ w9_ h9_ => by rw [hl]; exact wX4_here l g hX N x0 u9 r9_ w9_ h9_) (by decide) rfl rfl (Nat.le_of_ble_eq_true rfl) dX4_readCard_82 hF (fun r19 u20 hF => ?_)
      refine v_bipush C (v := (90 : Int32)) dX4_readCard_85 (by decide) ?_
      refine v_icmp_eq C (tgt := 102) dX4_readCard_87 (by decide) hF (fun c22 hF => ?_) (fun c22 hF => ?_)
      · refine v_mask [true, false, true] (lv' := [some (.ref x0), none, some (.ref a4)]) rfl ?_
        exact wX4_readCard_b102 C CR CT hX hl hin N (x0) (a4) u20 hF
      · refine v_newW C kc_X5 q293 q294 q89 nw_X5 dX4_readCard_90 hF (fun a23 u24 hF => ?_)
        refine v_dup C dX4_readCard_93 rfl ?_
        refine v_aload_n C dX4_readCard_94 rfl rfl ?_
        refine v_getI C kc_X4 0 (Nat.le_of_ble_eq_true rfl) (kFl.p q267) dX4_readCard_95 hF (fun v25 hF => ?_)
        refine c_callI C lk_X4_32 (fr2 := 3) (lo2 := 300) (As := [.int v25]) (st := [.ref a23]) (fun r9_ w9_ h9_ => by rw [hl]; exact wX5_init l g hX N a23 v25 u24 r9_ w9_ h9_) (by decide) rfl rfl (Nat.le_of_ble_eq_true rfl) dX4_readCard_98 hF (fun r26 u27 hF => ?_)
        exact x_throw C dX4_readCard_101 CT hF
  · refine v_aload_n C dX4_readCard_11 rfl rfl ?_
    obtain ⟨h30, hF⟩ := k_ite hF
    refine c_callVi C lk_X4_26 (ci := 4) rfl h30 (fr2 := 1) (lo2 := 100) (As := []) (st := []) (fun r9_ w9_ h9_ => by rw [hl]; exact wX4_here l g hX N x0 w r9_ w9_ h9_) (by decide) rfl rfl (Nat.le_of_ble_eq_true rfl) dX4_readCard_12 hF (fun r28 u29 hF => ?_)
    refine v_bipush C (v := (97 : Int32)) dX4_readCard_15 (by decide) ?_
    refine v_bipush C (v := (106 : Int32)) dX4_readCard_17 (by decide) ?_
    refine c_callNi C lk_X4_35 (fr2 := 1) (lo2 := 100) (As := [.int r28, .int (97 : Int32), .int (106 : Int32)]) (st := []) (fun r9_ w9_ h9_ => by rw [hl]; exact wX0_isIn l g hX N r28 (97 : Int32) (106 : Int32) u29 r9_ w9_ h9_) (by decide) rfl rfl (Nat.le_of_ble_eq_true rfl) dX4_readCard_19 hF (fun r31 u32 hF => ?_)
    refine v_if_ne C (tgt := 37) dX4_readCard_22 (by decide) hF (fun c33 hF => ?_) (fun c33 hF => ?_)
    · refine v_newW C kc_X5 q293 q294 q89 nw_X5 dX4_readCard_25 hF (fun a34 u35 hF => ?_)
      refine v_dup C dX4_readCard_28 rfl ?_
      refine v_aload_n C dX4_readCard_29 rfl rfl ?_
      refine v_getI C kc_X4 0 (Nat.le_of_ble_eq_true rfl) (kFl.p q267) dX4_readCard_30 hF (fun v36 hF => ?_)
      refine c_callI C lk_X4_32 (fr2 := 3) (lo2 := 300) (As := [.int v36]) (st := [.ref a34]) (fun r9_ w9_ h9_ => by rw [hl]; exact wX5_init l g hX N a34 v36 u35 r9_ w9_ h9_) (by decide) rfl rfl (Nat.le_of_ble_eq_true rfl) dX4_readCard_33 hF (fun r37 u38 hF => ?_)
      exact x_throw C dX4_readCard_36 CT hF
    · refine v_aload_n C dX4_readCard_37 rfl rfl ?_
      refine v_iload_n C dX4_readCard_38 rfl rfl ?_
      refine v_aload_n C dX4_readCard_39 rfl rfl ?_
      obtain ⟨h41, hF⟩ := k_ite hF
      refine c_callVi C lk_X4_26 (ci := 4) rfl h41 (fr2 := 1) (lo2 := 100) (As := []) (st := [.int x2, .ref x1]) (fun r9_ w9_ h9_ => by rw [hl]; exact wX4_here l g hX N x0 u32 r9_ w9_ h9_) (by decide) rfl rfl (Nat.le_of_ble_eq_true rfl) dX4_readCard_40 hF (fun r39 u40 hF => ?_)
      refine v_bipush C (v := (97 : Int32)) dX4_readCard_43 (by decide) ?_
      refine v_isub C dX4_readCard_45 ?_
      refine v_aSi C dX4_readCard_46 hF (fun u42 hF => ?_)
      refine v_aload_n C dX4_readCard_47 rfl rfl ?_
      refine v_dup C dX4_readCard_48 rfl ?_
      refine v_getI C kc_X4 0 (Nat.le_of_ble_eq_true rfl) (kFl.p q267) dX4_readCard_49 hF (fun v43 hF => ?_)
      refine v_iconst C (v := (1 : Int32)) dX4_readCard_52 (by decide) ?_
      refine v_iadd C dX4_readCard_53 ?_
      refine v_putW C kc_X4 0 (Nat.le_of_ble_eq_true rfl) (kFl.p q267) rfl rfl rfl dX4_readCard_54 hF (fun u44 hF => ?_)
      refine v_iinc C dX4_readCard_57 rfl (v := (x2 + (1 : Int32))) rfl (Nat.le_of_ble_eq_true rfl) rfl (lv' := [some (.ref x0), some (.ref x1), some (.int (x2 + (1 : Int32)))]) rfl ?_
      refine v_goto C (tgt := 6) dX4_readCard_60 (by decide) ?_
      refine v_mask [true, true, true] (lv' := [some (.ref x0), some (.ref x1), some (.int (x2 + (1 : Int32)))]) rfl ?_
      exact hk6 (x0, x1, (x2 + (1 : Int32)), u44) hF
set_option maxHeartbeats 4000000 in
theorem wX4_readCard (l : Launch) (g : GT) (hX : ∀ U, gX g U → SX g U) (N : Nat) (x0 : Nat) (w : Wd) (r : (Nat ⊕ Nat)) (w1 : Wd) (hF : FX4_readCard N g x0 w = some (r, w1)) : kMx l g yX4_readCard (ws_ yX4_readCard cX4_readCard 3 (some (.object "CardLoom$Card"))) 4 400 w [.ref x0] (kres (fun v => some (.ref v)) r) w1 := by
  refine kMx.ofV (lv := [some (.ref x0), none, none]) (by decide) rfl (Nat.le_of_ble_eq_true rfl) rfl ?_
  intro X hl hin C CR0 CT0
  have CR : ∀ v, r = .inl v → kOk g X cX4_readCard 3 RX4 (some (.object "CardLoom$Card")) 4 400 ((fun v => some (.ref v)) v) w1 := fun v h => CR0 _ (by rw [h]; rfl)
  have CT : ∀ q, r = .inr q → kTh g X w1 q := fun q h => CT0 q (by rw [h]; rfl)
  unfold FX4_readCard at hF
  refine v_iconst C (v := (4 : Int32)) dX4_readCard_0 (by decide) ?_
  refine v_newaW C (atype := .int) q195 rfl (t := 0) rfl rfl (fun cA N => rfl) (Nat.le_of_ble_eq_true rfl) dX4_readCard_1 hF (fun a1 u2 hF => ?_)
  refine v_astore_n C dX4_readCard_3 rfl (Nat.le_of_ble_eq_true rfl) rfl (lv' := [some (.ref x0), some (.ref a1), none]) rfl ?_
  refine v_iconst C (v := (0 : Int32)) dX4_readCard_4 (by decide) ?_
  refine v_istore_n C dX4_readCard_5 rfl (Nat.le_of_ble_eq_true rfl) rfl (lv' := [some (.ref x0), some (.ref a1), some (.int (0 : Int32))]) rfl ?_
  refine v_mask [true, true, true] (lv' := [some (.ref x0), some (.ref a1), some (.int (0 : Int32))]) rfl ?_
  exact kloop_ok (P := fun a => kV g X 3 a.2.2.2 6 [some (.ref a.1), some (.ref a.2.1), some (.int a.2.2.1)] []) (fun self hs a hF => wX4_readCard_b6 C CR CT hX hl hin N self hs a.1 a.2.1 a.2.2.1 a.2.2.2 hF) N (x0, a1, (0 : Int32), u2) hF
set_option maxHeartbeats 4000000 in
theorem wX4_threading_b57 {l : Launch} {g : GT} {X : CxT} {r : (Nat ⊕ Nat)} {w1 : Wd} (C : kOk g X cX4_threading 2 RX4 (some (.object "java/util/ArrayList")) 7 700 none (kBad g)) (CR : ∀ v, r = .inl v → kOk g X cX4_threading 2 RX4 (some (.object "java/util/ArrayList")) 7 700 ((fun v => some (.ref v)) v) w1) (CT : ∀ q, r = .inr q → kTh g X w1 q) (hX : ∀ U, gX g U → SX g U) (hl : xl X = l) (hin : kHin X yX4_threading) (N : Nat)  (x0 : Nat) (x1 : Nat) (w : Wd) (hF : FX4_threading_b57 N g  x0 x1 w = some (r, w1)) : kV g X 2 w 57 [some (.ref x0), some (.ref x1)] [] := by
  unfold FX4_threading_b57 at hF
  refine v_aload_n C dX4_threading_57 rfl rfl ?_
  refine v_getI C kc_X4 0 (Nat.le_of_ble_eq_true rfl) (kFl.p q267) dX4_threading_58 hF (fun v15 hF => ?_)
  refine v_aload_n C dX4_threading_61 rfl rfl ?_
  refine v_getR C kc_X4 2 (Nat.le_of_ble_eq_true rfl) (kFl.p q270) dX4_threading_62 hF (fun v16 hF => ?_)
  refine v_getI C kc_X0 4 (Nat.le_of_ble_eq_true rfl) (kFl.n q203) dX4_threading_65 hF (fun v17 hF => ?_)
  refine v_icmp_ge C (tgt := 83) dX4_threading_68 (by decide) hF (fun c18 hF => ?_) (fun c18 hF => ?_)
  · refine v_aload_n C dX4_threading_83 rfl rfl ?_
    exact x_aret CR (Or.inl ⟨_, rfl⟩) dX4_threading_84 hF
  · refine v_newW C kc_X5 q293 q294 q89 nw_X5 dX4_threading_71 hF (fun a19 u20 hF => ?_)
    refine v_dup C dX4_threading_74 rfl ?_
    refine v_aload_n C dX4_threading_75 rfl rfl ?_
    refine v_getI C kc_X4 0 (Nat.le_of_ble_eq_true rfl) (kFl.p q267) dX4_threading_76 hF (fun v21 hF => ?_)
    refine c_callI C lk_X4_32 (fr2 := 3) (lo2 := 300) (As := [.int v21]) (st := [.ref a19]) (fun r9_ w9_ h9_ => by rw [hl]; exact wX5_init l g hX N a19 v21 u20 r9_ w9_ h9_) (by decide) rfl rfl (Nat.le_of_ble_eq_true rfl) dX4_threading_79 hF (fun r22 u23 hF => ?_)
    exact x_throw C dX4_threading_82 CT hF
set_option maxHeartbeats 4000000 in
theorem wX4_threading_b17 {l : Launch} {g : GT} {X : CxT} {r : (Nat ⊕ Nat)} {w1 : Wd} (C : kOk g X cX4_threading 2 RX4 (some (.object "java/util/ArrayList")) 7 700 none (kBad g)) (CR : ∀ v, r = .inl v → kOk g X cX4_threading 2 RX4 (some (.object "java/util/ArrayList")) 7 700 ((fun v => some (.ref v)) v) w1) (CT : ∀ q, r = .inr q → kTh g X w1 q) (hX : ∀ U, gX g U → SX g U) (hl : xl X = l) (hin : kHin X yX4_threading) (N : Nat) (k17 : Nat × Nat × Wd → Option ((Nat ⊕ Nat) × Wd)) (hk17 : ∀ a, k17 a = some (r, w1) → kV g X 2 a.2.2 17 [some (.ref a.1), some (.ref a.2.1)] []) (x0 : Nat) (x1 : Nat) (w : Wd) (hF : FX4_threading_b17 N g k17 x0 x1 w = some (r, w1)) : kV g X 2 w 17 [some (.ref x0), some (.ref x1)] [] := by
  unfold FX4_threading_b17 at hF
  refine v_aload_n C dX4_threading_17 rfl rfl ?_
  obtain ⟨h13, hF⟩ := k_ite hF
  refine c_callVi C lk_X4_126 (ci := 11) rfl h13 (fr2 := 1) (lo2 := 100) (As := []) (st := []) (fun r9_ w9_ h9_ => by rw [hl]; exact wJ2_size l g hX N x1 w r9_ w9_ h9_) (by decide) rfl rfl (Nat.le_of_ble_eq_true rfl) dX4_threading_18 hF (fun r11 u12 hF => ?_)
  refine v_bipush C (v := (10 : Int32)) dX4_threading_21 (by decide) ?_
  refine v_icmp_ge C (tgt := 57) dX4_threading_23 (by decide) hF (fun c14 hF => ?_) (fun c14 hF => ?_)
  · refine v_mask [true, true] (lv' := [some (.ref x0), some (.ref x1)]) rfl ?_
    exact wX4_threading_b57 C CR CT hX hl hin N (x0) (x1) u12 hF
  · refine v_aload_n C dX4_threading_26 rfl rfl ?_
    obtain ⟨h26, hF⟩ := k_ite hF
    refine c_callVi C lk_X4_26 (ci := 4) rfl h26 (fr2 := 1) (lo2 := 100) (As := []) (st := []) (fun r9_ w9_ h9_ => by rw [hl]; exact wX4_here l g hX N x0 u12 r9_ w9_ h9_) (by decide) rfl rfl (Nat.le_of_ble_eq_true rfl) dX4_threading_27 hF (fun r24 u25 hF => ?_)
    refine v_bipush C (v := (59 : Int32)) dX4_threading_30 (by decide) ?_
    refine v_icmp_ne C (tgt := 57) dX4_threading_32 (by decide) hF (fun c27 hF => ?_) (fun c27 hF => ?_)
    · refine v_aload_n C dX4_threading_35 rfl rfl ?_
      refine v_dup C dX4_threading_36 rfl ?_
      refine v_getI C kc_X4 0 (Nat.le_of_ble_eq_true rfl) (kFl.p q267) dX4_threading_37 hF (fun v28 hF => ?_)
      refine v_iconst C (v := (1 : Int32)) dX4_threading_40 (by decide) ?_
      refine v_iadd C dX4_threading_41 ?_
      refine v_putW C kc_X4 0 (Nat.le_of_ble_eq_true rfl) (kFl.p q267) rfl rfl rfl dX4_threading_42 hF (fun u29 hF => ?_)
      refine v_aload_n C dX4_threading_45 rfl rfl ?_
      refine v_aload_n C dX4_threading_46 rfl rfl ?_
      obtain ⟨h32, hF⟩ := k_ite hF
      refine x_callV C (fun v => some (.ref v)) lk_X4_118 (ci := 4) rfl h32 (fr2 := 4) (lo2 := 400) (As := []) (st := [.ref x1]) (fun r9_ w9_ h9_ => by rw [hl]; exact wX4_readCard l g hX N x0 u29 r9_ w9_ h9_) (by decide) rfl rfl (Nat.le_of_ble_eq_true rfl) dX4_threading_47 CT hF (fun r30 u31 hF => ?_)
      show kV g X 2 u31 50 [some (.ref x0), some (.ref x1)] [.ref r30, .ref x1]
      obtain ⟨h35, hF⟩ := k_ite hF
      refine c_callVi C lk_X4_122 (ci := 11) rfl h35 (fr2 := 6) (lo2 := 600) (As := [.ref r30]) (st := []) (fun r9_ w9_ h9_ => by rw [hl]; exact wJ2_add l g hX N x1 r30 u31 r9_ w9_ h9_) (by decide) rfl rfl (Nat.le_of_ble_eq_true rfl) dX4_threading_50 hF (fun r33 u34 hF => ?_)
      refine v_pop C dX4_threading_53 rfl ?_
      refine v_goto C (tgt := 17) dX4_threading_54 (by decide) ?_
      refine v_mask [true, true] (lv' := [some (.ref x0), some (.ref x1)]) rfl ?_
      exact hk17 (x0, x1, u34) hF
    · refine v_mask [true, true] (lv' := [some (.ref x0), some (.ref x1)]) rfl ?_
      exact wX4_threading_b57 C CR CT hX hl hin N (x0) (x1) u25 hF
set_option maxHeartbeats 4000000 in
theorem wX4_threading (l : Launch) (g : GT) (hX : ∀ U, gX g U → SX g U) (N : Nat) (x0 : Nat) (w : Wd) (r : (Nat ⊕ Nat)) (w1 : Wd) (hF : FX4_threading N g x0 w = some (r, w1)) : kMx l g yX4_threading (ws_ yX4_threading cX4_threading 2 (some (.object "java/util/ArrayList"))) 7 700 w [.ref x0] (kres (fun v => some (.ref v)) r) w1 := by
  refine kMx.ofV (lv := [some (.ref x0), none]) (by decide) rfl (Nat.le_of_ble_eq_true rfl) rfl ?_
  intro X hl hin C CR0 CT0
  have CR : ∀ v, r = .inl v → kOk g X cX4_threading 2 RX4 (some (.object "java/util/ArrayList")) 7 700 ((fun v => some (.ref v)) v) w1 := fun v h => CR0 _ (by rw [h]; rfl)
  have CT : ∀ q, r = .inr q → kTh g X w1 q := fun q h => CT0 q (by rw [h]; rfl)
  unfold FX4_threading at hF
  refine v_newW C kc_J2 q282 q145 q81 nw_J2 dX4_threading_0 hF (fun a1 u2 hF => ?_)
  refine v_dup C dX4_threading_3 rfl ?_
  refine c_callI C lk_X4_117 (fr2 := 3) (lo2 := 300) (As := []) (st := [.ref a1]) (fun r9_ w9_ h9_ => by rw [hl]; exact wJ2_init l g hX N a1 u2 r9_ w9_ h9_) (by decide) rfl rfl (Nat.le_of_ble_eq_true rfl) dX4_threading_4 hF (fun r3 u4 hF => ?_)
  refine v_astore_n C dX4_threading_7 rfl (Nat.le_of_ble_eq_true rfl) rfl (lv' := [some (.ref x0), some (.ref a1)]) rfl ?_
  refine v_aload_n C dX4_threading_8 rfl rfl ?_
  refine v_aload_n C dX4_threading_9 rfl rfl ?_
  obtain ⟨h7, hF⟩ := k_ite hF
  refine x_callV C (fun v => some (.ref v)) lk_X4_118 (ci := 4) rfl h7 (fr2 := 4) (lo2 := 400) (As := []) (st := [.ref a1]) (fun r9_ w9_ h9_ => by rw [hl]; exact wX4_readCard l g hX N x0 u4 r9_ w9_ h9_) (by decide) rfl rfl (Nat.le_of_ble_eq_true rfl) dX4_threading_10 CT hF (fun r5 u6 hF => ?_)
  show kV g X 2 u6 13 [some (.ref x0), some (.ref a1)] [.ref r5, .ref a1]
  obtain ⟨h10, hF⟩ := k_ite hF
  refine c_callVi C lk_X4_122 (ci := 11) rfl h10 (fr2 := 6) (lo2 := 600) (As := [.ref r5]) (st := []) (fun r9_ w9_ h9_ => by rw [hl]; exact wJ2_add l g hX N a1 r5 u6 r9_ w9_ h9_) (by decide) rfl rfl (Nat.le_of_ble_eq_true rfl) dX4_threading_13 hF (fun r8 u9 hF => ?_)
  refine v_pop C dX4_threading_16 rfl ?_
  refine v_mask [true, true] (lv' := [some (.ref x0), some (.ref a1)]) rfl ?_
  exact kloop_ok (P := fun a => kV g X 2 a.2.2 17 [some (.ref a.1), some (.ref a.2.1)] []) (fun self hs a hF => wX4_threading_b17 C CR CT hX hl hin N self hs a.1 a.2.1 a.2.2 hF) N (x0, a1, u9) hF
