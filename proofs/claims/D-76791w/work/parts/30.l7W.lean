set_option maxRecDepth 100000
set_option maxHeartbeats 4000000 in
theorem wX0_thread (l : Launch) (g : GT) (hX : ∀ U, gX g U → SX g U) (N : Nat) (x0 : Nat) (w : Wd) (r : Int32) (w1 : Wd) (hF : FX0_thread N g x0 w = some (r, w1)) : kMp l g yX0_thread (wsW_ yX0_thread cX0_thread 4 (some .int) hhX0_thread) 8 800 w [.ref x0] (fun r9 w9 => r9 = r ∧ w9 = w1) := by
  refine kMp.ofV (lv := [some (.ref x0), none, none, none]) (by decide) rfl (Nat.le_of_ble_eq_true rfl) rfl ?_
  intro X hl hin HT _ CP
  have C := CP r w1 ⟨rfl, rfl⟩
  unfold FX0_thread at hF
  refine v_aload_n C dX0_thread_0 rfl rfl ?_
  refine v_newW C kc_X4 q261 q262 q86 nw_X4 dX0_thread_1 hF (fun a1 u2 hF => ?_)
  refine v_dup C dX0_thread_4 rfl ?_
  refine v_aload_n C dX0_thread_5 rfl rfl ?_
  refine c_callIN C lk_X0_168 (fr2 := 1) (lo2 := 100) (As := [.ref x0]) (st := [.ref a1, .ref x0]) (fun r9_ w9_ h9_ => by rw [hl]; exact wX4_init l g hX N a1 x0 u2 r9_ w9_ h9_) (by decide) rfl rfl (Nat.le_of_ble_eq_true rfl) dX0_thread_6 hF (fun r3 u4 hF => ?_)
  obtain ⟨h7, hF⟩ := k_ite hF
  refine x_catchV C (fun v => some (.ref v)) lk_X0_171 (ci := 4) rfl h7 (fr2 := 7) (lo2 := 700) (As := []) (st := [.ref x0]) (fun r9_ w9_ h9_ => by rw [hl]; exact wX4_threading l g hX N a1 u4 r9_ w9_ h9_) (by decide) rfl rfl (Nat.le_of_ble_eq_true rfl) dX0_thread_9 HT (x := ⟨0, 31, 38, 175⟩) rfl (by decide) (by decide) q260 (hpc := 38) rfl hF (fun r5 u6 hF => ?_) (fun q8 u9 hF => ?_)
  · show kV g X 4 u6 12 [some (.ref x0), none, none, none] [.ref r5, .ref x0]
    refine v_putW C kc_X0 0 (Nat.le_of_ble_eq_true rfl) (kFl.p q198) rfl rfl rfl dX0_thread_12 hF (fun u10 hF => ?_)
    refine v_aload_n C dX0_thread_15 rfl rfl ?_
    refine v_newW C kc_J2 q144 q145 q81 nw_J2 dX0_thread_16 hF (fun a11 u12 hF => ?_)
    refine v_dup C dX0_thread_19 rfl ?_
    refine c_callI C lk_X0_9 (fr2 := 3) (lo2 := 300) (As := []) (st := [.ref a11, .ref x0]) (fun r9_ w9_ h9_ => by rw [hl]; exact wJ2_init l g hX N a11 u12 r9_ w9_ h9_) (by decide) rfl rfl (Nat.le_of_ble_eq_true rfl) dX0_thread_20 hF (fun r13 u14 hF => ?_)
    refine v_putW C kc_X0 1 (Nat.le_of_ble_eq_true rfl) (kFl.p q199) rfl rfl rfl dX0_thread_23 hF (fun u15 hF => ?_)
    refine v_aload_n C dX0_thread_26 rfl rfl ?_
    obtain ⟨h18, hF⟩ := k_ite hF
    refine c_callVi C lk_X0_90 (ci := 1) rfl h18 (fr2 := 2) (lo2 := 200) (As := []) (st := []) (fun r9_ w9_ h9_ => by rw [hl]; exact wX0_many l g hX N x0 u15 r9_ w9_ h9_) (by decide) rfl rfl (Nat.le_of_ble_eq_true rfl) dX0_thread_27 hF (fun r16 u17 hF => ?_)
    refine v_istore_n C dX0_thread_30 rfl (Nat.le_of_ble_eq_true rfl) rfl (lv' := [some (.ref x0), some (.int r16), none, none]) rfl ?_
    refine v_aload_n C dX0_thread_31 rfl rfl ?_
    refine v_iconst C (v := (0 : Int32)) dX0_thread_32 (by decide) ?_
    refine v_putW C kc_X0 4 (Nat.le_of_ble_eq_true rfl) (kFl.p q204) rfl rfl rfl dX0_thread_33 hF (fun u19 hF => ?_)
    refine v_iload_n C dX0_thread_36 rfl rfl ?_
    exact c_iret C dX0_thread_37 hF
  · refine v_astore_n C dX0_thread_38 rfl (Nat.le_of_ble_eq_true rfl) rfl (lv' := [some (.ref x0), some (.ref q8), none, none]) rfl ?_
    refine v_bipush C (v := (-100 : Int32)) dX0_thread_39 (by decide) ?_
    refine v_aload_n C dX0_thread_41 rfl rfl ?_
    refine v_getI C kc_X5 6 (Nat.le_of_ble_eq_true rfl) (kFl.n q356) dX0_thread_42 hF (fun v20 hF => ?_)
    refine v_isub C dX0_thread_45 ?_
    refine v_istore_n C dX0_thread_46 rfl (Nat.le_of_ble_eq_true rfl) rfl (lv' := [some (.ref x0), some (.ref q8), some (.int ((-100 : Int32) - v20)), none]) rfl ?_
    refine v_aload_n C dX0_thread_47 rfl rfl ?_
    refine v_iconst C (v := (0 : Int32)) dX0_thread_48 (by decide) ?_
    refine v_putW C kc_X0 4 (Nat.le_of_ble_eq_true rfl) (kFl.p q204) rfl rfl rfl dX0_thread_49 hF (fun u21 hF => ?_)
    refine v_iload_n C dX0_thread_52 rfl rfl ?_
    exact c_iret C dX0_thread_53 hF
set_option maxHeartbeats 4000000 in
theorem wX0_law (l : Launch) (g : GT) (hX : ∀ U, gX g U → SX g U) (N : Nat) (x0 : Nat) (w : Wd) (r : Int32) (w1 : Wd) (hF : FX0_law N g x0 w = some (r, w1)) : kMp l g yX0_law (wsW_ yX0_law cX0_law 4 (some .int) hhX0_law) 274 27400 w [.ref x0] (fun r9 w9 => r9 = r ∧ w9 = w1) := by
  refine kMp.ofV (lv := [some (.ref x0), none, none, none]) (by decide) rfl (Nat.le_of_ble_eq_true rfl) rfl ?_
  intro X hl hin HT _ CP
  have C := CP r w1 ⟨rfl, rfl⟩
  unfold FX0_law at hF
  refine v_newW C kc_X4 q261 q262 q86 nw_X4 dX0_law_0 hF (fun a1 u2 hF => ?_)
  refine v_dup C dX0_law_3 rfl ?_
  refine v_aload_n C dX0_law_4 rfl rfl ?_
  refine c_callIN C lk_X0_168 (fr2 := 1) (lo2 := 100) (As := [.ref x0]) (st := [.ref a1]) (fun r9_ w9_ h9_ => by rw [hl]; exact wX4_init l g hX N a1 x0 u2 r9_ w9_ h9_) (by decide) rfl rfl (Nat.le_of_ble_eq_true rfl) dX0_law_5 hF (fun r3 u4 hF => ?_)
  refine v_astore_n C dX0_law_8 rfl (Nat.le_of_ble_eq_true rfl) rfl (lv' := [some (.ref x0), some (.ref a1), none, none]) rfl ?_
  refine v_aload_n C dX0_law_9 rfl rfl ?_
  refine v_aload_n C dX0_law_10 rfl rfl ?_
  obtain ⟨h7, hF⟩ := k_ite hF
  refine x_catchV C (fun v => some (.ref v)) lk_X0_180 (ci := 4) rfl h7 (fr2 := 273) (lo2 := 27300) (As := []) (st := [.ref x0]) (fun r9_ w9_ h9_ => by rw [hl]; exact wX4_law l g hX N a1 u4 r9_ w9_ h9_) (by decide) rfl rfl (Nat.le_of_ble_eq_true rfl) dX0_law_11 HT (x := ⟨0, 22, 29, 175⟩) rfl (by decide) (by decide) q260 (hpc := 29) rfl hF (fun r5 u6 hF => ?_) (fun q8 u9 hF => ?_)
  · show kV g X 4 u6 14 [some (.ref x0), some (.ref a1), none, none] [.ref r5, .ref x0]
    refine v_putW C kc_X0 2 (Nat.le_of_ble_eq_true rfl) (kFl.p q200) rfl rfl rfl dX0_law_14 hF (fun u10 hF => ?_)
    refine v_aload_n C dX0_law_17 rfl rfl ?_
    refine v_getI C kc_X4 1 (Nat.le_of_ble_eq_true rfl) (kFl.n q269) dX0_law_18 hF (fun v11 hF => ?_)
    refine v_istore_n C dX0_law_21 rfl (Nat.le_of_ble_eq_true rfl) rfl (lv' := [some (.ref x0), some (.ref a1), some (.int v11), none]) rfl ?_
    refine v_aload_n C dX0_law_22 rfl rfl ?_
    refine v_iconst C (v := (0 : Int32)) dX0_law_23 (by decide) ?_
    refine v_putW C kc_X0 4 (Nat.le_of_ble_eq_true rfl) (kFl.p q204) rfl rfl rfl dX0_law_24 hF (fun u12 hF => ?_)
    refine v_iload_n C dX0_law_27 rfl rfl ?_
    exact c_iret C dX0_law_28 hF
  · refine v_astore_n C dX0_law_29 rfl (Nat.le_of_ble_eq_true rfl) rfl (lv' := [some (.ref x0), some (.ref q8), none, none]) rfl ?_
    refine v_bipush C (v := (-100 : Int32)) dX0_law_30 (by decide) ?_
    refine v_aload_n C dX0_law_32 rfl rfl ?_
    refine v_getI C kc_X5 6 (Nat.le_of_ble_eq_true rfl) (kFl.n q356) dX0_law_33 hF (fun v13 hF => ?_)
    refine v_isub C dX0_law_36 ?_
    refine v_istore_n C dX0_law_37 rfl (Nat.le_of_ble_eq_true rfl) rfl (lv' := [some (.ref x0), some (.ref q8), some (.int ((-100 : Int32) - v13)), none]) rfl ?_
    refine v_aload_n C dX0_law_38 rfl rfl ?_
    refine v_iconst C (v := (0 : Int32)) dX0_law_39 (by decide) ?_
    refine v_putW C kc_X0 4 (Nat.le_of_ble_eq_true rfl) (kFl.p q204) rfl rfl rfl dX0_law_40 hF (fun u14 hF => ?_)
    refine v_iload_n C dX0_law_43 rfl rfl ?_
    exact c_iret C dX0_law_44 hF
