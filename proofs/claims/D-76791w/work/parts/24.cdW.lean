set_option maxRecDepth 100000
set_option maxHeartbeats 4000000 in
theorem wX0_isIn (l : Launch) (g : GT) (hX : ∀ U, gX g U → SX g U) (N : Nat) (x0 : Int32) (x1 : Int32) (x2 : Int32) (w : Wd) (r : Int32) (w1 : Wd) (hF : FX0_isIn N g x0 x1 x2 w = some (r, w1)) : kMt l g yX0_isIn (ws_ yX0_isIn cX0_isIn 3 (some .boolean)) 1 100 w [.int x0, .int x1, .int x2] (some (.int r)) w1 := by
  refine kMt.ofV (lv := [some (.int x0), some (.int x1), some (.int x2)]) (by decide) rfl (Nat.le_of_ble_eq_true rfl) rfl ?_
  intro X hl hin C
  unfold FX0_isIn at hF
  refine v_iload_n C dX0_isIn_0 rfl rfl ?_
  refine v_iload_n C dX0_isIn_1 rfl rfl ?_
  refine v_icmp_lt C (tgt := 14) dX0_isIn_2 (by decide) hF (fun c1 hF => ?_) (fun c1 hF => ?_)
  · refine v_iconst C (v := (0 : Int32)) dX0_isIn_14 (by decide) ?_
    exact c_zret C rfl dX0_isIn_15 hF
  · refine v_iload_n C dX0_isIn_5 rfl rfl ?_
    refine v_iload_n C dX0_isIn_6 rfl rfl ?_
    refine v_icmp_gt C (tgt := 14) dX0_isIn_7 (by decide) hF (fun c2 hF => ?_) (fun c2 hF => ?_)
    · refine v_iconst C (v := (0 : Int32)) dX0_isIn_14 (by decide) ?_
      exact c_zret C rfl dX0_isIn_15 hF
    · refine v_iconst C (v := (1 : Int32)) dX0_isIn_10 (by decide) ?_
      refine v_goto C (tgt := 15) dX0_isIn_11 (by decide) ?_
      exact c_zret C rfl dX0_isIn_15 hF
set_option maxHeartbeats 4000000 in
theorem wX6_init (l : Launch) (g : GT) (hX : ∀ U, gX g U → SX g U) (N : Nat) (x0 : Nat) (x1 : Nat) (w : Wd) (r : Unit) (w1 : Wd) (hF : FX6_init N g x0 x1 w = some (r, w1)) : kMt l g yX6_init (ws_ yX6_init cX6_init 2 none) 1 100 w [.ref x0, .ref x1] none w1 := by
  refine kMt.ofV (lv := [some (.ref x0), some (.ref x1)]) (by decide) rfl (Nat.le_of_ble_eq_true rfl) rfl ?_
  intro X hl hin C
  unfold FX6_init at hF
  refine v_aload_n C dX6_init_0 rfl rfl ?_
  refine v_objInit C q377 q142 q143 (by decide) (Nat.le_of_ble_eq_true rfl) dX6_init_1 ?_
  refine v_aload_n C dX6_init_4 rfl rfl ?_
  refine v_aload_n C dX6_init_5 rfl rfl ?_
  refine v_putFW C (hin.1.trans rfl) kc_X6 0 (Nat.le_of_ble_eq_true rfl) q378 rfl rfl rfl rfl dX6_init_6 hF (fun u1 hF => ?_)
  exact c_vret C dX6_init_9 hF
set_option maxHeartbeats 4000000 in
theorem wX6_top (l : Launch) (g : GT) (hX : ∀ U, gX g U → SX g U) (N : Nat) (x0 : Nat) (w : Wd) (r : Int32) (w1 : Wd) (hF : FX6_top N g x0 w = some (r, w1)) : kMt l g yX6_top (ws_ yX6_top cX6_top 1 (some .int)) 1 100 w [.ref x0] (some (.int r)) w1 := by
  refine kMt.ofV (lv := [some (.ref x0)]) (by decide) rfl (Nat.le_of_ble_eq_true rfl) rfl ?_
  intro X hl hin C
  unfold FX6_top at hF
  refine v_aload_n C dX6_top_0 rfl rfl ?_
  refine v_getR C kc_X6 0 (Nat.le_of_ble_eq_true rfl) (kFl.p q378) dX6_top_1 hF (fun v1 hF => ?_)
  refine v_aload_n C dX6_top_4 rfl rfl ?_
  refine v_getI C kc_X6 2 (Nat.le_of_ble_eq_true rfl) (kFl.p q385) dX6_top_5 hF (fun v2 hF => ?_)
  refine v_aIi C dX6_top_8 hF (fun v3 hF => ?_)
  exact c_iret C dX6_top_9 hF
set_option maxHeartbeats 4000000 in
theorem wX6_below (l : Launch) (g : GT) (hX : ∀ U, gX g U → SX g U) (N : Nat) (x0 : Nat) (w : Wd) (r : Int32) (w1 : Wd) (hF : FX6_below N g x0 w = some (r, w1)) : kMt l g yX6_below (ws_ yX6_below cX6_below 1 (some .int)) 1 100 w [.ref x0] (some (.int r)) w1 := by
  refine kMt.ofV (lv := [some (.ref x0)]) (by decide) rfl (Nat.le_of_ble_eq_true rfl) rfl ?_
  intro X hl hin C
  unfold FX6_below at hF
  refine v_aload_n C dX6_below_0 rfl rfl ?_
  refine v_getR C kc_X6 0 (Nat.le_of_ble_eq_true rfl) (kFl.p q378) dX6_below_1 hF (fun v1 hF => ?_)
  refine v_aload_n C dX6_below_4 rfl rfl ?_
  refine v_getI C kc_X6 2 (Nat.le_of_ble_eq_true rfl) (kFl.p q385) dX6_below_5 hF (fun v2 hF => ?_)
  refine v_iconst C (v := (2 : Int32)) dX6_below_8 (by decide) ?_
  refine v_iadd C dX6_below_9 ?_
  refine v_iconst C (v := (4 : Int32)) dX6_below_10 (by decide) ?_
  refine v_irem C dX6_below_11 (by decide) ?_
  refine v_aIi C dX6_below_12 hF (fun v3 hF => ?_)
  exact c_iret C dX6_below_13 hF
set_option maxHeartbeats 4000000 in
theorem wX6_jams (l : Launch) (g : GT) (hX : ∀ U, gX g U → SX g U) (N : Nat) (x0 : Nat) (x1 : Nat) (w : Wd) (r : Int32) (w1 : Wd) (hF : FX6_jams N g x0 x1 w = some (r, w1)) : kMt l g yX6_jams (ws_ yX6_jams cX6_jams 2 (some .boolean)) 3 300 w [.ref x0, .ref x1] (some (.int r)) w1 := by
  refine kMt.ofV (lv := [some (.ref x0), some (.ref x1)]) (by decide) rfl (Nat.le_of_ble_eq_true rfl) rfl ?_
  intro X hl hin C
  unfold FX6_jams at hF
  refine v_aload_n C dX6_jams_0 rfl rfl ?_
  refine v_getI C kc_X6 3 (Nat.le_of_ble_eq_true rfl) (kFl.p q388) dX6_jams_1 hF (fun v1 hF => ?_)
  refine v_aload_n C dX6_jams_4 rfl rfl ?_
  refine v_ttwist C hX q913 (by decide) (Nat.le_of_ble_eq_true rfl) dX6_jams_5 hF (fun v2 hF => ?_)
  refine v_iadd C dX6_jams_8 ?_
  refine v_bipush C (v := (-99 : Int32)) dX6_jams_9 (by decide) ?_
  refine v_bipush C (v := (99 : Int32)) dX6_jams_11 (by decide) ?_
  refine c_callNi C lk_X6_38 (fr2 := 1) (lo2 := 100) (As := [.int (v1 + v2), .int (-99 : Int32), .int (99 : Int32)]) (st := []) (fun r9_ w9_ h9_ => by rw [hl]; exact wX0_isIn l g hX N (v1 + v2) (-99 : Int32) (99 : Int32) w r9_ w9_ h9_) (by decide) rfl rfl (Nat.le_of_ble_eq_true rfl) dX6_jams_13 hF (fun r3 u4 hF => ?_)
  refine v_if_ne C (tgt := 23) dX6_jams_16 (by decide) hF (fun c5 hF => ?_) (fun c5 hF => ?_)
  · refine v_iconst C (v := (1 : Int32)) dX6_jams_19 (by decide) ?_
    refine v_goto C (tgt := 24) dX6_jams_20 (by decide) ?_
    exact c_zret C rfl dX6_jams_24 hF
  · refine v_iconst C (v := (0 : Int32)) dX6_jams_23 (by decide) ?_
    exact c_zret C rfl dX6_jams_24 hF
set_option maxHeartbeats 4000000 in
theorem wX6_turns (l : Launch) (g : GT) (hX : ∀ U, gX g U → SX g U) (N : Nat) (x0 : Nat) (x1 : Nat) (w : Wd) (r : Unit) (w1 : Wd) (hF : FX6_turns N g x0 x1 w = some (r, w1)) : kMt l g yX6_turns (ws_ yX6_turns cX6_turns 2 none) 3 300 w [.ref x0, .ref x1] none w1 := by
  refine kMt.ofV (lv := [some (.ref x0), some (.ref x1)]) (by decide) rfl (Nat.le_of_ble_eq_true rfl) rfl ?_
  intro X hl hin C
  unfold FX6_turns at hF
  refine v_aload_n C dX6_turns_0 rfl rfl ?_
  refine v_aload_n C dX6_turns_1 rfl rfl ?_
  refine v_getI C kc_X6 2 (Nat.le_of_ble_eq_true rfl) (kFl.p q385) dX6_turns_2 hF (fun v1 hF => ?_)
  refine v_aload_n C dX6_turns_5 rfl rfl ?_
  refine v_tquarters C hX q946 (by decide) (Nat.le_of_ble_eq_true rfl) dX6_turns_6 hF (fun v2 hF => ?_)
  refine v_iadd C dX6_turns_9 ?_
  refine v_iconst C (v := (4 : Int32)) dX6_turns_10 (by decide) ?_
  refine v_irem C dX6_turns_11 (by decide) ?_
  refine v_putW C kc_X6 2 (Nat.le_of_ble_eq_true rfl) (kFl.p q385) rfl rfl rfl dX6_turns_12 hF (fun u3 hF => ?_)
  refine v_aload_n C dX6_turns_15 rfl rfl ?_
  refine v_dup C dX6_turns_16 rfl ?_
  refine v_getI C kc_X6 3 (Nat.le_of_ble_eq_true rfl) (kFl.p q388) dX6_turns_17 hF (fun v4 hF => ?_)
  refine v_aload_n C dX6_turns_20 rfl rfl ?_
  refine v_ttwist C hX q913 (by decide) (Nat.le_of_ble_eq_true rfl) dX6_turns_21 hF (fun v5 hF => ?_)
  refine v_iadd C dX6_turns_24 ?_
  refine v_putW C kc_X6 3 (Nat.le_of_ble_eq_true rfl) (kFl.p q388) rfl rfl rfl dX6_turns_25 hF (fun u6 hF => ?_)
  exact c_vret C dX6_turns_28 hF
set_option maxHeartbeats 4000000 in
theorem wX6_turnsBack (l : Launch) (g : GT) (hX : ∀ U, gX g U → SX g U) (N : Nat) (x0 : Nat) (x1 : Nat) (w : Wd) (r : Unit) (w1 : Wd) (hF : FX6_turnsBack N g x0 x1 w = some (r, w1)) : kMt l g yX6_turnsBack (ws_ yX6_turnsBack cX6_turnsBack 2 none) 3 300 w [.ref x0, .ref x1] none w1 := by
  refine kMt.ofV (lv := [some (.ref x0), some (.ref x1)]) (by decide) rfl (Nat.le_of_ble_eq_true rfl) rfl ?_
  intro X hl hin C
  unfold FX6_turnsBack at hF
  refine v_aload_n C dX6_turnsBack_0 rfl rfl ?_
  refine v_aload_n C dX6_turnsBack_1 rfl rfl ?_
  refine v_getI C kc_X6 2 (Nat.le_of_ble_eq_true rfl) (kFl.p q385) dX6_turnsBack_2 hF (fun v1 hF => ?_)
  refine v_iconst C (v := (4 : Int32)) dX6_turnsBack_5 (by decide) ?_
  refine v_iadd C dX6_turnsBack_6 ?_
  refine v_aload_n C dX6_turnsBack_7 rfl rfl ?_
  refine v_tquarters C hX q946 (by decide) (Nat.le_of_ble_eq_true rfl) dX6_turnsBack_8 hF (fun v2 hF => ?_)
  refine v_isub C dX6_turnsBack_11 ?_
  refine v_iconst C (v := (4 : Int32)) dX6_turnsBack_12 (by decide) ?_
  refine v_irem C dX6_turnsBack_13 (by decide) ?_
  refine v_putW C kc_X6 2 (Nat.le_of_ble_eq_true rfl) (kFl.p q385) rfl rfl rfl dX6_turnsBack_14 hF (fun u3 hF => ?_)
  refine v_aload_n C dX6_turnsBack_17 rfl rfl ?_
  refine v_dup C dX6_turnsBack_18 rfl ?_
  refine v_getI C kc_X6 3 (Nat.le_of_ble_eq_true rfl) (kFl.p q388) dX6_turnsBack_19 hF (fun v4 hF => ?_)
  refine v_aload_n C dX6_turnsBack_22 rfl rfl ?_
  refine v_ttwist C hX q913 (by decide) (Nat.le_of_ble_eq_true rfl) dX6_turnsBack_23 hF (fun v5 hF => ?_)
  refine v_isub C dX6_turnsBack_26 ?_
  refine v_putW C kc_X6 3 (Nat.le_of_ble_eq_true rfl) (kFl.p q388) rfl rfl rfl dX6_turnsBack_27 hF (fun u6 hF => ?_)
  exact c_vret C dX6_turnsBack_30 hF
set_option maxHeartbeats 4000000 in
theorem wX6_twin (l : Launch) (g : GT) (hX : ∀ U, gX g U → SX g U) (N : Nat) (x0 : Nat) (w : Wd) (r : Nat) (w1 : Wd) (hF : FX6_twin N g x0 w = some (r, w1)) : kMt l g yX6_twin (ws_ yX6_twin cX6_twin 2 (some (.object "CardLoom$Card"))) 2 200 w [.ref x0] (some (.ref r)) w1 := by
  refine kMt.ofV (lv := [some (.ref x0), none]) (by decide) rfl (Nat.le_of_ble_eq_true rfl) rfl ?_
  intro X hl hin C
  unfold FX6_twin at hF
  refine v_newW C kc_X6 q1070 q373 q90 nw_X6 dX6_twin_0 hF (fun a1 u2 hF => ?_)
  refine v_dup C dX6_twin_3 rfl ?_
  refine v_aload_n C dX6_twin_4 rfl rfl ?_
  refine v_getR C kc_X6 0 (Nat.le_of_ble_eq_true rfl) (kFl.p q378) dX6_twin_5 hF (fun v3 hF => ?_)
  refine v_cloneI C hX q1071 (by decide) (Nat.le_of_ble_eq_true rfl) dX6_twin_8 hF (fun a4 u5 hF => ?_)
  refine v_castAi C q1075 dX6_twin_11 hF (fun hF => ?_)
  refine c_callI C lk_X6_20 (fr2 := 1) (lo2 := 100) (As := [.ref a4]) (st := [.ref a1]) (fun r9_ w9_ h9_ => by rw [hl]; exact wX6_init l g hX N a1 a4 u5 r9_ w9_ h9_) (by decide) rfl rfl (Nat.le_of_ble_eq_true rfl) dX6_twin_14 hF (fun r6 u7 hF => ?_)
  refine v_astore_n C dX6_twin_17 rfl (Nat.le_of_ble_eq_true rfl) rfl (lv' := [some (.ref x0), some (.ref a1)]) rfl ?_
  refine v_aload_n C dX6_twin_18 rfl rfl ?_
  refine v_aload_n C dX6_twin_19 rfl rfl ?_
  refine v_getI C kc_X6 1 (Nat.le_of_ble_eq_true rfl) (kFl.p q382) dX6_twin_20 hF (fun v8 hF => ?_)
  refine v_putW C kc_X6 1 (Nat.le_of_ble_eq_true rfl) (kFl.p q382) rfl rfl rfl dX6_twin_23 hF (fun u9 hF => ?_)
  refine v_aload_n C dX6_twin_26 rfl rfl ?_
  refine v_aload_n C dX6_twin_27 rfl rfl ?_
  refine v_getI C kc_X6 2 (Nat.le_of_ble_eq_true rfl) (kFl.p q385) dX6_twin_28 hF (fun v10 hF => ?_)
  refine v_putW C kc_X6 2 (Nat.le_of_ble_eq_true rfl) (kFl.p q385) rfl rfl rfl dX6_twin_31 hF (fun u11 hF => ?_)
  refine v_aload_n C dX6_twin_34 rfl rfl ?_
  refine v_aload_n C dX6_twin_35 rfl rfl ?_
  refine v_getI C kc_X6 3 (Nat.le_of_ble_eq_true rfl) (kFl.p q388) dX6_twin_36 hF (fun v12 hF => ?_)
  refine v_putW C kc_X6 3 (Nat.le_of_ble_eq_true rfl) (kFl.p q388) rfl rfl rfl dX6_twin_39 hF (fun u13 hF => ?_)
  refine v_aload_n C dX6_twin_42 rfl rfl ?_
  exact c_aret C (Or.inl ⟨_, rfl⟩) dX6_twin_43 hF
set_option maxHeartbeats 4000000 in
theorem wX9_many (l : Launch) (g : GT) (hX : ∀ U, gX g U → SX g U) (N : Nat) (x0 : Nat) (w : Wd) (r : Int32) (w1 : Wd) (hF : FX9_many N g x0 w = some (r, w1)) : kMt l g yX9_many (ws_ yX9_many cX9_many 1 (some .int)) 1 100 w [.ref x0] (some (.int r)) w1 := by
  refine kMt.ofV (lv := [some (.ref x0)]) (by decide) rfl (Nat.le_of_ble_eq_true rfl) rfl ?_
  intro X hl hin C
  unfold FX9_many at hF
  refine v_aload_n C dX9_many_0 rfl rfl ?_
  refine v_getR C kc_X9 0 (Nat.le_of_ble_eq_true rfl) (kFl.p q977) dX9_many_1 hF (fun v1 hF => ?_)
  refine v_aL C (t := 0) rfl dX9_many_4 hF (fun v2 hF => ?_)
  exact c_iret C dX9_many_5 hF
set_option maxHeartbeats 4000000 in
theorem wX9_init_b35 {l : Launch} {g : GT} {X : CxT} {r : Unit} {w1 : Wd} (C : kOk g X cX9_init 4 RX9 none 4 400 none w1) (hX : ∀ U, gX g U → SX g U) (hl : xl X = l) (hin : kHin X yX9_init) (N : Nat) (k35 : Nat × Nat × Nat × Int32 × Wd → Option (Unit × Wd)) (hk35 : ∀ a, k35 a = some (r, w1) → kV g X 4 a.2.2.2.2 35 [some (.ref a.1), some (.ref a.2.1), some (.ref a.2.2.1), some (.int a.2.2.2.1)] []) (x0 : Nat) (x1 : Nat) (x2 : Nat) (x3 : Int32) (w : Wd) (hF : FX9_init_b35 N g k35 x0 x1 x2 x3 w = some (r, w1)) : kV g X 4 w 35 [some (.ref x0), some (.ref x1), some (.ref x2), some (.int x3)] [] := by
  unfold FX9_init_b35 at hF
  refine v_iload_n C dX9_init_35 rfl rfl ?_
  refine v_aload_n C dX9_init_36 rfl rfl ?_
  refine v_aL C (t := 5) rfl dX9_init_37 hF (fun v14 hF => ?_)
  refine v_icmp_ge C (tgt := 104) dX9_init_38 (by decide) hF (fun c15 hF => ?_) (fun c15 hF => ?_)
  · exact c_vret C dX9_init_104 hF
  · refine v_aload_n C dX9_init_41 rfl rfl ?_
    refine v_getR C kc_X9 0 (Nat.le_of_ble_eq_true rfl) (kFl.p q977) dX9_init_42 hF (fun v16 hF => ?_)
    refine v_iload_n C dX9_init_45 rfl rfl ?_
    refine v_aload_n C dX9_init_46 rfl rfl ?_
    refine v_iload_n C dX9_init_47 rfl rfl ?_
    obtain ⟨h19, hF⟩ := k_ite hF
    refine c_callVr C lk_X9_23 (ci := 11) rfl h19 (fr2 := 3) (lo2 := 300) (As := [.int x3]) (st := [.int x3, .ref v16]) (fun r9_ w9_ h9_ => by rw [hl]; exact wJ2_get l g hX N x1 x3 w r9_ w9_ h9_) (by decide) rfl rfl (Nat.le_of_ble_eq_true rfl) dX9_init_48 hF (fun r17 u18 hF => ?_)
    refine v_castI C (ci := 2) rfl q953 dX9_init_51 hF (fun hF => ?_)
    obtain ⟨h22, hF⟩ := k_ite hF
    refine c_callVi C lk_X9_31 (ci := 2) rfl h22 (fr2 := 1) (lo2 := 100) (As := []) (st := [.int x3, .ref v16]) (fun r9_ w9_ h9_ => by rw [hl]; exact wX6_top l g hX N r17 u18 r9_ w9_ h9_) (by decide) rfl rfl (Nat.le_of_ble_eq_true rfl) dX9_init_54 hF (fun r20 u21 hF => ?_)
    refine v_aSi C dX9_init_57 hF (fun u23 hF => ?_)
    refine v_aload_n C dX9_init_58 rfl rfl ?_
    refine v_getR C kc_X9 1 (Nat.le_of_ble_eq_true rfl) (kFl.p q979) dX9_init_59 hF (fun v24 hF => ?_)
    refine v_iload_n C dX9_init_62 rfl rfl ?_
    refine v_aload_n C dX9_init_63 rfl rfl ?_
    refine v_iload_n C dX9_init_64 rfl rfl ?_
    obtain ⟨h27, hF⟩ := k_ite hF
    refine c_callVr C lk_X9_23 (ci := 11) rfl h27 (fr2 := 3) (lo2 := 300) (As := [.int x3]) (st := [.int x3, .ref v24]) (fun r9_ w9_ h9_ => by rw [hl]; exact wJ2_get l g hX N x1 x3 u23 r9_ w9_ h9_) (by decide) rfl rfl (Nat.le_of_ble_eq_true rfl) dX9_init_65 hF (fun r25 u26 hF => ?_)
    refine v_castI C (ci := 2) rfl q953 dX9_init_68 hF (fun hF => ?_)
    obtain ⟨h30, hF⟩ := k_ite hF
    refine c_callVi C lk_X9_35 (ci := 2) rfl h30 (fr2 := 1) (lo2 := 100) (As := []) (st := [.int x3, .ref v24]) (fun r9_ w9_ h9_ => by rw [hl]; exact wX6_below l g hX N r25 u26 r9_ w9_ h9_) (by decide) rfl rfl (Nat.le_of_ble_eq_true rfl) dX9_init_71 hF (fun r28 u29 hF => ?_)
    refine v_aSi C dX9_init_74 hF (fun u31 hF => ?_)
    refine v_aload_n C dX9_init_75 rfl rfl ?_
    refine v_getR C kc_X9 2 (Nat.le_of_ble_eq_true rfl) (kFl.p q981) dX9_init_76 hF (fun v32 hF => ?_)
    refine v_iload_n C dX9_init_79 rfl rfl ?_
    refine v_aload_n C dX9_init_80 rfl rfl ?_
    refine v_iload_n C dX9_init_81 rfl rfl ?_
    refine v_aQl C (t := 5) rfl dX9_init_82 hF (fun v33 hF => ?_)
    rcases v33 with _ | a34
    · exact (k_ob0 hF).elim
    have hF := k_ob1 hF
    show kV _ _ _ _ 83 [some (.ref x0), some (.ref x1), some (.ref x2), some (.int x3)] [.ref a34, .int x3, .ref v32]
    refine v_aload_n C dX9_init_83 rfl rfl ?_
    refine v_iload_n C dX9_init_84 rfl rfl ?_
    obtain ⟨h37, hF⟩ := k_ite hF
    refine c_callVr C lk_X9_23 (ci := 11) rfl h37 (fr2 := 3) (lo2 := 300) (As := [.int x3]) (st := [.ref a34, .int x3, .ref v32]) (fun r9_ w9_ h9_ => by rw [hl]; exact wJ2_get l g hX N x1 x3 u31 r9_ w9_ h9_) (by decide) rfl rfl (Nat.le_of_ble_eq_true rfl) dX9_init_85 hF (fun r35 u36 hF => ?_)
    refine v_castI C (ci := 2) rfl q953 dX9_init_88 hF (fun hF => ?_)
    refine v_getI C kc_X6 1 (Nat.le_of_ble_eq_true rfl) (kFl.n q381) dX9_init_91 hF (fun v38 hF => ?_)
    refine v_tlean C hX q962 (by decide) (Nat.le_of_ble_eq_true rfl) dX9_init_94 hF (fun v39 hF => ?_)
    refine v_aSi C dX9_init_97 hF (fun u40 hF => ?_)
    refine v_iinc C dX9_init_98 rfl (v := (x3 + (1 : Int32))) rfl (Nat.le_of_ble_eq_true rfl) rfl (lv' := [some (.ref x0), some (.ref x1), some (.ref x2), some (.int (x3 + (1 : Int32)))]) rfl ?_
    refine v_goto C (tgt := 35) dX9_init_101 (by decide) ?_
    refine v_mask [true, true, true, true] (lv' := [some (.ref x0), some (.ref x1), some (.ref x2), some (.int (x3 + (1 : Int32)))]) rfl ?_
    exact hk35 (x0, x1, x2, (x3 + (1 : Int32)), u40) hF
set_option maxHeartbeats 4000000 in
theorem wX9_init (l : Launch) (g : GT) (hX : ∀ U, gX g U → SX g U) (N : Nat) (x0 : Nat) (x1 : Nat) (x2 : Nat) (w : Wd) (r : Unit) (w1 : Wd) (hF : FX9_init N g x0 x1 x2 w = some (r, w1)) : kMt l g yX9_init (ws_ yX9_init cX9_init 4 none) 4 400 w [.ref x0, .ref x1, .ref x2] none w1 := by
  refine kMt.ofV (lv := [some (.ref x0), some (.ref x1), some (.ref x2), none]) (by decide) rfl (Nat.le_of_ble_eq_true rfl) rfl ?_
  intro X hl hin C
  unfold FX9_init at hF
  refine v_aload_n C dX9_init_0 rfl rfl ?_
  refine v_objInit C q951 q142 q143 (by decide) (Nat.le_of_ble_eq_true rfl) dX9_init_1 ?_
  refine v_aload_n C dX9_init_4 rfl rfl ?_
  refine v_aload_n C dX9_init_5 rfl rfl ?_
  refine v_putFW C (hin.1.trans rfl) kc_X9 3 (Nat.le_of_ble_eq_true rfl) q983 rfl rfl rfl rfl dX9_init_6 hF (fun u1 hF => ?_)
  refine v_aload_n C dX9_init_9 rfl rfl ?_
  refine v_aload_n C dX9_init_10 rfl rfl ?_
  refine v_aL C (t := 5) rfl dX9_init_11 hF (fun v2 hF => ?_)
  refine v_newaW C (atype := .int) q195 rfl (t := 0) rfl rfl (fun cA N => rfl) (Nat.le_of_ble_eq_true rfl) dX9_init_12 hF (fun a3 u4 hF => ?_)
  refine v_putFW C (hin.1.trans rfl) kc_X9 0 (Nat.le_of_ble_eq_true rfl) q977 rfl rfl rfl rfl dX9_init_14 hF (fun u5 hF => ?_)
  refine v_aload_n C dX9_init_17 rfl rfl ?_
  refine v_aload_n C dX9_init_18 rfl rfl ?_
  refine v_aL C (t := 5) rfl dX9_init_19 hF (fun v6 hF => ?_)
  refine v_newaW C (atype := .int) q195 rfl (t := 0) rfl rfl (fun cA N => rfl) (Nat.le_of_ble_eq_true rfl) dX9_init_20 hF (fun a7 u8 hF => ?_)
  refine v_putFW C (hin.1.trans rfl) kc_X9 1 (Nat.le_of_ble_eq_true rfl) q979 rfl rfl rfl rfl dX9_init_22 hF (fun u9 hF => ?_)
  refine v_aload_n C dX9_init_25 rfl rfl ?_
  refine v_aload_n C dX9_init_26 rfl rfl ?_
  refine v_aL C (t := 5) rfl dX9_init_27 hF (fun v10 hF => ?_)
  refine v_newaW C (atype := .int) q195 rfl (t := 0) rfl rfl (fun cA N => rfl) (Nat.le_of_ble_eq_true rfl) dX9_init_28 hF (fun a11 u12 hF => ?_)
  refine v_putFW C (hin.1.trans rfl) kc_X9 2 (Nat.le_of_ble_eq_true rfl) q981 rfl rfl rfl rfl dX9_init_30 hF (fun u13 hF => ?_)
  refine v_iconst C (v := (0 : Int32)) dX9_init_33 (by decide) ?_
  refine v_istore_n C dX9_init_34 rfl (Nat.le_of_ble_eq_true rfl) rfl (lv' := [some (.ref x0), some (.ref x1), some (.ref x2), some (.int (0 : Int32))]) rfl ?_
  refine v_mask [true, true, true, true] (lv' := [some (.ref x0), some (.ref x1), some (.ref x2), some (.int (0 : Int32))]) rfl ?_
  exact kloop_ok (P := fun a => kV g X 4 a.2.2.2.2 35 [some (.ref a.1), some (.ref a.2.1), some (.ref a.2.2.1), some (.int a.2.2.2.1)] []) (fun self hs a hF => wX9_init_b35 C hX hl hin N self hs a.1 a.2.1 a.2.2.1 a.2.2.2.1 a.2.2.2.2 hF) N (x0, x1, x2, (0 : Int32), u13) hF
set_option maxHeartbeats 4000000 in
theorem wX9_alike_b33 {l : Launch} {g : GT} {X : CxT} {r : Int32} {w1 : Wd} (C : kOk g X cX9_alike 4 RX9 (some .int) 2 200 (some (.int r)) w1) (hX : ∀ U, gX g U → SX g U) (hl : xl X = l) (hin : kHin X yX9_alike) (N : Nat) (k4 : Nat × Nat × Int32 × Int32 × Wd → Option (Int32 × Wd)) (hk4 : ∀ a, k4 a = some (r, w1) → kV g X 4 a.2.2.2.2 4 [some (.ref a.1), some (.ref a.2.1), some (.int a.2.2.1), some (.int a.2.2.2.1)] []) (x0 : Nat) (x1 : Nat) (x3 : Int32) (t0 : Int32) (t1 : Int32) (w : Wd) (hF : FX9_alike_b33 N g k4 x0 x1 x3 t0 t1 w = some (r, w1)) : kV g X 4 w 33 [some (.ref x0), some (.ref x1), none, some (.int x3)] [.int t0, .int t1] := by
  unfold FX9_alike_b33 at hF
  refine v_iadd C dX9_alike_33 ?_
  refine v_istore_n C dX9_alike_34 rfl (Nat.le_of_ble_eq_true rfl) rfl (lv' := [some (.ref x0), some (.ref x1), some (.int (t1 + t0)), some (.int x3)]) rfl ?_
  refine v_iinc C dX9_alike_35 rfl (v := (x3 + (1 : Int32))) rfl (Nat.le_of_ble_eq_true rfl) rfl (lv' := [some (.ref x0), some (.ref x1), some (.int (t1 + t0)), some (.int (x3 + (1 : Int32)))]) rfl ?_
  refine v_goto C (tgt := 4) dX9_alike_38 (by decide) ?_
  refine v_mask [true, true, true, true] (lv' := [some (.ref x0), some (.ref x1), some (.int (t1 + t0)), some (.int (x3 + (1 : Int32)))]) rfl ?_
  exact hk4 (x0, x1, (t1 + t0), (x3 + (1 : Int32)), w) hF
set_option maxHeartbeats 4000000 in
theorem wX9_alike_b4 {l : Launch} {g : GT} {X : CxT} {r : Int32} {w1 : Wd} (C : kOk g X cX9_alike 4 RX9 (some .int) 2 200 (some (.int r)) w1) (hX : ∀ U, gX g U → SX g U) (hl : xl X = l) (hin : kHin X yX9_alike) (N : Nat) (k4 : Nat × Nat × Int32 × Int32 × Wd → Option (Int32 × Wd)) (hk4 : ∀ a, k4 a = some (r, w1) → kV g X 4 a.2.2.2.2 4 [some (.ref a.1), some (.ref a.2.1), some (.int a.2.2.1), some (.int a.2.2.2.1)] []) (x0 : Nat) (x1 : Nat) (x2 : Int32) (x3 : Int32) (w : Wd) (hF : FX9_alike_b4 N g k4 x0 x1 x2 x3 w = some (r, w1)) : kV g X 4 w 4 [some (.ref x0), some (.ref x1), some (.int x2), some (.int x3)] [] := by
  unfold FX9_alike_b4 at hF
  refine v_iload_n C dX9_alike_4 rfl rfl ?_
  refine v_aload_n C dX9_alike_5 rfl rfl ?_
  obtain ⟨h3, hF⟩ := k_ite hF
  refine c_callVi C lk_X9_51 (ci := 3) rfl h3 (fr2 := 1) (lo2 := 100) (As := []) (st := [.int x3]) (fun r9_ w9_ h9_ => by rw [hl]; exact wX9_many l g hX N x0 w r9_ w9_ h9_) (by decide) rfl rfl (Nat.le_of_ble_eq_true rfl) dX9_alike_6 hF (fun r1 u2 hF => ?_)
  refine v_icmp_ge C (tgt := 41) dX9_alike_9 (by decide) hF (fun c4 hF => ?_) (fun c4 hF => ?_)
  · refine v_iload_n C dX9_alike_41 rfl rfl ?_
    exact c_iret C dX9_alike_42 hF
  · refine v_iload_n C dX9_alike_12 rfl rfl ?_
    refine v_aload_n C dX9_alike_13 rfl rfl ?_
    refine v_getR C kc_X9 0 (Nat.le_of_ble_eq_true rfl) (kFl.p q977) dX9_alike_14 hF (fun v5 hF => ?_)
    refine v_iload_n C dX9_alike_17 rfl rfl ?_
    refine v_aIi C dX9_alike_18 hF (fun v6 hF => ?_)
    refine v_aload_n C dX9_alike_19 rfl rfl ?_
    refine v_getR C kc_X9 0 (Nat.le_of_ble_eq_true rfl) (kFl.p q977) dX9_alike_20 hF (fun v7 hF => ?_)
    refine v_iload_n C dX9_alike_23 rfl rfl ?_
    refine v_aIi C dX9_alike_24 hF (fun v8 hF => ?_)
    refine v_icmp_ne C (tgt := 32) dX9_alike_25 (by decide) hF (fun c9 hF => ?_) (fun c9 hF => ?_)
    · refine v_iconst C (v := (1 : Int32)) dX9_alike_28 (by decide) ?_
      refine v_goto C (tgt := 33) dX9_alike_29 (by decide) ?_
      refine v_mask [true, true, false, true] (lv' := [some (.ref x0), some (.ref x1), none, some (.int x3)]) rfl ?_
      exact wX9_alike_b33 C hX hl hin N k4 hk4 (x0) (x1) (x3) ((1 : Int32)) (x2) u2 hF
    · refine v_iconst C (v := (0 : Int32)) dX9_alike_32 (by decide) ?_
      refine v_mask [true, true, false, true] (lv' := [some (.ref x0), some (.ref x1), none, some (.int x3)]) rfl ?_
      exact wX9_alike_b33 C hX hl hin N k4 hk4 (x0) (x1) (x3) ((0 : Int32)) (x2) u2 hF
set_option maxHeartbeats 4000000 in
theorem wX9_alike (l : Launch) (g : GT) (hX : ∀ U, gX g U → SX g U) (N : Nat) (x0 : Nat) (x1 : Nat) (w : Wd) (r : Int32) (w1 : Wd) (hF : FX9_alike N g x0 x1 w = some (r, w1)) : kMt l g yX9_alike (ws_ yX9_alike cX9_alike 4 (some .int)) 2 200 w [.ref x0, .ref x1] (some (.int r)) w1 := by
  refine kMt.ofV (lv := [some (.ref x0), some (.ref x1), none, none]) (by decide) rfl (Nat.le_of_ble_eq_true rfl) rfl ?_
  intro X hl hin C
  unfold FX9_alike at hF
  refine v_iconst C (v := (0 : Int32)) dX9_alike_0 (by decide) ?_
  refine v_istore_n C dX9_alike_1 rfl (Nat.le_of_ble_eq_true rfl) rfl (lv' := [some (.ref x0), some (.ref x1), some (.int (0 : Int32)), none]) rfl ?_
  refine v_iconst C (v := (0 : Int32)) dX9_alike_2 (by decide) ?_
  refine v_istore_n C dX9_alike_3 rfl (Nat.le_of_ble_eq_true rfl) rfl (lv' := [some (.ref x0), some (.ref x1), some (.int (0 : Int32)), some (.int (0 : Int32))]) rfl ?_
  refine v_mask [true, true, true, true] (lv' := [some (.ref x0), some (.ref x1), some (.int (0 : Int32)), some (.int (0 : Int32))]) rfl ?_
  exact kloop_ok (P := fun a => kV g X 4 a.2.2.2.2 4 [some (.ref a.1), some (.ref a.2.1), some (.int a.2.2.1), some (.int a.2.2.2.1)] []) (fun self hs a hF => wX9_alike_b4 C hX hl hin N self hs a.1 a.2.1 a.2.2.1 a.2.2.2.1 a.2.2.2.2 hF) N (x0, x1, (0 : Int32), (0 : Int32), w) hF
set_option maxHeartbeats 4000000 in
theorem wX9_isLike (l : Launch) (g : GT) (hX : ∀ U, gX g U → SX g U) (N : Nat) (x0 : Nat) (x1 : Nat) (w : Wd) (r : Int32) (w1 : Wd) (hF : FX9_isLike N g x0 x1 w = some (r, w1)) : kMt l g yX9_isLike (ws_ yX9_isLike cX9_isLike 2 (some .boolean)) 3 300 w [.ref x0, .ref x1] (some (.int r)) w1 := by
  refine kMt.ofV (lv := [some (.ref x0), some (.ref x1)]) (by decide) rfl (Nat.le_of_ble_eq_true rfl) rfl ?_
  intro X hl hin C
  unfold FX9_isLike at hF
  refine v_aload_n C dX9_isLike_0 rfl rfl ?_
  refine v_aload_n C dX9_isLike_1 rfl rfl ?_
  obtain ⟨h3, hF⟩ := k_ite hF
  refine c_callVi C lk_X9_47 (ci := 3) rfl h3 (fr2 := 2) (lo2 := 200) (As := [.ref x1]) (st := []) (fun r9_ w9_ h9_ => by rw [hl]; exact wX9_alike l g hX N x0 x1 w r9_ w9_ h9_) (by decide) rfl rfl (Nat.le_of_ble_eq_true rfl) dX9_isLike_2 hF (fun r1 u2 hF => ?_)
  refine v_aload_n C dX9_isLike_5 rfl rfl ?_
  obtain ⟨h6, hF⟩ := k_ite hF
  refine c_callVi C lk_X9_51 (ci := 3) rfl h6 (fr2 := 1) (lo2 := 100) (As := []) (st := [.int r1]) (fun r9_ w9_ h9_ => by rw [hl]; exact wX9_many l g hX N x0 u2 r9_ w9_ h9_) (by decide) rfl rfl (Nat.le_of_ble_eq_true rfl) dX9_isLike_6 hF (fun r4 u5 hF => ?_)
  refine v_icmp_ne C (tgt := 16) dX9_isLike_9 (by decide) hF (fun c7 hF => ?_) (fun c7 hF => ?_)
  · refine v_iconst C (v := (1 : Int32)) dX9_isLike_12 (by decide) ?_
    refine v_goto C (tgt := 17) dX9_isLike_13 (by decide) ?_
    exact c_zret C rfl dX9_isLike_17 hF
  · refine v_iconst C (v := (0 : Int32)) dX9_isLike_16 (by decide) ?_
    exact c_zret C rfl dX9_isLike_17 hF
set_option maxHeartbeats 4000000 in
theorem wX9_isMirror_b40 {l : Launch} {g : GT} {X : CxT} {r : Int32} {w1 : Wd} (C : kOk g X cX9_isMirror 3 RX9 (some .boolean) 2 200 (some (.int r)) w1) (hX : ∀ U, gX g U → SX g U) (hl : xl X = l) (hin : kHin X yX9_isMirror) (N : Nat) (k4 : Nat × Int32 × Int32 × Wd → Option (Int32 × Wd)) (hk4 : ∀ a, k4 a = some (r, w1) → kV g X 3 a.2.2.2 4 [some (.ref a.1), some (.int a.2.1), some (.int a.2.2.1)] []) (x0 : Nat) (x2 : Int32) (t0 : Int32) (t1 : Int32) (w : Wd) (hF : FX9_isMirror_b40 N g k4 x0 x2 t0 t1 w = some (r, w1)) : kV g X 3 w 40 [some (.ref x0), none, some (.int x2)] [.int t0, .int t1] := by
  unfold FX9_isMirror_b40 at hF
  refine v_iand C dX9_isMirror_40 ?_
  refine v_istore_n C dX9_isMirror_41 rfl (Nat.le_of_ble_eq_true rfl) rfl (lv' := [some (.ref x0), some (.int (t1 &&& t0)), some (.int x2)]) rfl ?_
  refine v_iinc C dX9_isMirror_42 rfl (v := (x2 + (1 : Int32))) rfl (Nat.le_of_ble_eq_true rfl) rfl (lv' := [some (.ref x0), some (.int (t1 &&& t0)), some (.int (x2 + (1 : Int32)))]) rfl ?_
  refine v_goto C (tgt := 4) dX9_isMirror_45 (by decide) ?_
  refine v_mask [true, true, true] (lv' := [some (.ref x0), some (.int (t1 &&& t0)), some (.int (x2 + (1 : Int32)))]) rfl ?_
  exact hk4 (x0, (t1 &&& t0), (x2 + (1 : Int32)), w) hF
set_option maxHeartbeats 4000000 in
theorem wX9_isMirror_b4 {l : Launch} {g : GT} {X : CxT} {r : Int32} {w1 : Wd} (C : kOk g X cX9_isMirror 3 RX9 (some .boolean) 2 200 (some (.int r)) w1) (hX : ∀ U, gX g U → SX g U) (hl : xl X = l) (hin : kHin X yX9_isMirror) (N : Nat) (k4 : Nat × Int32 × Int32 × Wd → Option (Int32 × Wd)) (hk4 : ∀ a, k4 a = some (r, w1) → kV g X 3 a.2.2.2 4 [some (.ref a.1), some (.int a.2.1), some (.int a.2.2.1)] []) (x0 : Nat) (x1 : Int32) (x2 : Int32) (w : Wd) (hF : FX9_isMirror_b4 N g k4 x0 x1 x2 w = some (r, w1)) : kV g X 3 w 4 [some (.ref x0), some (.int x1), some (.int x2)] [] := by
  unfold FX9_isMirror_b4 at hF
  refine v_iload_n C dX9_isMirror_4 rfl rfl ?_
  refine v_aload_n C dX9_isMirror_5 rfl rfl ?_
  obtain ⟨h3, hF⟩ := k_ite hF
  refine c_callVi C lk_X9_51 (ci := 3) rfl h3 (fr2 := 1) (lo2 := 100) (As := []) (st := [.int x2]) (fun r9_ w9_ h9_ => by rw [hl]; exact wX9_many l g hX N x0 w r9_ w9_ h9_) (by decide) rfl rfl (Nat.le_of_ble_eq_true rfl) dX9_isMirror_6 hF (fun r1 u2 hF => ?_)
  refine v_icmp_ge C (tgt := 48) dX9_isMirror_9 (by decide) hF (fun c4 hF => ?_) (fun c4 hF => ?_)
  · refine v_iload_n C dX9_isMirror_48 rfl rfl ?_
    obtain ⟨h5, hF⟩ := k_ite hF
    exact c_zret C (nb_nar h5) dX9_isMirror_49 hF
  · refine v_iload_n C dX9_isMirror_12 rfl rfl ?_
    refine v_aload_n C dX9_isMirror_13 rfl rfl ?_
    refine v_getR C kc_X9 0 (Nat.le_of_ble_eq_true rfl) (kFl.p q977) dX9_isMirror_14 hF (fun v6 hF => ?_)
    refine v_iload_n C dX9_isMirror_17 rfl rfl ?_
    refine v_aIi C dX9_isMirror_18 hF (fun v7 hF => ?_)
    refine v_aload_n C dX9_isMirror_19 rfl rfl ?_
    refine v_getR C kc_X9 0 (Nat.le_of_ble_eq_true rfl) (kFl.p q977) dX9_isMirror_20 hF (fun v8 hF => ?_)
    refine v_aload_n C dX9_isMirror_23 rfl rfl ?_
    obtain ⟨h11, hF⟩ := k_ite hF
    refine c_callVi C lk_X9_51 (ci := 3) rfl h11 (fr2 := 1) (lo2 := 100) (As := []) (st := [.ref v8, .int v7, .int x1]) (fun r9_ w9_ h9_ => by rw [hl]; exact wX9_many l g hX N x0 u2 r9_ w9_ h9_) (by decide) rfl rfl (Nat.le_of_ble_eq_true rfl) dX9_isMirror_24 hF (fun r9 u10 hF => ?_)
    refine v_iconst C (v := (1 : Int32)) dX9_isMirror_27 (by decide) ?_
    refine v_isub C dX9_isMirror_28 ?_
    refine v_iload_n C dX9_isMirror_29 rfl rfl ?_
    refine v_isub C dX9_isMirror_30 ?_
    refine v_aIi C dX9_isMirror_31 hF (fun v12 hF => ?_)
    refine v_icmp_ne C (tgt := 39) dX9_isMirror_32 (by decide) hF (fun c13 hF => ?_) (fun c13 hF => ?_)
    · refine v_iconst C (v := (1 : Int32)) dX9_isMirror_35 (by decide) ?_
      refine v_goto C (tgt := 40) dX9_isMirror_36 (by decide) ?_
      refine v_mask [true, false, true] (lv' := [some (.ref x0), none, some (.int x2)]) rfl ?_
      exact wX9_isMirror_b40 C hX hl hin N k4 hk4 (x0) (x2) ((1 : Int32)) (x1) u10 hF
    · refine v_iconst C (v := (0 : Int32)) dX9_isMirror_39 (by decide) ?_
      refine v_mask [true, false, true] (lv' := [some (.ref x0), none, some (.int x2)]) rfl ?_
      exact wX9_isMirror_b40 C hX hl hin N k4 hk4 (x0) (x2) ((0 : Int32)) (x1) u10 hF
set_option maxHeartbeats 4000000 in
theorem wX9_isMirror (l : Launch) (g : GT) (hX : ∀ U, gX g U → SX g U) (N : Nat) (x0 : Nat) (w : Wd) (r : Int32) (w1 : Wd) (hF : FX9_isMirror N g x0 w = some (r, w1)) : kMt l g yX9_isMirror (ws_ yX9_isMirror cX9_isMirror 3 (some .boolean)) 2 200 w [.ref x0] (some (.int r)) w1 := by
  refine kMt.ofV (lv := [some (.ref x0), none, none]) (by decide) rfl (Nat.le_of_ble_eq_true rfl) rfl ?_
  intro X hl hin C
  unfold FX9_isMirror at hF
  refine v_iconst C (v := (1 : Int32)) dX9_isMirror_0 (by decide) ?_
  refine v_istore_n C dX9_isMirror_1 rfl (Nat.le_of_ble_eq_true rfl) rfl (lv' := [some (.ref x0), some (.int (1 : Int32)), none]) rfl ?_
  refine v_iconst C (v := (0 : Int32)) dX9_isMirror_2 (by decide) ?_
  refine v_istore_n C dX9_isMirror_3 rfl (Nat.le_of_ble_eq_true rfl) rfl (lv' := [some (.ref x0), some (.int (1 : Int32)), some (.int (0 : Int32))]) rfl ?_
  refine v_mask [true, true, true] (lv' := [some (.ref x0), some (.int (1 : Int32)), some (.int (0 : Int32))]) rfl ?_
  exact kloop_ok (P := fun a => kV g X 3 a.2.2.2 4 [some (.ref a.1), some (.int a.2.1), some (.int a.2.2.1)] []) (fun self hs a hF => wX9_isMirror_b4 C hX hl hin N self hs a.1 a.2.1 a.2.2.1 a.2.2.2 hF) N (x0, (1 : Int32), (0 : Int32), w) hF
set_option maxHeartbeats 4000000 in
theorem wX9_faces_b33 {l : Launch} {g : GT} {X : CxT} {r : Int32} {w1 : Wd} (C : kOk g X cX9_faces 3 RX9 (some .int) 2 200 (some (.int r)) w1) (hX : ∀ U, gX g U → SX g U) (hl : xl X = l) (hin : kHin X yX9_faces) (N : Nat) (k4 : Nat × Int32 × Int32 × Wd → Option (Int32 × Wd)) (hk4 : ∀ a, k4 a = some (r, w1) → kV g X 3 a.2.2.2 4 [some (.ref a.1), some (.int a.2.1), some (.int a.2.2.1)] []) (x0 : Nat) (x2 : Int32) (t0 : Int32) (t1 : Int32) (w : Wd) (hF : FX9_faces_b33 N g k4 x0 x2 t0 t1 w = some (r, w1)) : kV g X 3 w 33 [some (.ref x0), none, some (.int x2)] [.int t0, .int t1] := by
  unfold FX9_faces_b33 at hF
  refine v_iadd C dX9_faces_33 ?_
  refine v_istore_n C dX9_faces_34 rfl (Nat.le_of_ble_eq_true rfl) rfl (lv' := [some (.ref x0), some (.int (t1 + t0)), some (.int x2)]) rfl ?_
  refine v_iinc C dX9_faces_35 rfl (v := (x2 + (1 : Int32))) rfl (Nat.le_of_ble_eq_true rfl) rfl (lv' := [some (.ref x0), some (.int (t1 + t0)), some (.int (x2 + (1 : Int32)))]) rfl ?_
  refine v_goto C (tgt := 4) dX9_faces_38 (by decide) ?_
  refine v_mask [true, true, true] (lv' := [some (.ref x0), some (.int (t1 + t0)), some (.int (x2 + (1 : Int32)))]) rfl ?_
  exact hk4 (x0, (t1 + t0), (x2 + (1 : Int32)), w) hF
set_option maxHeartbeats 4000000 in
theorem wX9_faces_b4 {l : Launch} {g : GT} {X : CxT} {r : Int32} {w1 : Wd} (C : kOk g X cX9_faces 3 RX9 (some .int) 2 200 (some (.int r)) w1) (hX : ∀ U, gX g U → SX g U) (hl : xl X = l) (hin : kHin X yX9_faces) (N : Nat) (k4 : Nat × Int32 × Int32 × Wd → Option (Int32 × Wd)) (hk4 : ∀ a, k4 a = some (r, w1) → kV g X 3 a.2.2.2 4 [some (.ref a.1), some (.int a.2.1), some (.int a.2.2.1)] []) (x0 : Nat) (x1 : Int32) (x2 : Int32) (w : Wd) (hF : FX9_faces_b4 N g k4 x0 x1 x2 w = some (r, w1)) : kV g X 3 w 4 [some (.ref x0), some (.int x1), some (.int x2)] [] := by
  unfold FX9_faces_b4 at hF
  refine v_iload_n C dX9_faces_4 rfl rfl ?_
  refine v_aload_n C dX9_faces_5 rfl rfl ?_
  obtain ⟨h3, hF⟩ := k_ite hF
  refine c_callVi C lk_X9_51 (ci := 3) rfl h3 (fr2 := 1) (lo2 := 100) (As := []) (st := [.int x2]) (fun r9_ w9_ h9_ => by rw [hl]; exact wX9_many l g hX N x0 w r9_ w9_ h9_) (by decide) rfl rfl (Nat.le_of_ble_eq_true rfl) dX9_faces_6 hF (fun r1 u2 hF => ?_)
  refine v_icmp_ge C (tgt := 41) dX9_faces_9 (by decide) hF (fun c4 hF => ?_) (fun c4 hF => ?_)
  · refine v_iload_n C dX9_faces_41 rfl rfl ?_
    exact c_iret C dX9_faces_42 hF
  · refine v_iload_n C dX9_faces_12 rfl rfl ?_
    refine v_aload_n C dX9_faces_13 rfl rfl ?_
    refine v_getR C kc_X9 0 (Nat.le_of_ble_eq_true rfl) (kFl.p q977) dX9_faces_14 hF (fun v5 hF => ?_)
    refine v_iload_n C dX9_faces_17 rfl rfl ?_
    refine v_aIi C dX9_faces_18 hF (fun v6 hF => ?_)
    refine v_aload_n C dX9_faces_19 rfl rfl ?_
    refine v_getR C kc_X9 1 (Nat.le_of_ble_eq_true rfl) (kFl.p q979) dX9_faces_20 hF (fun v7 hF => ?_)
    refine v_iload_n C dX9_faces_23 rfl rfl ?_
    refine v_aIi C dX9_faces_24 hF (fun v8 hF => ?_)
    refine v_icmp_ne C (tgt := 32) dX9_faces_25 (by decide) hF (fun c9 hF => ?_) (fun c9 hF => ?_)
    · refine v_iconst C (v := (1 : Int32)) dX9_faces_28 (by decide) ?_
      refine v_goto C (tgt := 33) dX9_faces_29 (by decide) ?_
      refine v_mask [true, false, true] (lv' := [some (.ref x0), none, some (.int x2)]) rfl ?_
      exact wX9_faces_b33 C hX hl hin N k4 hk4 (x0) (x2) ((1 : Int32)) (x1) u2 hF
    · refine v_iconst C (v := (0 : Int32)) dX9_faces_32 (by decide) ?_
      refine v_mask [true, false, true] (lv' := [some (.ref x0), none, some (.int x2)]) rfl ?_
      exact wX9_faces_b33 C hX hl hin N k4 hk4 (x0) (x2) ((0 : Int32)) (x1) u2 hF
set_option maxHeartbeats 4000000 in
theorem wX9_faces (l : Launch) (g : GT) (hX : ∀ U, gX g U → SX g U) (N : Nat) (x0 : Nat) (w : Wd) (r : Int32) (w1 : Wd) (hF : FX9_faces N g x0 w = some (r, w1)) : kMt l g yX9_faces (ws_ yX9_faces cX9_faces 3 (some .int)) 2 200 w [.ref x0] (some (.int r)) w1 := by
  refine kMt.ofV (lv := [some (.ref x0), none, none]) (by decide) rfl (Nat.le_of_ble_eq_true rfl) rfl ?_
  intro X hl hin C
  unfold FX9_faces at hF
  refine v_iconst C (v := (0 : Int32)) dX9_faces_0 (by decide) ?_
  refine v_istore_n C dX9_faces_1 rfl (Nat.le_of_ble_eq_true rfl) rfl (lv' := [some (.ref x0), some (.int (0 : Int32)), none]) rfl ?_
  refine v_iconst C (v := (0 : Int32)) dX9_faces_2 (by decide) ?_
  refine v_istore_n C dX9_faces_3 rfl (Nat.le_of_ble_eq_true rfl) rfl (lv' := [some (.ref x0), some (.int (0 : Int32)), some (.int (0 : Int32))]) rfl ?_
  refine v_mask [true, true, true] (lv' := [some (.ref x0), some (.int (0 : Int32)), some (.int (0 : Int32))]) rfl ?_
  exact kloop_ok (P := fun a => kV g X 3 a.2.2.2 4 [some (.ref a.1), some (.int a.2.1), some (.int a.2.2.1)] []) (fun self hs a hF => wX9_faces_b4 C hX hl hin N self hs a.1 a.2.1 a.2.2.1 a.2.2.2 hF) N (x0, (0 : Int32), (0 : Int32), w) hF
