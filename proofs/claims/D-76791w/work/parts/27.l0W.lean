set_option maxRecDepth 100000
set_option maxHeartbeats 4000000 in
theorem wX0_always (l : Launch) (g : GT) (hX : ∀ U, gX g U → SX g U) (N : Nat) (x0 : Nat) (w : Wd) (r : Nat) (w1 : Wd) (hF : FX0_always N g x0 w = some (r, w1)) : kMt l g yX0_always (ws_ yX0_always cX0_always 1 (some (.object "CardLoom$Law"))) 32 3200 w [.ref x0] (some (.ref r)) w1 := by
  refine kMt.ofV (lv := [some (.ref x0)]) (by decide) rfl (Nat.le_of_ble_eq_true rfl) rfl ?_
  intro X hl hin C
  unfold FX0_always at hF
  refine v_aload_n C dX0_always_0 rfl rfl ?_
  refine v_lmk C hX hin rfl 2 (List.mem_of_getElem? (i := 2) rfl) rfl rfl rfl rfl la_2 rfl (vs := [.ref x0]) rfl rfl rfl rfl rfl (by decide) (Nat.le_of_ble_eq_true rfl) dX0_always_1 hF (fun a1 u2 hF => ?_)
  exact c_aret C (Or.inl ⟨_, rfl⟩) dX0_always_6 hF
set_option maxHeartbeats 4000000 in
theorem wX0_inTurn (l : Launch) (g : GT) (hX : ∀ U, gX g U → SX g U) (N : Nat) (x0 : Int32) (x1 : Nat) (x2 : Nat) (w : Wd) (r : Nat) (w1 : Wd) (hF : FX0_inTurn N g x0 x1 x2 w = some (r, w1)) : kMt l g yX0_inTurn (ws_ yX0_inTurn cX0_inTurn 3 (some (.object "CardLoom$Law"))) 32 3200 w [.int x0, .ref x1, .ref x2] (some (.ref r)) w1 := by
  refine kMt.ofV (lv := [some (.int x0), some (.ref x1), some (.ref x2)]) (by decide) rfl (Nat.le_of_ble_eq_true rfl) rfl ?_
  intro X hl hin C
  unfold FX0_inTurn at hF
  refine v_iload_n C dX0_inTurn_0 rfl rfl ?_
  refine v_aload_n C dX0_inTurn_1 rfl rfl ?_
  refine v_aload_n C dX0_inTurn_2 rfl rfl ?_
  refine v_lmk C hX hin rfl 3 (List.mem_of_getElem? (i := 3) rfl) rfl rfl rfl rfl la_3 rfl (vs := [.int x0, .ref x1, .ref x2]) rfl rfl rfl rfl rfl (by decide) (Nat.le_of_ble_eq_true rfl) dX0_inTurn_3 hF (fun a1 u2 hF => ?_)
  exact c_aret C (Or.inl ⟨_, rfl⟩) dX0_inTurn_8 hF
set_option maxHeartbeats 4000000 in
theorem wX0_byCards (l : Launch) (g : GT) (hX : ∀ U, gX g U → SX g U) (N : Nat) (x0 : Int32) (x1 : Nat) (x2 : Nat) (w : Wd) (r : Nat) (w1 : Wd) (hF : FX0_byCards N g x0 x1 x2 w = some (r, w1)) : kMt l g yX0_byCards (ws_ yX0_byCards cX0_byCards 3 (some (.object "CardLoom$Law"))) 32 3200 w [.int x0, .ref x1, .ref x2] (some (.ref r)) w1 := by
  refine kMt.ofV (lv := [some (.int x0), some (.ref x1), some (.ref x2)]) (by decide) rfl (Nat.le_of_ble_eq_true rfl) rfl ?_
  intro X hl hin C
  unfold FX0_byCards at hF
  refine v_iload_n C dX0_byCards_0 rfl rfl ?_
  refine v_aload_n C dX0_byCards_1 rfl rfl ?_
  refine v_aload_n C dX0_byCards_2 rfl rfl ?_
  refine v_lmk C hX hin rfl 4 (List.mem_of_getElem? (i := 4) rfl) rfl rfl rfl rfl la_4 rfl (vs := [.int x0, .ref x1, .ref x2]) rfl rfl rfl rfl rfl (by decide) (Nat.le_of_ble_eq_true rfl) dX0_byCards_3 hF (fun a1 u2 hF => ?_)
  exact c_aret C (Or.inl ⟨_, rfl⟩) dX0_byCards_8 hF
set_option maxHeartbeats 4000000 in
theorem wX0_eachOf (l : Launch) (g : GT) (hX : ∀ U, gX g U → SX g U) (N : Nat) (x0 : Int32) (x1 : Nat) (x2 : Nat) (w : Wd) (r : Nat) (w1 : Wd) (hF : FX0_eachOf N g x0 x1 x2 w = some (r, w1)) : kMt l g yX0_eachOf (ws_ yX0_eachOf cX0_eachOf 3 (some (.object "CardLoom$Law"))) 32 3200 w [.int x0, .ref x1, .ref x2] (some (.ref r)) w1 := by
  refine kMt.ofV (lv := [some (.int x0), some (.ref x1), some (.ref x2)]) (by decide) rfl (Nat.le_of_ble_eq_true rfl) rfl ?_
  intro X hl hin C
  unfold FX0_eachOf at hF
  refine v_iload_n C dX0_eachOf_0 rfl rfl ?_
  refine v_aload_n C dX0_eachOf_1 rfl rfl ?_
  refine v_aload_n C dX0_eachOf_2 rfl rfl ?_
  refine v_lmk C hX hin rfl 5 (List.mem_of_getElem? (i := 5) rfl) rfl rfl rfl rfl la_5 rfl (vs := [.int x0, .ref x2, .ref x1]) rfl rfl rfl rfl rfl (by decide) (Nat.le_of_ble_eq_true rfl) dX0_eachOf_3 hF (fun a1 u2 hF => ?_)
  exact c_aret C (Or.inl ⟨_, rfl⟩) dX0_eachOf_8 hF
set_option maxHeartbeats 4000000 in
theorem wX0_later (l : Launch) (g : GT) (hX : ∀ U, gX g U → SX g U) (N : Nat) (x0 : Int32) (x1 : Nat) (w : Wd) (r : Nat) (w1 : Wd) (hF : FX0_later N g x0 x1 w = some (r, w1)) : kMt l g yX0_later (ws_ yX0_later cX0_later 2 (some (.object "CardLoom$Law"))) 32 3200 w [.int x0, .ref x1] (some (.ref r)) w1 := by
  refine kMt.ofV (lv := [some (.int x0), some (.ref x1)]) (by decide) rfl (Nat.le_of_ble_eq_true rfl) rfl ?_
  intro X hl hin C
  unfold FX0_later at hF
  refine v_aload_n C dX0_later_0 rfl rfl ?_
  refine v_iload_n C dX0_later_1 rfl rfl ?_
  refine v_lmk C hX hin rfl 6 (List.mem_of_getElem? (i := 6) rfl) rfl rfl rfl rfl la_6 rfl (vs := [.ref x1, .int x0]) rfl rfl rfl rfl rfl (by decide) (Nat.le_of_ble_eq_true rfl) dX0_later_2 hF (fun a1 u2 hF => ?_)
  exact c_aret C (Or.inl ⟨_, rfl⟩) dX0_later_7 hF
set_option maxHeartbeats 4000000 in
theorem wX0_slanting (l : Launch) (g : GT) (hX : ∀ U, gX g U → SX g U) (N : Nat) (x0 : Nat) (w : Wd) (r : Nat) (w1 : Wd) (hF : FX0_slanting N g x0 w = some (r, w1)) : kMt l g yX0_slanting (ws_ yX0_slanting cX0_slanting 1 (some (.object "CardLoom$Law"))) 32 3200 w [.ref x0] (some (.ref r)) w1 := by
  refine kMt.ofV (lv := [some (.ref x0)]) (by decide) rfl (Nat.le_of_ble_eq_true rfl) rfl ?_
  intro X hl hin C
  unfold FX0_slanting at hF
  refine v_aload_n C dX0_slanting_0 rfl rfl ?_
  refine v_lmk C hX hin rfl 7 (List.mem_of_getElem? (i := 7) rfl) rfl rfl rfl rfl la_7 rfl (vs := [.ref x0]) rfl rfl rfl rfl rfl (by decide) (Nat.le_of_ble_eq_true rfl) dX0_slanting_1 hF (fun a1 u2 hF => ?_)
  exact c_aret C (Or.inl ⟨_, rfl⟩) dX0_slanting_6 hF
set_option maxHeartbeats 4000000 in
theorem wX0_reversed (l : Launch) (g : GT) (hX : ∀ U, gX g U → SX g U) (N : Nat) (x0 : Nat) (w : Wd) (r : Nat) (w1 : Wd) (hF : FX0_reversed N g x0 w = some (r, w1)) : kMt l g yX0_reversed (ws_ yX0_reversed cX0_reversed 1 (some (.object "CardLoom$Law"))) 32 3200 w [.ref x0] (some (.ref r)) w1 := by
  refine kMt.ofV (lv := [some (.ref x0)]) (by decide) rfl (Nat.le_of_ble_eq_true rfl) rfl ?_
  intro X hl hin C
  unfold FX0_reversed at hF
  refine v_aload_n C dX0_reversed_0 rfl rfl ?_
  refine v_lmk C hX hin rfl 8 (List.mem_of_getElem? (i := 8) rfl) rfl rfl rfl rfl la_8 rfl (vs := [.ref x0]) rfl rfl rfl rfl rfl (by decide) (Nat.le_of_ble_eq_true rfl) dX0_reversed_1 hF (fun a1 u2 hF => ?_)
  exact c_aret C (Or.inl ⟨_, rfl⟩) dX0_reversed_6 hF
set_option maxHeartbeats 4000000 in
theorem wX0_mirrored (l : Launch) (g : GT) (hX : ∀ U, gX g U → SX g U) (N : Nat) (x0 : Nat) (w : Wd) (r : Nat) (w1 : Wd) (hF : FX0_mirrored N g x0 w = some (r, w1)) : kMt l g yX0_mirrored (ws_ yX0_mirrored cX0_mirrored 1 (some (.object "CardLoom$Law"))) 32 3200 w [.ref x0] (some (.ref r)) w1 := by
  refine kMt.ofV (lv := [some (.ref x0)]) (by decide) rfl (Nat.le_of_ble_eq_true rfl) rfl ?_
  intro X hl hin C
  unfold FX0_mirrored at hF
  refine v_aload_n C dX0_mirrored_0 rfl rfl ?_
  refine v_lmk C hX hin rfl 9 (List.mem_of_getElem? (i := 9) rfl) rfl rfl rfl rfl la_9 rfl (vs := [.ref x0]) rfl rfl rfl rfl rfl (by decide) (Nat.le_of_ble_eq_true rfl) dX0_mirrored_1 hF (fun a1 u2 hF => ?_)
  exact c_aret C (Or.inl ⟨_, rfl⟩) dX0_mirrored_6 hF
set_option maxHeartbeats 4000000 in
theorem wX0_first (l : Launch) (g : GT) (hX : ∀ U, gX g U → SX g U) (N : Nat) (x0 : Nat) (x1 : Nat) (w : Wd) (r : Nat) (w1 : Wd) (hF : FX0_first N g x0 x1 w = some (r, w1)) : kMt l g yX0_first (ws_ yX0_first cX0_first 2 (some (.object "CardLoom$Law"))) 32 3200 w [.ref x0, .ref x1] (some (.ref r)) w1 := by
  refine kMt.ofV (lv := [some (.ref x0), some (.ref x1)]) (by decide) rfl (Nat.le_of_ble_eq_true rfl) rfl ?_
  intro X hl hin C
  unfold FX0_first at hF
  refine v_aload_n C dX0_first_0 rfl rfl ?_
  refine v_aload_n C dX0_first_1 rfl rfl ?_
  refine v_lmk C hX hin rfl 10 (List.mem_of_getElem? (i := 10) rfl) rfl rfl rfl rfl la_10 rfl (vs := [.ref x0, .ref x1]) rfl rfl rfl rfl rfl (by decide) (Nat.le_of_ble_eq_true rfl) dX0_first_2 hF (fun a1 u2 hF => ?_)
  exact c_aret C (Or.inl ⟨_, rfl⟩) dX0_first_7 hF
set_option maxHeartbeats 4000000 in
theorem wX0_many (l : Launch) (g : GT) (hX : ∀ U, gX g U → SX g U) (N : Nat) (x0 : Nat) (w : Wd) (r : Int32) (w1 : Wd) (hF : FX0_many N g x0 w = some (r, w1)) : kMt l g yX0_many (ws_ yX0_many cX0_many 1 (some .int)) 2 200 w [.ref x0] (some (.int r)) w1 := by
  refine kMt.ofV (lv := [some (.ref x0)]) (by decide) rfl (Nat.le_of_ble_eq_true rfl) rfl ?_
  intro X hl hin C
  unfold FX0_many at hF
  refine v_aload_n C dX0_many_0 rfl rfl ?_
  refine v_getR C kc_X0 0 (Nat.le_of_ble_eq_true rfl) (kFl.p q198) dX0_many_1 hF (fun v1 hF => ?_)
  obtain ⟨h4, hF⟩ := k_ite hF
  refine c_callVi C lk_X0_86 (ci := 11) rfl h4 (fr2 := 1) (lo2 := 100) (As := []) (st := []) (fun r9_ w9_ h9_ => by rw [hl]; exact wJ2_size l g hX N v1 w r9_ w9_ h9_) (by decide) rfl rfl (Nat.le_of_ble_eq_true rfl) dX0_many_4 hF (fun r2 u3 hF => ?_)
  exact c_iret C dX0_many_7 hF
set_option maxHeartbeats 4000000 in
theorem wX0_isCard (l : Launch) (g : GT) (hX : ∀ U, gX g U → SX g U) (N : Nat) (x0 : Nat) (x1 : Int32) (w : Wd) (r : Int32) (w1 : Wd) (hF : FX0_isCard N g x0 x1 w = some (r, w1)) : kMt l g yX0_isCard (ws_ yX0_isCard cX0_isCard 2 (some .boolean)) 3 300 w [.ref x0, .int x1] (some (.int r)) w1 := by
  refine kMt.ofV (lv := [some (.ref x0), some (.int x1)]) (by decide) rfl (Nat.le_of_ble_eq_true rfl) rfl ?_
  intro X hl hin C
  unfold FX0_isCard at hF
  refine v_iload_n C dX0_isCard_0 rfl rfl ?_
  refine v_iconst C (v := (0 : Int32)) dX0_isCard_1 (by decide) ?_
  refine v_aload_n C dX0_isCard_2 rfl rfl ?_
  obtain ⟨h3, hF⟩ := k_ite hF
  refine c_callVi C lk_X0_90 (ci := 1) rfl h3 (fr2 := 2) (lo2 := 200) (As := []) (st := [.int (0 : Int32), .int x1]) (fun r9_ w9_ h9_ => by rw [hl]; exact wX0_many l g hX N x0 w r9_ w9_ h9_) (by decide) rfl rfl (Nat.le_of_ble_eq_true rfl) dX0_isCard_3 hF (fun r1 u2 hF => ?_)
  refine v_iconst C (v := (1 : Int32)) dX0_isCard_6 (by decide) ?_
  refine v_isub C dX0_isCard_7 ?_
  refine c_callSi C lk_X0_93 (fr2 := 1) (lo2 := 100) (As := [.int x1, .int (0 : Int32), .int (r1 - (1 : Int32))]) (st := []) (fun r9_ w9_ h9_ => by rw [hl]; exact wX0_isIn l g hX N x1 (0 : Int32) (r1 - (1 : Int32)) u2 r9_ w9_ h9_) (by decide) rfl rfl (Nat.le_of_ble_eq_true rfl) dX0_isCard_8 hF (fun r4 u5 hF => ?_)
  obtain ⟨h6, hF⟩ := k_ite hF
  exact c_zret C (nb_nar h6) dX0_isCard_11 hF
set_option maxHeartbeats 4000000 in
theorem wX0_isRow (l : Launch) (g : GT) (hX : ∀ U, gX g U → SX g U) (N : Nat) (x0 : Nat) (x1 : Int32) (w : Wd) (r : Int32) (w1 : Wd) (hF : FX0_isRow N g x0 x1 w = some (r, w1)) : kMt l g yX0_isRow (ws_ yX0_isRow cX0_isRow 2 (some .boolean)) 2 200 w [.ref x0, .int x1] (some (.int r)) w1 := by
  refine kMt.ofV (lv := [some (.ref x0), some (.int x1)]) (by decide) rfl (Nat.le_of_ble_eq_true rfl) rfl ?_
  intro X hl hin C
  unfold FX0_isRow at hF
  refine v_iload_n C dX0_isRow_0 rfl rfl ?_
  refine v_iconst C (v := (0 : Int32)) dX0_isRow_1 (by decide) ?_
  refine v_aload_n C dX0_isRow_2 rfl rfl ?_
  refine v_getR C kc_X0 1 (Nat.le_of_ble_eq_true rfl) (kFl.p q199) dX0_isRow_3 hF (fun v1 hF => ?_)
  obtain ⟨h4, hF⟩ := k_ite hF
  refine c_callVi C lk_X0_86 (ci := 11) rfl h4 (fr2 := 1) (lo2 := 100) (As := []) (st := [.int (0 : Int32), .int x1]) (fun r9_ w9_ h9_ => by rw [hl]; exact wJ2_size l g hX N v1 w r9_ w9_ h9_) (by decide) rfl rfl (Nat.le_of_ble_eq_true rfl) dX0_isRow_6 hF (fun r2 u3 hF => ?_)
  refine v_iconst C (v := (1 : Int32)) dX0_isRow_9 (by decide) ?_
  refine v_isub C dX0_isRow_10 ?_
  refine c_callSi C lk_X0_93 (fr2 := 1) (lo2 := 100) (As := [.int x1, .int (0 : Int32), .int (r2 - (1 : Int32))]) (st := []) (fun r9_ w9_ h9_ => by rw [hl]; exact wX0_isIn l g hX N x1 (0 : Int32) (r2 - (1 : Int32)) u3 r9_ w9_ h9_) (by decide) rfl rfl (Nat.le_of_ble_eq_true rfl) dX0_isRow_11 hF (fun r5 u6 hF => ?_)
  obtain ⟨h7, hF⟩ := k_ite hF
  exact c_zret C (nb_nar h7) dX0_isRow_14 hF
set_option maxHeartbeats 4000000 in
theorem wX0_isTurning (l : Launch) (g : GT) (hX : ∀ U, gX g U → SX g U) (N : Nat) (x0 : Int32) (w : Wd) (r : Int32) (w1 : Wd) (hF : FX0_isTurning N g x0 w = some (r, w1)) : kMt l g yX0_isTurning (ws_ yX0_isTurning cX0_isTurning 1 (some .boolean)) 2 200 w [.int x0] (some (.int r)) w1 := by
  refine kMt.ofV (lv := [some (.int x0)]) (by decide) rfl (Nat.le_of_ble_eq_true rfl) rfl ?_
  intro X hl hin C
  unfold FX0_isTurning at hF
  refine v_iload_n C dX0_isTurning_0 rfl rfl ?_
  refine v_iconst C (v := (0 : Int32)) dX0_isTurning_1 (by decide) ?_
  refine v_iconst C (v := (3 : Int32)) dX0_isTurning_2 (by decide) ?_
  refine c_callSi C lk_X0_93 (fr2 := 1) (lo2 := 100) (As := [.int x0, .int (0 : Int32), .int (3 : Int32)]) (st := []) (fun r9_ w9_ h9_ => by rw [hl]; exact wX0_isIn l g hX N x0 (0 : Int32) (3 : Int32) w r9_ w9_ h9_) (by decide) rfl rfl (Nat.le_of_ble_eq_true rfl) dX0_isTurning_3 hF (fun r1 u2 hF => ?_)
  obtain ⟨h3, hF⟩ := k_ite hF
  exact c_zret C (nb_nar h3) dX0_isTurning_6 hF
set_option maxHeartbeats 4000000 in
theorem wX0_isColour (l : Launch) (g : GT) (hX : ∀ U, gX g U → SX g U) (N : Nat) (x0 : Int32) (w : Wd) (r : Int32) (w1 : Wd) (hF : FX0_isColour N g x0 w = some (r, w1)) : kMt l g yX0_isColour (ws_ yX0_isColour cX0_isColour 1 (some .boolean)) 2 200 w [.int x0] (some (.int r)) w1 := by
  refine kMt.ofV (lv := [some (.int x0)]) (by decide) rfl (Nat.le_of_ble_eq_true rfl) rfl ?_
  intro X hl hin C
  unfold FX0_isColour at hF
  refine v_iload_n C dX0_isColour_0 rfl rfl ?_
  refine v_iconst C (v := (0 : Int32)) dX0_isColour_1 (by decide) ?_
  refine v_bipush C (v := (9 : Int32)) dX0_isColour_2 (by decide) ?_
  refine c_callSi C lk_X0_93 (fr2 := 1) (lo2 := 100) (As := [.int x0, .int (0 : Int32), .int (9 : Int32)]) (st := []) (fun r9_ w9_ h9_ => by rw [hl]; exact wX0_isIn l g hX N x0 (0 : Int32) (9 : Int32) w r9_ w9_ h9_) (by decide) rfl rfl (Nat.le_of_ble_eq_true rfl) dX0_isColour_4 hF (fun r1 u2 hF => ?_)
  obtain ⟨h3, hF⟩ := k_ite hF
  exact c_zret C (nb_nar h3) dX0_isColour_7 hF
set_option maxHeartbeats 4000000 in
theorem wX0_isList (l : Launch) (g : GT) (hX : ∀ U, gX g U → SX g U) (N : Nat) (x0 : Int32) (w : Wd) (r : Int32) (w1 : Wd) (hF : FX0_isList N g x0 w = some (r, w1)) : kMt l g yX0_isList (ws_ yX0_isList cX0_isList 1 (some .boolean)) 2 200 w [.int x0] (some (.int r)) w1 := by
  refine kMt.ofV (lv := [some (.int x0)]) (by decide) rfl (Nat.le_of_ble_eq_true rfl) rfl ?_
  intro X hl hin C
  unfold FX0_isList at hF
  refine v_iload_n C dX0_isList_0 rfl rfl ?_
  refine v_iconst C (v := (0 : Int32)) dX0_isList_1 (by decide) ?_
  refine v_iconst C (v := (3 : Int32)) dX0_isList_2 (by decide) ?_
  refine c_callSi C lk_X0_93 (fr2 := 1) (lo2 := 100) (As := [.int x0, .int (0 : Int32), .int (3 : Int32)]) (st := []) (fun r9_ w9_ h9_ => by rw [hl]; exact wX0_isIn l g hX N x0 (0 : Int32) (3 : Int32) w r9_ w9_ h9_) (by decide) rfl rfl (Nat.le_of_ble_eq_true rfl) dX0_isList_3 hF (fun r1 u2 hF => ?_)
  obtain ⟨h3, hF⟩ := k_ite hF
  exact c_zret C (nb_nar h3) dX0_isList_6 hF
set_option maxHeartbeats 4000000 in
theorem wX0_isThere (l : Launch) (g : GT) (hX : ∀ U, gX g U → SX g U) (N : Nat) (x0 : Nat) (x1 : Int32) (x2 : Int32) (w : Wd) (r : Int32) (w1 : Wd) (hF : FX0_isThere N g x0 x1 x2 w = some (r, w1)) : kMt l g yX0_isThere (ws_ yX0_isThere cX0_isThere 3 (some .boolean)) 4 400 w [.ref x0, .int x1, .int x2] (some (.int r)) w1 := by
  refine kMt.ofV (lv := [some (.ref x0), some (.int x1), some (.int x2)]) (by decide) rfl (Nat.le_of_ble_eq_true rfl) rfl ?_
  intro X hl hin C
  unfold FX0_isThere at hF
  refine v_aload_n C dX0_isThere_0 rfl rfl ?_
  refine v_iload_n C dX0_isThere_1 rfl rfl ?_
  obtain ⟨h3, hF⟩ := k_ite hF
  refine c_callVi C lk_X0_249 (ci := 1) rfl h3 (fr2 := 2) (lo2 := 200) (As := [.int x1]) (st := []) (fun r9_ w9_ h9_ => by rw [hl]; exact wX0_isRow l g hX N x0 x1 w r9_ w9_ h9_) (by decide) rfl rfl (Nat.le_of_ble_eq_true rfl) dX0_isThere_2 hF (fun r1 u2 hF => ?_)
  refine v_if_eq C (tgt := 20) dX0_isThere_5 (by decide) hF (fun c4 hF => ?_) (fun c4 hF => ?_)
  · refine v_iconst C (v := (0 : Int32)) dX0_isThere_20 (by decide) ?_
    exact c_zret C rfl dX0_isThere_21 hF
  · refine v_aload_n C dX0_isThere_8 rfl rfl ?_
    refine v_iload_n C dX0_isThere_9 rfl rfl ?_
    obtain ⟨h7, hF⟩ := k_ite hF
    refine c_callVi C lk_X0_195 (ci := 1) rfl h7 (fr2 := 3) (lo2 := 300) (As := [.int x2]) (st := []) (fun r9_ w9_ h9_ => by rw [hl]; exact wX0_isCard l g hX N x0 x2 u2 r9_ w9_ h9_) (by decide) rfl rfl (Nat.le_of_ble_eq_true rfl) dX0_isThere_10 hF (fun r5 u6 hF => ?_)
    refine v_if_eq C (tgt := 20) dX0_isThere_13 (by decide) hF (fun c8 hF => ?_) (fun c8 hF => ?_)
    · refine v_iconst C (v := (0 : Int32)) dX0_isThere_20 (by decide) ?_
      exact c_zret C rfl dX0_isThere_21 hF
    · refine v_iconst C (v := (1 : Int32)) dX0_isThere_16 (by decide) ?_
      refine v_goto C (tgt := 21) dX0_isThere_17 (by decide) ?_
      exact c_zret C rfl dX0_isThere_21 hF
