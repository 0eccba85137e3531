set_option maxRecDepth 100000
set_option maxHeartbeats 4000000 in
theorem wX0_twins_b13 {l : Launch} {g : GT} {X : CxT} {r : Nat} {w1 : Wd} (C : kOk g X cX0_twins 4 RX0 (some (.object "java/util/ArrayList")) 7 700 (some (.ref r)) w1) (hX : ∀ U, gX g U → SX g U) (hl : xl X = l) (hin : kHin X yX0_twins) (N : Nat) (k13 : Nat × Nat × Wd → Option (Nat × Wd)) (hk13 : ∀ a, k13 a = some (r, w1) → kV g X 4 a.2.2 13 [none, some (.ref a.1), some (.ref a.2.1), none] []) (x1 : Nat) (x2 : Nat) (w : Wd) (hF : FX0_twins_b13 N g k13 x1 x2 w = some (r, w1)) : kV g X 4 w 13 [none, some (.ref x1), some (.ref x2), none] [] := by
  unfold FX0_twins_b13 at hF
  refine v_aload_n C dX0_twins_13 rfl rfl ?_
  obtain ⟨h10, hF⟩ := k_ite hF
  refine c_callFi C lk_X0_101_J15_hasNext ((hX _ C.2.2.2.2.2.1.2.2.1).2.2.1 _ (List.mem_of_getElem? (i := 0) rfl)) (C.2.2.2.2.2.1.1.1 12 _ rfl).2 (kRc.of C (ci := 12) rfl h10) (fr2 := 1) (lo2 := 100) (As := []) (st := []) (fun r9_ w9_ h9_ => by rw [hl]; exact wJ15_hasNext l g hX N x2 w r9_ w9_ h9_) (by decide) rfl rfl (Nat.le_of_ble_eq_true rfl) dX0_twins_14 hF (fun r8 u9 hF => ?_)
  refine v_if_eq C (tgt := 44) dX0_twins_19 (by decide) hF (fun c11 hF => ?_) (fun c11 hF => ?_)
  · refine v_aload_n C dX0_twins_44 rfl rfl ?_
    exact c_aret C (Or.inl ⟨_, rfl⟩) dX0_twins_45 hF
  · refine v_aload_n C dX0_twins_22 rfl rfl ?_
    obtain ⟨h14, hF⟩ := k_ite hF
    refine c_callFr C lk_X0_107_J15_next ((hX _ C.2.2.2.2.2.1.2.2.1).2.2.1 _ (List.mem_of_getElem? (i := 1) rfl)) (C.2.2.2.2.2.1.1.1 12 _ rfl).2 (kRc.of C (ci := 12) rfl h14) (fr2 := 2) (lo2 := 200) (As := []) (st := []) (fun r9_ w9_ h9_ => by rw [hl]; exact wJ15_next l g hX N x2 u9 r9_ w9_ h9_) (by decide) rfl rfl (Nat.le_of_ble_eq_true rfl) dX0_twins_23 hF (fun r12 u13 hF => ?_)
    refine v_castI C (ci := 2) rfl q700 dX0_twins_28 hF (fun hF => ?_)
    refine v_astore_n C dX0_twins_31 rfl (Nat.le_of_ble_eq_true rfl) rfl (lv' := [none, some (.ref x1), some (.ref x2), some (.ref r12)]) rfl ?_
    refine v_aload_n C dX0_twins_32 rfl rfl ?_
    refine v_aload_n C dX0_twins_33 rfl rfl ?_
    obtain ⟨h17, hF⟩ := k_ite hF
    refine c_callVr C lk_X0_113 (ci := 2) rfl h17 (fr2 := 2) (lo2 := 200) (As := []) (st := [.ref x1]) (fun r9_ w9_ h9_ => by rw [hl]; exact wX6_twin l g hX N r12 u13 r9_ w9_ h9_) (by decide) rfl rfl (Nat.le_of_ble_eq_true rfl) dX0_twins_34 hF (fun r15 u16 hF => ?_)
    obtain ⟨h20, hF⟩ := k_ite hF
    refine c_callVi C lk_X0_117 (ci := 11) rfl h20 (fr2 := 6) (lo2 := 600) (As := [.ref r15]) (st := []) (fun r9_ w9_ h9_ => by rw [hl]; exact wJ2_add l g hX N x1 r15 u16 r9_ w9_ h9_) (by decide) rfl rfl (Nat.le_of_ble_eq_true rfl) dX0_twins_37 hF (fun r18 u19 hF => ?_)
    refine v_pop C dX0_twins_40 rfl ?_
    refine v_goto C (tgt := 13) dX0_twins_41 (by decide) ?_
    refine v_mask [false, true, true, false] (lv' := [none, some (.ref x1), some (.ref x2), none]) rfl ?_
    exact hk13 (x1, x2, u19) hF
set_option maxHeartbeats 4000000 in
theorem wX0_twins (l : Launch) (g : GT) (hX : ∀ U, gX g U → SX g U) (N : Nat) (x0 : Nat) (w : Wd) (r : Nat) (w1 : Wd) (hF : FX0_twins N g x0 w = some (r, w1)) : kMt l g yX0_twins (ws_ yX0_twins cX0_twins 4 (some (.object "java/util/ArrayList"))) 7 700 w [.ref x0] (some (.ref r)) w1 := by
  refine kMt.ofV (lv := [some (.ref x0), none, none, none]) (by decide) rfl (Nat.le_of_ble_eq_true rfl) rfl ?_
  intro X hl hin C
  unfold FX0_twins at hF
  refine v_newW C kc_J2 q144 q145 q81 nw_J2 dX0_twins_0 hF (fun a1 u2 hF => ?_)
  refine v_dup C dX0_twins_3 rfl ?_
  refine c_callI C lk_X0_9 (fr2 := 3) (lo2 := 300) (As := []) (st := [.ref a1]) (fun r9_ w9_ h9_ => by rw [hl]; exact wJ2_init l g hX N a1 u2 r9_ w9_ h9_) (by decide) rfl rfl (Nat.le_of_ble_eq_true rfl) dX0_twins_4 hF (fun r3 u4 hF => ?_)
  refine v_astore_n C dX0_twins_7 rfl (Nat.le_of_ble_eq_true rfl) rfl (lv' := [some (.ref x0), some (.ref a1), none, none]) rfl ?_
  refine v_aload_n C dX0_twins_8 rfl rfl ?_
  obtain ⟨h7, hF⟩ := k_ite hF
  refine c_callVr C lk_X0_97 (ci := 11) rfl h7 (fr2 := 2) (lo2 := 200) (As := []) (st := []) (fun r9_ w9_ h9_ => by rw [hl]; exact wJ2_iterator l g hX N x0 u4 r9_ w9_ h9_) (by decide) rfl rfl (Nat.le_of_ble_eq_true rfl) dX0_twins_9 hF (fun r5 u6 hF => ?_)
  refine v_astore_n C dX0_twins_12 rfl (Nat.le_of_ble_eq_true rfl) rfl (lv' := [some (.ref x0), some (.ref a1), some (.ref r5), none]) rfl ?_
  refine v_mask [false, true, true, false] (lv' := [none, some (.ref a1), some (.ref r5), none]) rfl ?_
  exact kloop_ok (P := fun a => kV g X 4 a.2.2 13 [none, some (.ref a.1), some (.ref a.2.1), none] []) (fun self hs a hF => wX0_twins_b13 C hX hl hin N self hs a.1 a.2.1 a.2.2 hF) N (a1, r5, u6) hF
set_option maxHeartbeats 4000000 in
theorem wX0_jams_b4 {l : Launch} {g : GT} {X : CxT} {r : Int32} {w1 : Wd} (C : kOk g X cX0_jams 4 RX0 (some .boolean) 4 400 (some (.int r)) w1) (hX : ∀ U, gX g U → SX g U) (hl : xl X = l) (hin : kHin X yX0_jams) (N : Nat) (k4 : Nat × Nat × Int32 × Int32 × Wd → Option (Int32 × Wd)) (hk4 : ∀ a, k4 a = some (r, w1) → kV g X 4 a.2.2.2.2 4 [some (.ref a.1), some (.ref a.2.1), some (.int a.2.2.1), some (.int a.2.2.2.1)] []) (x0 : Nat) (x1 : Nat) (x2 : Int32) (x3 : Int32) (w : Wd) (hF : FX0_jams_b4 N g k4 x0 x1 x2 x3 w = some (r, w1)) : kV g X 4 w 4 [some (.ref x0), some (.ref x1), some (.int x2), some (.int x3)] [] := by
  unfold FX0_jams_b4 at hF
  refine v_iload_n C dX0_jams_4 rfl rfl ?_
  refine v_aload_n C dX0_jams_5 rfl rfl ?_
  refine v_aL C (t := 5) rfl dX0_jams_6 hF (fun v1 hF => ?_)
  refine v_icmp_ge C (tgt := 33) dX0_jams_7 (by decide) hF (fun c2 hF => ?_) (fun c2 hF => ?_)
  · refine v_iload_n C dX0_jams_33 rfl rfl ?_
    obtain ⟨h3, hF⟩ := k_ite hF
    exact c_zret C (nb_nar h3) dX0_jams_34 hF
  · refine v_iload_n C dX0_jams_10 rfl rfl ?_
    refine v_aload_n C dX0_jams_11 rfl rfl ?_
    refine v_iload_n C dX0_jams_12 rfl rfl ?_
    obtain ⟨h6, hF⟩ := k_ite hF
    refine c_callVr C lk_X0_121 (ci := 11) rfl h6 (fr2 := 3) (lo2 := 300) (As := [.int x3]) (st := [.int x2]) (fun r9_ w9_ h9_ => by rw [hl]; exact wJ2_get l g hX N x0 x3 w r9_ w9_ h9_) (by decide) rfl rfl (Nat.le_of_ble_eq_true rfl) dX0_jams_13 hF (fun r4 u5 hF => ?_)
    refine v_castI C (ci := 2) rfl q700 dX0_jams_16 hF (fun hF => ?_)
    refine v_aload_n C dX0_jams_19 rfl rfl ?_
    refine v_iload_n C dX0_jams_20 rfl rfl ?_
    refine v_aQl C (t := 5) rfl dX0_jams_21 hF (fun v7 hF => ?_)
    rcases v7 with _ | a8
    · exact (k_ob0 hF).elim
    have hF := k_ob1 hF
    show kV _ _ _ _ 22 [some (.ref x0), some (.ref x1), some (.int x2), some (.int x3)] [.ref a8, .ref r4, .int x2]
    obtain ⟨h11, hF⟩ := k_ite hF
    refine c_callVi C lk_X0_125 (ci := 2) rfl h11 (fr2 := 3) (lo2 := 300) (As := [.ref a8]) (st := [.int x2]) (fun r9_ w9_ h9_ => by rw [hl]; exact wX6_jams l g hX N r4 a8 u5 r9_ w9_ h9_) (by decide) rfl rfl (Nat.le_of_ble_eq_true rfl) dX0_jams_22 hF (fun r9 u10 hF => ?_)
    refine v_ior C dX0_jams_25 ?_
    refine v_istore_n C dX0_jams_26 rfl (Nat.le_of_ble_eq_true rfl) rfl (lv' := [some (.ref x0), some (.ref x1), some (.int (x2 ||| r9)), some (.int x3)]) rfl ?_
    refine v_iinc C dX0_jams_27 rfl (v := (x3 + (1 : Int32))) rfl (Nat.le_of_ble_eq_true rfl) rfl (lv' := [some (.ref x0), some (.ref x1), some (.int (x2 ||| r9)), some (.int (x3 + (1 : Int32)))]) rfl ?_
    refine v_goto C (tgt := 4) dX0_jams_30 (by decide) ?_
    refine v_mask [true, true, true, true] (lv' := [some (.ref x0), some (.ref x1), some (.int (x2 ||| r9)), some (.int (x3 + (1 : Int32)))]) rfl ?_
    exact hk4 (x0, x1, (x2 ||| r9), (x3 + (1 : Int32)), u10) hF
set_option maxHeartbeats 4000000 in
theorem wX0_jams (l : Launch) (g : GT) (hX : ∀ U, gX g U → SX g U) (N : Nat) (x0 : Nat) (x1 : Nat) (w : Wd) (r : Int32) (w1 : Wd) (hF : FX0_jams N g x0 x1 w = some (r, w1)) : kMt l g yX0_jams (ws_ yX0_jams cX0_jams 4 (some .boolean)) 4 400 w [.ref x0, .ref x1] (some (.int r)) w1 := by
  refine kMt.ofV (lv := [some (.ref x0), some (.ref x1), none, none]) (by decide) rfl (Nat.le_of_ble_eq_true rfl) rfl ?_
  intro X hl hin C
  unfold FX0_jams at hF
  refine v_iconst C (v := (0 : Int32)) dX0_jams_0 (by decide) ?_
  refine v_istore_n C dX0_jams_1 rfl (Nat.le_of_ble_eq_true rfl) rfl (lv' := [some (.ref x0), some (.ref x1), some (.int (0 : Int32)), none]) rfl ?_
  refine v_iconst C (v := (0 : Int32)) dX0_jams_2 (by decide) ?_
  refine v_istore_n C dX0_jams_3 rfl (Nat.le_of_ble_eq_true rfl) rfl (lv' := [some (.ref x0), some (.ref x1), some (.int (0 : Int32)), some (.int (0 : Int32))]) rfl ?_
  refine v_mask [true, true, true, true] (lv' := [some (.ref x0), some (.ref x1), some (.int (0 : Int32)), some (.int (0 : Int32))]) rfl ?_
  exact kloop_ok (P := fun a => kV g X 4 a.2.2.2.2 4 [some (.ref a.1), some (.ref a.2.1), some (.int a.2.2.1), some (.int a.2.2.2.1)] []) (fun self hs a hF => wX0_jams_b4 C hX hl hin N self hs a.1 a.2.1 a.2.2.1 a.2.2.2.1 a.2.2.2.2 hF) N (x0, x1, (0 : Int32), (0 : Int32), w) hF
set_option maxHeartbeats 4000000 in
theorem wX0_turns_b2 {l : Launch} {g : GT} {X : CxT} {r : Unit} {w1 : Wd} (C : kOk g X cX0_turns 3 RX0 none 4 400 none w1) (hX : ∀ U, gX g U → SX g U) (hl : xl X = l) (hin : kHin X yX0_turns) (N : Nat) (k2 : Nat × Nat × Int32 × Wd → Option (Unit × Wd)) (hk2 : ∀ a, k2 a = some (r, w1) → kV g X 3 a.2.2.2 2 [some (.ref a.1), some (.ref a.2.1), some (.int a.2.2.1)] []) (x0 : Nat) (x1 : Nat) (x2 : Int32) (w : Wd) (hF : FX0_turns_b2 N g k2 x0 x1 x2 w = some (r, w1)) : kV g X 3 w 2 [some (.ref x0), some (.ref x1), some (.int x2)] [] := by
  unfold FX0_turns_b2 at hF
  refine v_iload_n C dX0_turns_2 rfl rfl ?_
  refine v_aload_n C dX0_turns_3 rfl rfl ?_
  refine v_aL C (t := 5) rfl dX0_turns_4 hF (fun v1 hF => ?_)
  refine v_icmp_ge C (tgt := 28) dX0_turns_5 (by decide) hF (fun c2 hF => ?_) (fun c2 hF => ?_)
  · exact c_vret C dX0_turns_28 hF
  · refine v_aload_n C dX0_turns_8 rfl rfl ?_
    refine v_iload_n C dX0_turns_9 rfl rfl ?_
    obtain ⟨h5, hF⟩ := k_ite hF
    refine c_callVr C lk_X0_121 (ci := 11) rfl h5 (fr2 := 3) (lo2 := 300) (As := [.int x2]) (st := []) (fun r9_ w9_ h9_ => by rw [hl]; exact wJ2_get l g hX N x0 x2 w r9_ w9_ h9_) (by decide) rfl rfl (Nat.le_of_ble_eq_true rfl) dX0_turns_10 hF (fun r3 u4 hF => ?_)
    refine v_castI C (ci := 2) rfl q700 dX0_turns_13 hF (fun hF => ?_)
    refine v_aload_n C dX0_turns_16 rfl rfl ?_
    refine v_iload_n C dX0_turns_17 rfl rfl ?_
    refine v_aQl C (t := 5) rfl dX0_turns_18 hF (fun v6 hF => ?_)
    rcases v6 with _ | a7
    · exact (k_ob0 hF).elim
    have hF := k_ob1 hF
    show kV _ _ _ _ 19 [some (.ref x0), some (.ref x1), some (.int x2)] [.ref a7, .ref r3]
    obtain ⟨h10, hF⟩ := k_ite hF
    refine c_callVv C lk_X0_129 (ci := 2) rfl h10 (fr2 := 3) (lo2 := 300) (As := [.ref a7]) (st := []) (fun r9_ w9_ h9_ => by rw [hl]; exact wX6_turns l g hX N r3 a7 u4 r9_ w9_ h9_) (by decide) rfl rfl (Nat.le_of_ble_eq_true rfl) dX0_turns_19 hF (fun r8 u9 hF => ?_)
    refine v_iinc C dX0_turns_22 rfl (v := (x2 + (1 : Int32))) rfl (Nat.le_of_ble_eq_true rfl) rfl (lv' := [some (.ref x0), some (.ref x1), some (.int (x2 + (1 : Int32)))]) rfl ?_
    refine v_goto C (tgt := 2) dX0_turns_25 (by decide) ?_
    refine v_mask [true, true, true] (lv' := [some (.ref x0), some (.ref x1), some (.int (x2 + (1 : Int32)))]) rfl ?_
    exact hk2 (x0, x1, (x2 + (1 : Int32)), u9) hF
set_option maxHeartbeats 4000000 in
theorem wX0_turns (l : Launch) (g : GT) (hX : ∀ U, gX g U → SX g U) (N : Nat) (x0 : Nat) (x1 : Nat) (w : Wd) (r : Unit) (w1 : Wd) (hF : FX0_turns N g x0 x1 w = some (r, w1)) : kMt l g yX0_turns (ws_ yX0_turns cX0_turns 3 none) 4 400 w [.ref x0, .ref x1] none w1 := by
  refine kMt.ofV (lv := [some (.ref x0), some (.ref x1), none]) (by decide) rfl (Nat.le_of_ble_eq_true rfl) rfl ?_
  intro X hl hin C
  unfold FX0_turns at hF
  refine v_iconst C (v := (0 : Int32)) dX0_turns_0 (by decide) ?_
  refine v_istore_n C dX0_turns_1 rfl (Nat.le_of_ble_eq_true rfl) rfl (lv' := [some (.ref x0), some (.ref x1), some (.int (0 : Int32))]) rfl ?_
  refine v_mask [true, true, true] (lv' := [some (.ref x0), some (.ref x1), some (.int (0 : Int32))]) rfl ?_
  exact kloop_ok (P := fun a => kV g X 3 a.2.2.2 2 [some (.ref a.1), some (.ref a.2.1), some (.int a.2.2.1)] []) (fun self hs a hF => wX0_turns_b2 C hX hl hin N self hs a.1 a.2.1 a.2.2.1 a.2.2.2 hF) N (x0, x1, (0 : Int32), w) hF
set_option maxHeartbeats 4000000 in
theorem wX0_pickOf_b10 {l : Launch} {g : GT} {X : CxT} {r : Nat} {w1 : Wd} (C : kOk g X cX0_pickOf 4 RX0 (some (.array (.object "CardLoom$Turning"))) 46 4600 (some (.ref r)) w1) (hX : ∀ U, gX g U → SX g U) (hl : xl X = l) (hin : kHin X yX0_pickOf) (N : Nat) (k10 : Nat × Int32 × Nat × Int32 × Wd → Option (Nat × Wd)) (hk10 : ∀ a, k10 a = some (r, w1) → kV g X 4 a.2.2.2.2 10 [some (.ref a.1), some (.int a.2.1), some (.ref a.2.2.1), some (.int a.2.2.2.1)] []) (x0 : Nat) (x1 : Int32) (x2 : Nat) (x3 : Int32) (w : Wd) (hF : FX0_pickOf_b10 N g k10 x0 x1 x2 x3 w = some (r, w1)) : kV g X 4 w 10 [some (.ref x0), some (.int x1), some (.ref x2), some (.int x3)] [] := by
  unfold FX0_pickOf_b10 at hF
  refine v_iload_n C dX0_pickOf_10 rfl rfl ?_
  refine v_aload_n C dX0_pickOf_11 rfl rfl ?_
  refine v_aL C (t := 5) rfl dX0_pickOf_12 hF (fun v6 hF => ?_)
  refine v_icmp_ge C (tgt := 38) dX0_pickOf_13 (by decide) hF (fun c7 hF => ?_) (fun c7 hF => ?_)
  · refine v_aload_n C dX0_pickOf_38 rfl rfl ?_
    exact c_aret C (Or.inr ⟨_, rfl⟩) dX0_pickOf_39 hF
  · refine v_aload_n C dX0_pickOf_16 rfl rfl ?_
    refine v_iload_n C dX0_pickOf_17 rfl rfl ?_
    refine v_aload_n C dX0_pickOf_18 rfl rfl ?_
    refine v_getR C kc_X0 2 (Nat.le_of_ble_eq_true rfl) (kFl.p q200) dX0_pickOf_19 hF (fun v8 hF => ?_)
    refine v_iload_n C dX0_pickOf_22 rfl rfl ?_
    refine v_iload_n C dX0_pickOf_23 rfl rfl ?_
    refine v_aload_n C dX0_pickOf_24 rfl rfl ?_
    refine v_aL C (t := 5) rfl dX0_pickOf_25 hF (fun v9 hF => ?_)
    refine v_law C hX q601 (by decide) (Nat.le_of_ble_eq_true rfl) dX0_pickOf_26 hF (fun v10 hF => ?_)
    obtain ⟨h12, hF⟩ := k_ite hF
    refine v_aSq C (t := 5) rfl (any_T C hX h12) dX0_pickOf_31 hF (fun u11 hF => ?_)
    refine v_iinc C dX0_pickOf_32 rfl (v := (x3 + (1 : Int32))) rfl (Nat.le_of_ble_eq_true rfl) rfl (lv' := [some (.ref x0), some (.int x1), some (.ref x2), some (.int (x3 + (1 : Int32)))]) rfl ?_
    refine v_goto C (tgt := 10) dX0_pickOf_35 (by decide) ?_
    refine v_mask [true, true, true, true] (lv' := [some (.ref x0), some (.int x1), some (.ref x2), some (.int (x3 + (1 : Int32)))]) rfl ?_
    exact hk10 (x0, x1, x2, (x3 + (1 : Int32)), u11) hF
set_option maxHeartbeats 4000000 in
theorem wX0_pickOf (l : Launch) (g : GT) (hX : ∀ U, gX g U → SX g U) (N : Nat) (x0 : Nat) (x1 : Int32) (w : Wd) (r : Nat) (w1 : Wd) (hF : FX0_pickOf N g x0 x1 w = some (r, w1)) : kMt l g yX0_pickOf (ws_ yX0_pickOf cX0_pickOf 4 (some (.array (.object "CardLoom$Turning")))) 46 4600 w [.ref x0, .int x1] (some (.ref r)) w1 := by
  refine kMt.ofV (lv := [some (.ref x0), some (.int x1), none, none]) (by decide) rfl (Nat.le_of_ble_eq_true rfl) rfl ?_
  intro X hl hin C
  unfold FX0_pickOf at hF
  refine v_aload_n C dX0_pickOf_0 rfl rfl ?_
  obtain ⟨h3, hF⟩ := k_ite hF
  refine c_callVi C lk_X0_90 (ci := 1) rfl h3 (fr2 := 2) (lo2 := 200) (As := []) (st := []) (fun r9_ w9_ h9_ => by rw [hl]; exact wX0_many l g hX N x0 w r9_ w9_ h9_) (by decide) rfl rfl (Nat.le_of_ble_eq_true rfl) dX0_pickOf_1 hF (fun r1 u2 hF => ?_)
  refine v_anew C (t := 5) rfl q896 ((hX _ C.2.2.2.2.2.1.2.2.1).2.1 _ (by decide)) dX0_pickOf_4 hF (fun a4 u5 hF => ?_)
  refine v_astore_n C dX0_pickOf_7 rfl (Nat.le_of_ble_eq_true rfl) rfl (lv' := [some (.ref x0), some (.int x1), some (.ref a4), none]) rfl ?_
  refine v_iconst C (v := (0 : Int32)) dX0_pickOf_8 (by decide) ?_
  refine v_istore_n C dX0_pickOf_9 rfl (Nat.le_of_ble_eq_true rfl) rfl (lv' := [some (.ref x0), some (.int x1), some (.ref a4), some (.int (0 : Int32))]) rfl ?_
  refine v_mask [true, true, true, true] (lv' := [some (.ref x0), some (.int x1), some (.ref a4), some (.int (0 : Int32))]) rfl ?_
  exact kloop_ok (P := fun a => kV g X 4 a.2.2.2.2 10 [some (.ref a.1), some (.int a.2.1), some (.ref a.2.2.1), some (.int a.2.2.2.1)] []) (fun self hs a hF => wX0_pickOf_b10 C hX hl hin N self hs a.1 a.2.1 a.2.2.1 a.2.2.2.1 a.2.2.2.2 hF) N (x0, x1, a4, (0 : Int32), u5) hF
set_option maxHeartbeats 4000000 in
theorem wX0_picks (l : Launch) (g : GT) (hX : ∀ U, gX g U → SX g U) (N : Nat) (x0 : Nat) (x1 : Nat) (w : Wd) (r : Int32) (w1 : Wd) (hF : FX0_picks N g x0 x1 w = some (r, w1)) : kMt l g yX0_picks (ws_ yX0_picks cX0_picks 2 (some .int)) 7 700 w [.ref x0, .ref x1] (some (.int r)) w1 := by
  refine kMt.ofV (lv := [some (.ref x0), some (.ref x1)]) (by decide) rfl (Nat.le_of_ble_eq_true rfl) rfl ?_
  intro X hl hin C
  unfold FX0_picks at hF
  refine v_aload_n C dX0_picks_0 rfl rfl ?_
  refine v_getR C kc_X0 1 (Nat.le_of_ble_eq_true rfl) (kFl.p q199) dX0_picks_1 hF (fun v1 hF => ?_)
  obtain ⟨h4, hF⟩ := k_ite hF
  refine c_callVi C lk_X0_86 (ci := 11) rfl h4 (fr2 := 1) (lo2 := 100) (As := []) (st := []) (fun r9_ w9_ h9_ => by rw [hl]; exact wJ2_size l g hX N v1 w r9_ w9_ h9_) (by decide) rfl rfl (Nat.le_of_ble_eq_true rfl) dX0_picks_4 hF (fun r2 u3 hF => ?_)
  refine v_bipush C (v := (50 : Int32)) dX0_picks_7 (by decide) ?_
  refine v_icmp_ne C (tgt := 15) dX0_picks_9 (by decide) hF (fun c5 hF => ?_) (fun c5 hF => ?_)
  · refine v_bipush C (v := (-4 : Int32)) dX0_picks_12 (by decide) ?_
    exact c_iret C dX0_picks_14 hF
  · refine v_aload_n C dX0_picks_15 rfl rfl ?_
    refine v_getR C kc_X0 0 (Nat.le_of_ble_eq_true rfl) (kFl.p q198) dX0_picks_16 hF (fun v6 hF => ?_)
    refine v_aload_n C dX0_picks_19 rfl rfl ?_
    refine c_callSi C lk_X0_138 (fr2 := 4) (lo2 := 400) (As := [.ref v6, .ref x1]) (st := []) (fun r9_ w9_ h9_ => by rw [hl]; exact wX0_jams l g hX N v6 x1 u3 r9_ w9_ h9_) (by decide) rfl rfl (Nat.le_of_ble_eq_true rfl) dX0_picks_20 hF (fun r7 u8 hF => ?_)
    refine v_if_eq C (tgt := 29) dX0_picks_23 (by decide) hF (fun c9 hF => ?_) (fun c9 hF => ?_)
    · refine v_aload_n C dX0_picks_29 rfl rfl ?_
      refine v_getR C kc_X0 0 (Nat.le_of_ble_eq_true rfl) (kFl.p q198) dX0_picks_30 hF (fun v10 hF => ?_)
      refine v_aload_n C dX0_picks_33 rfl rfl ?_
      refine c_callSv C lk_X0_141 (fr2 := 4) (lo2 := 400) (As := [.ref v10, .ref x1]) (st := []) (fun r9_ w9_ h9_ => by rw [hl]; exact wX0_turns l g hX N v10 x1 u8 r9_ w9_ h9_) (by decide) rfl rfl (Nat.le_of_ble_eq_true rfl) dX0_picks_34 hF (fun r11 u12 hF => ?_)
      refine v_aload_n C dX0_picks_37 rfl rfl ?_
      refine v_getR C kc_X0 1 (Nat.le_of_ble_eq_true rfl) (kFl.p q199) dX0_picks_38 hF (fun v13 hF => ?_)
      refine v_newW C kc_X9 q811 q947 q108 nw_X9 dX0_picks_41 hF (fun a14 u15 hF => ?_)
      refine v_dup C dX0_picks_44 rfl ?_
      refine v_aload_n C dX0_picks_45 rfl rfl ?_
      refine v_getR C kc_X0 0 (Nat.le_of_ble_eq_true rfl) (kFl.p q198) dX0_picks_46 hF (fun v16 hF => ?_)
      refine v_aload_n C dX0_picks_49 rfl rfl ?_
      refine c_callI C lk_X0_146 (fr2 := 4) (lo2 := 400) (As := [.ref v16, .ref x1]) (st := [.ref a14, .ref v13]) (fun r9_ w9_ h9_ => by rw [hl]; exact wX9_init l g hX N a14 v16 x1 u15 r9_ w9_ h9_) (by decide) rfl rfl (Nat.le_of_ble_eq_true rfl) dX0_picks_50 hF (fun r17 u18 hF => ?_)
      obtain ⟨h21, hF⟩ := k_ite hF
      refine c_callVi C lk_X0_117 (ci := 11) rfl h21 (fr2 := 6) (lo2 := 600) (As := [.ref a14]) (st := []) (fun r9_ w9_ h9_ => by rw [hl]; exact wJ2_add l g hX N v13 a14 u18 r9_ w9_ h9_) (by decide) rfl rfl (Nat.le_of_ble_eq_true rfl) dX0_picks_53 hF (fun r19 u20 hF => ?_)
      refine v_pop C dX0_picks_56 rfl ?_
      refine v_aload_n C dX0_picks_57 rfl rfl ?_
      refine v_getR C kc_X0 1 (Nat.le_of_ble_eq_true rfl) (kFl.p q199) dX0_picks_58 hF (fun v22 hF => ?_)
      obtain ⟨h25, hF⟩ := k_ite hF
      refine c_callVi C lk_X0_86 (ci := 11) rfl h25 (fr2 := 1) (lo2 := 100) (As := []) (st := []) (fun r9_ w9_ h9_ => by rw [hl]; exact wJ2_size l g hX N v22 u20 r9_ w9_ h9_) (by decide) rfl rfl (Nat.le_of_ble_eq_true rfl) dX0_picks_61 hF (fun r23 u24 hF => ?_)
      exact c_iret C dX0_picks_64 hF
    · refine v_bipush C (v := (-6 : Int32)) dX0_picks_26 (by decide) ?_
      exact c_iret C dX0_picks_28 hF
set_option maxHeartbeats 4000000 in
theorem wX0_setOf_b30 {l : Launch} {g : GT} {X : CxT} {r : Nat} {w1 : Wd} (C : kOk g X cX0_setOf 3 RX0 (some (.object "java/util/BitSet")) 4 400 (some (.ref r)) w1) (hX : ∀ U, gX g U → SX g U) (hl : xl X = l) (hin : kHin X yX0_setOf) (N : Nat) (k10 : Int32 × Nat × Int32 × Wd → Option (Nat × Wd)) (hk10 : ∀ a, k10 a = some (r, w1) → kV g X 3 a.2.2.2 10 [some (.int a.1), some (.ref a.2.1), some (.int a.2.2.1)] []) (x0 : Int32) (x1 : Nat) (x2 : Int32) (w : Wd) (hF : FX0_setOf_b30 N g k10 x0 x1 x2 w = some (r, w1)) : kV g X 3 w 30 [some (.int x0), some (.ref x1), some (.int x2)] [] := by
  unfold FX0_setOf_b30 at hF
  refine v_iinc C dX0_setOf_30 rfl (v := (x2 + (1 : Int32))) rfl (Nat.le_of_ble_eq_true rfl) rfl (lv' := [some (.int x0), some (.ref x1), some (.int (x2 + (1 : Int32)))]) rfl ?_
  refine v_goto C (tgt := 10) dX0_setOf_33 (by decide) ?_
  refine v_mask [true, true, true] (lv' := [some (.int x0), some (.ref x1), some (.int (x2 + (1 : Int32)))]) rfl ?_
  exact hk10 (x0, x1, (x2 + (1 : Int32)), w) hF
set_option maxHeartbeats 4000000 in
theorem wX0_setOf_b10 {l : Launch} {g : GT} {X : CxT} {r : Nat} {w1 : Wd} (C : kOk g X cX0_setOf 3 RX0 (some (.object "java/util/BitSet")) 4 400 (some (.ref r)) w1) (hX : ∀ U, gX g U → SX g U) (hl : xl X = l) (hin : kHin X yX0_setOf) (N : Nat) (k10 : Int32 × Nat × Int32 × Wd → Option (Nat × Wd)) (hk10 : ∀ a, k10 a = some (r, w1) → kV g X 3 a.2.2.2 10 [some (.int a.1), some (.ref a.2.1), some (.int a.2.2.1)] []) (x0 : Int32) (x1 : Nat) (x2 : Int32) (w : Wd) (hF : FX0_setOf_b10 N g k10 x0 x1 x2 w = some (r, w1)) : kV g X 3 w 10 [some (.int x0), some (.ref x1), some (.int x2)] [] := by
  unfold FX0_setOf_b10 at hF
  refine v_iload_n C dX0_setOf_10 rfl rfl ?_
  refine v_bipush C (v := (10 : Int32)) dX0_setOf_11 (by decide) ?_
  refine v_icmp_ge C (tgt := 36) dX0_setOf_13 (by decide) hF (fun c5 hF => ?_) (fun c5 hF => ?_)
  · refine v_aload_n C dX0_setOf_36 rfl rfl ?_
    exact c_aret C (Or.inl ⟨_, rfl⟩) dX0_setOf_37 hF
  · refine v_iload_n C dX0_setOf_16 rfl rfl ?_
    refine v_iload_n C dX0_setOf_17 rfl rfl ?_
    refine v_ishr C dX0_setOf_18 ?_
    refine v_iconst C (v := (1 : Int32)) dX0_setOf_19 (by decide) ?_
    refine v_iand C dX0_setOf_20 ?_
    refine v_iconst C (v := (1 : Int32)) dX0_setOf_21 (by decide) ?_
    refine v_icmp_ne C (tgt := 30) dX0_setOf_22 (by decide) hF (fun c6 hF => ?_) (fun c6 hF => ?_)
    · refine v_aload_n C dX0_setOf_25 rfl rfl ?_
      refine v_iload_n C dX0_setOf_26 rfl rfl ?_
      obtain ⟨h9, hF⟩ := k_ite hF
      refine c_callVv C lk_X0_154 (ci := 13) rfl h9 (fr2 := 3) (lo2 := 300) (As := [.int x2]) (st := []) (fun r9_ w9_ h9_ => by rw [hl]; exact wJ19_set l g hX N x1 x2 w r9_ w9_ h9_) (by decide) rfl rfl (Nat.le_of_ble_eq_true rfl) dX0_setOf_27 hF (fun r7 u8 hF => ?_)
      refine v_mask [true, true, true] (lv' := [some (.int x0), some (.ref x1), some (.int x2)]) rfl ?_
      exact wX0_setOf_b30 C hX hl hin N k10 hk10 (x0) (x1) (x2) u8 hF
    · refine v_mask [true, true, true] (lv' := [some (.int x0), some (.ref x1), some (.int x2)]) rfl ?_
      exact wX0_setOf_b30 C hX hl hin N k10 hk10 (x0) (x1) (x2) w hF
set_option maxHeartbeats 4000000 in
theorem wX0_setOf (l : Launch) (g : GT) (hX : ∀ U, gX g U → SX g U) (N : Nat) (x0 : Int32) (w : Wd) (r : Nat) (w1 : Wd) (hF : FX0_setOf N g x0 w = some (r, w1)) : kMt l g yX0_setOf (ws_ yX0_setOf cX0_setOf 3 (some (.object "java/util/BitSet"))) 4 400 w [.int x0] (some (.ref r)) w1 := by
  refine kMt.ofV (lv := [some (.int x0), none, none]) (by decide) rfl (Nat.le_of_ble_eq_true rfl) rfl ?_
  intro X hl hin C
  unfold FX0_setOf at hF
  refine v_newW C kc_J19 q838 q839 q107 nw_J19 dX0_setOf_0 hF (fun a1 u2 hF => ?_)
  refine v_dup C dX0_setOf_3 rfl ?_
  refine c_callI C lk_X0_153 (fr2 := 3) (lo2 := 300) (As := []) (st := [.ref a1]) (fun r9_ w9_ h9_ => by rw [hl]; exact wJ19_init l g hX N a1 u2 r9_ w9_ h9_) (by decide) rfl rfl (Nat.le_of_ble_eq_true rfl) dX0_setOf_4 hF (fun r3 u4 hF => ?_)
  refine v_astore_n C dX0_setOf_7 rfl (Nat.le_of_ble_eq_true rfl) rfl (lv' := [some (.int x0), some (.ref a1), none]) rfl ?_
  refine v_iconst C (v := (0 : Int32)) dX0_setOf_8 (by decide) ?_
  refine v_istore_n C dX0_setOf_9 rfl (Nat.le_of_ble_eq_true rfl) rfl (lv' := [some (.int x0), some (.ref a1), some (.int (0 : Int32))]) rfl ?_
  refine v_mask [true, true, true] (lv' := [some (.int x0), some (.ref a1), some (.int (0 : Int32))]) rfl ?_
  exact kloop_ok (P := fun a => kV g X 3 a.2.2.2 10 [some (.int a.1), some (.ref a.2.1), some (.int a.2.2.1)] []) (fun self hs a hF => wX0_setOf_b10 C hX hl hin N self hs a.1 a.2.1 a.2.2.1 a.2.2.2 hF) N (x0, a1, (0 : Int32), u4) hF
set_option maxHeartbeats 4000000 in
theorem wX0_ofSet_b37 {l : Launch} {g : GT} {X : CxT} {r : Nat} {w1 : Wd} (C : kOk g X cX0_ofSet 5 RX0 (some (.array (.object "CardLoom$Turning"))) 3 300 (some (.ref r)) w1) (hX : ∀ U, gX g U → SX g U) (hl : xl X = l) (hin : kHin X yX0_ofSet) (N : Nat) (k11 : Nat × Nat × Nat × Int32 × Wd → Option (Nat × Wd)) (hk11 : ∀ a, k11 a = some (r, w1) → kV g X 5 a.2.2.2.2 11 [none, some (.ref a.1), some (.ref a.2.1), some (.ref a.2.2.1), some (.int a.2.2.2.1)] []) (x1 : Nat) (x2 : Nat) (x3 : Nat) (x4 : Int32) (t0 : Nat) (t1 : Int32) (t2 : Nat) (w : Wd) (hF : FX0_ofSet_b37 N g k11 x1 x2 x3 x4 t0 t1 t2 w = some (r, w1)) : kV g X 5 w 37 [none, some (.ref x1), some (.ref x2), some (.ref x3), some (.int x4)] [.ref t0, .int t1, .ref t2] := by
  unfold FX0_ofSet_b37 at hF
  obtain ⟨h13, hF⟩ := k_ite hF
  refine v_aSq C (t := 5) rfl (any_T C hX h13) dX0_ofSet_37 hF (fun u12 hF => ?_)
  refine v_iinc C dX0_ofSet_38 rfl (v := (x4 + (1 : Int32))) rfl (Nat.le_of_ble_eq_true rfl) rfl (lv' := [none, some (.ref x1), some (.ref x2), some (.ref x3), some (.int (x4 + (1 : Int32)))]) rfl ?_
  refine v_goto C (tgt := 11) dX0_ofSet_41 (by decide) ?_
  refine v_mask [false, true, true, true, true] (lv' := [none, some (.ref x1), some (.ref x2), some (.ref x3), some (.int (x4 + (1 : Int32)))]) rfl ?_
  exact hk11 (x1, x2, x3, (x4 + (1 : Int32)), u12) hF
set_option maxHeartbeats 4000000 in
theorem wX0_ofSet_b11 {l : Launch} {g : GT} {X : CxT} {r : Nat} {w1 : Wd} (C : kOk g X cX0_ofSet 5 RX0 (some (.array (.object "CardLoom$Turning"))) 3 300 (some (.ref r)) w1) (hX : ∀ U, gX g U → SX g U) (hl : xl X = l) (hin : kHin X yX0_ofSet) (N : Nat) (k11 : Nat × Nat × Nat × Int32 × Wd → Option (Nat × Wd)) (hk11 : ∀ a, k11 a = some (r, w1) → kV g X 5 a.2.2.2.2 11 [none, some (.ref a.1), some (.ref a.2.1), some (.ref a.2.2.1), some (.int a.2.2.2.1)] []) (x1 : Nat) (x2 : Nat) (x3 : Nat) (x4 : Int32) (w : Wd) (hF : FX0_ofSet_b11 N g k11 x1 x2 x3 x4 w = some (r, w1)) : kV g X 5 w 11 [none, some (.ref x1), some (.ref x2), some (.ref x3), some (.int x4)] [] := by
  unfold FX0_ofSet_b11 at hF
  refine v_iload C dX0_ofSet_11 rfl ?_
  refine v_aload_n C dX0_ofSet_13 rfl rfl ?_
  refine v_aL C (t := 5) rfl dX0_ofSet_14 hF (fun v6 hF => ?_)
  refine v_icmp_ge C (tgt := 44) dX0_ofSet_15 (by decide) hF (fun c7 hF => ?_) (fun c7 hF => ?_)
  · refine v_aload_n C dX0_ofSet_44 rfl rfl ?_
    exact c_aret C (Or.inr ⟨_, rfl⟩) dX0_ofSet_45 hF
  · refine v_aload_n C dX0_ofSet_18 rfl rfl ?_
    refine v_iload C dX0_ofSet_19 rfl ?_
    refine v_aload_n C dX0_ofSet_21 rfl rfl ?_
    refine v_iload C dX0_ofSet_22 rfl ?_
    obtain ⟨h10, hF⟩ := k_ite hF
    refine c_callVi C lk_X0_148 (ci := 13) rfl h10 (fr2 := 2) (lo2 := 200) (As := [.int x4]) (st := [.int x4, .ref x3]) (fun r9_ w9_ h9_ => by rw [hl]; exact wJ19_get l g hX N x1 x4 w r9_ w9_ h9_) (by decide) rfl rfl (Nat.le_of_ble_eq_true rfl) dX0_ofSet_24 hF (fun r8 u9 hF => ?_)
    refine v_if_eq C (tgt := 34) dX0_ofSet_27 (by decide) hF (fun c11 hF => ?_) (fun c11 hF => ?_)
    · refine v_gets C ((hX _ C.2.2.2.2.2.1.2.2.1).1 _ (List.mem_of_getElem? (i := 1) rfl)) q175 (Or.inl rfl) dX0_ofSet_34 ?_
      refine v_mask [false, true, true, true, true] (lv' := [none, some (.ref x1), some (.ref x2), some (.ref x3), some (.int x4)]) rfl ?_
      exact wX0_ofSet_b37 C hX hl hin N k11 hk11 (x1) (x2) (x3) (x4) ((gT g 0)) (x4) (x3) u9 hF
    · refine v_aload_n C dX0_ofSet_30 rfl rfl ?_
      refine v_goto C (tgt := 37) dX0_ofSet_31 (by decide) ?_
      refine v_mask [false, true, true, true, true] (lv' := [none, some (.ref x1), some (.ref x2), some (.ref x3), some (.int x4)]) rfl ?_
      exact wX0_ofSet_b37 C hX hl hin N k11 hk11 (x1) (x2) (x3) (x4) (x2) (x4) (x3) u9 hF
set_option maxHeartbeats 4000000 in
theorem wX0_ofSet (l : Launch) (g : GT) (hX : ∀ U, gX g U → SX g U) (N : Nat) (x0 : Nat) (x1 : Nat) (x2 : Nat) (w : Wd) (r : Nat) (w1 : Wd) (hF : FX0_ofSet N g x0 x1 x2 w = some (r, w1)) : kMt l g yX0_ofSet (ws_ yX0_ofSet cX0_ofSet 5 (some (.array (.object "CardLoom$Turning")))) 3 300 w [.ref x0, .ref x1, .ref x2] (some (.ref r)) w1 := by
  refine kMt.ofV (lv := [some (.ref x0), some (.ref x1), some (.ref x2), none, none]) (by decide) rfl (Nat.le_of_ble_eq_true rfl) rfl ?_
  intro X hl hin C
  unfold FX0_ofSet at hF
  refine v_aload_n C dX0_ofSet_0 rfl rfl ?_
  obtain ⟨h3, hF⟩ := k_ite hF
  refine c_callVi C lk_X0_90 (ci := 1) rfl h3 (fr2 := 2) (lo2 := 200) (As := []) (st := []) (fun r9_ w9_ h9_ => by rw [hl]; exact wX0_many l g hX N x0 w r9_ w9_ h9_) (by decide) rfl rfl (Nat.le_of_ble_eq_true rfl) dX0_ofSet_1 hF (fun r1 u2 hF => ?_)
  refine v_anew C (t := 5) rfl q896 ((hX _ C.2.2.2.2.2.1.2.2.1).2.1 _ (by decide)) dX0_ofSet_4 hF (fun a4 u5 hF => ?_)
  refine v_astore_n C dX0_ofSet_7 rfl (Nat.le_of_ble_eq_true rfl) rfl (lv' := [some (.ref x0), some (.ref x1), some (.ref x2), some (.ref a4), none]) rfl ?_
  refine v_iconst C (v := (0 : Int32)) dX0_ofSet_8 (by decide) ?_
  refine v_istore C dX0_ofSet_9 (Nat.le_of_ble_eq_true rfl) rfl (lv' := [some (.ref x0), some (.ref x1), some (.ref x2), some (.ref a4), some (.int (0 : Int32))]) rfl ?_
  refine v_mask [false, true, true, true, true] (lv' := [none, some (.ref x1), some (.ref x2), some (.ref a4), some (.int (0 : Int32))]) rfl ?_
  exact kloop_ok (P := fun a => kV g X 5 a.2.2.2.2 11 [none, some (.ref a.1), some (.ref a.2.1), some (.ref a.2.2.1), some (.int a.2.2.2.1)] []) (fun self hs a hF => wX0_ofSet_b11 C hX hl hin N self hs a.1 a.2.1 a.2.2.1 a.2.2.2.1 a.2.2.2.2 hF) N (x1, x2, a4, (0 : Int32), u5) hF
set_option maxHeartbeats 4000000 in
theorem wX0_bitsOf_b8 {l : Launch} {g : GT} {X : CxT} {r : Int32} {w1 : Wd} (C : kOk g X cX0_bitsOf 3 RX0 (some .int) 4 400 (some (.int r)) w1) (hX : ∀ U, gX g U → SX g U) (hl : xl X = l) (hin : kHin X yX0_bitsOf) (N : Nat) (k8 : Nat × Int32 × Int32 × Wd → Option (Int32 × Wd)) (hk8 : ∀ a, k8 a = some (r, w1) → kV g X 3 a.2.2.2 8 [some (.ref a.1), some (.int a.2.1), some (.int a.2.2.1)] []) (x0 : Nat) (x1 : Int32) (x2 : Int32) (w : Wd) (hF : FX0_bitsOf_b8 N g k8 x0 x1 x2 w = some (r, w1)) : kV g X 3 w 8 [some (.ref x0), some (.int x1), some (.int x2)] [] := by
  unfold FX0_bitsOf_b8 at hF
  refine v_iload_n C dX0_bitsOf_8 rfl rfl ?_
  refine v_if_lt C (tgt := 29) dX0_bitsOf_9 (by decide) hF (fun c4 hF => ?_) (fun c4 hF => ?_)
  · refine v_iload_n C dX0_bitsOf_29 rfl rfl ?_
    exact c_iret C dX0_bitsOf_30 hF
  · refine v_iload_n C dX0_bitsOf_12 rfl rfl ?_
    refine v_iconst C (v := (1 : Int32)) dX0_bitsOf_13 (by decide) ?_
    refine v_iload_n C dX0_bitsOf_14 rfl rfl ?_
    refine v_ishl C dX0_bitsOf_15 ?_
    refine v_ior C dX0_bitsOf_16 ?_
    refine v_istore_n C dX0_bitsOf_17 rfl (Nat.le_of_ble_eq_true rfl) rfl (lv' := [some (.ref x0), some (.int (x1 ||| ((1 : Int32) <<< (x2 &&& 31)))), some (.int x2)]) rfl ?_
    refine v_aload_n C dX0_bitsOf_18 rfl rfl ?_
    refine v_iload_n C dX0_bitsOf_19 rfl rfl ?_
    refine v_iconst C (v := (1 : Int32)) dX0_bitsOf_20 (by decide) ?_
    refine v_iadd C dX0_bitsOf_21 ?_
    obtain ⟨h7, hF⟩ := k_ite hF
    refine c_callVi C lk_X0_158 (ci := 13) rfl h7 (fr2 := 3) (lo2 := 300) (As := [.int (x2 + (1 : Int32))]) (st := []) (fun r9_ w9_ h9_ => by rw [hl]; exact wJ19_nextSetBit l g hX N x0 (x2 + (1 : Int32)) w r9_ w9_ h9_) (by decide) rfl rfl (Nat.le_of_ble_eq_true rfl) dX0_bitsOf_22 hF (fun r5 u6 hF => ?_)
    refine v_istore_n C dX0_bitsOf_25 rfl (Nat.le_of_ble_eq_true rfl) rfl (lv' := [some (.ref x0), some (.int (x1 ||| ((1 : Int32) <<< (x2 &&& 31)))), some (.int r5)]) rfl ?_
    refine v_goto C (tgt := 8) dX0_bitsOf_26 (by decide) ?_
    refine v_mask [true, true, true] (lv' := [some (.ref x0), some (.int (x1 ||| ((1 : Int32) <<< (x2 &&& 31)))), some (.int r5)]) rfl ?_
    exact hk8 (x0, (x1 ||| ((1 : Int32) <<< (x2 &&& 31))), r5, u6) hF
set_option maxHeartbeats 4000000 in
theorem wX0_bitsOf (l : Launch) (g : GT) (hX : ∀ U, gX g U → SX g U) (N : Nat) (x0 : Nat) (w : Wd) (r : Int32) (w1 : Wd) (hF : FX0_bitsOf N g x0 w = some (r, w1)) : kMt l g yX0_bitsOf (ws_ yX0_bitsOf cX0_bitsOf 3 (some .int)) 4 400 w [.ref x0] (some (.int r)) w1 := by
  refine kMt.ofV (lv := [some (.ref x0), none, none]) (by decide) rfl (Nat.le_of_ble_eq_true rfl) rfl ?_
  intro X hl hin C
  unfold FX0_bitsOf at hF
  refine v_iconst C (v := (0 : Int32)) dX0_bitsOf_0 (by decide) ?_
  refine v_istore_n C dX0_bitsOf_1 rfl (Nat.le_of_ble_eq_true rfl) rfl (lv' := [some (.ref x0), some (.int (0 : Int32)), none]) rfl ?_
  refine v_aload_n C dX0_bitsOf_2 rfl rfl ?_
  refine v_iconst C (v := (0 : Int32)) dX0_bitsOf_3 (by decide) ?_
  obtain ⟨h3, hF⟩ := k_ite hF
  refine c_callVi C lk_X0_158 (ci := 13) rfl h3 (fr2 := 3) (lo2 := 300) (As := [.int (0 : Int32)]) (st := []) (fun r9_ w9_ h9_ => by rw [hl]; exact wJ19_nextSetBit l g hX N x0 (0 : Int32) w r9_ w9_ h9_) (by decide) rfl rfl (Nat.le_of_ble_eq_true rfl) dX0_bitsOf_4 hF (fun r1 u2 hF => ?_)
  refine v_istore_n C dX0_bitsOf_7 rfl (Nat.le_of_ble_eq_true rfl) rfl (lv' := [some (.ref x0), some (.int (0 : Int32)), some (.int r1)]) rfl ?_
  refine v_mask [true, true, true] (lv' := [some (.ref x0), some (.int (0 : Int32)), some (.int r1)]) rfl ?_
  exact kloop_ok (P := fun a => kV g X 3 a.2.2.2 8 [some (.ref a.1), some (.int a.2.1), some (.int a.2.2.1)] []) (fun self hs a hF => wX0_bitsOf_b8 C hX hl hin N self hs a.1 a.2.1 a.2.2.1 a.2.2.2 hF) N (x0, (0 : Int32), r1, u2) hF
set_option maxHeartbeats 4000000 in
theorem wX0_feed (l : Launch) (g : GT) (hX : ∀ U, gX g U → SX g U) (N : Nat) (x0 : Nat) (x1 : Int32) (w : Wd) (r : Int32) (w1 : Wd) (hF : FX0_feed N g x0 x1 w = some (r, w1)) : kMt l g yX0_feed (ws_ yX0_feed cX0_feed 2 (some .int)) 2 200 w [.ref x0, .int x1] (some (.int r)) w1 := by
  refine kMt.ofV (lv := [some (.ref x0), some (.int x1)]) (by decide) rfl (Nat.le_of_ble_eq_true rfl) rfl ?_
  intro X hl hin C
  unfold FX0_feed at hF
  refine v_iload_n C dX0_feed_0 rfl rfl ?_
  refine v_iconst C (v := (1 : Int32)) dX0_feed_1 (by decide) ?_
  refine v_bipush C (v := (127 : Int32)) dX0_feed_2 (by decide) ?_
  refine c_callSi C lk_X0_93 (fr2 := 1) (lo2 := 100) (As := [.int x1, .int (1 : Int32), .int (127 : Int32)]) (st := []) (fun r9_ w9_ h9_ => by rw [hl]; exact wX0_isIn l g hX N x1 (1 : Int32) (127 : Int32) w r9_ w9_ h9_) (by decide) rfl rfl (Nat.le_of_ble_eq_true rfl) dX0_feed_4 hF (fun r1 u2 hF => ?_)
  refine v_if_ne C (tgt := 13) dX0_feed_7 (by decide) hF (fun c3 hF => ?_) (fun c3 hF => ?_)
  · refine v_bipush C (v := (-2 : Int32)) dX0_feed_10 (by decide) ?_
    exact c_iret C dX0_feed_12 hF
  · refine v_aload_n C dX0_feed_13 rfl rfl ?_
    refine v_getI C kc_X0 4 (Nat.le_of_ble_eq_true rfl) (kFl.p q204) dX0_feed_14 hF (fun v4 hF => ?_)
    refine v_bipush C (v := (80 : Int32)) dX0_feed_17 (by decide) ?_
    refine v_icmp_ne C (tgt := 25) dX0_feed_19 (by decide) hF (fun c5 hF => ?_) (fun c5 hF => ?_)
    · refine v_bipush C (v := (-4 : Int32)) dX0_feed_22 (by decide) ?_
      exact c_iret C dX0_feed_24 hF
    · refine v_aload_n C dX0_feed_25 rfl rfl ?_
      refine v_getR C kc_X0 3 (Nat.le_of_ble_eq_true rfl) (kFl.p q201) dX0_feed_26 hF (fun v6 hF => ?_)
      refine v_aload_n C dX0_feed_29 rfl rfl ?_
      refine v_getI C kc_X0 4 (Nat.le_of_ble_eq_true rfl) (kFl.p q204) dX0_feed_30 hF (fun v7 hF => ?_)
      refine v_iload_n C dX0_feed_33 rfl rfl ?_
      refine v_i2b C dX0_feed_34 rfl ?_
      refine v_aSb C dX0_feed_35 hF (fun u8 hF => ?_)
      refine v_aload_n C dX0_feed_36 rfl rfl ?_
      refine v_dup C dX0_feed_37 rfl ?_
      refine v_getI C kc_X0 4 (Nat.le_of_ble_eq_true rfl) (kFl.p q204) dX0_feed_38 hF (fun v9 hF => ?_)
      refine v_iconst C (v := (1 : Int32)) dX0_feed_41 (by decide) ?_
      refine v_iadd C dX0_feed_42 ?_
      refine v_putW C kc_X0 4 (Nat.le_of_ble_eq_true rfl) (kFl.p q204) rfl rfl rfl dX0_feed_43 hF (fun u10 hF => ?_)
      refine v_aload_n C dX0_feed_46 rfl rfl ?_
      refine v_getI C kc_X0 4 (Nat.le_of_ble_eq_true rfl) (kFl.p q204) dX0_feed_47 hF (fun v11 hF => ?_)
      exact c_iret C dX0_feed_50 hF
set_option maxHeartbeats 4000000 in
theorem wX0_clear (l : Launch) (g : GT) (hX : ∀ U, gX g U → SX g U) (N : Nat) (x0 : Nat) (w : Wd) (r : Int32) (w1 : Wd) (hF : FX0_clear N g x0 w = some (r, w1)) : kMt l g yX0_clear (ws_ yX0_clear cX0_clear 2 (some .int)) 1 100 w [.ref x0] (some (.int r)) w1 := by
  refine kMt.ofV (lv := [some (.ref x0), none]) (by decide) rfl (Nat.le_of_ble_eq_true rfl) rfl ?_
  intro X hl hin C
  unfold FX0_clear at hF
  refine v_aload_n C dX0_clear_0 rfl rfl ?_
  refine v_getI C kc_X0 4 (Nat.le_of_ble_eq_true rfl) (kFl.p q204) dX0_clear_1 hF (fun v1 hF => ?_)
  refine v_istore_n C dX0_clear_4 rfl (Nat.le_of_ble_eq_true rfl) rfl (lv' := [some (.ref x0), some (.int v1)]) rfl ?_
  refine v_aload_n C dX0_clear_5 rfl rfl ?_
  refine v_iconst C (v := (0 : Int32)) dX0_clear_6 (by decide) ?_
  refine v_putW C kc_X0 4 (Nat.le_of_ble_eq_true rfl) (kFl.p q204) rfl rfl rfl dX0_clear_7 hF (fun u2 hF => ?_)
  refine v_iload_n C dX0_clear_10 rfl rfl ?_
  exact c_iret C dX0_clear_11 hF
set_option maxHeartbeats 4000000 in
theorem wX0_floatOf_b55 {l : Launch} {g : GT} {X : CxT} {r : Int32} {w1 : Wd} (C : kOk g X cX0_floatOf 6 RX0 (some .int) 3 300 (some (.int r)) w1) (hX : ∀ U, gX g U → SX g U) (hl : xl X = l) (hin : kHin X yX0_floatOf) (N : Nat) (k13 : Int32 × Int32 × Int32 × Nat × Wd → Option (Int32 × Wd)) (hk13 : ∀ a, k13 a = some (r, w1) → kV g X 6 a.2.2.2.2 13 [none, some (.int a.1), some (.int a.2.1), some (.int a.2.2.1), some (.ref a.2.2.2.1), none] []) (x1 : Int32) (x2 : Int32) (x4 : Nat) (t0 : Int32) (w : Wd) (hF : FX0_floatOf_b55 N g k13 x1 x2 x4 t0 w = some (r, w1)) : kV g X 6 w 55 [none, some (.int x1), some (.int x2), none, some (.ref x4), none] [.int t0] := by
  unfold FX0_floatOf_b55 at hF
  refine v_istore_n C dX0_floatOf_55 rfl (Nat.le_of_ble_eq_true rfl) rfl (lv' := [none, some (.int x1), some (.int x2), some (.int t0), some (.ref x4), none]) rfl ?_
  refine v_iload_n C dX0_floatOf_56 rfl rfl ?_
  refine v_iload_n C dX0_floatOf_57 rfl rfl ?_
  refine v_mmax C q812 (by decide) (Nat.le_of_ble_eq_true rfl) dX0_floatOf_58 ?_
  refine v_istore_n C dX0_floatOf_61 rfl (Nat.le_of_ble_eq_true rfl) rfl (lv' := [none, some (.int x1), some (.int (kmax x2 t0)), some (.int t0), some (.ref x4), none]) rfl ?_
  refine v_goto C (tgt := 13) dX0_floatOf_62 (by decide) ?_
  refine v_mask [false, true, true, true, true, false] (lv' := [none, some (.int x1), some (.int (kmax x2 t0)), some (.int t0), some (.ref x4), none]) rfl ?_
  exact hk13 (x1, (kmax x2 t0), t0, x4, w) hF
set_option maxHeartbeats 4000000 in
theorem wX0_floatOf_b13 {l : Launch} {g : GT} {X : CxT} {r : Int32} {w1 : Wd} (C : kOk g X cX0_floatOf 6 RX0 (some .int) 3 300 (some (.int r)) w1) (hX : ∀ U, gX g U → SX g U) (hl : xl X = l) (hin : kHin X yX0_floatOf) (N : Nat) (k13 : Int32 × Int32 × Int32 × Nat × Wd → Option (Int32 × Wd)) (hk13 : ∀ a, k13 a = some (r, w1) → kV g X 6 a.2.2.2.2 13 [none, some (.int a.1), some (.int a.2.1), some (.int a.2.2.1), some (.ref a.2.2.2.1), none] []) (x1 : Int32) (x2 : Int32) (x3 : Int32) (x4 : Nat) (w : Wd) (hF : FX0_floatOf_b13 N g k13 x1 x2 x3 x4 w = some (r, w1)) : kV g X 6 w 13 [none, some (.int x1), some (.int x2), some (.int x3), some (.ref x4), none] [] := by
  unfold FX0_floatOf_b13 at hF
  refine v_aload C dX0_floatOf_13 rfl ?_
  obtain ⟨h7, hF⟩ := k_ite hF
  refine c_callFi C lk_X0_101_J15_hasNext ((hX _ C.2.2.2.2.2.1.2.2.1).2.2.1 _ (List.mem_of_getElem? (i := 0) rfl)) (C.2.2.2.2.2.1.1.1 12 _ rfl).2 (kRc.of C (ci := 12) rfl h7) (fr2 := 1) (lo2 := 100) (As := []) (st := []) (fun r9_ w9_ h9_ => by rw [hl]; exact wJ15_hasNext l g hX N x4 w r9_ w9_ h9_) (by decide) rfl rfl (Nat.le_of_ble_eq_true rfl) dX0_floatOf_15 hF (fun r5 u6 hF => ?_)
  refine v_if_eq C (tgt := 65) dX0_floatOf_20 (by decide) hF (fun c8 hF => ?_) (fun c8 hF => ?_)
  · refine v_iload_n C dX0_floatOf_65 rfl rfl ?_
    exact c_iret C dX0_floatOf_66 hF
  · refine v_aload C dX0_floatOf_23 rfl ?_
    obtain ⟨h11, hF⟩ := k_ite hF
    refine c_callFr C lk_X0_107_J15_next ((hX _ C.2.2.2.2.2.1.2.2.1).2.2.1 _ (List.mem_of_getElem? (i := 1) rfl)) (C.2.2.2.2.2.1.1.1 12 _ rfl).2 (kRc.of C (ci := 12) rfl h11) (fr2 := 2) (lo2 := 200) (As := []) (st := []) (fun r9_ w9_ h9_ => by rw [hl]; exact wJ15_next l g hX N x4 u6 r9_ w9_ h9_) (by decide) rfl rfl (Nat.le_of_ble_eq_true rfl) dX0_floatOf_25 hF (fun r9 u10 hF => ?_)
    refine v_castI C (ci := 3) rfl q811 dX0_floatOf_30 hF (fun hF => ?_)
    refine v_astore C dX0_floatOf_33 (Nat.le_of_ble_eq_true rfl) rfl (lv' := [none, some (.int x1), some (.int x2), some (.int x3), some (.ref x4), some (.ref r9)]) rfl ?_
    refine v_aload C dX0_floatOf_35 rfl ?_
    refine v_getR C kc_X9 3 (Nat.le_of_ble_eq_true rfl) (kFl.n q984) dX0_floatOf_37 hF (fun v12 hF => ?_)
    refine v_iload_n C dX0_floatOf_40 rfl rfl ?_
    refine v_aQl C (t := 5) rfl dX0_floatOf_41 hF (fun v13 hF => ?_)
    rcases v13 with _ | a14
    · exact (k_ob0 hF).elim
    have hF := k_ob1 hF
    show kV _ _ _ _ 42 [none, some (.int x1), some (.int x2), some (.int x3), some (.ref x4), some (.ref r9)] [.ref a14]
    refine v_gets C ((hX _ C.2.2.2.2.2.1.2.2.1).1 _ (List.mem_of_getElem? (i := 1) rfl)) q175 (Or.inl rfl) dX0_floatOf_42 ?_
    refine v_acmp_ne C (rx := (some a14)) (ry := (some (gT g 0))) rfl rfl (tgt := 54) dX0_floatOf_45 (by decide) hF (fun c15 hF => ?_) (fun c15 hF => ?_)
    · refine v_iload_n C dX0_floatOf_48 rfl rfl ?_
      refine v_iconst C (v := (1 : Int32)) dX0_floatOf_49 (by decide) ?_
      refine v_iadd C dX0_floatOf_50 ?_
      refine v_goto C (tgt := 55) dX0_floatOf_51 (by decide) ?_
      refine v_mask [false, true, true, false, true, false] (lv' := [none, some (.int x1), some (.int x2), none, some (.ref x4), none]) rfl ?_
      exact wX0_floatOf_b55 C hX hl hin N k13 hk13 (x1) (x2) (x4) ((x3 + (1 : Int32))) u10 hF
    · refine v_iconst C (v := (0 : Int32)) dX0_floatOf_54 (by decide) ?_
      refine v_mask [false, true, true, false, true, false] (lv' := [none, some (.int x1), some (.int x2), none, some (.ref x4), none]) rfl ?_
      exact wX0_floatOf_b55 C hX hl hin N k13 hk13 (x1) (x2) (x4) ((0 : Int32)) u10 hF
set_option maxHeartbeats 4000000 in
theorem wX0_floatOf (l : Launch) (g : GT) (hX : ∀ U, gX g U → SX g U) (N : Nat) (x0 : Nat) (x1 : Int32) (w : Wd) (r : Int32) (w1 : Wd) (hF : FX0_floatOf N g x0 x1 w = some (r, w1)) : kMt l g yX0_floatOf (ws_ yX0_floatOf cX0_floatOf 6 (some .int)) 3 300 w [.ref x0, .int x1] (some (.int r)) w1 := by
  refine kMt.ofV (lv := [some (.ref x0), some (.int x1), none, none, none, none]) (by decide) rfl (Nat.le_of_ble_eq_true rfl) rfl ?_
  intro X hl hin C
  unfold FX0_floatOf at hF
  refine v_iconst C (v := (0 : Int32)) dX0_floatOf_0 (by decide) ?_
  refine v_istore_n C dX0_floatOf_1 rfl (Nat.le_of_ble_eq_true rfl) rfl (lv' := [some (.ref x0), some (.int x1), some (.int (0 : Int32)), none, none, none]) rfl ?_
  refine v_iconst C (v := (0 : Int32)) dX0_floatOf_2 (by decide) ?_
  refine v_istore_n C dX0_floatOf_3 rfl (Nat.le_of_ble_eq_true rfl) rfl (lv' := [some (.ref x0), some (.int x1), some (.int (0 : Int32)), some (.int (0 : Int32)), none, none]) rfl ?_
  refine v_aload_n C dX0_floatOf_4 rfl rfl ?_
  refine v_getR C kc_X0 1 (Nat.le_of_ble_eq_true rfl) (kFl.p q199) dX0_floatOf_5 hF (fun v1 hF => ?_)
  obtain ⟨h4, hF⟩ := k_ite hF
  refine c_callVr C lk_X0_97 (ci := 11) rfl h4 (fr2 := 2) (lo2 := 200) (As := []) (st := []) (fun r9_ w9_ h9_ => by rw [hl]; exact wJ2_iterator l g hX N v1 w r9_ w9_ h9_) (by decide) rfl rfl (Nat.le_of_ble_eq_true rfl) dX0_floatOf_8 hF (fun r2 u3 hF => ?_)
  refine v_astore C dX0_floatOf_11 (Nat.le_of_ble_eq_true rfl) rfl (lv' := [some (.ref x0), some (.int x1), some (.int (0 : Int32)), some (.int (0 : Int32)), some (.ref r2), none]) rfl ?_
  refine v_mask [false, true, true, true, true, false] (lv' := [none, some (.int x1), some (.int (0 : Int32)), some (.int (0 : Int32)), some (.ref r2), none]) rfl ?_
  exact kloop_ok (P := fun a => kV g X 6 a.2.2.2.2 13 [none, some (.int a.1), some (.int a.2.1), some (.int a.2.2.1), some (.ref a.2.2.2.1), none] []) (fun self hs a hF => wX0_floatOf_b13 C hX hl hin N self hs a.1 a.2.1 a.2.2.1 a.2.2.2.1 a.2.2.2.2 hF) N (x1, (0 : Int32), (0 : Int32), r2, u3) hF
set_option maxHeartbeats 4000000 in
theorem wX0_card (l : Launch) (g : GT) (hX : ∀ U, gX g U → SX g U) (N : Nat) (x0 : Nat) (x1 : Int32) (x2 : Int32) (w : Wd) (r : Int32) (w1 : Wd) (hF : FX0_card N g x0 x1 x2 w = some (r, w1)) : kMt l g yX0_card (ws_ yX0_card cX0_card 4 (some .int)) 46 4600 w [.ref x0, .int x1, .int x2] (some (.int r)) w1 := by
  refine kMt.ofV (lv := [some (.ref x0), some (.int x1), some (.int x2), none]) (by decide) rfl (Nat.le_of_ble_eq_true rfl) rfl ?_
  intro X hl hin C
  unfold FX0_card at hF
  refine v_aload_n C dX0_card_0 rfl rfl ?_
  refine v_iload_n C dX0_card_1 rfl rfl ?_
  obtain ⟨h3, hF⟩ := k_ite hF
  refine c_callVi C lk_X0_195 (ci := 1) rfl h3 (fr2 := 3) (lo2 := 300) (As := [.int x1]) (st := []) (fun r9_ w9_ h9_ => by rw [hl]; exact wX0_isCard l g hX N x0 x1 w r9_ w9_ h9_) (by decide) rfl rfl (Nat.le_of_ble_eq_true rfl) dX0_card_2 hF (fun r1 u2 hF => ?_)
  refine v_if_ne C (tgt := 10) dX0_card_5 (by decide) hF (fun c4 hF => ?_) (fun c4 hF => ?_)
  · refine v_iconst C (v := (-1 : Int32)) dX0_card_8 (by decide) ?_
    exact c_iret C dX0_card_9 hF
  · refine v_aload_n C dX0_card_10 rfl rfl ?_
    refine v_getR C kc_X0 0 (Nat.le_of_ble_eq_true rfl) (kFl.p q198) dX0_card_11 hF (fun v5 hF => ?_)
    refine v_iload_n C dX0_card_14 rfl rfl ?_
    obtain ⟨h8, hF⟩ := k_ite hF
    refine c_callVr C lk_X0_121 (ci := 11) rfl h8 (fr2 := 3) (lo2 := 300) (As := [.int x1]) (st := []) (fun r9_ w9_ h9_ => by rw [hl]; exact wJ2_get l g hX N v5 x1 u2 r9_ w9_ h9_) (by decide) rfl rfl (Nat.le_of_ble_eq_true rfl) dX0_card_15 hF (fun r6 u7 hF => ?_)
    refine v_castI C (ci := 2) rfl q700 dX0_card_18 hF (fun hF => ?_)
    refine v_astore_n C dX0_card_21 rfl (Nat.le_of_ble_eq_true rfl) rfl (lv' := [some (.ref x0), some (.int x1), some (.int x2), some (.ref r6)]) rfl ?_
    refine v_iload_n C dX0_card_22 rfl rfl ?_
    rcases k_cases hF with ⟨c9, hF⟩ | ⟨c9, hF⟩
    · refine v_tswIn C (0 : Int32) c9 dX0_card_23 (by decide) (by decide) (off := 49) rfl (tgt := 72) (by decide) ?_
      refine v_aload_n C dX0_card_72 rfl rfl ?_
      refine v_getR C kc_X6 0 (Nat.le_of_ble_eq_true rfl) (kFl.n q380) dX0_card_73 hF (fun v10 hF => ?_)
      refine v_iload_n C dX0_card_76 rfl rfl ?_
      refine v_aIi C dX0_card_77 hF (fun v11 hF => ?_)
      exact c_iret C dX0_card_78 hF
    · rcases k_cases hF with ⟨c12, hF⟩ | ⟨c12, hF⟩
      · refine v_tswIn C (1 : Int32) c12 dX0_card_23 (by decide) (by decide) (off := 49) rfl (tgt := 72) (by decide) ?_
        refine v_aload_n C dX0_card_72 rfl rfl ?_
        refine v_getR C kc_X6 0 (Nat.le_of_ble_eq_true rfl) (kFl.n q380) dX0_card_73 hF (fun v13 hF => ?_)
        refine v_iload_n C dX0_card_76 rfl rfl ?_
        refine v_aIi C dX0_card_77 hF (fun v14 hF => ?_)
        exact c_iret C dX0_card_78 hF
      · rcases k_cases hF with ⟨c15, hF⟩ | ⟨c15, hF⟩
        · refine v_tswIn C (2 : Int32) c15 dX0_card_23 (by decide) (by decide) (off := 49) rfl (tgt := 72) (by decide) ?_
          refine v_aload_n C dX0_card_72 rfl rfl ?_
          refine v_getR C kc_X6 0 (Nat.le_of_ble_eq_true rfl) (kFl.n q380) dX0_card_73 hF (fun v16 hF => ?_)
          refine v_iload_n C dX0_card_76 rfl rfl ?_
          refine v_aIi C dX0_card_77 hF (fun v17 hF => ?_)
          exact c_iret C dX0_card_78 hF
        · rcases k_cases hF with ⟨c18, hF⟩ | ⟨c18, hF⟩
          · refine v_tswIn C (3 : Int32) c18 dX0_card_23 (by decide) (by decide) (off := 49) rfl (tgt := 72) (by decide) ?_
            refine v_aload_n C dX0_card_72 rfl rfl ?_
            refine v_getR C kc_X6 0 (Nat.le_of_ble_eq_true rfl) (kFl.n q380) dX0_card_73 hF (fun v19 hF => ?_)
            refine v_iload_n C dX0_card_76 rfl rfl ?_
            refine v_aIi C dX0_card_77 hF (fun v20 hF => ?_)
            exact c_iret C dX0_card_78 hF
          · rcases k_cases hF with ⟨c21, hF⟩ | ⟨c21, hF⟩
            · refine v_tswIn C (4 : Int32) c21 dX0_card_23 (by decide) (by decide) (off := 56) rfl (tgt := 79) (by decide) ?_
              refine v_aload_n C dX0_card_79 rfl rfl ?_
              refine v_getI C kc_X6 1 (Nat.le_of_ble_eq_true rfl) (kFl.n q384) dX0_card_80 hF (fun v22 hF => ?_)
              exact c_iret C dX0_card_83 hF
            · rcases k_cases hF with ⟨c23, hF⟩ | ⟨c23, hF⟩
              · refine v_tswIn C (5 : Int32) c23 dX0_card_23 (by decide) (by decide) (off := 61) rfl (tgt := 84) (by decide) ?_
                refine v_aload_n C dX0_card_84 rfl rfl ?_
                refine v_getI C kc_X6 2 (Nat.le_of_ble_eq_true rfl) (kFl.n q386) dX0_card_85 hF (fun v24 hF => ?_)
                exact c_iret C dX0_card_88 hF
              · rcases k_cases hF with ⟨c25, hF⟩ | ⟨c25, hF⟩
                · refine v_tswIn C (6 : Int32) c25 dX0_card_23 (by decide) (by decide) (off := 66) rfl (tgt := 89) (by decide) ?_
                  refine v_aload_n C dX0_card_89 rfl rfl ?_
                  refine v_getI C kc_X6 3 (Nat.le_of_ble_eq_true rfl) (kFl.n q389) dX0_card_90 hF (fun v26 hF => ?_)
                  refine v_bipush C (v := (100 : Int32)) dX0_card_93 (by decide) ?_
                  refine v_iadd C dX0_card_95 ?_
                  exact c_iret C dX0_card_96 hF
                · rcases k_cases hF with ⟨c27, hF⟩ | ⟨c27, hF⟩
                  · refine v_tswIn C (7 : Int32) c27 dX0_card_23 (by decide) (by decide) (off := 74) rfl (tgt := 97) (by decide) ?_
                    refine v_aload_n C dX0_card_97 rfl rfl ?_
                    refine v_iload_n C dX0_card_98 rfl rfl ?_
                    obtain ⟨h30, hF⟩ := k_ite hF
                    refine c_callVi C lk_X0_208 (ci := 1) rfl h30 (fr2 := 3) (lo2 := 300) (As := [.int x1]) (st := []) (fun r9_ w9_ h9_ => by rw [hl]; exact wX0_floatOf l g hX N x0 x1 u7 r9_ w9_ h9_) (by decide) rfl rfl (Nat.le_of_ble_eq_true rfl) dX0_card_99 hF (fun r28 u29 hF => ?_)
                    exact c_iret C dX0_card_102 hF
                  · rcases k_cases hF with ⟨c31, hF⟩ | ⟨c31, hF⟩
                    · refine v_tswIn C (8 : Int32) c31 dX0_card_23 (by decide) (by decide) (off := 80) rfl (tgt := 103) (by decide) ?_
                      refine v_aload_n C dX0_card_103 rfl rfl ?_
                      refine v_getR C kc_X0 2 (Nat.le_of_ble_eq_true rfl) (kFl.p q200) dX0_card_104 hF (fun v32 hF => ?_)
                      refine v_iload_n C dX0_card_107 rfl rfl ?_
                      refine v_aload_n C dX0_card_108 rfl rfl ?_
                      refine v_getR C kc_X0 1 (Nat.le_of_ble_eq_true rfl) (kFl.p q199) dX0_card_109 hF (fun v33 hF => ?_)
                      obtain ⟨h36, hF⟩ := k_ite hF
                      refine c_callVi C lk_X0_86 (ci := 11) rfl h36 (fr2 := 1) (lo2 := 100) (As := []) (st := [.int x1, .ref v32]) (fun r9_ w9_ h9_ => by rw [hl]; exact wJ2_size l g hX N v33 u7 r9_ w9_ h9_) (by decide) rfl rfl (Nat.le_of_ble_eq_true rfl) dX0_card_112 hF (fun r34 u35 hF => ?_)
                      refine v_aload_n C dX0_card_115 rfl rfl ?_
                      obtain ⟨h39, hF⟩ := k_ite hF
                      refine c_callVi C lk_X0_90 (ci := 1) rfl h39 (fr2 := 2) (lo2 := 200) (As := []) (st := [.int r34, .int x1, .ref v32]) (fun r9_ w9_ h9_ => by rw [hl]; exact wX0_many l g hX N x0 u35 r9_ w9_ h9_) (by decide) rfl rfl (Nat.le_of_ble_eq_true rfl) dX0_card_116 hF (fun r37 u38 hF => ?_)
                      refine v_law C hX q601 (by decide) (Nat.le_of_ble_eq_true rfl) dX0_card_119 hF (fun v40 hF => ?_)
                      refine v_tnum C hX (Or.inr ⟨_, q2806⟩) dX0_card_124 hF (fun v41 hF => ?_)
                      exact c_iret C dX0_card_127 hF
                    · refine v_tswOut C [(0 : Int32), (1 : Int32), (2 : Int32), (3 : Int32), (4 : Int32), (5 : Int32), (6 : Int32), (7 : Int32), (8 : Int32)] (List.forall_mem_cons.mpr ⟨c9, List.forall_mem_cons.mpr ⟨c12, List.forall_mem_cons.mpr ⟨c15, List.forall_mem_cons.mpr ⟨c18, List.forall_mem_cons.mpr ⟨c21, List.forall_mem_cons.mpr ⟨c23, List.forall_mem_cons.mpr ⟨c25, List.forall_mem_cons.mpr ⟨c27, List.forall_mem_cons.mpr ⟨c31, fun _ h => absurd h List.not_mem_nil⟩⟩⟩⟩⟩⟩⟩⟩⟩) dX0_card_23 (by decide +kernel) (by decide) (tgt := 128) (by decide) ?_
                      refine v_iconst C (v := (-1 : Int32)) dX0_card_128 (by decide) ?_
                      exact c_iret C dX0_card_129 hF
set_option maxHeartbeats 4000000 in
theorem wX0_slant (l : Launch) (g : GT) (hX : ∀ U, gX g U → SX g U) (N : Nat) (x0 : Nat) (x1 : Int32) (w : Wd) (r : Int32) (w1 : Wd) (hF : FX0_slant N g x0 x1 w = some (r, w1)) : kMt l g yX0_slant (ws_ yX0_slant cX0_slant 3 (some .int)) 4 400 w [.ref x0, .int x1] (some (.int r)) w1 := by
  refine kMt.ofV (lv := [some (.ref x0), some (.int x1), none]) (by decide) rfl (Nat.le_of_ble_eq_true rfl) rfl ?_
  intro X hl hin C
  unfold FX0_slant at hF
  refine v_aload_n C dX0_slant_0 rfl rfl ?_
  refine v_iload_n C dX0_slant_1 rfl rfl ?_
  obtain ⟨h3, hF⟩ := k_ite hF
  refine c_callVi C lk_X0_195 (ci := 1) rfl h3 (fr2 := 3) (lo2 := 300) (As := [.int x1]) (st := []) (fun r9_ w9_ h9_ => by rw [hl]; exact wX0_isCard l g hX N x0 x1 w r9_ w9_ h9_) (by decide) rfl rfl (Nat.le_of_ble_eq_true rfl) dX0_slant_2 hF (fun r1 u2 hF => ?_)
  refine v_if_ne C (tgt := 10) dX0_slant_5 (by decide) hF (fun c4 hF => ?_) (fun c4 hF => ?_)
  · refine v_iconst C (v := (-1 : Int32)) dX0_slant_8 (by decide) ?_
    exact c_iret C dX0_slant_9 hF
  · refine v_aload_n C dX0_slant_10 rfl rfl ?_
    refine v_getR C kc_X0 0 (Nat.le_of_ble_eq_true rfl) (kFl.p q198) dX0_slant_11 hF (fun v5 hF => ?_)
    refine v_iload_n C dX0_slant_14 rfl rfl ?_
    obtain ⟨h8, hF⟩ := k_ite hF
    refine c_callVr C lk_X0_121 (ci := 11) rfl h8 (fr2 := 3) (lo2 := 300) (As := [.int x1]) (st := []) (fun r9_ w9_ h9_ => by rw [hl]; exact wJ2_get l g hX N v5 x1 u2 r9_ w9_ h9_) (by decide) rfl rfl (Nat.le_of_ble_eq_true rfl) dX0_slant_15 hF (fun r6 u7 hF => ?_)
    refine v_castI C (ci := 2) rfl q700 dX0_slant_18 hF (fun hF => ?_)
    refine v_astore_n C dX0_slant_21 rfl (Nat.le_of_ble_eq_true rfl) rfl (lv' := [some (.ref x0), some (.int x1), some (.ref r6)]) rfl ?_
    refine v_aload_n C dX0_slant_22 rfl rfl ?_
    refine v_iconst C (v := (1 : Int32)) dX0_slant_23 (by decide) ?_
    refine v_aload_n C dX0_slant_24 rfl rfl ?_
    refine v_getI C kc_X6 1 (Nat.le_of_ble_eq_true rfl) (kFl.n q384) dX0_slant_25 hF (fun v9 hF => ?_)
    refine v_isub C dX0_slant_28 ?_
    refine v_putW C kc_X6 1 (Nat.le_of_ble_eq_true rfl) (kFl.n q384) rfl rfl rfl dX0_slant_29 hF (fun u10 hF => ?_)
    refine v_aload_n C dX0_slant_32 rfl rfl ?_
    refine v_getI C kc_X6 1 (Nat.le_of_ble_eq_true rfl) (kFl.n q384) dX0_slant_33 hF (fun v11 hF => ?_)
    exact c_iret C dX0_slant_36 hF
set_option maxHeartbeats 4000000 in
theorem wX0_place (l : Launch) (g : GT) (hX : ∀ U, gX g U → SX g U) (N : Nat) (x0 : Nat) (x1 : Int32) (x2 : Int32) (w : Wd) (r : Int32) (w1 : Wd) (hF : FX0_place N g x0 x1 x2 w = some (r, w1)) : kMt l g yX0_place (ws_ yX0_place cX0_place 4 (some .int)) 4 400 w [.ref x0, .int x1, .int x2] (some (.int r)) w1 := by
  refine kMt.ofV (lv := [some (.ref x0), some (.int x1), some (.int x2), none]) (by decide) rfl (Nat.le_of_ble_eq_true rfl) rfl ?_
  intro X hl hin C
  unfold FX0_place at hF
  refine v_aload_n C dX0_place_0 rfl rfl ?_
  refine v_iload_n C dX0_place_1 rfl rfl ?_
  obtain ⟨h3, hF⟩ := k_ite hF
  refine c_callVi C lk_X0_195 (ci := 1) rfl h3 (fr2 := 3) (lo2 := 300) (As := [.int x1]) (st := []) (fun r9_ w9_ h9_ => by rw [hl]; exact wX0_isCard l g hX N x0 x1 w r9_ w9_ h9_) (by decide) rfl rfl (Nat.le_of_ble_eq_true rfl) dX0_place_2 hF (fun r1 u2 hF => ?_)
  refine v_if_ne C (tgt := 10) dX0_place_5 (by decide) hF (fun c4 hF => ?_) (fun c4 hF => ?_)
  · refine v_iconst C (v := (-1 : Int32)) dX0_place_8 (by decide) ?_
    exact c_iret C dX0_place_9 hF
  · refine v_iload_n C dX0_place_10 rfl rfl ?_
    refine v_iconst C (v := (0 : Int32)) dX0_place_11 (by decide) ?_
    refine v_iconst C (v := (3 : Int32)) dX0_place_12 (by decide) ?_
    refine c_callSi C lk_X0_93 (fr2 := 1) (lo2 := 100) (As := [.int x2, .int (0 : Int32), .int (3 : Int32)]) (st := []) (fun r9_ w9_ h9_ => by rw [hl]; exact wX0_isIn l g hX N x2 (0 : Int32) (3 : Int32) u2 r9_ w9_ h9_) (by decide) rfl rfl (Nat.le_of_ble_eq_true rfl) dX0_place_13 hF (fun r5 u6 hF => ?_)
    refine v_if_ne C (tgt := 22) dX0_place_16 (by decide) hF (fun c7 hF => ?_) (fun c7 hF => ?_)
    · refine v_bipush C (v := (-2 : Int32)) dX0_place_19 (by decide) ?_
      exact c_iret C dX0_place_21 hF
    · refine v_aload_n C dX0_place_22 rfl rfl ?_
      refine v_getR C kc_X0 0 (Nat.le_of_ble_eq_true rfl) (kFl.p q198) dX0_place_23 hF (fun v8 hF => ?_)
      refine v_iload_n C dX0_place_26 rfl rfl ?_
      obtain ⟨h11, hF⟩ := k_ite hF
      refine c_callVr C lk_X0_121 (ci := 11) rfl h11 (fr2 := 3) (lo2 := 300) (As := [.int x1]) (st := []) (fun r9_ w9_ h9_ => by rw [hl]; exact wJ2_get l g hX N v8 x1 u6 r9_ w9_ h9_) (by decide) rfl rfl (Nat.le_of_ble_eq_true rfl) dX0_place_27 hF (fun r9 u10 hF => ?_)
      refine v_castI C (ci := 2) rfl q700 dX0_place_30 hF (fun hF => ?_)
      refine v_getI C kc_X6 2 (Nat.le_of_ble_eq_true rfl) (kFl.n q386) dX0_place_33 hF (fun v12 hF => ?_)
      refine v_istore_n C dX0_place_36 rfl (Nat.le_of_ble_eq_true rfl) rfl (lv' := [some (.ref x0), some (.int x1), some (.int x2), some (.int v12)]) rfl ?_
      refine v_aload_n C dX0_place_37 rfl rfl ?_
      refine v_getR C kc_X0 0 (Nat.le_of_ble_eq_true rfl) (kFl.p q198) dX0_place_38 hF (fun v13 hF => ?_)
      refine v_iload_n C dX0_place_41 rfl rfl ?_
      obtain ⟨h16, hF⟩ := k_ite hF
      refine c_callVr C lk_X0_121 (ci := 11) rfl h16 (fr2 := 3) (lo2 := 300) (As := [.int x1]) (st := []) (fun r9_ w9_ h9_ => by rw [hl]; exact wJ2_get l g hX N v13 x1 u10 r9_ w9_ h9_) (by decide) rfl rfl (Nat.le_of_ble_eq_true rfl) dX0_place_42 hF (fun r14 u15 hF => ?_)
      refine v_castI C (ci := 2) rfl q700 dX0_place_45 hF (fun hF => ?_)
      refine v_iload_n C dX0_place_48 rfl rfl ?_
      refine v_putW C kc_X6 2 (Nat.le_of_ble_eq_true rfl) (kFl.n q386) rfl rfl rfl dX0_place_49 hF (fun u17 hF => ?_)
      refine v_iload_n C dX0_place_52 rfl rfl ?_
      exact c_iret C dX0_place_53 hF
set_option maxHeartbeats 4000000 in
theorem wX0_recolour (l : Launch) (g : GT) (hX : ∀ U, gX g U → SX g U) (N : Nat) (x0 : Nat) (x1 : Int32) (x2 : Int32) (x3 : Int32) (w : Wd) (r : Int32) (w1 : Wd) (hF : FX0_recolour N g x0 x1 x2 x3 w = some (r, w1)) : kMt l g yX0_recolour (ws_ yX0_recolour cX0_recolour 5 (some .int)) 4 400 w [.ref x0, .int x1, .int x2, .int x3] (some (.int r)) w1 := by
  refine kMt.ofV (lv := [some (.ref x0), some (.int x1), some (.int x2), some (.int x3), none]) (by decide) rfl (Nat.le_of_ble_eq_true rfl) rfl ?_
  intro X hl hin C
  unfold FX0_recolour at hF
  refine v_aload_n C dX0_recolour_0 rfl rfl ?_
  refine v_iload_n C dX0_recolour_1 rfl rfl ?_
  obtain ⟨h3, hF⟩ := k_ite hF
  refine c_callVi C lk_X0_195 (ci := 1) rfl h3 (fr2 := 3) (lo2 := 300) (As := [.int x1]) (st := []) (fun r9_ w9_ h9_ => by rw [hl]; exact wX0_isCard l g hX N x0 x1 w r9_ w9_ h9_) (by decide) rfl rfl (Nat.le_of_ble_eq_true rfl) dX0_recolour_2 hF (fun r1 u2 hF => ?_)
  refine v_if_eq C (tgt := 17) dX0_recolour_5 (by decide) hF (fun c4 hF => ?_) (fun c4 hF => ?_)
  · refine v_iconst C (v := (-1 : Int32)) dX0_recolour_17 (by decide) ?_
    exact c_iret C dX0_recolour_18 hF
  · refine v_iload_n C dX0_recolour_8 rfl rfl ?_
    refine v_iconst C (v := (0 : Int32)) dX0_recolour_9 (by decide) ?_
    refine v_iconst C (v := (3 : Int32)) dX0_recolour_10 (by decide) ?_
    refine c_callSi C lk_X0_93 (fr2 := 1) (lo2 := 100) (As := [.int x2, .int (0 : Int32), .int (3 : Int32)]) (st := []) (fun r9_ w9_ h9_ => by rw [hl]; exact wX0_isIn l g hX N x2 (0 : Int32) (3 : Int32) u2 r9_ w9_ h9_) (by decide) rfl rfl (Nat.le_of_ble_eq_true rfl) dX0_recolour_11 hF (fun r5 u6 hF => ?_)
    refine v_if_ne C (tgt := 19) dX0_recolour_14 (by decide) hF (fun c7 hF => ?_) (fun c7 hF => ?_)
    · refine v_iconst C (v := (-1 : Int32)) dX0_recolour_17 (by decide) ?_
      exact c_iret C dX0_recolour_18 hF
    · refine v_iload_n C dX0_recolour_19 rfl rfl ?_
      refine c_callSi C lk_X0_214 (fr2 := 2) (lo2 := 200) (As := [.int x3]) (st := []) (fun r9_ w9_ h9_ => by rw [hl]; exact wX0_isColour l g hX N x3 u6 r9_ w9_ h9_) (by decide) rfl rfl (Nat.le_of_ble_eq_true rfl) dX0_recolour_20 hF (fun r8 u9 hF => ?_)
      refine v_if_ne C (tgt := 29) dX0_recolour_23 (by decide) hF (fun c10 hF => ?_) (fun c10 hF => ?_)
      · refine v_bipush C (v := (-2 : Int32)) dX0_recolour_26 (by decide) ?_
        exact c_iret C dX0_recolour_28 hF
      · refine v_aload_n C dX0_recolour_29 rfl rfl ?_
        refine v_getR C kc_X0 0 (Nat.le_of_ble_eq_true rfl) (kFl.p q198) dX0_recolour_30 hF (fun v11 hF => ?_)
        refine v_iload_n C dX0_recolour_33 rfl rfl ?_
        obtain ⟨h14, hF⟩ := k_ite hF
        refine c_callVr C lk_X0_121 (ci := 11) rfl h14 (fr2 := 3) (lo2 := 300) (As := [.int x1]) (st := []) (fun r9_ w9_ h9_ => by rw [hl]; exact wJ2_get l g hX N v11 x1 u9 r9_ w9_ h9_) (by decide) rfl rfl (Nat.le_of_ble_eq_true rfl) dX0_recolour_34 hF (fun r12 u13 hF => ?_)
        refine v_castI C (ci := 2) rfl q700 dX0_recolour_37 hF (fun hF => ?_)
        refine v_getR C kc_X6 0 (Nat.le_of_ble_eq_true rfl) (kFl.n q380) dX0_recolour_40 hF (fun v15 hF => ?_)
        refine v_iload_n C dX0_recolour_43 rfl rfl ?_
        refine v_aIi C dX0_recolour_44 hF (fun v16 hF => ?_)
        refine v_istore C dX0_recolour_45 (Nat.le_of_ble_eq_true rfl) rfl (lv' := [some (.ref x0), some (.int x1), some (.int x2), some (.int x3), some (.int v16)]) rfl ?_
        refine v_aload_n C dX0_recolour_47 rfl rfl ?_
        refine v_getR C kc_X0 0 (Nat.le_of_ble_eq_true rfl) (kFl.p q198) dX0_recolour_48 hF (fun v17 hF => ?_)
        refine v_iload_n C dX0_recolour_51 rfl rfl ?_
        obtain ⟨h20, hF⟩ := k_ite hF
        refine c_callVr C lk_X0_121 (ci := 11) rfl h20 (fr2 := 3) (lo2 := 300) (As := [.int x1]) (st := []) (fun r9_ w9_ h9_ => by rw [hl]; exact wJ2_get l g hX N v17 x1 u13 r9_ w9_ h9_) (by decide) rfl rfl (Nat.le_of_ble_eq_true rfl) dX0_recolour_52 hF (fun r18 u19 hF => ?_)
        refine v_castI C (ci := 2) rfl q700 dX0_recolour_55 hF (fun hF => ?_)
        refine v_getR C kc_X6 0 (Nat.le_of_ble_eq_true rfl) (kFl.n q380) dX0_recolour_58 hF (fun v21 hF => ?_)
        refine v_iload_n C dX0_recolour_61 rfl rfl ?_
        refine v_iload_n C dX0_recolour_62 rfl rfl ?_
        refine v_aSi C dX0_recolour_63 hF (fun u22 hF => ?_)
        refine v_iload C dX0_recolour_64 rfl ?_
        exact c_iret C dX0_recolour_66 hF
set_option maxHeartbeats 4000000 in
theorem wX0_turn (l : Launch) (g : GT) (hX : ∀ U, gX g U → SX g U) (N : Nat) (x0 : Nat) (x1 : Int32) (x2 : Int32) (w : Wd) (r : Int32) (w1 : Wd) (hF : FX0_turn N g x0 x1 x2 w = some (r, w1)) : kMt l g yX0_turn (ws_ yX0_turn cX0_turn 3 (some .int)) 8 800 w [.ref x0, .int x1, .int x2] (some (.int r)) w1 := by
  refine kMt.ofV (lv := [some (.ref x0), some (.int x1), some (.int x2)]) (by decide) rfl (Nat.le_of_ble_eq_true rfl) rfl ?_
  intro X hl hin C
  unfold FX0_turn at hF
  refine v_aload_n C dX0_turn_0 rfl rfl ?_
  refine v_iload_n C dX0_turn_1 rfl rfl ?_
  obtain ⟨h3, hF⟩ := k_ite hF
  refine c_callVi C lk_X0_195 (ci := 1) rfl h3 (fr2 := 3) (lo2 := 300) (As := [.int x1]) (st := []) (fun r9_ w9_ h9_ => by rw [hl]; exact wX0_isCard l g hX N x0 x1 w r9_ w9_ h9_) (by decide) rfl rfl (Nat.le_of_ble_eq_true rfl) dX0_turn_2 hF (fun r1 u2 hF => ?_)
  refine v_if_ne C (tgt := 10) dX0_turn_5 (by decide) hF (fun c4 hF => ?_) (fun c4 hF => ?_)
  · refine v_iconst C (v := (-1 : Int32)) dX0_turn_8 (by decide) ?_
    exact c_iret C dX0_turn_9 hF
  · refine v_iload_n C dX0_turn_10 rfl rfl ?_
    refine c_callSi C lk_X0_217 (fr2 := 2) (lo2 := 200) (As := [.int x2]) (st := []) (fun r9_ w9_ h9_ => by rw [hl]; exact wX0_isTurning l g hX N x2 u2 r9_ w9_ h9_) (by decide) rfl rfl (Nat.le_of_ble_eq_true rfl) dX0_turn_11 hF (fun r5 u6 hF => ?_)
    refine v_if_eq C (tgt := 38) dX0_turn_14 (by decide) hF (fun c7 hF => ?_) (fun c7 hF => ?_)
    · refine v_bipush C (v := (-2 : Int32)) dX0_turn_38 (by decide) ?_
      exact c_iret C dX0_turn_40 hF
    · refine v_aload_n C dX0_turn_17 rfl rfl ?_
      refine v_aload_n C dX0_turn_18 rfl rfl ?_
      refine v_iconst C (v := (1 : Int32)) dX0_turn_19 (by decide) ?_
      refine v_iload_n C dX0_turn_20 rfl rfl ?_
      refine v_ishl C dX0_turn_21 ?_
      refine c_callSr C lk_X0_220 (fr2 := 4) (lo2 := 400) (As := [.int ((1 : Int32) <<< (x1 &&& 31))]) (st := [.ref x0, .ref x0]) (fun r9_ w9_ h9_ => by rw [hl]; exact wX0_setOf l g hX N ((1 : Int32) <<< (x1 &&& 31)) u6 r9_ w9_ h9_) (by decide) rfl rfl (Nat.le_of_ble_eq_true rfl) dX0_turn_22 hF (fun r8 u9 hF => ?_)
      refine v_iload_n C dX0_turn_25 rfl rfl ?_
      refine c_callSr C lk_X0_224 (fr2 := 1) (lo2 := 100) (As := [.int x2]) (st := [.ref r8, .ref x0, .ref x0]) (fun r9_ w9_ h9_ => by rw [hl]; exact wX1_at l g hX N x2 u9 r9_ w9_ h9_) (by decide) rfl rfl (Nat.le_of_ble_eq_true rfl) dX0_turn_26 hF (fun r10 u11 hF => ?_)
      obtain ⟨h14, hF⟩ := k_ite hF
      refine c_callVr C lk_X0_228 (ci := 1) rfl h14 (fr2 := 3) (lo2 := 300) (As := [.ref r8, .ref r10]) (st := [.ref x0]) (fun r9_ w9_ h9_ => by rw [hl]; exact wX0_ofSet l g hX N x0 r8 r10 u11 r9_ w9_ h9_) (by decide) rfl rfl (Nat.le_of_ble_eq_true rfl) dX0_turn_29 hF (fun r12 u13 hF => ?_)
      obtain ⟨h17, hF⟩ := k_ite hF
      refine c_callVi C lk_X0_232 (ci := 1) rfl h17 (fr2 := 7) (lo2 := 700) (As := [.ref r12]) (st := []) (fun r9_ w9_ h9_ => by rw [hl]; exact wX0_picks l g hX N x0 r12 u13 r9_ w9_ h9_) (by decide) rfl rfl (Nat.le_of_ble_eq_true rfl) dX0_turn_32 hF (fun r15 u16 hF => ?_)
      refine v_goto C (tgt := 40) dX0_turn_35 (by decide) ?_
      exact c_iret C dX0_turn_40 hF
set_option maxHeartbeats 4000000 in
theorem wX0_pack (l : Launch) (g : GT) (hX : ∀ U, gX g U → SX g U) (N : Nat) (x0 : Nat) (x1 : Int32) (x2 : Int32) (w : Wd) (r : Int32) (w1 : Wd) (hF : FX0_pack N g x0 x1 x2 w = some (r, w1)) : kMt l g yX0_pack (ws_ yX0_pack cX0_pack 3 (some .int)) 8 800 w [.ref x0, .int x1, .int x2] (some (.int r)) w1 := by
  refine kMt.ofV (lv := [some (.ref x0), some (.int x1), some (.int x2)]) (by decide) rfl (Nat.le_of_ble_eq_true rfl) rfl ?_
  intro X hl hin C
  unfold FX0_pack at hF
  refine v_iload_n C dX0_pack_0 rfl rfl ?_
  refine v_iconst C (v := (0 : Int32)) dX0_pack_1 (by decide) ?_
  refine v_iconst C (v := (1 : Int32)) dX0_pack_2 (by decide) ?_
  refine v_aload_n C dX0_pack_3 rfl rfl ?_
  obtain ⟨h3, hF⟩ := k_ite hF
  refine c_callVi C lk_X0_90 (ci := 1) rfl h3 (fr2 := 2) (lo2 := 200) (As := []) (st := [.int (1 : Int32), .int (0 : Int32), .int x1]) (fun r9_ w9_ h9_ => by rw [hl]; exact wX0_many l g hX N x0 w r9_ w9_ h9_) (by decide) rfl rfl (Nat.le_of_ble_eq_true rfl) dX0_pack_4 hF (fun r1 u2 hF => ?_)
  refine v_ishl C dX0_pack_7 ?_
  refine v_iconst C (v := (1 : Int32)) dX0_pack_8 (by decide) ?_
  refine v_isub C dX0_pack_9 ?_
  refine c_callSi C lk_X0_93 (fr2 := 1) (lo2 := 100) (As := [.int x1, .int (0 : Int32), .int (((1 : Int32) <<< (r1 &&& 31)) - (1 : Int32))]) (st := []) (fun r9_ w9_ h9_ => by rw [hl]; exact wX0_isIn l g hX N x1 (0 : Int32) (((1 : Int32) <<< (r1 &&& 31)) - (1 : Int32)) u2 r9_ w9_ h9_) (by decide) rfl rfl (Nat.le_of_ble_eq_true rfl) dX0_pack_10 hF (fun r4 u5 hF => ?_)
  refine v_if_eq C (tgt := 23) dX0_pack_13 (by decide) hF (fun c6 hF => ?_) (fun c6 hF => ?_)
  · refine v_bipush C (v := (-2 : Int32)) dX0_pack_23 (by decide) ?_
    exact c_iret C dX0_pack_25 hF
  · refine v_iload_n C dX0_pack_16 rfl rfl ?_
    refine c_callSi C lk_X0_217 (fr2 := 2) (lo2 := 200) (As := [.int x2]) (st := []) (fun r9_ w9_ h9_ => by rw [hl]; exact wX0_isTurning l g hX N x2 u5 r9_ w9_ h9_) (by decide) rfl rfl (Nat.le_of_ble_eq_true rfl) dX0_pack_17 hF (fun r7 u8 hF => ?_)
    refine v_if_ne C (tgt := 26) dX0_pack_20 (by decide) hF (fun c9 hF => ?_) (fun c9 hF => ?_)
    · refine v_bipush C (v := (-2 : Int32)) dX0_pack_23 (by decide) ?_
      exact c_iret C dX0_pack_25 hF
    · refine v_aload_n C dX0_pack_26 rfl rfl ?_
      obtain ⟨h12, hF⟩ := k_ite hF
      refine c_callVi C lk_X0_90 (ci := 1) rfl h12 (fr2 := 2) (lo2 := 200) (As := []) (st := []) (fun r9_ w9_ h9_ => by rw [hl]; exact wX0_many l g hX N x0 u8 r9_ w9_ h9_) (by decide) rfl rfl (Nat.le_of_ble_eq_true rfl) dX0_pack_27 hF (fun r10 u11 hF => ?_)
      refine v_if_ne C (tgt := 38) dX0_pack_30 (by decide) hF (fun c13 hF => ?_) (fun c13 hF => ?_)
      · refine v_bipush C (v := (-3 : Int32)) dX0_pack_33 (by decide) ?_
        refine v_goto C (tgt := 54) dX0_pack_35 (by decide) ?_
        exact c_iret C dX0_pack_54 hF
      · refine v_aload_n C dX0_pack_38 rfl rfl ?_
        refine v_aload_n C dX0_pack_39 rfl rfl ?_
        refine v_iload_n C dX0_pack_40 rfl rfl ?_
        refine c_callSr C lk_X0_220 (fr2 := 4) (lo2 := 400) (As := [.int x1]) (st := [.ref x0, .ref x0]) (fun r9_ w9_ h9_ => by rw [hl]; exact wX0_setOf l g hX N x1 u11 r9_ w9_ h9_) (by decide) rfl rfl (Nat.le_of_ble_eq_true rfl) dX0_pack_41 hF (fun r14 u15 hF => ?_)
        refine v_iload_n C dX0_pack_44 rfl rfl ?_
        refine c_callSr C lk_X0_224 (fr2 := 1) (lo2 := 100) (As := [.int x2]) (st := [.ref r14, .ref x0, .ref x0]) (fun r9_ w9_ h9_ => by rw [hl]; exact wX1_at l g hX N x2 u15 r9_ w9_ h9_) (by decide) rfl rfl (Nat.le_of_ble_eq_true rfl) dX0_pack_45 hF (fun r16 u17 hF => ?_)
        obtain ⟨h20, hF⟩ := k_ite hF
        refine c_callVr C lk_X0_228 (ci := 1) rfl h20 (fr2 := 3) (lo2 := 300) (As := [.ref r14, .ref r16]) (st := [.ref x0]) (fun r9_ w9_ h9_ => by rw [hl]; exact wX0_ofSet l g hX N x0 r14 r16 u17 r9_ w9_ h9_) (by decide) rfl rfl (Nat.le_of_ble_eq_true rfl) dX0_pack_48 hF (fun r18 u19 hF => ?_)
        obtain ⟨h23, hF⟩ := k_ite hF
        refine c_callVi C lk_X0_232 (ci := 1) rfl h23 (fr2 := 7) (lo2 := 700) (As := [.ref r18]) (st := []) (fun r9_ w9_ h9_ => by rw [hl]; exact wX0_picks l g hX N x0 r18 u19 r9_ w9_ h9_) (by decide) rfl rfl (Nat.le_of_ble_eq_true rfl) dX0_pack_51 hF (fun r21 u22 hF => ?_)
        exact c_iret C dX0_pack_54 hF
set_option maxHeartbeats 4000000 in
theorem wX0_weave_b25 {l : Launch} {g : GT} {X : CxT} {r : Int32} {w1 : Wd} (C : kOk g X cX0_weave 3 RX0 (some .int) 47 4700 (some (.int r)) w1) (hX : ∀ U, gX g U → SX g U) (hl : xl X = l) (hin : kHin X yX0_weave) (N : Nat) (k25 : Nat × Int32 × Int32 × Wd → Option (Int32 × Wd)) (hk25 : ∀ a, k25 a = some (r, w1) → kV g X 3 a.2.2.2 25 [some (.ref a.1), some (.int a.2.1), some (.int a.2.2.1)] []) (x0 : Nat) (x1 : Int32) (x2 : Int32) (w : Wd) (hF : FX0_weave_b25 N g k25 x0 x1 x2 w = some (r, w1)) : kV g X 3 w 25 [some (.ref x0), some (.int x1), some (.int x2)] [] := by
  unfold FX0_weave_b25 at hF
  refine v_iload_n C dX0_weave_25 rfl rfl ?_
  refine v_iload_n C dX0_weave_26 rfl rfl ?_
  refine v_icmp_ge C (tgt := 54) dX0_weave_27 (by decide) hF (fun c8 hF => ?_) (fun c8 hF => ?_)
  · refine v_iload_n C dX0_weave_54 rfl rfl ?_
    exact c_iret C dX0_weave_55 hF
  · refine v_aload_n C dX0_weave_30 rfl rfl ?_
    refine v_aload_n C dX0_weave_31 rfl rfl ?_
    refine v_aload_n C dX0_weave_32 rfl rfl ?_
    refine v_getR C kc_X0 1 (Nat.le_of_ble_eq_true rfl) (kFl.p q199) dX0_weave_33 hF (fun v9 hF => ?_)
    obtain ⟨h12, hF⟩ := k_ite hF
    refine c_callVi C lk_X0_86 (ci := 11) rfl h12 (fr2 := 1) (lo2 := 100) (As := []) (st := [.ref x0, .ref x0]) (fun r9_ w9_ h9_ => by rw [hl]; exact wJ2_size l g hX N v9 w r9_ w9_ h9_) (by decide) rfl rfl (Nat.le_of_ble_eq_true rfl) dX0_weave_36 hF (fun r10 u11 hF => ?_)
    obtain ⟨h15, hF⟩ := k_ite hF
    refine c_callVr C lk_X0_236 (ci := 1) rfl h15 (fr2 := 46) (lo2 := 4600) (As := [.int r10]) (st := [.ref x0]) (fun r9_ w9_ h9_ => by rw [hl]; exact wX0_pickOf l g hX N x0 r10 u11 r9_ w9_ h9_) (by decide) rfl rfl (Nat.le_of_ble_eq_true rfl) dX0_weave_39 hF (fun r13 u14 hF => ?_)
    obtain ⟨h18, hF⟩ := k_ite hF
    refine c_callVi C lk_X0_232 (ci := 1) rfl h18 (fr2 := 7) (lo2 := 700) (As := [.ref r13]) (st := []) (fun r9_ w9_ h9_ => by rw [hl]; exact wX0_picks l g hX N x0 r13 u14 r9_ w9_ h9_) (by decide) rfl rfl (Nat.le_of_ble_eq_true rfl) dX0_weave_42 hF (fun r16 u17 hF => ?_)
    refine v_if_le C (tgt := 54) dX0_weave_45 (by decide) hF (fun c19 hF => ?_) (fun c19 hF => ?_)
    · refine v_iload_n C dX0_weave_54 rfl rfl ?_
      exact c_iret C dX0_weave_55 hF
    · refine v_iinc C dX0_weave_48 rfl (v := (x2 + (1 : Int32))) rfl (Nat.le_of_ble_eq_true rfl) rfl (lv' := [some (.ref x0), some (.int x1), some (.int (x2 + (1 : Int32)))]) rfl ?_
      refine v_goto C (tgt := 25) dX0_weave_51 (by decide) ?_
      refine v_mask [true, true, true] (lv' := [some (.ref x0), some (.int x1), some (.int (x2 + (1 : Int32)))]) rfl ?_
      exact hk25 (x0, x1, (x2 + (1 : Int32)), u17) hF
set_option maxHeartbeats 4000000 in
theorem wX0_weave (l : Launch) (g : GT) (hX : ∀ U, gX g U → SX g U) (N : Nat) (x0 : Nat) (x1 : Int32) (w : Wd) (r : Int32) (w1 : Wd) (hF : FX0_weave N g x0 x1 w = some (r, w1)) : kMt l g yX0_weave (ws_ yX0_weave cX0_weave 3 (some .int)) 47 4700 w [.ref x0, .int x1] (some (.int r)) w1 := by
  refine kMt.ofV (lv := [some (.ref x0), some (.int x1), none]) (by decide) rfl (Nat.le_of_ble_eq_true rfl) rfl ?_
  intro X hl hin C
  unfold FX0_weave at hF
  refine v_iload_n C dX0_weave_0 rfl rfl ?_
  refine v_iconst C (v := (1 : Int32)) dX0_weave_1 (by decide) ?_
  refine v_bipush C (v := (50 : Int32)) dX0_weave_2 (by decide) ?_
  refine c_callSi C lk_X0_93 (fr2 := 1) (lo2 := 100) (As := [.int x1, .int (1 : Int32), .int (50 : Int32)]) (st := []) (fun r9_ w9_ h9_ => by rw [hl]; exact wX0_isIn l g hX N x1 (1 : Int32) (50 : Int32) w r9_ w9_ h9_) (by decide) rfl rfl (Nat.le_of_ble_eq_true rfl) dX0_weave_4 hF (fun r1 u2 hF => ?_)
  refine v_if_ne C (tgt := 13) dX0_weave_7 (by decide) hF (fun c3 hF => ?_) (fun c3 hF => ?_)
  · refine v_bipush C (v := (-2 : Int32)) dX0_weave_10 (by decide) ?_
    exact c_iret C dX0_weave_12 hF
  · refine v_aload_n C dX0_weave_13 rfl rfl ?_
    obtain ⟨h6, hF⟩ := k_ite hF
    refine c_callVi C lk_X0_90 (ci := 1) rfl h6 (fr2 := 2) (lo2 := 200) (As := []) (st := []) (fun r9_ w9_ h9_ => by rw [hl]; exact wX0_many l g hX N x0 u2 r9_ w9_ h9_) (by decide) rfl rfl (Nat.le_of_ble_eq_true rfl) dX0_weave_14 hF (fun r4 u5 hF => ?_)
    refine v_if_ne C (tgt := 23) dX0_weave_17 (by decide) hF (fun c7 hF => ?_) (fun c7 hF => ?_)
    · refine v_bipush C (v := (-3 : Int32)) dX0_weave_20 (by decide) ?_
      exact c_iret C dX0_weave_22 hF
    · refine v_iconst C (v := (0 : Int32)) dX0_weave_23 (by decide) ?_
      refine v_istore_n C dX0_weave_24 rfl (Nat.le_of_ble_eq_true rfl) rfl (lv' := [some (.ref x0), some (.int x1), some (.int (0 : Int32))]) rfl ?_
      refine v_mask [true, true, true] (lv' := [some (.ref x0), some (.int x1), some (.int (0 : Int32))]) rfl ?_
      exact kloop_ok (P := fun a => kV g X 3 a.2.2.2 25 [some (.ref a.1), some (.int a.2.1), some (.int a.2.2.1)] []) (fun self hs a hF => wX0_weave_b25 C hX hl hin N self hs a.1 a.2.1 a.2.2.1 a.2.2.2 hF) N (x0, x1, (0 : Int32), u5) hF
set_option maxHeartbeats 4000000 in
theorem wX0_unweave_b53 {l : Launch} {g : GT} {X : CxT} {r : Int32} {w1 : Wd} (C : kOk g X cX0_unweave 5 RX0 (some .int) 4 400 (some (.int r)) w1) (hX : ∀ U, gX g U → SX g U) (hl : xl X = l) (hin : kHin X yX0_unweave) (N : Nat) (k15 : Nat × Int32 × Int32 × Wd → Option (Int32 × Wd)) (hk15 : ∀ a, k15 a = some (r, w1) → kV g X 5 a.2.2.2 15 [some (.ref a.1), some (.int a.2.1), some (.int a.2.2.1), none, none] []) (k53 : Nat × Int32 × Int32 × Nat × Int32 × Wd → Option (Int32 × Wd)) (hk53 : ∀ a, k53 a = some (r, w1) → kV g X 5 a.2.2.2.2.2 53 [some (.ref a.1), some (.int a.2.1), some (.int a.2.2.1), some (.ref a.2.2.2.1), some (.int a.2.2.2.2.1)] []) (x0 : Nat) (x1 : Int32) (x2 : Int32) (x3 : Nat) (x4 : Int32) (w : Wd) (hF : FX0_unweave_b53 N g k15 k53 x0 x1 x2 x3 x4 w = some (r, w1)) : kV g X 5 w 53 [some (.ref x0), some (.int x1), some (.int x2), some (.ref x3), some (.int x4)] [] := by
  unfold FX0_unweave_b53 at hF
  refine v_iload C dX0_unweave_53 rfl ?_
  refine v_aload_n C dX0_unweave_55 rfl rfl ?_
  obtain ⟨h20, hF⟩ := k_ite hF
  refine c_callVi C lk_X0_90 (ci := 1) rfl h20 (fr2 := 2) (lo2 := 200) (As := []) (st := [.int x4]) (fun r9_ w9_ h9_ => by rw [hl]; exact wX0_many l g hX N x0 w r9_ w9_ h9_) (by decide) rfl rfl (Nat.le_of_ble_eq_true rfl) dX0_unweave_56 hF (fun r18 u19 hF => ?_)
  refine v_icmp_ge C (tgt := 90) dX0_unweave_59 (by decide) hF (fun c21 hF => ?_) (fun c21 hF => ?_)
  · refine v_iinc C dX0_unweave_90 rfl (v := (x2 + (1 : Int32))) rfl (Nat.le_of_ble_eq_true rfl) rfl (lv' := [some (.ref x0), some (.int x1), some (.int (x2 + (1 : Int32))), some (.ref x3), some (.int x4)]) rfl ?_
    refine v_goto C (tgt := 15) dX0_unweave_93 (by decide) ?_
    refine v_mask [true, true, true, false, false] (lv' := [some (.ref x0), some (.int x1), some (.int (x2 + (1 : Int32))), none, none]) rfl ?_
    exact hk15 (x0, x1, (x2 + (1 : Int32)), u19) hF
  · refine v_aload_n C dX0_unweave_62 rfl rfl ?_
    refine v_getR C kc_X0 0 (Nat.le_of_ble_eq_true rfl) (kFl.p q198) dX0_unweave_63 hF (fun v22 hF => ?_)
    refine v_iload C dX0_unweave_66 rfl ?_
    obtain ⟨h25, hF⟩ := k_ite hF
    refine c_callVr C lk_X0_121 (ci := 11) rfl h25 (fr2 := 3) (lo2 := 300) (As := [.int x4]) (st := []) (fun r9_ w9_ h9_ => by rw [hl]; exact wJ2_get l g hX N v22 x4 u19 r9_ w9_ h9_) (by decide) rfl rfl (Nat.le_of_ble_eq_true rfl) dX0_unweave_68 hF (fun r23 u24 hF => ?_)
    refine v_castI C (ci := 2) rfl q700 dX0_unweave_71 hF (fun hF => ?_)
    refine v_aload_n C dX0_unweave_74 rfl rfl ?_
    refine v_getR C kc_X9 3 (Nat.le_of_ble_eq_true rfl) (kFl.n q984) dX0_unweave_75 hF (fun v26 hF => ?_)
    refine v_iload C dX0_unweave_78 rfl ?_
    refine v_aQl C (t := 5) rfl dX0_unweave_80 hF (fun v27 hF => ?_)
    rcases v27 with _ | a28
    · exact (k_ob0 hF).elim
    have hF := k_ob1 hF
    show kV _ _ _ _ 81 [some (.ref x0), some (.int x1), some (.int x2), some (.ref x3), some (.int x4)] [.ref a28, .ref r23]
    obtain ⟨h31, hF⟩ := k_ite hF
    refine c_callVv C lk_X0_246 (ci := 2) rfl h31 (fr2 := 3) (lo2 := 300) (As := [.ref a28]) (st := []) (fun r9_ w9_ h9_ => by rw [hl]; exact wX6_turnsBack l g hX N r23 a28 u24 r9_ w9_ h9_) (by decide) rfl rfl (Nat.le_of_ble_eq_true rfl) dX0_unweave_81 hF (fun r29 u30 hF => ?_)
    refine v_iinc C dX0_unweave_84 rfl (v := (x4 + (1 : Int32))) rfl (Nat.le_of_ble_eq_true rfl) rfl (lv' := [some (.ref x0), some (.int x1), some (.int x2), some (.ref x3), some (.int (x4 + (1 : Int32)))]) rfl ?_
    refine v_goto C (tgt := 53) dX0_unweave_87 (by decide) ?_
    refine v_mask [true, true, true, true, true] (lv' := [some (.ref x0), some (.int x1), some (.int x2), some (.ref x3), some (.int (x4 + (1 : Int32)))]) rfl ?_
    exact hk53 (x0, x1, x2, x3, (x4 + (1 : Int32)), u30) hF
set_option maxHeartbeats 4000000 in
theorem wX0_unweave_b15 {l : Launch} {g : GT} {X : CxT} {r : Int32} {w1 : Wd} (C : kOk g X cX0_unweave 5 RX0 (some .int) 4 400 (some (.int r)) w1) (hX : ∀ U, gX g U → SX g U) (hl : xl X = l) (hin : kHin X yX0_unweave) (N : Nat) (k15 : Nat × Int32 × Int32 × Wd → Option (Int32 × Wd)) (hk15 : ∀ a, k15 a = some (r, w1) → kV g X 5 a.2.2.2 15 [some (.ref a.1), some (.int a.2.1), some (.int a.2.2.1), none, none] []) (x0 : Nat) (x1 : Int32) (x2 : Int32) (w : Wd) (hF : FX0_unweave_b15 N g k15 x0 x1 x2 w = some (r, w1)) : kV g X 5 w 15 [some (.ref x0), some (.int x1), some (.int x2), none, none] [] := by
  unfold FX0_unweave_b15 at hF
  refine v_iload_n C dX0_unweave_15 rfl rfl ?_
  refine v_iload_n C dX0_unweave_16 rfl rfl ?_
  refine v_icmp_ge C (tgt := 96) dX0_unweave_17 (by decide) hF (fun c4 hF => ?_) (fun c4 hF => ?_)
  · refine v_iload_n C dX0_unweave_96 rfl rfl ?_
    exact c_iret C dX0_unweave_97 hF
  · refine v_aload_n C dX0_unweave_20 rfl rfl ?_
    refine v_getR C kc_X0 1 (Nat.le_of_ble_eq_true rfl) (kFl.p q199) dX0_unweave_21 hF (fun v5 hF => ?_)
    obtain ⟨h8, hF⟩ := k_ite hF
    refine c_callVi C lk_X0_240 (ci := 11) rfl h8 (fr2 := 1) (lo2 := 100) (As := []) (st := []) (fun r9_ w9_ h9_ => by rw [hl]; exact wJ2_isEmpty l g hX N v5 w r9_ w9_ h9_) (by decide) rfl rfl (Nat.le_of_ble_eq_true rfl) dX0_unweave_24 hF (fun r6 u7 hF => ?_)
    refine v_if_ne C (tgt := 96) dX0_unweave_27 (by decide) hF (fun c9 hF => ?_) (fun c9 hF => ?_)
    · refine v_aload_n C dX0_unweave_30 rfl rfl ?_
      refine v_getR C kc_X0 1 (Nat.le_of_ble_eq_true rfl) (kFl.p q199) dX0_unweave_31 hF (fun v10 hF => ?_)
      refine v_aload_n C dX0_unweave_34 rfl rfl ?_
      refine v_getR C kc_X0 1 (Nat.le_of_ble_eq_true rfl) (kFl.p q199) dX0_unweave_35 hF (fun v11 hF => ?_)
      obtain ⟨h14, hF⟩ := k_ite hF
      refine c_callVi C lk_X0_86 (ci := 11) rfl h14 (fr2 := 1) (lo2 := 100) (As := []) (st := [.ref v10]) (fun r9_ w9_ h9_ => by rw [hl]; exact wJ2_size l g hX N v11 u7 r9_ w9_ h9_) (by decide) rfl rfl (Nat.le_of_ble_eq_true rfl) dX0_unweave_38 hF (fun r12 u13 hF => ?_)
      refine v_iconst C (v := (1 : Int32)) dX0_unweave_41 (by decide) ?_
      refine v_isub C dX0_unweave_42 ?_
      obtain ⟨h17, hF⟩ := k_ite hF
      refine c_callVr C lk_X0_243 (ci := 11) rfl h17 (fr2 := 3) (lo2 := 300) (As := [.int (r12 - (1 : Int32))]) (st := []) (fun r9_ w9_ h9_ => by rw [hl]; exact wJ2_remove l g hX N v10 (r12 - (1 : Int32)) u13 r9_ w9_ h9_) (by decide) rfl rfl (Nat.le_of_ble_eq_true rfl) dX0_unweave_43 hF (fun r15 u16 hF => ?_)
      refine v_castI C (ci := 3) rfl q811 dX0_unweave_46 hF (fun hF => ?_)
      refine v_astore_n C dX0_unweave_49 rfl (Nat.le_of_ble_eq_true rfl) rfl (lv' := [some (.ref x0), some (.int x1), some (.int x2), some (.ref r15), none]) rfl ?_
      refine v_iconst C (v := (0 : Int32)) dX0_unweave_50 (by decide) ?_
      refine v_istore C dX0_unweave_51 (Nat.le_of_ble_eq_true rfl) rfl (lv' := [some (.ref x0), some (.int x1), some (.int x2), some (.ref r15), some (.int (0 : Int32))]) rfl ?_
      refine v_mask [true, true, true, true, true] (lv' := [some (.ref x0), some (.int x1), some (.int x2), some (.ref r15), some (.int (0 : Int32))]) rfl ?_
      exact kloop_ok (P := fun a => kV g X 5 a.2.2.2.2.2 53 [some (.ref a.1), some (.int a.2.1), some (.int a.2.2.1), some (.ref a.2.2.2.1), some (.int a.2.2.2.2.1)] []) (fun self hs a hF => wX0_unweave_b53 C hX hl hin N k15 hk15 self hs a.1 a.2.1 a.2.2.1 a.2.2.2.1 a.2.2.2.2.1 a.2.2.2.2.2 hF) N (x0, x1, x2, r15, (0 : Int32), u16) hF
    · refine v_iload_n C dX0_unweave_96 rfl rfl ?_
      exact c_iret C dX0_unweave_97 hF
set_option maxHeartbeats 4000000 in
theorem wX0_unweave (l : Launch) (g : GT) (hX : ∀ U, gX g U → SX g U) (N : Nat) (x0 : Nat) (x1 : Int32) (w : Wd) (r : Int32) (w1 : Wd) (hF : FX0_unweave N g x0 x1 w = some (r, w1)) : kMt l g yX0_unweave (ws_ yX0_unweave cX0_unweave 5 (some .int)) 4 400 w [.ref x0, .int x1] (some (.int r)) w1 := by
  refine kMt.ofV (lv := [some (.ref x0), some (.int x1), none, none, none]) (by decide) rfl (Nat.le_of_ble_eq_true rfl) rfl ?_
  intro X hl hin C
  unfold FX0_unweave at hF
  refine v_iload_n C dX0_unweave_0 rfl rfl ?_
  refine v_iconst C (v := (1 : Int32)) dX0_unweave_1 (by decide) ?_
  refine v_bipush C (v := (50 : Int32)) dX0_unweave_2 (by decide) ?_
  refine c_callSi C lk_X0_93 (fr2 := 1) (lo2 := 100) (As := [.int x1, .int (1 : Int32), .int (50 : Int32)]) (st := []) (fun r9_ w9_ h9_ => by rw [hl]; exact wX0_isIn l g hX N x1 (1 : Int32) (50 : Int32) w r9_ w9_ h9_) (by decide) rfl rfl (Nat.le_of_ble_eq_true rfl) dX0_unweave_4 hF (fun r1 u2 hF => ?_)
  refine v_if_ne C (tgt := 13) dX0_unweave_7 (by decide) hF (fun c3 hF => ?_) (fun c3 hF => ?_)
  · refine v_bipush C (v := (-2 : Int32)) dX0_unweave_10 (by decide) ?_
    exact c_iret C dX0_unweave_12 hF
  · refine v_iconst C (v := (0 : Int32)) dX0_unweave_13 (by decide) ?_
    refine v_istore_n C dX0_unweave_14 rfl (Nat.le_of_ble_eq_true rfl) rfl (lv' := [some (.ref x0), some (.int x1), some (.int (0 : Int32)), none, none]) rfl ?_
    refine v_mask [true, true, true, false, false] (lv' := [some (.ref x0), some (.int x1), some (.int (0 : Int32)), none, none]) rfl ?_
    exact kloop_ok (P := fun a => kV g X 5 a.2.2.2 15 [some (.ref a.1), some (.int a.2.1), some (.int a.2.2.1), none, none] []) (fun self hs a hF => wX0_unweave_b15 C hX hl hin N self hs a.1 a.2.1 a.2.2.1 a.2.2.2 hF) N (x0, x1, (0 : Int32), u2) hF
set_option maxHeartbeats 4000000 in
theorem wX0_front (l : Launch) (g : GT) (hX : ∀ U, gX g U → SX g U) (N : Nat) (x0 : Nat) (x1 : Int32) (x2 : Int32) (w : Wd) (r : Int32) (w1 : Wd) (hF : FX0_front N g x0 x1 x2 w = some (r, w1)) : kMt l g yX0_front (ws_ yX0_front cX0_front 3 (some .int)) 5 500 w [.ref x0, .int x1, .int x2] (some (.int r)) w1 := by
  refine kMt.ofV (lv := [some (.ref x0), some (.int x1), some (.int x2)]) (by decide) rfl (Nat.le_of_ble_eq_true rfl) rfl ?_
  intro X hl hin C
  unfold FX0_front at hF
  refine v_aload_n C dX0_front_0 rfl rfl ?_
  refine v_iload_n C dX0_front_1 rfl rfl ?_
  refine v_iload_n C dX0_front_2 rfl rfl ?_
  obtain ⟨h3, hF⟩ := k_ite hF
  refine c_callVi C lk_X0_252 (ci := 1) rfl h3 (fr2 := 4) (lo2 := 400) (As := [.int x1, .int x2]) (st := []) (fun r9_ w9_ h9_ => by rw [hl]; exact wX0_isThere l g hX N x0 x1 x2 w r9_ w9_ h9_) (by decide) rfl rfl (Nat.le_of_ble_eq_true rfl) dX0_front_3 hF (fun r1 u2 hF => ?_)
  refine v_if_eq C (tgt := 28) dX0_front_6 (by decide) hF (fun c4 hF => ?_) (fun c4 hF => ?_)
  · refine v_iconst C (v := (-1 : Int32)) dX0_front_28 (by decide) ?_
    exact c_iret C dX0_front_29 hF
  · refine v_aload_n C dX0_front_9 rfl rfl ?_
    refine v_getR C kc_X0 1 (Nat.le_of_ble_eq_true rfl) (kFl.p q199) dX0_front_10 hF (fun v5 hF => ?_)
    refine v_iload_n C dX0_front_13 rfl rfl ?_
    obtain ⟨h8, hF⟩ := k_ite hF
    refine c_callVr C lk_X0_121 (ci := 11) rfl h8 (fr2 := 3) (lo2 := 300) (As := [.int x1]) (st := []) (fun r9_ w9_ h9_ => by rw [hl]; exact wJ2_get l g hX N v5 x1 u2 r9_ w9_ h9_) (by decide) rfl rfl (Nat.le_of_ble_eq_true rfl) dX0_front_14 hF (fun r6 u7 hF => ?_)
    refine v_castI C (ci := 3) rfl q811 dX0_front_17 hF (fun hF => ?_)
    refine v_getR C kc_X9 0 (Nat.le_of_ble_eq_true rfl) (kFl.n q978) dX0_front_20 hF (fun v9 hF => ?_)
    refine v_iload_n C dX0_front_23 rfl rfl ?_
    refine v_aIi C dX0_front_24 hF (fun v10 hF => ?_)
    refine v_goto C (tgt := 29) dX0_front_25 (by decide) ?_
    exact c_iret C dX0_front_29 hF
set_option maxHeartbeats 4000000 in
theorem wX0_back (l : Launch) (g : GT) (hX : ∀ U, gX g U → SX g U) (N : Nat) (x0 : Nat) (x1 : Int32) (x2 : Int32) (w : Wd) (r : Int32) (w1 : Wd) (hF : FX0_back N g x0 x1 x2 w = some (r, w1)) : kMt l g yX0_back (ws_ yX0_back cX0_back 3 (some .int)) 5 500 w [.ref x0, .int x1, .int x2] (some (.int r)) w1 := by
  refine kMt.ofV (lv := [some (.ref x0), some (.int x1), some (.int x2)]) (by decide) rfl (Nat.le_of_ble_eq_true rfl) rfl ?_
  intro X hl hin C
  unfold FX0_back at hF
  refine v_aload_n C dX0_back_0 rfl rfl ?_
  refine v_iload_n C dX0_back_1 rfl rfl ?_
  refine v_iload_n C dX0_back_2 rfl rfl ?_
  obtain ⟨h3, hF⟩ := k_ite hF
  refine c_callVi C lk_X0_252 (ci := 1) rfl h3 (fr2 := 4) (lo2 := 400) (As := [.int x1, .int x2]) (st := []) (fun r9_ w9_ h9_ => by rw [hl]; exact wX0_isThere l g hX N x0 x1 x2 w r9_ w9_ h9_) (by decide) rfl rfl (Nat.le_of_ble_eq_true rfl) dX0_back_3 hF (fun r1 u2 hF => ?_)
  refine v_if_eq C (tgt := 28) dX0_back_6 (by decide) hF (fun c4 hF => ?_) (fun c4 hF => ?_)
  · refine v_iconst C (v := (-1 : Int32)) dX0_back_28 (by decide) ?_
    exact c_iret C dX0_back_29 hF
  · refine v_aload_n C dX0_back_9 rfl rfl ?_
    refine v_getR C kc_X0 1 (Nat.le_of_ble_eq_true rfl) (kFl.p q199) dX0_back_10 hF (fun v5 hF => ?_)
    refine v_iload_n C dX0_back_13 rfl rfl ?_
    obtain ⟨h8, hF⟩ := k_ite hF
    refine c_callVr C lk_X0_121 (ci := 11) rfl h8 (fr2 := 3) (lo2 := 300) (As := [.int x1]) (st := []) (fun r9_ w9_ h9_ => by rw [hl]; exact wJ2_get l g hX N v5 x1 u2 r9_ w9_ h9_) (by decide) rfl rfl (Nat.le_of_ble_eq_true rfl) dX0_back_14 hF (fun r6 u7 hF => ?_)
    refine v_castI C (ci := 3) rfl q811 dX0_back_17 hF (fun hF => ?_)
    refine v_getR C kc_X9 1 (Nat.le_of_ble_eq_true rfl) (kFl.n q980) dX0_back_20 hF (fun v9 hF => ?_)
    refine v_iload_n C dX0_back_23 rfl rfl ?_
    refine v_aIi C dX0_back_24 hF (fun v10 hF => ?_)
    refine v_goto C (tgt := 29) dX0_back_25 (by decide) ?_
    exact c_iret C dX0_back_29 hF
set_option maxHeartbeats 4000000 in
theorem wX0_lean (l : Launch) (g : GT) (hX : ∀ U, gX g U → SX g U) (N : Nat) (x0 : Nat) (x1 : Int32) (x2 : Int32) (w : Wd) (r : Int32) (w1 : Wd) (hF : FX0_lean N g x0 x1 x2 w = some (r, w1)) : kMt l g yX0_lean (ws_ yX0_lean cX0_lean 3 (some .int)) 5 500 w [.ref x0, .int x1, .int x2] (some (.int r)) w1 := by
  refine kMt.ofV (lv := [some (.ref x0), some (.int x1), some (.int x2)]) (by decide) rfl (Nat.le_of_ble_eq_true rfl) rfl ?_
  intro X hl hin C
  unfold FX0_lean at hF
  refine v_aload_n C dX0_lean_0 rfl rfl ?_
  refine v_iload_n C dX0_lean_1 rfl rfl ?_
  refine v_iload_n C dX0_lean_2 rfl rfl ?_
  obtain ⟨h3, hF⟩ := k_ite hF
  refine c_callVi C lk_X0_252 (ci := 1) rfl h3 (fr2 := 4) (lo2 := 400) (As := [.int x1, .int x2]) (st := []) (fun r9_ w9_ h9_ => by rw [hl]; exact wX0_isThere l g hX N x0 x1 x2 w r9_ w9_ h9_) (by decide) rfl rfl (Nat.le_of_ble_eq_true rfl) dX0_lean_3 hF (fun r1 u2 hF => ?_)
  refine v_if_eq C (tgt := 28) dX0_lean_6 (by decide) hF (fun c4 hF => ?_) (fun c4 hF => ?_)
  · refine v_iconst C (v := (-1 : Int32)) dX0_lean_28 (by decide) ?_
    exact c_iret C dX0_lean_29 hF
  · refine v_aload_n C dX0_lean_9 rfl rfl ?_
    refine v_getR C kc_X0 1 (Nat.le_of_ble_eq_true rfl) (kFl.p q199) dX0_lean_10 hF (fun v5 hF => ?_)
    refine v_iload_n C dX0_lean_13 rfl rfl ?_
    obtain ⟨h8, hF⟩ := k_ite hF
    refine c_callVr C lk_X0_121 (ci := 11) rfl h8 (fr2 := 3) (lo2 := 300) (As := [.int x1]) (st := []) (fun r9_ w9_ h9_ => by rw [hl]; exact wJ2_get l g hX N v5 x1 u2 r9_ w9_ h9_) (by decide) rfl rfl (Nat.le_of_ble_eq_true rfl) dX0_lean_14 hF (fun r6 u7 hF => ?_)
    refine v_castI C (ci := 3) rfl q811 dX0_lean_17 hF (fun hF => ?_)
    refine v_getR C kc_X9 2 (Nat.le_of_ble_eq_true rfl) (kFl.n q982) dX0_lean_20 hF (fun v9 hF => ?_)
    refine v_iload_n C dX0_lean_23 rfl rfl ?_
    refine v_aIi C dX0_lean_24 hF (fun v10 hF => ?_)
    refine v_goto C (tgt := 29) dX0_lean_25 (by decide) ?_
    exact c_iret C dX0_lean_29 hF
set_option maxHeartbeats 4000000 in
theorem wX0_turning (l : Launch) (g : GT) (hX : ∀ U, gX g U → SX g U) (N : Nat) (x0 : Nat) (x1 : Int32) (x2 : Int32) (w : Wd) (r : Int32) (w1 : Wd) (hF : FX0_turning N g x0 x1 x2 w = some (r, w1)) : kMt l g yX0_turning (ws_ yX0_turning cX0_turning 3 (some .int)) 5 500 w [.ref x0, .int x1, .int x2] (some (.int r)) w1 := by
  refine kMt.ofV (lv := [some (.ref x0), some (.int x1), some (.int x2)]) (by decide) rfl (Nat.le_of_ble_eq_true rfl) rfl ?_
  intro X hl hin C
  unfold FX0_turning at hF
  refine v_aload_n C dX0_turning_0 rfl rfl ?_
  refine v_iload_n C dX0_turning_1 rfl rfl ?_
  refine v_iload_n C dX0_turning_2 rfl rfl ?_
  obtain ⟨h3, hF⟩ := k_ite hF
  refine c_callVi C lk_X0_252 (ci := 1) rfl h3 (fr2 := 4) (lo2 := 400) (As := [.int x1, .int x2]) (st := []) (fun r9_ w9_ h9_ => by rw [hl]; exact wX0_isThere l g hX N x0 x1 x2 w r9_ w9_ h9_) (by decide) rfl rfl (Nat.le_of_ble_eq_true rfl) dX0_turning_3 hF (fun r1 u2 hF => ?_)
  refine v_if_eq C (tgt := 31) dX0_turning_6 (by decide) hF (fun c4 hF => ?_) (fun c4 hF => ?_)
  · refine v_iconst C (v := (-1 : Int32)) dX0_turning_31 (by decide) ?_
    exact c_iret C dX0_turning_32 hF
  · refine v_aload_n C dX0_turning_9 rfl rfl ?_
    refine v_getR C kc_X0 1 (Nat.le_of_ble_eq_true rfl) (kFl.p q199) dX0_turning_10 hF (fun v5 hF => ?_)
    refine v_iload_n C dX0_turning_13 rfl rfl ?_
    obtain ⟨h8, hF⟩ := k_ite hF
    refine c_callVr C lk_X0_121 (ci := 11) rfl h8 (fr2 := 3) (lo2 := 300) (As := [.int x1]) (st := []) (fun r9_ w9_ h9_ => by rw [hl]; exact wJ2_get l g hX N v5 x1 u2 r9_ w9_ h9_) (by decide) rfl rfl (Nat.le_of_ble_eq_true rfl) dX0_turning_14 hF (fun r6 u7 hF => ?_)
    refine v_castI C (ci := 3) rfl q811 dX0_turning_17 hF (fun hF => ?_)
    refine v_getR C kc_X9 3 (Nat.le_of_ble_eq_true rfl) (kFl.n q984) dX0_turning_20 hF (fun v9 hF => ?_)
    refine v_iload_n C dX0_turning_23 rfl rfl ?_
    refine v_aQl C (t := 5) rfl dX0_turning_24 hF (fun v10 hF => ?_)
    rcases v10 with _ | a11
    · exact (k_ob0 hF).elim
    have hF := k_ob1 hF
    show kV _ _ _ _ 25 [some (.ref x0), some (.int x1), some (.int x2)] [.ref a11]
    refine v_tnum C hX (Or.inr ⟨_, q2806⟩) dX0_turning_25 hF (fun v12 hF => ?_)
    refine v_goto C (tgt := 32) dX0_turning_28 (by decide) ?_
    exact c_iret C dX0_turning_32 hF
set_option maxHeartbeats 4000000 in
theorem wX0_areAsNow_b46 {l : Launch} {g : GT} {X : CxT} {r : Int32} {w1 : Wd} (C : kOk g X cX0_areAsNow 4 RX0 (some .boolean) 4 400 (some (.int r)) w1) (hX : ∀ U, gX g U → SX g U) (hl : xl X = l) (hin : kHin X yX0_areAsNow) (N : Nat) (k4 : Nat × Nat × Int32 × Int32 × Wd → Option (Int32 × Wd)) (hk4 : ∀ a, k4 a = some (r, w1) → kV g X 4 a.2.2.2.2 4 [some (.ref a.1), some (.ref a.2.1), some (.int a.2.2.1), some (.int a.2.2.2.1)] []) (x0 : Nat) (x1 : Nat) (x3 : Int32) (t0 : Int32) (t1 : Int32) (w : Wd) (hF : FX0_areAsNow_b46 N g k4 x0 x1 x3 t0 t1 w = some (r, w1)) : kV g X 4 w 46 [some (.ref x0), some (.ref x1), none, some (.int x3)] [.int t0, .int t1] := by
  unfold FX0_areAsNow_b46 at hF
  refine v_iand C dX0_areAsNow_46 ?_
  refine v_istore_n C dX0_areAsNow_47 rfl (Nat.le_of_ble_eq_true rfl) rfl (lv' := [some (.ref x0), some (.ref x1), some (.int (t1 &&& t0)), some (.int x3)]) rfl ?_
  refine v_iinc C dX0_areAsNow_48 rfl (v := (x3 + (1 : Int32))) rfl (Nat.le_of_ble_eq_true rfl) rfl (lv' := [some (.ref x0), some (.ref x1), some (.int (t1 &&& t0)), some (.int (x3 + (1 : Int32)))]) rfl ?_
  refine v_goto C (tgt := 4) dX0_areAsNow_51 (by decide) ?_
  refine v_mask [true, true, true, true] (lv' := [some (.ref x0), some (.ref x1), some (.int (t1 &&& t0)), some (.int (x3 + (1 : Int32)))]) rfl ?_
  exact hk4 (x0, x1, (t1 &&& t0), (x3 + (1 : Int32)), w) hF
set_option maxHeartbeats 4000000 in
theorem wX0_areAsNow_b4 {l : Launch} {g : GT} {X : CxT} {r : Int32} {w1 : Wd} (C : kOk g X cX0_areAsNow 4 RX0 (some .boolean) 4 400 (some (.int r)) w1) (hX : ∀ U, gX g U → SX g U) (hl : xl X = l) (hin : kHin X yX0_areAsNow) (N : Nat) (k4 : Nat × Nat × Int32 × Int32 × Wd → Option (Int32 × Wd)) (hk4 : ∀ a, k4 a = some (r, w1) → kV g X 4 a.2.2.2.2 4 [some (.ref a.1), some (.ref a.2.1), some (.int a.2.2.1), some (.int a.2.2.2.1)] []) (x0 : Nat) (x1 : Nat) (x2 : Int32) (x3 : Int32) (w : Wd) (hF : FX0_areAsNow_b4 N g k4 x0 x1 x2 x3 w = some (r, w1)) : kV g X 4 w 4 [some (.ref x0), some (.ref x1), some (.int x2), some (.int x3)] [] := by
  unfold FX0_areAsNow_b4 at hF
  refine v_iload_n C dX0_areAsNow_4 rfl rfl ?_
  refine v_aload_n C dX0_areAsNow_5 rfl rfl ?_
  obtain ⟨h3, hF⟩ := k_ite hF
  refine c_callVi C lk_X0_90 (ci := 1) rfl h3 (fr2 := 2) (lo2 := 200) (As := []) (st := [.int x3]) (fun r9_ w9_ h9_ => by rw [hl]; exact wX0_many l g hX N x0 w r9_ w9_ h9_) (by decide) rfl rfl (Nat.le_of_ble_eq_true rfl) dX0_areAsNow_6 hF (fun r1 u2 hF => ?_)
  refine v_icmp_ge C (tgt := 54) dX0_areAsNow_9 (by decide) hF (fun c4 hF => ?_) (fun c4 hF => ?_)
  · refine v_iload_n C dX0_areAsNow_54 rfl rfl ?_
    obtain ⟨h5, hF⟩ := k_ite hF
    exact c_zret C (nb_nar h5) dX0_areAsNow_55 hF
  · refine v_iload_n C dX0_areAsNow_12 rfl rfl ?_
    refine v_aload_n C dX0_areAsNow_13 rfl rfl ?_
    refine v_iload_n C dX0_areAsNow_14 rfl rfl ?_
    obtain ⟨h8, hF⟩ := k_ite hF
    refine c_callVr C lk_X0_121 (ci := 11) rfl h8 (fr2 := 3) (lo2 := 300) (As := [.int x3]) (st := [.int x2]) (fun r9_ w9_ h9_ => by rw [hl]; exact wJ2_get l g hX N x1 x3 u2 r9_ w9_ h9_) (by decide) rfl rfl (Nat.le_of_ble_eq_true rfl) dX0_areAsNow_15 hF (fun r6 u7 hF => ?_)
    refine v_castI C (ci := 2) rfl q700 dX0_areAsNow_18 hF (fun hF => ?_)
    refine v_getI C kc_X6 2 (Nat.le_of_ble_eq_true rfl) (kFl.n q386) dX0_areAsNow_21 hF (fun v9 hF => ?_)
    refine v_aload_n C dX0_areAsNow_24 rfl rfl ?_
    refine v_getR C kc_X0 0 (Nat.le_of_ble_eq_true rfl) (kFl.p q198) dX0_areAsNow_25 hF (fun v10 hF => ?_)
    refine v_iload_n C dX0_areAsNow_28 rfl rfl ?_
    obtain ⟨h13, hF⟩ := k_ite hF
    refine c_callVr C lk_X0_121 (ci := 11) rfl h13 (fr2 := 3) (lo2 := 300) (As := [.int x3]) (st := [.int v9, .int x2]) (fun r9_ w9_ h9_ => by rw [hl]; exact wJ2_get l g hX N v10 x3 u7 r9_ w9_ h9_) (by decide) rfl rfl (Nat.le_of_ble_eq_true rfl) dX0_areAsNow_29 hF (fun r11 u12 hF => ?_)
    refine v_castI C (ci := 2) rfl q700 dX0_areAsNow_32 hF (fun hF => ?_)
    refine v_getI C kc_X6 2 (Nat.le_of_ble_eq_true rfl) (kFl.n q386) dX0_areAsNow_35 hF (fun v14 hF => ?_)
    refine v_icmp_ne C (tgt := 45) dX0_areAsNow_38 (by decide) hF (fun c15 hF => ?_) (fun c15 hF => ?_)
    · refine v_iconst C (v := (1 : Int32)) dX0_areAsNow_41 (by decide) ?_
      refine v_goto C (tgt := 46) dX0_areAsNow_42 (by decide) ?_
      refine v_mask [true, true, false, true] (lv' := [some (.ref x0), some (.ref x1), none, some (.int x3)]) rfl ?_
      exact wX0_areAsNow_b46 C hX hl hin N k4 hk4 (x0) (x1) (x3) ((1 : Int32)) (x2) u12 hF
    · refine v_iconst C (v := (0 : Int32)) dX0_areAsNow_45 (by decide) ?_
      refine v_mask [true, true, false, true] (lv' := [some (.ref x0), some (.ref x1), none, some (.int x3)]) rfl ?_
      exact wX0_areAsNow_b46 C hX hl hin N k4 hk4 (x0) (x1) (x3) ((0 : Int32)) (x2) u12 hF
set_option maxHeartbeats 4000000 in
theorem wX0_areAsNow (l : Launch) (g : GT) (hX : ∀ U, gX g U → SX g U) (N : Nat) (x0 : Nat) (x1 : Nat) (w : Wd) (r : Int32) (w1 : Wd) (hF : FX0_areAsNow N g x0 x1 w = some (r, w1)) : kMt l g yX0_areAsNow (ws_ yX0_areAsNow cX0_areAsNow 4 (some .boolean)) 4 400 w [.ref x0, .ref x1] (some (.int r)) w1 := by
  refine kMt.ofV (lv := [some (.ref x0), some (.ref x1), none, none]) (by decide) rfl (Nat.le_of_ble_eq_true rfl) rfl ?_
  intro X hl hin C
  unfold FX0_areAsNow at hF
  refine v_iconst C (v := (1 : Int32)) dX0_areAsNow_0 (by decide) ?_
  refine v_istore_n C dX0_areAsNow_1 rfl (Nat.le_of_ble_eq_true rfl) rfl (lv' := [some (.ref x0), some (.ref x1), some (.int (1 : Int32)), none]) rfl ?_
  refine v_iconst C (v := (0 : Int32)) dX0_areAsNow_2 (by decide) ?_
  refine v_istore_n C dX0_areAsNow_3 rfl (Nat.le_of_ble_eq_true rfl) rfl (lv' := [some (.ref x0), some (.ref x1), some (.int (1 : Int32)), some (.int (0 : Int32))]) rfl ?_
  refine v_mask [true, true, true, true] (lv' := [some (.ref x0), some (.ref x1), some (.int (1 : Int32)), some (.int (0 : Int32))]) rfl ?_
  exact kloop_ok (P := fun a => kV g X 4 a.2.2.2.2 4 [some (.ref a.1), some (.ref a.2.1), some (.int a.2.2.1), some (.int a.2.2.2.1)] []) (fun self hs a hF => wX0_areAsNow_b4 C hX hl hin N self hs a.1 a.2.1 a.2.2.1 a.2.2.2.1 a.2.2.2.2 hF) N (x0, x1, (1 : Int32), (0 : Int32), w) hF
set_option maxHeartbeats 4000000 in
theorem wX0_areFlat_b39 {l : Launch} {g : GT} {X : CxT} {r : Int32} {w1 : Wd} (C : kOk g X cX0_areFlat 4 RX0 (some .boolean) 3 300 (some (.int r)) w1) (hX : ∀ U, gX g U → SX g U) (hl : xl X = l) (hin : kHin X yX0_areFlat) (N : Nat) (k7 : Int32 × Nat × Wd → Option (Int32 × Wd)) (hk7 : ∀ a, k7 a = some (r, w1) → kV g X 4 a.2.2 7 [none, some (.int a.1), some (.ref a.2.1), none] []) (x2 : Nat) (t0 : Int32) (t1 : Int32) (w : Wd) (hF : FX0_areFlat_b39 N g k7 x2 t0 t1 w = some (r, w1)) : kV g X 4 w 39 [none, none, some (.ref x2), none] [.int t0, .int t1] := by
  unfold FX0_areFlat_b39 at hF
  refine v_iand C dX0_areFlat_39 ?_
  refine v_istore_n C dX0_areFlat_40 rfl (Nat.le_of_ble_eq_true rfl) rfl (lv' := [none, some (.int (t1 &&& t0)), some (.ref x2), none]) rfl ?_
  refine v_goto C (tgt := 7) dX0_areFlat_41 (by decide) ?_
  refine v_mask [false, true, true, false] (lv' := [none, some (.int (t1 &&& t0)), some (.ref x2), none]) rfl ?_
  exact hk7 ((t1 &&& t0), x2, w) hF
set_option maxHeartbeats 4000000 in
theorem wX0_areFlat_b7 {l : Launch} {g : GT} {X : CxT} {r : Int32} {w1 : Wd} (C : kOk g X cX0_areFlat 4 RX0 (some .boolean) 3 300 (some (.int r)) w1) (hX : ∀ U, gX g U → SX g U) (hl : xl X = l) (hin : kHin X yX0_areFlat) (N : Nat) (k7 : Int32 × Nat × Wd → Option (Int32 × Wd)) (hk7 : ∀ a, k7 a = some (r, w1) → kV g X 4 a.2.2 7 [none, some (.int a.1), some (.ref a.2.1), none] []) (x1 : Int32) (x2 : Nat) (w : Wd) (hF : FX0_areFlat_b7 N g k7 x1 x2 w = some (r, w1)) : kV g X 4 w 7 [none, some (.int x1), some (.ref x2), none] [] := by
  unfold FX0_areFlat_b7 at hF
  refine v_aload_n C dX0_areFlat_7 rfl rfl ?_
  obtain ⟨h6, hF⟩ := k_ite hF
  refine c_callFi C lk_X0_101_J15_hasNext ((hX _ C.2.2.2.2.2.1.2.2.1).2.2.1 _ (List.mem_of_getElem? (i := 0) rfl)) (C.2.2.2.2.2.1.1.1 12 _ rfl).2 (kRc.of C (ci := 12) rfl h6) (fr2 := 1) (lo2 := 100) (As := []) (st := []) (fun r9_ w9_ h9_ => by rw [hl]; exact wJ15_hasNext l g hX N x2 w r9_ w9_ h9_) (by decide) rfl rfl (Nat.le_of_ble_eq_true rfl) dX0_areFlat_8 hF (fun r4 u5 hF => ?_)
  refine v_if_eq C (tgt := 44) dX0_areFlat_13 (by decide) hF (fun c7 hF => ?_) (fun c7 hF => ?_)
  · refine v_iload_n C dX0_areFlat_44 rfl rfl ?_
    obtain ⟨h8, hF⟩ := k_ite hF
    exact c_zret C (nb_nar h8) dX0_areFlat_45 hF
  · refine v_aload_n C dX0_areFlat_16 rfl rfl ?_
    obtain ⟨h11, hF⟩ := k_ite hF
    refine c_callFr C lk_X0_107_J15_next ((hX _ C.2.2.2.2.2.1.2.2.1).2.2.1 _ (List.mem_of_getElem? (i := 1) rfl)) (C.2.2.2.2.2.1.1.1 12 _ rfl).2 (kRc.of C (ci := 12) rfl h11) (fr2 := 2) (lo2 := 200) (As := []) (st := []) (fun r9_ w9_ h9_ => by rw [hl]; exact wJ15_next l g hX N x2 u5 r9_ w9_ h9_) (by decide) rfl rfl (Nat.le_of_ble_eq_true rfl) dX0_areFlat_17 hF (fun r9 u10 hF => ?_)
    refine v_castI C (ci := 2) rfl q700 dX0_areFlat_22 hF (fun hF => ?_)
    refine v_astore_n C dX0_areFlat_25 rfl (Nat.le_of_ble_eq_true rfl) rfl (lv' := [none, some (.int x1), some (.ref x2), some (.ref r9)]) rfl ?_
    refine v_iload_n C dX0_areFlat_26 rfl rfl ?_
    refine v_aload_n C dX0_areFlat_27 rfl rfl ?_
    refine v_getI C kc_X6 3 (Nat.le_of_ble_eq_true rfl) (kFl.n q389) dX0_areFlat_28 hF (fun v12 hF => ?_)
    refine v_if_ne C (tgt := 38) dX0_areFlat_31 (by decide) hF (fun c13 hF => ?_) (fun c13 hF => ?_)
    · refine v_iconst C (v := (1 : Int32)) dX0_areFlat_34 (by decide) ?_
      refine v_goto C (tgt := 39) dX0_areFlat_35 (by decide) ?_
      refine v_mask [false, false, true, false] (lv' := [none, none, some (.ref x2), none]) rfl ?_
      exact wX0_areFlat_b39 C hX hl hin N k7 hk7 (x2) ((1 : Int32)) (x1) u10 hF
    · refine v_iconst C (v := (0 : Int32)) dX0_areFlat_38 (by decide) ?_
      refine v_mask [false, false, true, false] (lv' := [none, none, some (.ref x2), none]) rfl ?_
      exact wX0_areFlat_b39 C hX hl hin N k7 hk7 (x2) ((0 : Int32)) (x1) u10 hF
set_option maxHeartbeats 4000000 in
theorem wX0_areFlat (l : Launch) (g : GT) (hX : ∀ U, gX g U → SX g U) (N : Nat) (x0 : Nat) (w : Wd) (r : Int32) (w1 : Wd) (hF : FX0_areFlat N g x0 w = some (r, w1)) : kMt l g yX0_areFlat (ws_ yX0_areFlat cX0_areFlat 4 (some .boolean)) 3 300 w [.ref x0] (some (.int r)) w1 := by
  refine kMt.ofV (lv := [some (.ref x0), none, none, none]) (by decide) rfl (Nat.le_of_ble_eq_true rfl) rfl ?_
  intro X hl hin C
  unfold FX0_areFlat at hF
  refine v_iconst C (v := (1 : Int32)) dX0_areFlat_0 (by decide) ?_
  refine v_istore_n C dX0_areFlat_1 rfl (Nat.le_of_ble_eq_true rfl) rfl (lv' := [some (.ref x0), some (.int (1 : Int32)), none, none]) rfl ?_
  refine v_aload_n C dX0_areFlat_2 rfl rfl ?_
  obtain ⟨h3, hF⟩ := k_ite hF
  refine c_callVr C lk_X0_97 (ci := 11) rfl h3 (fr2 := 2) (lo2 := 200) (As := []) (st := []) (fun r9_ w9_ h9_ => by rw [hl]; exact wJ2_iterator l g hX N x0 w r9_ w9_ h9_) (by decide) rfl rfl (Nat.le_of_ble_eq_true rfl) dX0_areFlat_3 hF (fun r1 u2 hF => ?_)
  refine v_astore_n C dX0_areFlat_6 rfl (Nat.le_of_ble_eq_true rfl) rfl (lv' := [some (.ref x0), some (.int (1 : Int32)), some (.ref r1), none]) rfl ?_
  refine v_mask [false, true, true, false] (lv' := [none, some (.int (1 : Int32)), some (.ref r1), none]) rfl ?_
  exact kloop_ok (P := fun a => kV g X 4 a.2.2 7 [none, some (.int a.1), some (.ref a.2.1), none] []) (fun self hs a hF => wX0_areFlat_b7 C hX hl hin N self hs a.1 a.2.1 a.2.2 hF) N ((1 : Int32), r1, u2) hF
