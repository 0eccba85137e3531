set_option maxRecDepth 100000
def FX0_list (N : Nat) (g : GT) (x0 : Nat) (x1 : Int32) (x2 : Int32) (w : Wd) : Option ((Int32 ⊕ Int32) × Wd) :=
  kb (FX0_isList N g x1 w) (fun r1 u2 => if r1 = 0 then (some (.inl (-1 : Int32), u2)) else (if x2 ≤ (20 : Int32) then (kob (oR u2 x0 1 10) (fun v5 => kpN g u2 x2 (fun a6 u7 => kob (aSQ7 g u7 v5 x1 a6) (fun u8 => some (.inl (1 : Int32), u8))) (some (.inr (-14 : Int32), u2)))) else (some (.inl (-2 : Int32), u2))))
def hhX0_list : List (Nat × Nat × Nat × Nat) := [(18, 28, 29, 466)]
def FX0_set (N : Nat) (g : GT) (x0 : Nat) (x1 : Int32) (x2 : Int32) (x3 : Int32) (w : Wd) : Option ((Int32 ⊕ Int32) × Wd) :=
  kb (FX0_isList N g x1 w) (fun r1 u2 => if r1 = 0 then (some (.inl (-1 : Int32), u2)) else (kob (oR u2 x0 1 10) (fun v4 => kob (aQ g u2 7 v4 x1) (fun v5 => kpS g u2 v5 x2 x3 (fun u6 => some (.inl (1 : Int32), u6)) (some (.inr (-11 : Int32), u2)) (some (.inr (-13 : Int32), u2))))))
def hhX0_set : List (Nat × Nat × Nat × Nat) := [(9, 19, 20, 468), (9, 19, 25, 470)]
def FX0_get (N : Nat) (g : GT) (x0 : Nat) (x1 : Int32) (x2 : Int32) (w : Wd) : Option ((Int32 ⊕ Int32) × Wd) :=
  kb (FX0_isList N g x1 w) (fun r1 u2 => if r1 = 0 then (some (.inl (-2000000000 : Int32), u2)) else (kob (oR u2 x0 1 10) (fun v4 => kob (aQ g u2 7 v4 x1) (fun v5 => kpL g u2 v5 x2 (fun v6 => some (.inl v6, u2)) (some (.inr (-2000000000 : Int32), u2)) (some (.inr (-2000000000 : Int32), u2))))))
def hhX0_get : List (Nat × Nat × Nat × Nat) := [(11, 19, 20, 468), (11, 19, 20, 470)]
def FX0_lay_b20 (N : Nat) (g : GT) (k20 : Nat × Int32 × Int32 × Int32 × Int32 × Wd → Option ((Int32 ⊕ Int32) × Wd)) (x0 : Nat) (x1 : Int32) (x2 : Int32) (x3 : Int32) (x4 : Int32) (w : Wd) : Option ((Int32 ⊕ Int32) × Wd) :=
  if oIs w x0 1 = true then (kb (FX0_many N g x0 w) (fun r8 u9 => if r8 ≤ x4 then (if oIs u9 x0 1 = true then (kb (FX0_many N g x0 u9) (fun r12 u13 => some (.inl r12, u13))) else none) else (kob (oR u9 x0 1 10) (fun v15 => kob (aQ g u9 7 v15 x1) (fun v16 => kob (oR u9 x0 1 1) (fun v17 => if oIs u9 v17 11 = true then (kb (FJ2_get N g v17 x3 u9) (fun r18 u19 => if oIs u19 r18 3 = true then (kob (oR u19 r18 3 0) (fun v21 => kob (aI g u19 0 v21 x4) (fun v22 => kpS g u19 v16 (x2 + x4) v22 (fun u23 => k20 (x0, x1, x2, x3, (x4 + (1 : Int32)), u23)) (some (.inr (-11 : Int32), u19)) (some (.inr (-13 : Int32), u19))))) else none)) else none)))))) else none
def FX0_lay (N : Nat) (g : GT) (x0 : Nat) (x1 : Int32) (x2 : Int32) (x3 : Int32) (w : Wd) : Option ((Int32 ⊕ Int32) × Wd) :=
  kb (FX0_isList N g x1 w) (fun r1 u2 => if r1 = 0 then (some (.inl (-1 : Int32), u2)) else (if oIs u2 x0 1 = true then (kb (FX0_isRow N g x0 x3 u2) (fun r4 u5 => if r4 = 0 then (some (.inl (-1 : Int32), u5)) else (kloop (fun self a => FX0_lay_b20 N g self a.1 a.2.1 a.2.2.1 a.2.2.2.1 a.2.2.2.2.1 a.2.2.2.2.2) N (x0, x1, x2, x3, (0 : Int32), u5)))) else none))
def hhX0_lay : List (Nat × Nat × Nat × Nat) := [(17, 67, 68, 468), (17, 67, 73, 470)]
def FX0_judge_b20 (N : Nat) (g : GT) (k20 : Nat × Int32 × Int32 × Int32 × Int32 × Wd → Option ((Int32 ⊕ Int32) × Wd)) (x0 : Nat) (x1 : Int32) (x2 : Int32) (x3 : Int32) (x4 : Int32) (w : Wd) : Option ((Int32 ⊕ Int32) × Wd) :=
  if oIs w x0 1 = true then (kb (FX0_many N g x0 w) (fun r8 u9 => if r8 ≤ x4 then (some (.inl (-5 : Int32), u9)) else (kob (oR u9 x0 1 10) (fun v12 => kob (aQ g u9 7 v12 x1) (fun v13 => kpL g u9 v13 (x2 + x4) (fun v14 => kob (oR u9 x0 1 1) (fun v15 => if oIs u9 v15 11 = true then (kb (FJ2_get N g v15 x3 u9) (fun r16 u17 => if oIs u17 r16 3 = true then (kob (oR u17 r16 3 0) (fun v19 => kob (aI g u17 0 v19 x4) (fun v20 => if v14 = v20 then (k20 (x0, x1, x2, x3, (x4 + (1 : Int32)), u17)) else (some (.inl x4, u17))))) else none)) else none)) (some (.inr (-11 : Int32), u9)) (some (.inr ((100 : Int32) + x4), u9))))))) else none
def FX0_judge (N : Nat) (g : GT) (x0 : Nat) (x1 : Int32) (x2 : Int32) (x3 : Int32) (w : Wd) : Option ((Int32 ⊕ Int32) × Wd) :=
  kb (FX0_isList N g x1 w) (fun r1 u2 => if r1 = 0 then (some (.inl (-1 : Int32), u2)) else (if oIs u2 x0 1 = true then (kb (FX0_isRow N g x0 x3 u2) (fun r4 u5 => if r4 = 0 then (some (.inl (-1 : Int32), u5)) else (kloop (fun self a => FX0_judge_b20 N g self a.1 a.2.1 a.2.2.1 a.2.2.2.1 a.2.2.2.2.1 a.2.2.2.2.2) N (x0, x1, x2, x3, (0 : Int32), u5)))) else none))
def hhX0_judge : List (Nat × Nat × Nat × Nat) := [(20, 62, 72, 468), (63, 71, 72, 468), (20, 62, 77, 470), (63, 71, 77, 470)]
set_option maxRecDepth 100000
theorem lk_X0_463 : kLS RX0 463 yX0_isList cX0_isList 1 (some .boolean) 1 := ⟨q2245, q2246, q78, q2247, by unfold kD; decide +kernel⟩
set_option maxHeartbeats 4000000 in
theorem wX0_list (l : Launch) (g : GT) (hX : ∀ U, gX g U → SX g U) (hZ : ∀ U, gX g U → SZ g U) (hst0 : l.stackTraces = false) (N : Nat) (x0 : Nat) (x1 : Int32) (x2 : Int32) (w : Wd) (r : (Int32 ⊕ Int32)) (w1 : Wd) (hF : FX0_list N g x0 x1 x2 w = some (r, w1)) : kMp l g yX0_list (wsW_ yX0_list cX0_list 4 (some .int) hhX0_list) 105 10500 w [.ref x0, .int x1, .int x2] (kPz r w1) := by
  refine kMp.ofV2 (lv := [some (.ref x0), some (.int x1), some (.int x2), none]) (by decide) rfl (Nat.le_of_ble_eq_true rfl) rfl ?_
  intro X hl hin HT hR0 C CP
  have hst : (xl X).stackTraces = false := by rw [hl]; exact hst0
  unfold FX0_list at hF
  refine v_iload_n C dX0_list_0 rfl rfl ?_
  refine c_callSi C lk_X0_463 (fr2 := 2) (lo2 := 200) (As := [.int x1]) (st := []) (fun r9_ w9_ h9_ => by rw [hl]; exact wX0_isList l g hX N x1 w r9_ w9_ h9_) (by decide) rfl rfl (Nat.le_of_ble_eq_true rfl) dX0_list_1 hF (fun r1 u2 hF => ?_)
  refine v_if_ne C (tgt := 9) dX0_list_4 (by decide) hF (fun c3 hF => ?_) (fun c3 hF => ?_)
  · refine v_iconst C (v := (-1 : Int32)) dX0_list_7 (by decide) ?_
    exact p_iret CP dX0_list_8 hF
  · refine v_iload_n C dX0_list_9 rfl rfl ?_
    refine v_bipush C (v := (20 : Int32)) dX0_list_10 (by decide) ?_
    refine v_icmp_le C (tgt := 18) dX0_list_12 (by decide) hF (fun c4 hF => ?_) (fun c4 hF => ?_)
    · refine v_aload_n C dX0_list_18 rfl rfl ?_
      refine v_getR C kc_X0 10 (Nat.le_of_ble_eq_true rfl) (kFl.p q212) dX0_list_19 hF (fun v5 hF => ?_)
      refine v_iload_n C dX0_list_22 rfl rfl ?_
      refine v_iload_n C dX0_list_23 rfl rfl ?_
      refine p_newa C hZ hR0 hst (by decide) (Nat.le_of_ble_eq_true rfl) dX0_list_24 hF (fun a6 u7 hF => ?_) (fun hF k9 s9 hk9 hs9 => p_catch C hZ HT q2233 q2017 (by decide) [] (x := ⟨18, 28, 29, 466⟩) (suf := []) rfl (by decide) (by decide) rfl (hpc := 29) rfl (fun q9 => ?_))
      · refine v_aSq7 C hX dX0_list_26 hF (fun u8 hF => ?_)
        refine v_iconst C (v := (1 : Int32)) dX0_list_27 (by decide) ?_
        exact p_iret CP dX0_list_28 hF
      · refine v_astore_n C dX0_list_29 rfl (Nat.le_of_ble_eq_true rfl) rfl (lv' := [some (.ref x0), some (.int x1), some (.int x2), some (.ref q9)]) rfl ?_
        refine v_bipush C (v := (-14 : Int32)) dX0_list_30 (by decide) ?_
        exact p_hret CP hk9 hs9 dX0_list_32 hF
    · refine v_bipush C (v := (-2 : Int32)) dX0_list_15 (by decide) ?_
      exact p_iret CP dX0_list_17 hF
set_option maxHeartbeats 4000000 in
theorem wX0_set (l : Launch) (g : GT) (hX : ∀ U, gX g U → SX g U) (hZ : ∀ U, gX g U → SZ g U) (hst0 : l.stackTraces = false) (N : Nat) (x0 : Nat) (x1 : Int32) (x2 : Int32) (x3 : Int32) (w : Wd) (r : (Int32 ⊕ Int32)) (w1 : Wd) (hF : FX0_set N g x0 x1 x2 x3 w = some (r, w1)) : kMp l g yX0_set (wsW_ yX0_set cX0_set 5 (some .int) hhX0_set) 105 10500 w [.ref x0, .int x1, .int x2, .int x3] (kPz r w1) := by
  refine kMp.ofV2 (lv := [some (.ref x0), some (.int x1), some (.int x2), some (.int x3), none]) (by decide) rfl (Nat.le_of_ble_eq_true rfl) rfl ?_
  intro X hl hin HT hR0 C CP
  have hst : (xl X).stackTraces = false := by rw [hl]; exact hst0
  unfold FX0_set at hF
  refine v_iload_n C dX0_set_0 rfl rfl ?_
  refine c_callSi C lk_X0_463 (fr2 := 2) (lo2 := 200) (As := [.int x1]) (st := []) (fun r9_ w9_ h9_ => by rw [hl]; exact wX0_isList l g hX N x1 w r9_ w9_ h9_) (by decide) rfl rfl (Nat.le_of_ble_eq_true rfl) dX0_set_1 hF (fun r1 u2 hF => ?_)
  refine v_if_ne C (tgt := 9) dX0_set_4 (by decide) hF (fun c3 hF => ?_) (fun c3 hF => ?_)
  · refine v_iconst C (v := (-1 : Int32)) dX0_set_7 (by decide) ?_
    exact p_iret CP dX0_set_8 hF
  · refine v_aload_n C dX0_set_9 rfl rfl ?_
    refine v_getR C kc_X0 10 (Nat.le_of_ble_eq_true rfl) (kFl.p q212) dX0_set_10 hF (fun v4 hF => ?_)
    refine v_iload_n C dX0_set_13 rfl rfl ?_
    refine v_aQl7 C dX0_set_14 hF (fun v5 hF => ?_)
    refine v_iload_n C dX0_set_15 rfl rfl ?_
    refine v_iload_n C dX0_set_16 rfl rfl ?_
    refine p_iast C hZ hR0 hst (by decide) (Nat.le_of_ble_eq_true rfl) dX0_set_17 hF (fun u6 hF => ?_) (fun hF k9 s9 hk9 hs9 => p_catch C hZ HT q2252 q1144 (by decide) [] (x := ⟨9, 19, 20, 468⟩) (suf := [⟨9, 19, 25, 470⟩]) rfl (by decide) (by decide) rfl (hpc := 20) rfl (fun q9 => ?_)) (fun hF k9 s9 hk9 hs9 => p_catch C hZ HT q2254 q2269 (by decide) [⟨9, 19, 20, 468⟩] (x := ⟨9, 19, 25, 470⟩) (suf := []) rfl (by decide) (by decide) rfl (hpc := 25) rfl (fun q9 => ?_))
    · refine v_iconst C (v := (1 : Int32)) dX0_set_18 (by decide) ?_
      exact p_iret CP dX0_set_19 hF
    · refine v_astore C dX0_set_20 (Nat.le_of_ble_eq_true rfl) rfl (lv' := [some (.ref x0), some (.int x1), some (.int x2), some (.int x3), some (.ref q9)]) rfl ?_
      refine v_bipush C (v := (-11 : Int32)) dX0_set_22 (by decide) ?_
      exact p_hret CP hk9 hs9 dX0_set_24 hF
    · refine v_astore C dX0_set_25 (Nat.le_of_ble_eq_true rfl) rfl (lv' := [some (.ref x0), some (.int x1), some (.int x2), some (.int x3), some (.ref q9)]) rfl ?_
      refine v_bipush C (v := (-13 : Int32)) dX0_set_27 (by decide) ?_
      exact p_hret CP hk9 hs9 dX0_set_29 hF
set_option maxHeartbeats 4000000 in
theorem wX0_get (l : Launch) (g : GT) (hX : ∀ U, gX g U → SX g U) (hZ : ∀ U, gX g U → SZ g U) (hst0 : l.stackTraces = false) (N : Nat) (x0 : Nat) (x1 : Int32) (x2 : Int32) (w : Wd) (r : (Int32 ⊕ Int32)) (w1 : Wd) (hF : FX0_get N g x0 x1 x2 w = some (r, w1)) : kMp l g yX0_get (wsW_ yX0_get cX0_get 4 (some .int) hhX0_get) 105 10500 w [.ref x0, .int x1, .int x2] (kPz r w1) := by
  refine kMp.ofV2 (lv := [some (.ref x0), some (.int x1), some (.int x2), none]) (by decide) rfl (Nat.le_of_ble_eq_true rfl) rfl ?_
  intro X hl hin HT hR0 C CP
  have hst : (xl X).stackTraces = false := by rw [hl]; exact hst0
  unfold FX0_get at hF
  refine v_iload_n C dX0_get_0 rfl rfl ?_
  refine c_callSi C lk_X0_463 (fr2 := 2) (lo2 := 200) (As := [.int x1]) (st := []) (fun r9_ w9_ h9_ => by rw [hl]; exact wX0_isList l g hX N x1 w r9_ w9_ h9_) (by decide) rfl rfl (Nat.le_of_ble_eq_true rfl) dX0_get_1 hF (fun r1 u2 hF => ?_)
  refine v_if_ne C (tgt := 11) dX0_get_4 (by decide) hF (fun c3 hF => ?_) (fun c3 hF => ?_)
  · refine v_ldcw C q2277 dX0_get_7 ?_
    exact p_iret CP dX0_get_10 hF
  · refine v_aload_n C dX0_get_11 rfl rfl ?_
    refine v_getR C kc_X0 10 (Nat.le_of_ble_eq_true rfl) (kFl.p q212) dX0_get_12 hF (fun v4 hF => ?_)
    refine v_iload_n C dX0_get_15 rfl rfl ?_
    refine v_aQl7 C dX0_get_16 hF (fun v5 hF => ?_)
    refine v_iload_n C dX0_get_17 rfl rfl ?_
    refine p_iald C hZ hR0 hst (by decide) (Nat.le_of_ble_eq_true rfl) dX0_get_18 hF (fun v6 hF => ?_) (fun hF k9 s9 hk9 hs9 => p_catch C hZ HT q2252 q1144 (by decide) [] (x := ⟨11, 19, 20, 468⟩) (suf := [⟨11, 19, 20, 470⟩]) rfl (by decide) (by decide) rfl (hpc := 20) rfl (fun q9 => ?_)) (fun hF k9 s9 hk9 hs9 => p_catch C hZ HT q2254 q2269 (by decide) [⟨11, 19, 20, 468⟩] (x := ⟨11, 19, 20, 470⟩) (suf := []) rfl (by decide) (by decide) rfl (hpc := 20) rfl (fun q9 => ?_))
    · exact p_iret CP dX0_get_19 hF
    · refine v_astore_n C dX0_get_20 rfl (Nat.le_of_ble_eq_true rfl) rfl (lv' := [some (.ref x0), some (.int x1), some (.int x2), some (.ref q9)]) rfl ?_
      refine v_ldcw C q2277 dX0_get_21 ?_
      exact p_hret CP hk9 hs9 dX0_get_24 hF
    · refine v_astore_n C dX0_get_20 rfl (Nat.le_of_ble_eq_true rfl) rfl (lv' := [some (.ref x0), some (.int x1), some (.int x2), some (.ref q9)]) rfl ?_
      refine v_ldcw C q2277 dX0_get_21 ?_
      exact p_hret CP hk9 hs9 dX0_get_24 hF
set_option maxHeartbeats 4000000 in
theorem wX0_lay_b20 {l : Launch} {g : GT} {X : CxT} {r : (Int32 ⊕ Int32)} {w1 : Wd} (C : kOk g X cX0_lay 5 RX0 (some .int) 105 10500 none (kBad g)) (CP : ∀ r9 w9, kPz r w1 r9 w9 → kOk g X cX0_lay 5 RX0 (some .int) 105 10500 (some (.int r9)) w9) (HT : (xc X).exceptionTable.toList = tableOf hhX0_lay) {w00 : Wd} (hR0 : kRp g w00 (xs X).heap) (hst : (xl X).stackTraces = false) (hZ : ∀ U, gX g U → SZ g U) (hX : ∀ U, gX g U → SX g U) (hl : xl X = l) (hin : kHin X yX0_lay) (N : Nat) (k20 : Nat × Int32 × Int32 × Int32 × Int32 × Wd → Option ((Int32 ⊕ Int32) × Wd)) (hk20 : ∀ a, k20 a = some (r, w1) → kV g X 5 a.2.2.2.2.2 20 [some (.ref a.1), some (.int a.2.1), some (.int a.2.2.1), some (.int a.2.2.2.1), some (.int a.2.2.2.2.1)] []) (x0 : Nat) (x1 : Int32) (x2 : Int32) (x3 : Int32) (x4 : Int32) (w : Wd) (hF : FX0_lay_b20 N g k20 x0 x1 x2 x3 x4 w = some (r, w1)) : kV g X 5 w 20 [some (.ref x0), some (.int x1), some (.int x2), some (.int x3), some (.int x4)] [] := by
  unfold FX0_lay_b20 at hF
  refine v_iload C dX0_lay_20 rfl ?_
  refine v_aload_n C dX0_lay_22 rfl rfl ?_
  obtain ⟨h10, hF⟩ := k_ite hF
  refine c_callVi C lk_X0_90 (ci := 1) rfl h10 (fr2 := 2) (lo2 := 200) (As := []) (st := [.int x4]) (fun r9_ w9_ h9_ => by rw [hl]; exact wX0_many l g hX N x0 w r9_ w9_ h9_) (by decide) rfl rfl (Nat.le_of_ble_eq_true rfl) dX0_lay_23 hF (fun r8 u9 hF => ?_)
  refine v_icmp_ge C (tgt := 63) dX0_lay_26 (by decide) hF (fun c11 hF => ?_) (fun c11 hF => ?_)
  · refine v_aload_n C dX0_lay_63 rfl rfl ?_
    obtain ⟨h14, hF⟩ := k_ite hF
    refine c_callVi C lk_X0_90 (ci := 1) rfl h14 (fr2 := 2) (lo2 := 200) (As := []) (st := []) (fun r9_ w9_ h9_ => by rw [hl]; exact wX0_many l g hX N x0 u9 r9_ w9_ h9_) (by decide) rfl rfl (Nat.le_of_ble_eq_true rfl) dX0_lay_64 hF (fun r12 u13 hF => ?_)
    exact p_iret CP dX0_lay_67 hF
  · refine v_aload_n C dX0_lay_29 rfl rfl ?_
    refine v_getR C kc_X0 10 (Nat.le_of_ble_eq_true rfl) (kFl.p q212) dX0_lay_30 hF (fun v15 hF => ?_)
    refine v_iload_n C dX0_lay_33 rfl rfl ?_
    refine v_aQl7 C dX0_lay_34 hF (fun v16 hF => ?_)
    refine v_iload_n C dX0_lay_35 rfl rfl ?_
    refine v_iload C dX0_lay_36 rfl ?_
    refine v_iadd C dX0_lay_38 ?_
    refine v_aload_n C dX0_lay_39 rfl rfl ?_
    refine v_getR C kc_X0 1 (Nat.le_of_ble_eq_true rfl) (kFl.p q199) dX0_lay_40 hF (fun v17 hF => ?_)
    refine v_iload_n C dX0_lay_43 rfl rfl ?_
    obtain ⟨h20, hF⟩ := k_ite hF
    refine c_callVr C lk_X0_121 (ci := 11) rfl h20 (fr2 := 3) (lo2 := 300) (As := [.int x3]) (st := [.int (x2 + x4), va_rf v16]) (fun r9_ w9_ h9_ => by rw [hl]; exact wJ2_get l g hX N v17 x3 u9 r9_ w9_ h9_) (by decide) rfl rfl (by simp [va_rf_cat, cat_r, cat_i, cat_n]) dX0_lay_44 hF (fun r18 u19 hF => ?_)
    refine v_castI C (ci := 3) rfl q811 dX0_lay_47 hF (fun hF => ?_)
    refine v_getR C kc_X9 0 (Nat.le_of_ble_eq_true rfl) (kFl.n q978) dX0_lay_50 hF (fun v21 hF => ?_)
    refine v_iload C dX0_lay_53 rfl ?_
    refine v_aIi C dX0_lay_55 hF (fun v22 hF => ?_)
    refine p_iast C hZ hR0 hst (by decide) (Nat.le_of_ble_eq_true rfl) dX0_lay_56 hF (fun u23 hF => ?_) (fun hF k9 s9 hk9 hs9 => p_catch C hZ HT q2252 q1144 (by decide) [] (x := ⟨17, 67, 68, 468⟩) (suf := [⟨17, 67, 73, 470⟩]) rfl (by decide) (by decide) rfl (hpc := 68) rfl (fun q9 => ?_)) (fun hF k9 s9 hk9 hs9 => p_catch C hZ HT q2254 q2269 (by decide) [⟨17, 67, 68, 468⟩] (x := ⟨17, 67, 73, 470⟩) (suf := []) rfl (by decide) (by decide) rfl (hpc := 73) rfl (fun q9 => ?_))
    · refine v_iinc C dX0_lay_57 rfl (v := (x4 + (1 : Int32))) rfl (Nat.le_of_ble_eq_true rfl) rfl (lv' := [some (.ref x0), some (.int x1), some (.int x2), some (.int x3), some (.int (x4 + (1 : Int32)))]) rfl ?_
      refine v_goto C (tgt := 20) dX0_lay_60 (by decide) ?_
      refine v_mask [true, true, true, true, true] (lv' := [some (.ref x0), some (.int x1), some (.int x2), some (.int x3), some (.int (x4 + (1 : Int32)))]) rfl ?_
      exact hk20 (x0, x1, x2, x3, (x4 + (1 : Int32)), u23) hF
    · refine v_astore C dX0_lay_68 (Nat.le_of_ble_eq_true rfl) rfl (lv' := [some (.ref x0), some (.int x1), some (.int x2), some (.int x3), some (.ref q9)]) rfl ?_
      refine v_bipush C (v := (-11 : Int32)) dX0_lay_70 (by decide) ?_
      exact p_hret CP hk9 hs9 dX0_lay_72 hF
    · refine v_astore C dX0_lay_73 (Nat.le_of_ble_eq_true rfl) rfl (lv' := [some (.ref x0), some (.int x1), some (.int x2), some (.int x3), some (.ref q9)]) rfl ?_
      refine v_bipush C (v := (-13 : Int32)) dX0_lay_75 (by decide) ?_
      exact p_hret CP hk9 hs9 dX0_lay_77 hF
set_option maxHeartbeats 4000000 in
theorem wX0_lay (l : Launch) (g : GT) (hX : ∀ U, gX g U → SX g U) (hZ : ∀ U, gX g U → SZ g U) (hst0 : l.stackTraces = false) (N : Nat) (x0 : Nat) (x1 : Int32) (x2 : Int32) (x3 : Int32) (w : Wd) (r : (Int32 ⊕ Int32)) (w1 : Wd) (hF : FX0_lay N g x0 x1 x2 x3 w = some (r, w1)) : kMp l g yX0_lay (wsW_ yX0_lay cX0_lay 5 (some .int) hhX0_lay) 105 10500 w [.ref x0, .int x1, .int x2, .int x3] (kPz r w1) := by
  refine kMp.ofV2 (lv := [some (.ref x0), some (.int x1), some (.int x2), some (.int x3), none]) (by decide) rfl (Nat.le_of_ble_eq_true rfl) rfl ?_
  intro X hl hin HT hR0 C CP
  have hst : (xl X).stackTraces = false := by rw [hl]; exact hst0
  unfold FX0_lay at hF
  refine v_iload_n C dX0_lay_0 rfl rfl ?_
  refine c_callSi C lk_X0_463 (fr2 := 2) (lo2 := 200) (As := [.int x1]) (st := []) (fun r9_ w9_ h9_ => by rw [hl]; exact wX0_isList l g hX N x1 w r9_ w9_ h9_) (by decide) rfl rfl (Nat.le_of_ble_eq_true rfl) dX0_lay_1 hF (fun r1 u2 hF => ?_)
  refine v_if_eq C (tgt := 15) dX0_lay_4 (by decide) hF (fun c3 hF => ?_) (fun c3 hF => ?_)
  · refine v_iconst C (v := (-1 : Int32)) dX0_lay_15 (by decide) ?_
    exact p_iret CP dX0_lay_16 hF
  · refine v_aload_n C dX0_lay_7 rfl rfl ?_
    refine v_iload_n C dX0_lay_8 rfl rfl ?_
    obtain ⟨h6, hF⟩ := k_ite hF
    refine c_callVi C lk_X0_249 (ci := 1) rfl h6 (fr2 := 2) (lo2 := 200) (As := [.int x3]) (st := []) (fun r9_ w9_ h9_ => by rw [hl]; exact wX0_isRow l g hX N x0 x3 u2 r9_ w9_ h9_) (by decide) rfl rfl (Nat.le_of_ble_eq_true rfl) dX0_lay_9 hF (fun r4 u5 hF => ?_)
    refine v_if_ne C (tgt := 17) dX0_lay_12 (by decide) hF (fun c7 hF => ?_) (fun c7 hF => ?_)
    · refine v_iconst C (v := (-1 : Int32)) dX0_lay_15 (by decide) ?_
      exact p_iret CP dX0_lay_16 hF
    · refine v_iconst C (v := (0 : Int32)) dX0_lay_17 (by decide) ?_
      refine v_istore C dX0_lay_18 (Nat.le_of_ble_eq_true rfl) rfl (lv' := [some (.ref x0), some (.int x1), some (.int x2), some (.int x3), some (.int (0 : Int32))]) rfl ?_
      refine v_mask [true, true, true, true, true] (lv' := [some (.ref x0), some (.int x1), some (.int x2), some (.int x3), some (.int (0 : Int32))]) rfl ?_
      exact kloop_ok (P := fun a => kV g X 5 a.2.2.2.2.2 20 [some (.ref a.1), some (.int a.2.1), some (.int a.2.2.1), some (.int a.2.2.2.1), some (.int a.2.2.2.2.1)] []) (fun self hs a hF => wX0_lay_b20 C CP HT hR0 hst hZ hX hl hin N self hs a.1 a.2.1 a.2.2.1 a.2.2.2.1 a.2.2.2.2.1 a.2.2.2.2.2 hF) N (x0, x1, x2, x3, (0 : Int32), u5) hF
set_option maxHeartbeats 4000000 in
theorem wX0_judge_b20 {l : Launch} {g : GT} {X : CxT} {r : (Int32 ⊕ Int32)} {w1 : Wd} (C : kOk g X cX0_judge 6 RX0 (some .int) 105 10500 none (kBad g)) (CP : ∀ r9 w9, kPz r w1 r9 w9 → kOk g X cX0_judge 6 RX0 (some .int) 105 10500 (some (.int r9)) w9) (HT : (xc X).exceptionTable.toList = tableOf hhX0_judge) {w00 : Wd} (hR0 : kRp g w00 (xs X).heap) (hst : (xl X).stackTraces = false) (hZ : ∀ U, gX g U → SZ g U) (hX : ∀ U, gX g U → SX g U) (hl : xl X = l) (hin : kHin X yX0_judge) (N : Nat) (k20 : Nat × Int32 × Int32 × Int32 × Int32 × Wd → Option ((Int32 ⊕ Int32) × Wd)) (hk20 : ∀ a, k20 a = some (r, w1) → kV g X 6 a.2.2.2.2.2 20 [some (.ref a.1), some (.int a.2.1), some (.int a.2.2.1), some (.int a.2.2.2.1), some (.int a.2.2.2.2.1), none] []) (x0 : Nat) (x1 : Int32) (x2 : Int32) (x3 : Int32) (x4 : Int32) (w : Wd) (hF : FX0_judge_b20 N g k20 x0 x1 x2 x3 x4 w = some (r, w1)) : kV g X 6 w 20 [some (.ref x0), some (.int x1), some (.int x2), some (.int x3), some (.int x4), none] [] := by
  unfold FX0_judge_b20 at hF
  refine v_iload C dX0_judge_20 rfl ?_
  refine v_aload_n C dX0_judge_22 rfl rfl ?_
  obtain ⟨h10, hF⟩ := k_ite hF
  refine c_callVi C lk_X0_90 (ci := 1) rfl h10 (fr2 := 2) (lo2 := 200) (As := []) (st := [.int x4]) (fun r9_ w9_ h9_ => by rw [hl]; exact wX0_many l g hX N x0 w r9_ w9_ h9_) (by decide) rfl rfl (Nat.le_of_ble_eq_true rfl) dX0_judge_23 hF (fun r8 u9 hF => ?_)
  refine v_icmp_ge C (tgt := 69) dX0_judge_26 (by decide) hF (fun c11 hF => ?_) (fun c11 hF => ?_)
  · refine v_bipush C (v := (-5 : Int32)) dX0_judge_69 (by decide) ?_
    exact p_iret CP dX0_judge_71 hF
  · refine v_aload_n C dX0_judge_29 rfl rfl ?_
    refine v_getR C kc_X0 10 (Nat.le_of_ble_eq_true rfl) (kFl.p q212) dX0_judge_30 hF (fun v12 hF => ?_)
    refine v_iload_n C dX0_judge_33 rfl rfl ?_
    refine v_aQl7 C dX0_judge_34 hF (fun v13 hF => ?_)
    refine v_iload_n C dX0_judge_35 rfl rfl ?_
    refine v_iload C dX0_judge_36 rfl ?_
    refine v_iadd C dX0_judge_38 ?_
    refine p_iald C hZ hR0 hst (by decide) (Nat.le_of_ble_eq_true rfl) dX0_judge_39 hF (fun v14 hF => ?_) (fun hF k9 s9 hk9 hs9 => p_catch C hZ HT q2252 q1144 (by decide) [] (x := ⟨20, 62, 72, 468⟩) (suf := [⟨63, 71, 72, 468⟩, ⟨20, 62, 77, 470⟩, ⟨63, 71, 77, 470⟩]) rfl (by decide) (by decide) rfl (hpc := 72) rfl (fun q9 => ?_)) (fun hF k9 s9 hk9 hs9 => p_catch C hZ HT q2254 q2269 (by decide) [⟨20, 62, 72, 468⟩, ⟨63, 71, 72, 468⟩] (x := ⟨20, 62, 77, 470⟩) (suf := [⟨63, 71, 77, 470⟩]) rfl (by decide) (by decide) rfl (hpc := 77) rfl (fun q9 => ?_))
    · refine v_aload_n C dX0_judge_40 rfl rfl ?_
      refine v_getR C kc_X0 1 (Nat.le_of_ble_eq_true rfl) (kFl.p q199) dX0_judge_41 hF (fun v15 hF => ?_)
      refine v_iload_n C dX0_judge_44 rfl rfl ?_
      obtain ⟨h18, hF⟩ := k_ite hF
      refine c_callVr C lk_X0_121 (ci := 11) rfl h18 (fr2 := 3) (lo2 := 300) (As := [.int x3]) (st := [.int v14]) (fun r9_ w9_ h9_ => by rw [hl]; exact wJ2_get l g hX N v15 x3 u9 r9_ w9_ h9_) (by decide) rfl rfl (Nat.le_of_ble_eq_true rfl) dX0_judge_45 hF (fun r16 u17 hF => ?_)
      refine v_castI C (ci := 3) rfl q811 dX0_judge_48 hF (fun hF => ?_)
      refine v_getR C kc_X9 0 (Nat.le_of_ble_eq_true rfl) (kFl.n q978) dX0_judge_51 hF (fun v19 hF => ?_)
      refine v_iload C dX0_judge_54 rfl ?_
      refine v_aIi C dX0_judge_56 hF (fun v20 hF => ?_)
      refine v_icmp_eq C (tgt := 63) dX0_judge_57 (by decide) hF (fun c21 hF => ?_) (fun c21 hF => ?_)
      · refine v_iinc C dX0_judge_63 rfl (v := (x4 + (1 : Int32))) rfl (Nat.le_of_ble_eq_true rfl) rfl (lv' := [some (.ref x0), some (.int x1), some (.int x2), some (.int x3), some (.int (x4 + (1 : Int32))), none]) rfl ?_
        refine v_goto C (tgt := 20) dX0_judge_66 (by decide) ?_
        refine v_mask [true, true, true, true, true, false] (lv' := [some (.ref x0), some (.int x1), some (.int x2), some (.int x3), some (.int (x4 + (1 : Int32))), none]) rfl ?_
        exact hk20 (x0, x1, x2, x3, (x4 + (1 : Int32)), u17) hF
      · refine v_iload C dX0_judge_60 rfl ?_
        exact p_iret CP dX0_judge_62 hF
    · refine v_astore C dX0_judge_72 (Nat.le_of_ble_eq_true rfl) rfl (lv' := [some (.ref x0), some (.int x1), some (.int x2), some (.int x3), some (.int x4), some (.ref q9)]) rfl ?_
      refine v_bipush C (v := (-11 : Int32)) dX0_judge_74 (by decide) ?_
      exact p_hret CP hk9 hs9 dX0_judge_76 hF
    · refine v_astore C dX0_judge_77 (Nat.le_of_ble_eq_true rfl) rfl (lv' := [some (.ref x0), some (.int x1), some (.int x2), some (.int x3), some (.int x4), some (.ref q9)]) rfl ?_
      refine v_bipush C (v := (100 : Int32)) dX0_judge_79 (by decide) ?_
      refine v_iload C dX0_judge_81 rfl ?_
      refine v_iadd C dX0_judge_83 ?_
      exact p_hret CP hk9 hs9 dX0_judge_84 hF
set_option maxHeartbeats 4000000 in
theorem wX0_judge (l : Launch) (g : GT) (hX : ∀ U, gX g U → SX g U) (hZ : ∀ U, gX g U → SZ g U) (hst0 : l.stackTraces = false) (N : Nat) (x0 : Nat) (x1 : Int32) (x2 : Int32) (x3 : Int32) (w : Wd) (r : (Int32 ⊕ Int32)) (w1 : Wd) (hF : FX0_judge N g x0 x1 x2 x3 w = some (r, w1)) : kMp l g yX0_judge (wsW_ yX0_judge cX0_judge 6 (some .int) hhX0_judge) 105 10500 w [.ref x0, .int x1, .int x2, .int x3] (kPz r w1) := by
  refine kMp.ofV2 (lv := [some (.ref x0), some (.int x1), some (.int x2), some (.int x3), none, none]) (by decide) rfl (Nat.le_of_ble_eq_true rfl) rfl ?_
  intro X hl hin HT hR0 C CP
  have hst : (xl X).stackTraces = false := by rw [hl]; exact hst0
  unfold FX0_judge at hF
  refine v_iload_n C dX0_judge_0 rfl rfl ?_
  refine c_callSi C lk_X0_463 (fr2 := 2) (lo2 := 200) (As := [.int x1]) (st := []) (fun r9_ w9_ h9_ => by rw [hl]; exact wX0_isList l g hX N x1 w r9_ w9_ h9_) (by decide) rfl rfl (Nat.le_of_ble_eq_true rfl) dX0_judge_1 hF (fun r1 u2 hF => ?_)
  refine v_if_eq C (tgt := 15) dX0_judge_4 (by decide) hF (fun c3 hF => ?_) (fun c3 hF => ?_)
  · refine v_iconst C (v := (-1 : Int32)) dX0_judge_15 (by decide) ?_
    exact p_iret CP dX0_judge_16 hF
  · refine v_aload_n C dX0_judge_7 rfl rfl ?_
    refine v_iload_n C dX0_judge_8 rfl rfl ?_
    obtain ⟨h6, hF⟩ := k_ite hF
    refine c_callVi C lk_X0_249 (ci := 1) rfl h6 (fr2 := 2) (lo2 := 200) (As := [.int x3]) (st := []) (fun r9_ w9_ h9_ => by rw [hl]; exact wX0_isRow l g hX N x0 x3 u2 r9_ w9_ h9_) (by decide) rfl rfl (Nat.le_of_ble_eq_true rfl) dX0_judge_9 hF (fun r4 u5 hF => ?_)
    refine v_if_ne C (tgt := 17) dX0_judge_12 (by decide) hF (fun c7 hF => ?_) (fun c7 hF => ?_)
    · refine v_iconst C (v := (-1 : Int32)) dX0_judge_15 (by decide) ?_
      exact p_iret CP dX0_judge_16 hF
    · refine v_iconst C (v := (0 : Int32)) dX0_judge_17 (by decide) ?_
      refine v_istore C dX0_judge_18 (Nat.le_of_ble_eq_true rfl) rfl (lv' := [some (.ref x0), some (.int x1), some (.int x2), some (.int x3), some (.int (0 : Int32)), none]) rfl ?_
      refine v_mask [true, true, true, true, true, false] (lv' := [some (.ref x0), some (.int x1), some (.int x2), some (.int x3), some (.int (0 : Int32)), none]) rfl ?_
      exact kloop_ok (P := fun a => kV g X 6 a.2.2.2.2.2 20 [some (.ref a.1), some (.int a.2.1), some (.int a.2.2.1), some (.int a.2.2.2.1), some (.int a.2.2.2.2.1), none] []) (fun self hs a hF => wX0_judge_b20 C CP HT hR0 hst hZ hX hl hin N self hs a.1 a.2.1 a.2.2.1 a.2.2.2.1 a.2.2.2.2.1 a.2.2.2.2.2 hF) N (x0, x1, x2, x3, (0 : Int32), u5) hF
