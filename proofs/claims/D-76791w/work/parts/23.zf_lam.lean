set_option maxRecDepth 100000
def FX0_idle (N : Nat) (g : GT) (x0 : Int32) (x1 : Int32) (x2 : Int32) (w : Wd) : Option (Nat × Wd) :=
  some ((gT g 0), w)
def FX0_lambda_always_0 (N : Nat) (g : GT) (x0 : Nat) (x1 : Int32) (x2 : Int32) (x3 : Int32) (w : Wd) : Option (Nat × Wd) :=
  some (x0, w)
def FX0_lambda_inTurn_1 (N : Nat) (g : GT) (fl : Wd → Nat → Int32 → Int32 → Int32 → Option Nat) (x0 : Int32) (x1 : Nat) (x2 : Nat) (x3 : Int32) (x4 : Int32) (x5 : Int32) (w : Wd) : Option (Nat × Wd) :=
  if ¬ x0 = 0 then (if ((x4 / x0) - (x4 / x0) / (2 : Int32) * (2 : Int32)) = 0 then (kob (fl w x1 x3 x4 x5) (fun v3 => some (v3, w))) else (kob (fl w x2 x3 x4 x5) (fun v4 => some (v4, w)))) else none
def FX0_lambda_byCards_2 (N : Nat) (g : GT) (fl : Wd → Nat → Int32 → Int32 → Int32 → Option Nat) (x0 : Int32) (x1 : Nat) (x2 : Nat) (x3 : Int32) (x4 : Int32) (x5 : Int32) (w : Wd) : Option (Nat × Wd) :=
  if x0 ≤ x3 then (kob (fl w x2 x3 x4 x5) (fun v2 => some (v2, w))) else (kob (fl w x1 x3 x4 x5) (fun v3 => some (v3, w)))
def FX0_lambda_eachOf_3 (N : Nat) (g : GT) (fl : Wd → Nat → Int32 → Int32 → Int32 → Option Nat) (x0 : Int32) (x1 : Nat) (x2 : Nat) (x3 : Int32) (x4 : Int32) (x5 : Int32) (w : Wd) : Option (Nat × Wd) :=
  if ¬ x0 = 0 then (if (x4 - x4 / x0 * x0) = 0 then (kob (fl w x1 x3 x4 x5) (fun v3 => some (v3, w))) else (kob (fl w x2 x3 x4 x5) (fun v4 => some (v4, w)))) else none
def FX0_lambda_later_4 (N : Nat) (g : GT) (fl : Wd → Nat → Int32 → Int32 → Int32 → Option Nat) (x0 : Nat) (x1 : Int32) (x2 : Int32) (x3 : Int32) (x4 : Int32) (w : Wd) : Option (Nat × Wd) :=
  kob (fl w x0 x2 (x3 + x1) x4) (fun v1 => some (v1, w))
def FX0_lambda_slanting_5 (N : Nat) (g : GT) (fl : Wd → Nat → Int32 → Int32 → Int32 → Option Nat) (x0 : Nat) (x1 : Int32) (x2 : Int32) (x3 : Int32) (w : Wd) : Option (Nat × Wd) :=
  kob (fl w x0 x1 (x2 + x1) x3) (fun v1 => some (v1, w))
def FX0_lambda_reversed_6 (N : Nat) (g : GT) (fl : Wd → Nat → Int32 → Int32 → Int32 → Option Nat) (x0 : Nat) (x1 : Int32) (x2 : Int32) (x3 : Int32) (w : Wd) : Option (Nat × Wd) :=
  kob (fl w x0 x1 x2 x3) (fun v1 => kob (Fto g v1) (fun v2 => some (v2, w)))
def FX0_lambda_mirrored_7 (N : Nat) (g : GT) (fl : Wd → Nat → Int32 → Int32 → Int32 → Option Nat) (x0 : Nat) (x1 : Int32) (x2 : Int32) (x3 : Int32) (w : Wd) : Option (Nat × Wd) :=
  kob (fl w x0 ((x3 - (1 : Int32)) - x1) x2 x3) (fun v1 => some (v1, w))
def FX0_lambda_first_8 (N : Nat) (g : GT) (fl : Wd → Nat → Int32 → Int32 → Int32 → Option Nat) (x0 : Nat) (x1 : Nat) (x2 : Int32) (x3 : Int32) (x4 : Int32) (w : Wd) : Option (Nat × Wd) :=
  kob (fl w x0 x2 x3 x4) (fun v1 => if ((some v1) : Option Nat) = (some (gT g 0)) then (kob (fl w x1 x2 x3 x4) (fun v3 => some (v3, w))) else (some (v1, w)))
set_option maxRecDepth 100000
set_option maxHeartbeats 4000000 in
theorem wX0_idle (l : Launch) (g : GT) (hX : ∀ U, gX g U → SX g U) (N : Nat) (x0 : Int32) (x1 : Int32) (x2 : Int32) (w : Wd) (r : Nat) (w1 : Wd) (hF : FX0_idle N g x0 x1 x2 w = some (r, w1)) : kMt l g yX0_idle (ws_ yX0_idle cX0_idle 3 (some (.object "CardLoom$Turning"))) 1 100 w [.int x0, .int x1, .int x2] (some (.ref r)) w1 := by
  refine kMt.ofV (lv := [some (.int x0), some (.int x1), some (.int x2)]) (by decide) rfl (Nat.le_of_ble_eq_true rfl) rfl ?_
  intro X hl hin C
  unfold FX0_idle at hF
  refine v_gets C ((hX _ C.2.2.2.2.2.1.2.2.1).1 _ (List.mem_of_getElem? (i := 1) rfl)) q175 (Or.inl rfl) dX0_idle_0 ?_
  exact c_aret C (Or.inl ⟨_, rfl⟩) dX0_idle_3 hF
set_option maxHeartbeats 4000000 in
theorem wX0_lambda_always_0 (l : Launch) (g : GT) (hX : ∀ U, gX g U → SX g U) (N : Nat) (x0 : Nat) (x1 : Int32) (x2 : Int32) (x3 : Int32) (w : Wd) (r : Nat) (w1 : Wd) (hF : FX0_lambda_always_0 N g x0 x1 x2 x3 w = some (r, w1)) : kMt l g yX0_lambda_always_0 (ws_ yX0_lambda_always_0 cX0_lambda_always_0 4 (some (.object "CardLoom$Turning"))) 1 100 w [.ref x0, .int x1, .int x2, .int x3] (some (.ref r)) w1 := by
  refine kMt.ofV (lv := [some (.ref x0), some (.int x1), some (.int x2), some (.int x3)]) (by decide) rfl (Nat.le_of_ble_eq_true rfl) rfl ?_
  intro X hl hin C
  unfold FX0_lambda_always_0 at hF
  refine v_aload_n C dX0_lambda_always_0_0 rfl rfl ?_
  exact c_aret C (Or.inl ⟨_, rfl⟩) dX0_lambda_always_0_1 hF
set_option maxHeartbeats 4000000 in
theorem wX0_lambda_inTurn_1 (l : Launch) (g : GT) (hX : ∀ U, gX g U → SX g U) (N : Nat) (fl : Wd → Nat → Int32 → Int32 → Int32 → Option Nat) (fr0 lo0 : Nat) (hfl : ∀ w a c p n t, fl w a c p n = some t → kLaw l g w fr0 lo0 a c p n t) (x0 : Int32) (x1 : Nat) (x2 : Nat) (x3 : Int32) (x4 : Int32) (x5 : Int32) (w : Wd) (r : Nat) (w1 : Wd) (hF : FX0_lambda_inTurn_1 N g fl x0 x1 x2 x3 x4 x5 w = some (r, w1)) : kMt l g yX0_lambda_inTurn_1 (ws_ yX0_lambda_inTurn_1 cX0_lambda_inTurn_1 6 (some (.object "CardLoom$Turning"))) (fr0 + 1) (lo0 + 100) w [.int x0, .ref x1, .ref x2, .int x3, .int x4, .int x5] (some (.ref r)) w1 := by
  refine kMt.ofV (lv := [some (.int x0), some (.ref x1), some (.ref x2), some (.int x3), some (.int x4), some (.int x5)]) (by decide) rfl (Nat.le_of_ble_eq_true rfl) rfl ?_
  intro X hl hin C
  unfold FX0_lambda_inTurn_1 at hF
  refine v_iload C dX0_lambda_inTurn_1_0 rfl ?_
  refine v_iload_n C dX0_lambda_inTurn_1_2 rfl rfl ?_
  obtain ⟨h1, hF⟩ := k_ite hF
  refine v_idiv C dX0_lambda_inTurn_1_3 h1 ?_
  refine v_iconst C (v := (2 : Int32)) dX0_lambda_inTurn_1_4 (by decide) ?_
  refine v_irem C dX0_lambda_inTurn_1_5 (by decide) ?_
  refine v_if_ne C (tgt := 23) dX0_lambda_inTurn_1_6 (by decide) hF (fun c2 hF => ?_) (fun c2 hF => ?_)
  · refine v_aload_n C dX0_lambda_inTurn_1_9 rfl rfl ?_
    refine v_iload_n C dX0_lambda_inTurn_1_10 rfl rfl ?_
    refine v_iload C dX0_lambda_inTurn_1_11 rfl ?_
    refine v_iload C dX0_lambda_inTurn_1_13 rfl ?_
    refine v_lawR C hX hl hfl q601 (by constructor <;> omega) (Nat.le_of_ble_eq_true rfl) dX0_lambda_inTurn_1_15 hF (fun v3 hF => ?_)
    refine v_goto C (tgt := 34) dX0_lambda_inTurn_1_20 (by decide) ?_
    exact c_aret C (Or.inl ⟨_, rfl⟩) dX0_lambda_inTurn_1_34 hF
  · refine v_aload_n C dX0_lambda_inTurn_1_23 rfl rfl ?_
    refine v_iload_n C dX0_lambda_inTurn_1_24 rfl rfl ?_
    refine v_iload C dX0_lambda_inTurn_1_25 rfl ?_
    refine v_iload C dX0_lambda_inTurn_1_27 rfl ?_
    refine v_lawR C hX hl hfl q601 (by constructor <;> omega) (Nat.le_of_ble_eq_true rfl) dX0_lambda_inTurn_1_29 hF (fun v4 hF => ?_)
    exact c_aret C (Or.inl ⟨_, rfl⟩) dX0_lambda_inTurn_1_34 hF
set_option maxHeartbeats 4000000 in
theorem wX0_lambda_byCards_2 (l : Launch) (g : GT) (hX : ∀ U, gX g U → SX g U) (N : Nat) (fl : Wd → Nat → Int32 → Int32 → Int32 → Option Nat) (fr0 lo0 : Nat) (hfl : ∀ w a c p n t, fl w a c p n = some t → kLaw l g w fr0 lo0 a c p n t) (x0 : Int32) (x1 : Nat) (x2 : Nat) (x3 : Int32) (x4 : Int32) (x5 : Int32) (w : Wd) (r : Nat) (w1 : Wd) (hF : FX0_lambda_byCards_2 N g fl x0 x1 x2 x3 x4 x5 w = some (r, w1)) : kMt l g yX0_lambda_byCards_2 (ws_ yX0_lambda_byCards_2 cX0_lambda_byCards_2 6 (some (.object "CardLoom$Turning"))) (fr0 + 1) (lo0 + 100) w [.int x0, .ref x1, .ref x2, .int x3, .int x4, .int x5] (some (.ref r)) w1 := by
  refine kMt.ofV (lv := [some (.int x0), some (.ref x1), some (.ref x2), some (.int x3), some (.int x4), some (.int x5)]) (by decide) rfl (Nat.le_of_ble_eq_true rfl) rfl ?_
  intro X hl hin C
  unfold FX0_lambda_byCards_2 at hF
  refine v_iload_n C dX0_lambda_byCards_2_0 rfl rfl ?_
  refine v_iload_n C dX0_lambda_byCards_2_1 rfl rfl ?_
  refine v_icmp_ge C (tgt := 19) dX0_lambda_byCards_2_2 (by decide) hF (fun c1 hF => ?_) (fun c1 hF => ?_)
  · refine v_aload_n C dX0_lambda_byCards_2_19 rfl rfl ?_
    refine v_iload_n C dX0_lambda_byCards_2_20 rfl rfl ?_
    refine v_iload C dX0_lambda_byCards_2_21 rfl ?_
    refine v_iload C dX0_lambda_byCards_2_23 rfl ?_
    refine v_lawR C hX hl hfl q601 (by constructor <;> omega) (Nat.le_of_ble_eq_true rfl) dX0_lambda_byCards_2_25 hF (fun v2 hF => ?_)
    exact c_aret C (Or.inl ⟨_, rfl⟩) dX0_lambda_byCards_2_30 hF
  · refine v_aload_n C dX0_lambda_byCards_2_5 rfl rfl ?_
    refine v_iload_n C dX0_lambda_byCards_2_6 rfl rfl ?_
    refine v_iload C dX0_lambda_byCards_2_7 rfl ?_
    refine v_iload C dX0_lambda_byCards_2_9 rfl ?_
    refine v_lawR C hX hl hfl q601 (by constructor <;> omega) (Nat.le_of_ble_eq_true rfl) dX0_lambda_byCards_2_11 hF (fun v3 hF => ?_)
    refine v_goto C (tgt := 30) dX0_lambda_byCards_2_16 (by decide) ?_
    exact c_aret C (Or.inl ⟨_, rfl⟩) dX0_lambda_byCards_2_30 hF
set_option maxHeartbeats 4000000 in
theorem wX0_lambda_eachOf_3 (l : Launch) (g : GT) (hX : ∀ U, gX g U → SX g U) (N : Nat) (fl : Wd → Nat → Int32 → Int32 → Int32 → Option Nat) (fr0 lo0 : Nat) (hfl : ∀ w a c p n t, fl w a c p n = some t → kLaw l g w fr0 lo0 a c p n t) (x0 : Int32) (x1 : Nat) (x2 : Nat) (x3 : Int32) (x4 : Int32) (x5 : Int32) (w : Wd) (r : Nat) (w1 : Wd) (hF : FX0_lambda_eachOf_3 N g fl x0 x1 x2 x3 x4 x5 w = some (r, w1)) : kMt l g yX0_lambda_eachOf_3 (ws_ yX0_lambda_eachOf_3 cX0_lambda_eachOf_3 6 (some (.object "CardLoom$Turning"))) (fr0 + 1) (lo0 + 100) w [.int x0, .ref x1, .ref x2, .int x3, .int x4, .int x5] (some (.ref r)) w1 := by
  refine kMt.ofV (lv := [some (.int x0), some (.ref x1), some (.ref x2), some (.int x3), some (.int x4), some (.int x5)]) (by decide) rfl (Nat.le_of_ble_eq_true rfl) rfl ?_
  intro X hl hin C
  unfold FX0_lambda_eachOf_3 at hF
  refine v_iload C dX0_lambda_eachOf_3_0 rfl ?_
  refine v_iload_n C dX0_lambda_eachOf_3_2 rfl rfl ?_
  obtain ⟨h1, hF⟩ := k_ite hF
  refine v_irem C dX0_lambda_eachOf_3_3 h1 ?_
  refine v_if_ne C (tgt := 21) dX0_lambda_eachOf_3_4 (by decide) hF (fun c2 hF => ?_) (fun c2 hF => ?_)
  · refine v_aload_n C dX0_lambda_eachOf_3_7 rfl rfl ?_
    refine v_iload_n C dX0_lambda_eachOf_3_8 rfl rfl ?_
    refine v_iload C dX0_lambda_eachOf_3_9 rfl ?_
    refine v_iload C dX0_lambda_eachOf_3_11 rfl ?_
    refine v_lawR C hX hl hfl q601 (by constructor <;> omega) (Nat.le_of_ble_eq_true rfl) dX0_lambda_eachOf_3_13 hF (fun v3 hF => ?_)
    refine v_goto C (tgt := 32) dX0_lambda_eachOf_3_18 (by decide) ?_
    exact c_aret C (Or.inl ⟨_, rfl⟩) dX0_lambda_eachOf_3_32 hF
  · refine v_aload_n C dX0_lambda_eachOf_3_21 rfl rfl ?_
    refine v_iload_n C dX0_lambda_eachOf_3_22 rfl rfl ?_
    refine v_iload C dX0_lambda_eachOf_3_23 rfl ?_
    refine v_iload C dX0_lambda_eachOf_3_25 rfl ?_
    refine v_lawR C hX hl hfl q601 (by constructor <;> omega) (Nat.le_of_ble_eq_true rfl) dX0_lambda_eachOf_3_27 hF (fun v4 hF => ?_)
    exact c_aret C (Or.inl ⟨_, rfl⟩) dX0_lambda_eachOf_3_32 hF
set_option maxHeartbeats 4000000 in
theorem wX0_lambda_later_4 (l : Launch) (g : GT) (hX : ∀ U, gX g U → SX g U) (N : Nat) (fl : Wd → Nat → Int32 → Int32 → Int32 → Option Nat) (fr0 lo0 : Nat) (hfl : ∀ w a c p n t, fl w a c p n = some t → kLaw l g w fr0 lo0 a c p n t) (x0 : Nat) (x1 : Int32) (x2 : Int32) (x3 : Int32) (x4 : Int32) (w : Wd) (r : Nat) (w1 : Wd) (hF : FX0_lambda_later_4 N g fl x0 x1 x2 x3 x4 w = some (r, w1)) : kMt l g yX0_lambda_later_4 (ws_ yX0_lambda_later_4 cX0_lambda_later_4 5 (some (.object "CardLoom$Turning"))) (fr0 + 1) (lo0 + 100) w [.ref x0, .int x1, .int x2, .int x3, .int x4] (some (.ref r)) w1 := by
  refine kMt.ofV (lv := [some (.ref x0), some (.int x1), some (.int x2), some (.int x3), some (.int x4)]) (by decide) rfl (Nat.le_of_ble_eq_true rfl) rfl ?_
  intro X hl hin C
  unfold FX0_lambda_later_4 at hF
  refine v_aload_n C dX0_lambda_later_4_0 rfl rfl ?_
  refine v_iload_n C dX0_lambda_later_4_1 rfl rfl ?_
  refine v_iload_n C dX0_lambda_later_4_2 rfl rfl ?_
  refine v_iload_n C dX0_lambda_later_4_3 rfl rfl ?_
  refine v_iadd C dX0_lambda_later_4_4 ?_
  refine v_iload C dX0_lambda_later_4_5 rfl ?_
  refine v_lawR C hX hl hfl q601 (by constructor <;> omega) (Nat.le_of_ble_eq_true rfl) dX0_lambda_later_4_7 hF (fun v1 hF => ?_)
  exact c_aret C (Or.inl ⟨_, rfl⟩) dX0_lambda_later_4_12 hF
set_option maxHeartbeats 4000000 in
theorem wX0_lambda_slanting_5 (l : Launch) (g : GT) (hX : ∀ U, gX g U → SX g U) (N : Nat) (fl : Wd → Nat → Int32 → Int32 → Int32 → Option Nat) (fr0 lo0 : Nat) (hfl : ∀ w a c p n t, fl w a c p n = some t → kLaw l g w fr0 lo0 a c p n t) (x0 : Nat) (x1 : Int32) (x2 : Int32) (x3 : Int32) (w : Wd) (r : Nat) (w1 : Wd) (hF : FX0_lambda_slanting_5 N g fl x0 x1 x2 x3 w = some (r, w1)) : kMt l g yX0_lambda_slanting_5 (ws_ yX0_lambda_slanting_5 cX0_lambda_slanting_5 4 (some (.object "CardLoom$Turning"))) (fr0 + 1) (lo0 + 100) w [.ref x0, .int x1, .int x2, .int x3] (some (.ref r)) w1 := by
  refine kMt.ofV (lv := [some (.ref x0), some (.int x1), some (.int x2), some (.int x3)]) (by decide) rfl (Nat.le_of_ble_eq_true rfl) rfl ?_
  intro X hl hin C
  unfold FX0_lambda_slanting_5 at hF
  refine v_aload_n C dX0_lambda_slanting_5_0 rfl rfl ?_
  refine v_iload_n C dX0_lambda_slanting_5_1 rfl rfl ?_
  refine v_iload_n C dX0_lambda_slanting_5_2 rfl rfl ?_
  refine v_iload_n C dX0_lambda_slanting_5_3 rfl rfl ?_
  refine v_iadd C dX0_lambda_slanting_5_4 ?_
  refine v_iload_n C dX0_lambda_slanting_5_5 rfl rfl ?_
  refine v_lawR C hX hl hfl q601 (by constructor <;> omega) (Nat.le_of_ble_eq_true rfl) dX0_lambda_slanting_5_6 hF (fun v1 hF => ?_)
  exact c_aret C (Or.inl ⟨_, rfl⟩) dX0_lambda_slanting_5_11 hF
set_option maxHeartbeats 4000000 in
theorem wX0_lambda_reversed_6 (l : Launch) (g : GT) (hX : ∀ U, gX g U → SX g U) (N : Nat) (fl : Wd → Nat → Int32 → Int32 → Int32 → Option Nat) (fr0 lo0 : Nat) (hfl : ∀ w a c p n t, fl w a c p n = some t → kLaw l g w fr0 lo0 a c p n t) (x0 : Nat) (x1 : Int32) (x2 : Int32) (x3 : Int32) (w : Wd) (r : Nat) (w1 : Wd) (hF : FX0_lambda_reversed_6 N g fl x0 x1 x2 x3 w = some (r, w1)) : kMt l g yX0_lambda_reversed_6 (ws_ yX0_lambda_reversed_6 cX0_lambda_reversed_6 4 (some (.object "CardLoom$Turning"))) (fr0 + 2) (lo0 + 200) w [.ref x0, .int x1, .int x2, .int x3] (some (.ref r)) w1 := by
  refine kMt.ofV (lv := [some (.ref x0), some (.int x1), some (.int x2), some (.int x3)]) (by decide) rfl (Nat.le_of_ble_eq_true rfl) rfl ?_
  intro X hl hin C
  unfold FX0_lambda_reversed_6 at hF
  refine v_aload_n C dX0_lambda_reversed_6_0 rfl rfl ?_
  refine v_iload_n C dX0_lambda_reversed_6_1 rfl rfl ?_
  refine v_iload_n C dX0_lambda_reversed_6_2 rfl rfl ?_
  refine v_iload_n C dX0_lambda_reversed_6_3 rfl rfl ?_
  refine v_lawR C hX hl hfl q601 (by constructor <;> omega) (Nat.le_of_ble_eq_true rfl) dX0_lambda_reversed_6_4 hF (fun v1 hF => ?_)
  refine v_tother C hX q642 (by constructor <;> omega) (Nat.le_of_ble_eq_true rfl) dX0_lambda_reversed_6_9 hF (fun v2 hF => ?_)
  exact c_aret C (Or.inl ⟨_, rfl⟩) dX0_lambda_reversed_6_12 hF
set_option maxHeartbeats 4000000 in
theorem wX0_lambda_mirrored_7 (l : Launch) (g : GT) (hX : ∀ U, gX g U → SX g U) (N : Nat) (fl : Wd → Nat → Int32 → Int32 → Int32 → Option Nat) (fr0 lo0 : Nat) (hfl : ∀ w a c p n t, fl w a c p n = some t → kLaw l g w fr0 lo0 a c p n t) (x0 : Nat) (x1 : Int32) (x2 : Int32) (x3 : Int32) (w : Wd) (r : Nat) (w1 : Wd) (hF : FX0_lambda_mirrored_7 N g fl x0 x1 x2 x3 w = some (r, w1)) : kMt l g yX0_lambda_mirrored_7 (ws_ yX0_lambda_mirrored_7 cX0_lambda_mirrored_7 4 (some (.object "CardLoom$Turning"))) (fr0 + 1) (lo0 + 100) w [.ref x0, .int x1, .int x2, .int x3] (some (.ref r)) w1 := by
  refine kMt.ofV (lv := [some (.ref x0), some (.int x1), some (.int x2), some (.int x3)]) (by decide) rfl (Nat.le_of_ble_eq_true rfl) rfl ?_
  intro X hl hin C
  unfold FX0_lambda_mirrored_7 at hF
  refine v_aload_n C dX0_lambda_mirrored_7_0 rfl rfl ?_
  refine v_iload_n C dX0_lambda_mirrored_7_1 rfl rfl ?_
  refine v_iconst C (v := (1 : Int32)) dX0_lambda_mirrored_7_2 (by decide) ?_
  refine v_isub C dX0_lambda_mirrored_7_3 ?_
  refine v_iload_n C dX0_lambda_mirrored_7_4 rfl rfl ?_
  refine v_isub C dX0_lambda_mirrored_7_5 ?_
  refine v_iload_n C dX0_lambda_mirrored_7_6 rfl rfl ?_
  refine v_iload_n C dX0_lambda_mirrored_7_7 rfl rfl ?_
  refine v_lawR C hX hl hfl q601 (by constructor <;> omega) (Nat.le_of_ble_eq_true rfl) dX0_lambda_mirrored_7_8 hF (fun v1 hF => ?_)
  exact c_aret C (Or.inl ⟨_, rfl⟩) dX0_lambda_mirrored_7_13 hF
set_option maxHeartbeats 4000000 in
theorem wX0_lambda_first_8 (l : Launch) (g : GT) (hX : ∀ U, gX g U → SX g U) (N : Nat) (fl : Wd → Nat → Int32 → Int32 → Int32 → Option Nat) (fr0 lo0 : Nat) (hfl : ∀ w a c p n t, fl w a c p n = some t → kLaw l g w fr0 lo0 a c p n t) (x0 : Nat) (x1 : Nat) (x2 : Int32) (x3 : Int32) (x4 : Int32) (w : Wd) (r : Nat) (w1 : Wd) (hF : FX0_lambda_first_8 N g fl x0 x1 x2 x3 x4 w = some (r, w1)) : kMt l g yX0_lambda_first_8 (ws_ yX0_lambda_first_8 cX0_lambda_first_8 6 (some (.object "CardLoom$Turning"))) (fr0 + 1) (lo0 + 100) w [.ref x0, .ref x1, .int x2, .int x3, .int x4] (some (.ref r)) w1 := by
  refine kMt.ofV (lv := [some (.ref x0), some (.ref x1), some (.int x2), some (.int x3), some (.int x4), none]) (by decide) rfl (Nat.le_of_ble_eq_true rfl) rfl ?_
  intro X hl hin C
  unfold FX0_lambda_first_8 at hF
  refine v_aload_n C dX0_lambda_first_8_0 rfl rfl ?_
  refine v_iload_n C dX0_lambda_first_8_1 rfl rfl ?_
  refine v_iload_n C dX0_lambda_first_8_2 rfl rfl ?_
  refine v_iload C dX0_lambda_first_8_3 rfl ?_
  refine v_lawR C hX hl hfl q601 (by constructor <;> omega) (Nat.le_of_ble_eq_true rfl) dX0_lambda_first_8_5 hF (fun v1 hF => ?_)
  refine v_astore C dX0_lambda_first_8_10 (Nat.le_of_ble_eq_true rfl) rfl (lv' := [some (.ref x0), some (.ref x1), some (.int x2), some (.int x3), some (.int x4), some (.ref v1)]) rfl ?_
  refine v_aload C dX0_lambda_first_8_12 rfl ?_
  refine v_gets C ((hX _ C.2.2.2.2.2.1.2.2.1).1 _ (List.mem_of_getElem? (i := 1) rfl)) q175 (Or.inl rfl) dX0_lambda_first_8_14 ?_
  refine v_acmp_ne C (rx := (some v1)) (ry := (some (gT g 0))) rfl rfl (tgt := 33) dX0_lambda_first_8_17 (by decide) hF (fun c2 hF => ?_) (fun c2 hF => ?_)
  · refine v_aload_n C dX0_lambda_first_8_20 rfl rfl ?_
    refine v_iload_n C dX0_lambda_first_8_21 rfl rfl ?_
    refine v_iload_n C dX0_lambda_first_8_22 rfl rfl ?_
    refine v_iload C dX0_lambda_first_8_23 rfl ?_
    refine v_lawR C hX hl hfl q601 (by constructor <;> omega) (Nat.le_of_ble_eq_true rfl) dX0_lambda_first_8_25 hF (fun v3 hF => ?_)
    refine v_goto C (tgt := 35) dX0_lambda_first_8_30 (by decide) ?_
    exact c_aret C (Or.inl ⟨_, rfl⟩) dX0_lambda_first_8_35 hF
  · refine v_aload C dX0_lambda_first_8_33 rfl ?_
    exact c_aret C (Or.inl ⟨_, rfl⟩) dX0_lambda_first_8_35 hF
