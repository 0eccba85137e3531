set_option maxRecDepth 100000
def FX14_quarters (N : Nat) (g : GT) (x0 : Nat) (w : Wd) : Option (Int32 × Wd) :=
  some ((0 : Int32), w)
def FX14_lean (N : Nat) (g : GT) (x0 : Nat) (x1 : Int32) (w : Wd) : Option (Int32 × Wd) :=
  some ((0 : Int32), w)
def FX7_quarters (N : Nat) (g : GT) (x0 : Nat) (w : Wd) : Option (Int32 × Wd) :=
  some ((1 : Int32), w)
def FX7_lean (N : Nat) (g : GT) (x0 : Nat) (x1 : Int32) (w : Wd) : Option (Int32 × Wd) :=
  some (((1 : Int32) + x1), w)
def FX7_other (N : Nat) (g : GT) (x0 : Nat) (w : Wd) : Option (Nat × Wd) :=
  some ((gT g 2), w)
def FX8_quarters (N : Nat) (g : GT) (x0 : Nat) (w : Wd) : Option (Int32 × Wd) :=
  some ((3 : Int32), w)
def FX8_lean (N : Nat) (g : GT) (x0 : Nat) (x1 : Int32) (w : Wd) : Option (Int32 × Wd) :=
  some (((2 : Int32) - x1), w)
def FX8_twist (N : Nat) (g : GT) (x0 : Nat) (w : Wd) : Option (Int32 × Wd) :=
  some ((-1 : Int32), w)
def FX8_other (N : Nat) (g : GT) (x0 : Nat) (w : Wd) : Option (Nat × Wd) :=
  some ((gT g 1), w)
def FX15_quarters (N : Nat) (g : GT) (x0 : Nat) (w : Wd) : Option (Int32 × Wd) :=
  some ((2 : Int32), w)
def FX15_lean (N : Nat) (g : GT) (x0 : Nat) (x1 : Int32) (w : Wd) : Option (Int32 × Wd) :=
  some ((3 : Int32), w)
def FX1_other (N : Nat) (g : GT) (x0 : Nat) (w : Wd) : Option (Nat × Wd) :=
  some (x0, w)
def FX1_at (N : Nat) (g : GT) (x0 : Int32) (w : Wd) : Option (Nat × Wd) :=
  if x0 = (1 : Int32) then (some ((gT g 1), w)) else (if x0 = (2 : Int32) then (some ((gT g 2), w)) else (if x0 = (3 : Int32) then (some ((gT g 3), w)) else (some ((gT g 0), w))))
set_option maxRecDepth 100000
set_option maxHeartbeats 4000000 in
theorem bX14_quarters (l : Launch) (g : GT) (hX : ∀ U, gX g U → SX g U) (N : Nat) (x0 : Nat) (w : Wd) (r : Int32) (w1 : Wd) (hF : FX14_quarters N g x0 w = some (r, w1)) : kBd l g yX14_quarters cX14_quarters 1 (some .int) 1 100 w [.ref x0] (some (.int r)) w1 := by
  refine ⟨by decide, (Nat.le_of_ble_eq_true rfl), [some (.ref x0)], rfl, ?_⟩
  intro X hl hin C
  unfold FX14_quarters at hF
  refine v_iconst C (v := (0 : Int32)) dX14_quarters_0 (by decide) ?_
  exact c_iret C dX14_quarters_1 hF
set_option maxHeartbeats 4000000 in
theorem bX14_lean (l : Launch) (g : GT) (hX : ∀ U, gX g U → SX g U) (N : Nat) (x0 : Nat) (x1 : Int32) (w : Wd) (r : Int32) (w1 : Wd) (hF : FX14_lean N g x0 x1 w = some (r, w1)) : kBd l g yX14_lean cX14_lean 2 (some .int) 1 100 w [.ref x0, .int x1] (some (.int r)) w1 := by
  refine ⟨by decide, (Nat.le_of_ble_eq_true rfl), [some (.ref x0), some (.int x1)], rfl, ?_⟩
  intro X hl hin C
  unfold FX14_lean at hF
  refine v_iconst C (v := (0 : Int32)) dX14_lean_0 (by decide) ?_
  exact c_iret C dX14_lean_1 hF
set_option maxHeartbeats 4000000 in
theorem bX7_quarters (l : Launch) (g : GT) (hX : ∀ U, gX g U → SX g U) (N : Nat) (x0 : Nat) (w : Wd) (r : Int32) (w1 : Wd) (hF : FX7_quarters N g x0 w = some (r, w1)) : kBd l g yX7_quarters cX7_quarters 1 (some .int) 1 100 w [.ref x0] (some (.int r)) w1 := by
  refine ⟨by decide, (Nat.le_of_ble_eq_true rfl), [some (.ref x0)], rfl, ?_⟩
  intro X hl hin C
  unfold FX7_quarters at hF
  refine v_iconst C (v := (1 : Int32)) dX7_quarters_0 (by decide) ?_
  exact c_iret C dX7_quarters_1 hF
set_option maxHeartbeats 4000000 in
theorem bX7_lean (l : Launch) (g : GT) (hX : ∀ U, gX g U → SX g U) (N : Nat) (x0 : Nat) (x1 : Int32) (w : Wd) (r : Int32) (w1 : Wd) (hF : FX7_lean N g x0 x1 w = some (r, w1)) : kBd l g yX7_lean cX7_lean 2 (some .int) 1 100 w [.ref x0, .int x1] (some (.int r)) w1 := by
  refine ⟨by decide, (Nat.le_of_ble_eq_true rfl), [some (.ref x0), some (.int x1)], rfl, ?_⟩
  intro X hl hin C
  unfold FX7_lean at hF
  refine v_iconst C (v := (1 : Int32)) dX7_lean_0 (by decide) ?_
  refine v_iload_n C dX7_lean_1 rfl rfl ?_
  refine v_iadd C dX7_lean_2 ?_
  exact c_iret C dX7_lean_3 hF
set_option maxHeartbeats 4000000 in
theorem bX7_other (l : Launch) (g : GT) (hX : ∀ U, gX g U → SX g U) (N : Nat) (x0 : Nat) (w : Wd) (r : Nat) (w1 : Wd) (hF : FX7_other N g x0 w = some (r, w1)) : kBd l g yX7_other cX7_other 1 (some (.object "CardLoom$Turning")) 1 100 w [.ref x0] (some (.ref r)) w1 := by
  refine ⟨by decide, (Nat.le_of_ble_eq_true rfl), [some (.ref x0)], rfl, ?_⟩
  intro X hl hin C
  unfold FX7_other at hF
  refine v_gets C ((hX _ C.2.2.2.2.2.1.2.2.1).1 _ (List.mem_of_getElem? (i := 3) rfl)) q649 (Or.inr q650) dX7_other_0 ?_
  exact c_aret C (Or.inl ⟨_, rfl⟩) dX7_other_3 hF
set_option maxHeartbeats 4000000 in
theorem bX8_quarters (l : Launch) (g : GT) (hX : ∀ U, gX g U → SX g U) (N : Nat) (x0 : Nat) (w : Wd) (r : Int32) (w1 : Wd) (hF : FX8_quarters N g x0 w = some (r, w1)) : kBd l g yX8_quarters cX8_quarters 1 (some .int) 1 100 w [.ref x0] (some (.int r)) w1 := by
  refine ⟨by decide, (Nat.le_of_ble_eq_true rfl), [some (.ref x0)], rfl, ?_⟩
  intro X hl hin C
  unfold FX8_quarters at hF
  refine v_iconst C (v := (3 : Int32)) dX8_quarters_0 (by decide) ?_
  exact c_iret C dX8_quarters_1 hF
set_option maxHeartbeats 4000000 in
theorem bX8_lean (l : Launch) (g : GT) (hX : ∀ U, gX g U → SX g U) (N : Nat) (x0 : Nat) (x1 : Int32) (w : Wd) (r : Int32) (w1 : Wd) (hF : FX8_lean N g x0 x1 w = some (r, w1)) : kBd l g yX8_lean cX8_lean 2 (some .int) 1 100 w [.ref x0, .int x1] (some (.int r)) w1 := by
  refine ⟨by decide, (Nat.le_of_ble_eq_true rfl), [some (.ref x0), some (.int x1)], rfl, ?_⟩
  intro X hl hin C
  unfold FX8_lean at hF
  refine v_iconst C (v := (2 : Int32)) dX8_lean_0 (by decide) ?_
  refine v_iload_n C dX8_lean_1 rfl rfl ?_
  refine v_isub C dX8_lean_2 ?_
  exact c_iret C dX8_lean_3 hF
set_option maxHeartbeats 4000000 in
theorem bX8_twist (l : Launch) (g : GT) (hX : ∀ U, gX g U → SX g U) (N : Nat) (x0 : Nat) (w : Wd) (r : Int32) (w1 : Wd) (hF : FX8_twist N g x0 w = some (r, w1)) : kBd l g yX8_twist cX8_twist 1 (some .int) 1 100 w [.ref x0] (some (.int r)) w1 := by
  refine ⟨by decide, (Nat.le_of_ble_eq_true rfl), [some (.ref x0)], rfl, ?_⟩
  intro X hl hin C
  unfold FX8_twist at hF
  refine v_iconst C (v := (-1 : Int32)) dX8_twist_0 (by decide) ?_
  exact c_iret C dX8_twist_1 hF
set_option maxHeartbeats 4000000 in
theorem bX8_other (l : Launch) (g : GT) (hX : ∀ U, gX g U → SX g U) (N : Nat) (x0 : Nat) (w : Wd) (r : Nat) (w1 : Wd) (hF : FX8_other N g x0 w = some (r, w1)) : kBd l g yX8_other cX8_other 1 (some (.object "CardLoom$Turning")) 1 100 w [.ref x0] (some (.ref r)) w1 := by
  refine ⟨by decide, (Nat.le_of_ble_eq_true rfl), [some (.ref x0)], rfl, ?_⟩
  intro X hl hin C
  unfold FX8_other at hF
  refine v_gets C ((hX _ C.2.2.2.2.2.1.2.2.1).1 _ (List.mem_of_getElem? (i := 2) rfl)) q655 (Or.inr q656) dX8_other_0 ?_
  exact c_aret C (Or.inl ⟨_, rfl⟩) dX8_other_3 hF
set_option maxHeartbeats 4000000 in
theorem bX15_quarters (l : Launch) (g : GT) (hX : ∀ U, gX g U → SX g U) (N : Nat) (x0 : Nat) (w : Wd) (r : Int32) (w1 : Wd) (hF : FX15_quarters N g x0 w = some (r, w1)) : kBd l g yX15_quarters cX15_quarters 1 (some .int) 1 100 w [.ref x0] (some (.int r)) w1 := by
  refine ⟨by decide, (Nat.le_of_ble_eq_true rfl), [some (.ref x0)], rfl, ?_⟩
  intro X hl hin C
  unfold FX15_quarters at hF
  refine v_iconst C (v := (2 : Int32)) dX15_quarters_0 (by decide) ?_
  exact c_iret C dX15_quarters_1 hF
set_option maxHeartbeats 4000000 in
theorem bX15_lean (l : Launch) (g : GT) (hX : ∀ U, gX g U → SX g U) (N : Nat) (x0 : Nat) (x1 : Int32) (w : Wd) (r : Int32) (w1 : Wd) (hF : FX15_lean N g x0 x1 w = some (r, w1)) : kBd l g yX15_lean cX15_lean 2 (some .int) 1 100 w [.ref x0, .int x1] (some (.int r)) w1 := by
  refine ⟨by decide, (Nat.le_of_ble_eq_true rfl), [some (.ref x0), some (.int x1)], rfl, ?_⟩
  intro X hl hin C
  unfold FX15_lean at hF
  refine v_iconst C (v := (3 : Int32)) dX15_lean_0 (by decide) ?_
  exact c_iret C dX15_lean_1 hF
set_option maxHeartbeats 4000000 in
theorem bX1_other (l : Launch) (g : GT) (hX : ∀ U, gX g U → SX g U) (N : Nat) (x0 : Nat) (w : Wd) (r : Nat) (w1 : Wd) (hF : FX1_other N g x0 w = some (r, w1)) : kBd l g yX1_other cX1_other 1 (some (.object "CardLoom$Turning")) 1 100 w [.ref x0] (some (.ref r)) w1 := by
  refine ⟨by decide, (Nat.le_of_ble_eq_true rfl), [some (.ref x0)], rfl, ?_⟩
  intro X hl hin C
  unfold FX1_other at hF
  refine v_aload_n C dX1_other_0 rfl rfl ?_
  exact c_aret C (Or.inl ⟨_, rfl⟩) dX1_other_1 hF
set_option maxHeartbeats 4000000 in
theorem wX1_at (l : Launch) (g : GT) (hX : ∀ U, gX g U → SX g U) (N : Nat) (x0 : Int32) (w : Wd) (r : Nat) (w1 : Wd) (hF : FX1_at N g x0 w = some (r, w1)) : kMt l g yX1_at (ws_ yX1_at cX1_at 1 (some (.object "CardLoom$Turning"))) 1 100 w [.int x0] (some (.ref r)) w1 := by
  refine kMt.ofV (lv := [some (.int x0)]) (by decide) rfl (Nat.le_of_ble_eq_true rfl) rfl ?_
  intro X hl hin C
  unfold FX1_at at hF
  refine v_iload_n C dX1_at_0 rfl rfl ?_
  rcases k_cases hF with ⟨c1, hF⟩ | ⟨c1, hF⟩
  · refine v_tswIn C (1 : Int32) c1 dX1_at_1 (by decide) (by decide) (off := 27) rfl (tgt := 28) (by decide) ?_
    refine v_gets C ((hX _ C.2.2.2.2.2.1.2.2.1).1 _ (List.mem_of_getElem? (i := 2) rfl)) q668 (Or.inl rfl) dX1_at_28 ?_
    exact c_aret C (Or.inl ⟨_, rfl⟩) dX1_at_31 hF
  · rcases k_cases hF with ⟨c2, hF⟩ | ⟨c2, hF⟩
    · refine v_tswIn C (2 : Int32) c2 dX1_at_1 (by decide) (by decide) (off := 31) rfl (tgt := 32) (by decide) ?_
      refine v_gets C ((hX _ C.2.2.2.2.2.1.2.2.1).1 _ (List.mem_of_getElem? (i := 3) rfl)) q669 (Or.inl rfl) dX1_at_32 ?_
      exact c_aret C (Or.inl ⟨_, rfl⟩) dX1_at_35 hF
    · rcases k_cases hF with ⟨c3, hF⟩ | ⟨c3, hF⟩
      · refine v_tswIn C (3 : Int32) c3 dX1_at_1 (by decide) (by decide) (off := 35) rfl (tgt := 36) (by decide) ?_
        refine v_gets C ((hX _ C.2.2.2.2.2.1.2.2.1).1 _ (List.mem_of_getElem? (i := 4) rfl)) q670 (Or.inl rfl) dX1_at_36 ?_
        exact c_aret C (Or.inl ⟨_, rfl⟩) dX1_at_39 hF
      · refine v_tswOut C [(1 : Int32), (2 : Int32), (3 : Int32)] (List.forall_mem_cons.mpr ⟨c1, List.forall_mem_cons.mpr ⟨c2, List.forall_mem_cons.mpr ⟨c3, fun _ h => absurd h List.not_mem_nil⟩⟩⟩) dX1_at_1 (by decide +kernel) (by decide) (tgt := 40) (by decide) ?_
        refine v_gets C ((hX _ C.2.2.2.2.2.1.2.2.1).1 _ (List.mem_of_getElem? (i := 1) rfl)) q672 (Or.inl rfl) dX1_at_40 ?_
        exact c_aret C (Or.inl ⟨_, rfl⟩) dX1_at_43 hF
