set_option maxRecDepth 100000
set_option maxHeartbeats 4000000 in
theorem wX4_readWithin (l : Launch) (g : GT) (hX : ∀ U, gX g U → SX g U) (N : Nat) (rl : Nat → Int32 → Wd → Option ((Nat ⊕ Nat) × Wd)) (fr0 lo0 : Nat) (hrl : ∀ x0 x1 w r w1, rl x0 x1 w = some (r, w1) → kMx l g yX4_readLaw (ws_ yX4_readLaw cX4_readLaw 6 (some (.object "CardLoom$Law"))) fr0 lo0 w [.ref x0, .int x1] (kres (fun v => some (.ref v)) r) w1) (x0 : Nat) (x1 : Int32) (w : Wd) (r : (Nat ⊕ Nat)) (w1 : Wd) (hF : FX4_readWithin N g rl x0 x1 w = some (r, w1)) : kMx l g yX4_readWithin (ws_ yX4_readWithin cX4_readWithin 3 (some (.object "CardLoom$Law"))) (fr0 + 5) (lo0 + 500) w [.ref x0, .int x1] (kres (fun v => some (.ref v)) r) w1 := by
  refine kMx.ofV (lv := [some (.ref x0), some (.int x1), none]) (by decide) rfl (Nat.le_of_ble_eq_true rfl) rfl ?_
  intro X hl hin C CR0 CT0
  have CR : ∀ v, r = .inl v → kOk g X cX4_readWithin 3 RX4 (some (.object "CardLoom$Law")) (fr0 + 5) (lo0 + 500) ((fun v => some (.ref v)) v) w1 := fun v h => CR0 _ (by rw [h]; rfl)
  have CT : ∀ q, r = .inr q → kTh g X w1 q := fun q h => CT0 q (by rw [h]; rfl)
  unfold FX4_readWithin at hF
  refine v_aload_n C dX4_readWithin_0 rfl rfl ?_
  refine v_bipush C (v := (40 : Int32)) dX4_readWithin_1 (by decide) ?_
  obtain ⟨h3, hF⟩ := k_ite hF
  refine x_callV C (fun _ => none) lk_X4_39 (ci := 4) rfl h3 (fr2 := 4) (lo2 := 400) (As := [.int (40 : Int32)]) (st := []) (fun r9_ w9_ h9_ => by rw [hl]; exact wX4_must l g hX N x0 (40 : Int32) w r9_ w9_ h9_) (by constructor <;> omega) rfl rfl (Nat.le_of_ble_eq_true rfl) dX4_readWithin_3 CT hF (fun r1 u2 hF => ?_)
  show kV g X 3 u2 6 [some (.ref x0), some (.int x1), none] []
  refine v_aload_n C dX4_readWithin_6 rfl rfl ?_
  refine v_iload_n C dX4_readWithin_7 rfl rfl ?_
  refine v_iconst C (v := (1 : Int32)) dX4_readWithin_8 (by decide) ?_
  refine v_iadd C dX4_readWithin_9 ?_
  obtain ⟨h6, hF⟩ := k_ite hF
  refine x_callV C (fun v => some (.ref v)) lk_X4_42 (ci := 4) rfl h6 (fr2 := fr0) (lo2 := lo0) (As := [.int (x1 + (1 : Int32))]) (st := []) (fun r9_ w9_ h9_ => by rw [hl]; exact hrl x0 (x1 + (1 : Int32)) u2 r9_ w9_ h9_) (by constructor <;> omega) rfl rfl (Nat.le_of_ble_eq_true rfl) dX4_readWithin_10 CT hF (fun r4 u5 hF => ?_)
  show kV g X 3 u5 13 [some (.ref x0), some (.int x1), none] [.ref r4]
  refine v_astore_n C dX4_readWithin_13 rfl (Nat.le_of_ble_eq_true rfl) rfl (lv' := [some (.ref x0), some (.int x1), some (.ref r4)]) rfl ?_
  refine v_aload_n C dX4_readWithin_14 rfl rfl ?_
  refine v_bipush C (v := (41 : Int32)) dX4_readWithin_15 (by decide) ?_
  obtain ⟨h9, hF⟩ := k_ite hF
  refine x_callV C (fun _ => none) lk_X4_39 (ci := 4) rfl h9 (fr2 := 4) (lo2 := 400) (As := [.int (41 : Int32)]) (st := []) (fun r9_ w9_ h9_ => by rw [hl]; exact wX4_must l g hX N x0 (41 : Int32) u5 r9_ w9_ h9_) (by constructor <;> omega) rfl rfl (Nat.le_of_ble_eq_true rfl) dX4_readWithin_17 CT hF (fun r7 u8 hF => ?_)
  show kV g X 3 u8 20 [some (.ref x0), some (.int x1), some (.ref r4)] []
  refine v_aload_n C dX4_readWithin_20 rfl rfl ?_
  exact x_aret CR (Or.inl ⟨_, rfl⟩) dX4_readWithin_21 hF
set_option maxHeartbeats 4000000 in
theorem wX4_readTwo_b25 {l : Launch} {g : GT} {fr0 lo0 : Nat} {X : CxT} {r : (Nat ⊕ Nat)} {w1 : Wd} (C : kOk g X cX4_readTwo 6 RX4 (some (.object "CardLoom$Law")) (fr0 + 33) (lo0 + 3300) none (kBad g)) (CR : ∀ v, r = .inl v → kOk g X cX4_readTwo 6 RX4 (some (.object "CardLoom$Law")) (fr0 + 33) (lo0 + 3300) ((fun v => some (.ref v)) v) w1) (CT : ∀ q, r = .inr q → kTh g X w1 q) (hX : ∀ U, gX g U → SX g U) (hl : xl X = l) (hin : kHin X yX4_readTwo) (N : Nat) (rl : Nat → Int32 → Wd → Option ((Nat ⊕ Nat) × Wd)) (hrl : ∀ x0 x1 w r w1, rl x0 x1 w = some (r, w1) → kMx l g yX4_readLaw (ws_ yX4_readLaw cX4_readLaw 6 (some (.object "CardLoom$Law"))) fr0 lo0 w [.ref x0, .int x1] (kres (fun v => some (.ref v)) r) w1)  (x0 : Nat) (x1 : Int32) (x2 : Int32) (t0 : Int32) (w : Wd) (hF : FX4_readTwo_b25 N g rl  x0 x1 x2 t0 w = some (r, w1)) : kV g X 6 w 25 [some (.ref x0), some (.int x1), some (.int x2), none, none, none] [.int t0] := by
  unfold FX4_readTwo_b25 at hF
  refine v_istore_n C dX4_readTwo_25 rfl (Nat.le_of_ble_eq_true rfl) rfl (lv' := [some (.ref x0), some (.int x1), some (.int x2), some (.int t0), none, none]) rfl ?_
  refine v_aload_n C dX4_readTwo_26 rfl rfl ?_
  refine v_bipush C (v := (40 : Int32)) dX4_readTwo_27 (by decide) ?_
  obtain ⟨h4, hF⟩ := k_ite hF
  refine x_callV C (fun _ => none) lk_X4_39 (ci := 4) rfl h4 (fr2 := 4) (lo2 := 400) (As := [.int (40 : Int32)]) (st := []) (fun r9_ w9_ h9_ => by rw [hl]; exact wX4_must l g hX N x0 (40 : Int32) w r9_ w9_ h9_) (by constructor <;> omega) rfl rfl (Nat.le_of_ble_eq_true rfl) dX4_readTwo_29 CT hF (fun r2 u3 hF => ?_)
  show kV g X 6 u3 32 [some (.ref x0), some (.int x1), some (.int x2), some (.int t0), none, none] []
  refine v_aload_n C dX4_readTwo_32 rfl rfl ?_
  refine v_iload_n C dX4_readTwo_33 rfl rfl ?_
  refine v_iconst C (v := (1 : Int32)) dX4_readTwo_34 (by decide) ?_
  refine v_iadd C dX4_readTwo_35 ?_
  obtain ⟨h7, hF⟩ := k_ite hF
  refine x_callV C (fun v => some (.ref v)) lk_X4_42 (ci := 4) rfl h7 (fr2 := fr0) (lo2 := lo0) (As := [.int (x2 + (1 : Int32))]) (st := []) (fun r9_ w9_ h9_ => by rw [hl]; exact hrl x0 (x2 + (1 : Int32)) u3 r9_ w9_ h9_) (by constructor <;> omega) rfl rfl (Nat.le_of_ble_eq_true rfl) dX4_readTwo_36 CT hF (fun r5 u6 hF => ?_)
  show kV g X 6 u6 39 [some (.ref x0), some (.int x1), some (.int x2), some (.int t0), none, none] [.ref r5]
  refine v_astore C dX4_readTwo_39 (Nat.le_of_ble_eq_true rfl) rfl (lv' := [some (.ref x0), some (.int x1), some (.int x2), some (.int t0), some (.ref r5), none]) rfl ?_
  refine v_aload_n C dX4_readTwo_41 rfl rfl ?_
  refine v_bipush C (v := (44 : Int32)) dX4_readTwo_42 (by decide) ?_
  obtain ⟨h10, hF⟩ := k_ite hF
  refine x_callV C (fun _ => none) lk_X4_39 (ci := 4) rfl h10 (fr2 := 4) (lo2 := 400) (As := [.int (44 : Int32)]) (st := []) (fun r9_ w9_ h9_ => by rw [hl]; exact wX4_must l g hX N x0 (44 : Int32) u6 r9_ w9_ h9_) (by constructor <;> omega) rfl rfl (Nat.le_of_ble_eq_true rfl) dX4_readTwo_44 CT hF (fun r8 u9 hF => ?_)
  show kV g X 6 u9 47 [some (.ref x0), some (.int x1), some (.int x2), some (.int t0), some (.ref r5), none] []
  refine v_aload_n C dX4_readTwo_47 rfl rfl ?_
  refine v_iload_n C dX4_readTwo_48 rfl rfl ?_
  refine v_iconst C (v := (1 : Int32)) dX4_readTwo_49 (by decide) ?_
  refine v_iadd C dX4_readTwo_50 ?_
  obtain ⟨h13, hF⟩ := k_ite hF
  refine x_callV C (fun v => some (.ref v)) lk_X4_42 (ci := 4) rfl h13 (fr2 := fr0) (lo2 := lo0) (As := [.int (x2 + (1 : Int32))]) (st := []) (fun r9_ w9_ h9_ => by rw [hl]; exact hrl x0 (x2 + (1 : Int32)) u9 r9_ w9_ h9_) (by constructor <;> omega) rfl rfl (Nat.le_of_ble_eq_true rfl) dX4_readTwo_51 CT hF (fun r11 u12 hF => ?_)
  show kV g X 6 u12 54 [some (.ref x0), some (.int x1), some (.int x2), some (.int t0), some (.ref r5), none] [.ref r11]
  refine v_astore C dX4_readTwo_54 (Nat.le_of_ble_eq_true rfl) rfl (lv' := [some (.ref x0), some (.int x1), some (.int x2), some (.int t0), some (.ref r5), some (.ref r11)]) rfl ?_
  refine v_aload_n C dX4_readTwo_56 rfl rfl ?_
  refine v_bipush C (v := (41 : Int32)) dX4_readTwo_57 (by decide) ?_
  obtain ⟨h16, hF⟩ := k_ite hF
  refine x_callV C (fun _ => none) lk_X4_39 (ci := 4) rfl h16 (fr2 := 4) (lo2 := 400) (As := [.int (41 : Int32)]) (st := []) (fun r9_ w9_ h9_ => by rw [hl]; exact wX4_must l g hX N x0 (41 : Int32) u12 r9_ w9_ h9_) (by constructor <;> omega) rfl rfl (Nat.le_of_ble_eq_true rfl) dX4_readTwo_59 CT hF (fun r14 u15 hF => ?_)
  show kV g X 6 u15 62 [some (.ref x0), some (.int x1), some (.int x2), some (.int t0), some (.ref r5), some (.ref r11)] []
  refine v_iload_n C dX4_readTwo_62 rfl rfl ?_
  rcases k_cases hF with ⟨c17, hF⟩ | ⟨c17, hF⟩
  · refine v_lswIn C (99 : Int32) c17 dX4_readTwo_63 (by decide) (off := 42) (by decide) (tgt := 105) (by decide) ?_
    refine v_iload_n C dX4_readTwo_105 rfl rfl ?_
    refine v_aload C dX4_readTwo_106 rfl ?_
    refine v_aload C dX4_readTwo_108 rfl ?_
    refine c_callNr C lk_X4_54 (fr2 := 32) (lo2 := 3200) (As := [.int t0, .ref r5, .ref r11]) (st := []) (fun r9_ w9_ h9_ => by rw [hl]; exact wX0_byCards l g hX N t0 r5 r11 u15 r9_ w9_ h9_) (by constructor <;> omega) rfl rfl (Nat.le_of_ble_eq_true rfl) dX4_readTwo_110 hF (fun r18 u19 hF => ?_)
    exact x_aret CR (Or.inl ⟨_, rfl⟩) dX4_readTwo_113 hF
  · rcases k_cases hF with ⟨c20, hF⟩ | ⟨c20, hF⟩
    · refine v_lswIn C (107 : Int32) c20 dX4_readTwo_63 (by decide) (off := 33) (by decide) (tgt := 96) (by decide) ?_
      refine v_iload_n C dX4_readTwo_96 rfl rfl ?_
      refine v_aload C dX4_readTwo_97 rfl ?_
      refine v_aload C dX4_readTwo_99 rfl ?_
      refine c_callNr C lk_X4_50 (fr2 := 32) (lo2 := 3200) (As := [.int t0, .ref r5, .ref r11]) (st := []) (fun r9_ w9_ h9_ => by rw [hl]; exact wX0_inTurn l g hX N t0 r5 r11 u15 r9_ w9_ h9_) (by constructor <;> omega) rfl rfl (Nat.le_of_ble_eq_true rfl) dX4_readTwo_101 hF (fun r21 u22 hF => ?_)
      exact x_aret CR (Or.inl ⟨_, rfl⟩) dX4_readTwo_104 hF
    · rcases k_cases hF with ⟨c23, hF⟩ | ⟨c23, hF⟩
      · refine v_lswIn C (120 : Int32) c23 dX4_readTwo_63 (by decide) (off := 51) (by decide) (tgt := 114) (by decide) ?_
        refine v_iload_n C dX4_readTwo_114 rfl rfl ?_
        refine v_aload C dX4_readTwo_115 rfl ?_
        refine v_aload C dX4_readTwo_117 rfl ?_
        refine c_callNr C lk_X4_57 (fr2 := 32) (lo2 := 3200) (As := [.int t0, .ref r5, .ref r11]) (st := []) (fun r9_ w9_ h9_ => by rw [hl]; exact wX0_eachOf l g hX N t0 r5 r11 u15 r9_ w9_ h9_) (by constructor <;> omega) rfl rfl (Nat.le_of_ble_eq_true rfl) dX4_readTwo_119 hF (fun r24 u25 hF => ?_)
        exact x_aret CR (Or.inl ⟨_, rfl⟩) dX4_readTwo_122 hF
      · refine v_lswOut C [(99 : Int32), (107 : Int32), (120 : Int32)] (List.forall_mem_cons.mpr ⟨c17, List.forall_mem_cons.mpr ⟨c20, List.forall_mem_cons.mpr ⟨c23, fun _ h => absurd h List.not_mem_nil⟩⟩⟩) dX4_readTwo_63 (by decide) (by decide) (tgt := 123) (by decide) ?_
        refine v_aload C dX4_readTwo_123 rfl ?_
        refine v_aload C dX4_readTwo_125 rfl ?_
        refine c_callNr C lk_X4_60 (fr2 := 32) (lo2 := 3200) (As := [.ref r5, .ref r11]) (st := []) (fun r9_ w9_ h9_ => by rw [hl]; exact wX0_first l g hX N r5 r11 u15 r9_ w9_ h9_) (by constructor <;> omega) rfl rfl (Nat.le_of_ble_eq_true rfl) dX4_readTwo_127 hF (fun r26 u27 hF => ?_)
        exact x_aret CR (Or.inl ⟨_, rfl⟩) dX4_readTwo_130 hF
set_option maxHeartbeats 4000000 in
theorem wX4_readTwo_b22 {l : Launch} {g : GT} {fr0 lo0 : Nat} {X : CxT} {r : (Nat ⊕ Nat)} {w1 : Wd} (C : kOk g X cX4_readTwo 6 RX4 (some (.object "CardLoom$Law")) (fr0 + 33) (lo0 + 3300) none (kBad g)) (CR : ∀ v, r = .inl v → kOk g X cX4_readTwo 6 RX4 (some (.object "CardLoom$Law")) (fr0 + 33) (lo0 + 3300) ((fun v => some (.ref v)) v) w1) (CT : ∀ q, r = .inr q → kTh g X w1 q) (hX : ∀ U, gX g U → SX g U) (hl : xl X = l) (hin : kHin X yX4_readTwo) (N : Nat) (rl : Nat → Int32 → Wd → Option ((Nat ⊕ Nat) × Wd)) (hrl : ∀ x0 x1 w r w1, rl x0 x1 w = some (r, w1) → kMx l g yX4_readLaw (ws_ yX4_readLaw cX4_readLaw 6 (some (.object "CardLoom$Law"))) fr0 lo0 w [.ref x0, .int x1] (kres (fun v => some (.ref v)) r) w1)  (x0 : Nat) (x1 : Int32) (x2 : Int32) (t0 : Int32) (t1 : Nat) (w : Wd) (hF : FX4_readTwo_b22 N g rl  x0 x1 x2 t0 t1 w = some (r, w1)) : kV g X 6 w 22 [some (.ref x0), some (.int x1), some (.int x2), none, none, none] [.int t0, .ref t1] := by
  unfold FX4_readTwo_b22 at hF
  obtain ⟨h31, hF⟩ := k_ite hF
  refine x_callV C (fun v => some (.int v)) lk_X4_46 (ci := 4) rfl h31 (fr2 := 4) (lo2 := 400) (As := [.int t0]) (st := []) (fun r9_ w9_ h9_ => by rw [hl]; exact wX4_number l g hX N t1 t0 w r9_ w9_ h9_) (by constructor <;> omega) rfl rfl (Nat.le_of_ble_eq_true rfl) dX4_readTwo_22 CT hF (fun r29 u30 hF => ?_)
  show kV g X 6 u30 25 [some (.ref x0), some (.int x1), some (.int x2), none, none, none] [.int r29]
  refine v_mask [true, true, true, false, false, false] (lv' := [some (.ref x0), some (.int x1), some (.int x2), none, none, none]) rfl ?_
  exact wX4_readTwo_b25 C CR CT hX hl hin N rl hrl (x0) (x1) (x2) (r29) u30 hF
set_option maxHeartbeats 4000000 in
theorem wX4_readTwo (l : Launch) (g : GT) (hX : ∀ U, gX g U → SX g U) (N : Nat) (rl : Nat → Int32 → Wd → Option ((Nat ⊕ Nat) × Wd)) (fr0 lo0 : Nat) (hrl : ∀ x0 x1 w r w1, rl x0 x1 w = some (r, w1) → kMx l g yX4_readLaw (ws_ yX4_readLaw cX4_readLaw 6 (some (.object "CardLoom$Law"))) fr0 lo0 w [.ref x0, .int x1] (kres (fun v => some (.ref v)) r) w1) (x0 : Nat) (x1 : Int32) (x2 : Int32) (w : Wd) (r : (Nat ⊕ Nat)) (w1 : Wd) (hF : FX4_readTwo N g rl x0 x1 x2 w = some (r, w1)) : kMx l g yX4_readTwo (ws_ yX4_readTwo cX4_readTwo 6 (some (.object "CardLoom$Law"))) (fr0 + 33) (lo0 + 3300) w [.ref x0, .int x1, .int x2] (kres (fun v => some (.ref v)) r) w1 := by
  refine kMx.ofV (lv := [some (.ref x0), some (.int x1), some (.int x2), none, none, none]) (by decide) rfl (Nat.le_of_ble_eq_true rfl) rfl ?_
  intro X hl hin C CR0 CT0
  have CR : ∀ v, r = .inl v → kOk g X cX4_readTwo 6 RX4 (some (.object "CardLoom$Law")) (fr0 + 33) (lo0 + 3300) ((fun v => some (.ref v)) v) w1 := fun v h => CR0 _ (by rw [h]; rfl)
  have CT : ∀ q, r = .inr q → kTh g X w1 q := fun q h => CT0 q (by rw [h]; rfl)
  unfold FX4_readTwo at hF
  refine v_iload_n C dX4_readTwo_0 rfl rfl ?_
  refine v_bipush C (v := (116 : Int32)) dX4_readTwo_1 (by decide) ?_
  refine v_icmp_ne C (tgt := 10) dX4_readTwo_3 (by decide) hF (fun c1 hF => ?_) (fun c1 hF => ?_)
  · refine v_iconst C (v := (0 : Int32)) dX4_readTwo_6 (by decide) ?_
    refine v_goto C (tgt := 25) dX4_readTwo_7 (by decide) ?_
    refine v_mask [true, true, true, false, false, false] (lv' := [some (.ref x0), some (.int x1), some (.int x2), none, none, none]) rfl ?_
    exact wX4_readTwo_b25 C CR CT hX hl hin N rl hrl (x0) (x1) (x2) ((0 : Int32)) w hF
  · refine v_aload_n C dX4_readTwo_10 rfl rfl ?_
    refine v_iload_n C dX4_readTwo_11 rfl rfl ?_
    refine v_bipush C (v := (99 : Int32)) dX4_readTwo_12 (by decide) ?_
    refine v_icmp_ne C (tgt := 21) dX4_readTwo_14 (by decide) hF (fun c28 hF => ?_) (fun c28 hF => ?_)
    · refine v_iconst C (v := (0 : Int32)) dX4_readTwo_17 (by decide) ?_
      refine v_goto C (tgt := 22) dX4_readTwo_18 (by decide) ?_
      refine v_mask [true, true, true, false, false, false] (lv' := [some (.ref x0), some (.int x1), some (.int x2), none, none, none]) rfl ?_
      exact wX4_readTwo_b22 C CR CT hX hl hin N rl hrl (x0) (x1) (x2) ((0 : Int32)) (x0) w hF
    · refine v_iconst C (v := (1 : Int32)) dX4_readTwo_21 (by decide) ?_
      refine v_mask [true, true, true, false, false, false] (lv' := [some (.ref x0), some (.int x1), some (.int x2), none, none, none]) rfl ?_
      exact wX4_readTwo_b22 C CR CT hX hl hin N rl hrl (x0) (x1) (x2) ((1 : Int32)) (x0) w hF
set_option maxHeartbeats 4000000 in
theorem wX4_readOne_b15 {l : Launch} {g : GT} {fr0 lo0 : Nat} {X : CxT} {r : (Nat ⊕ Nat)} {w1 : Wd} (C : kOk g X cX4_readOne 5 RX4 (some (.object "CardLoom$Law")) (fr0 + 33) (lo0 + 3300) none (kBad g)) (CR : ∀ v, r = .inl v → kOk g X cX4_readOne 5 RX4 (some (.object "CardLoom$Law")) (fr0 + 33) (lo0 + 3300) ((fun v => some (.ref v)) v) w1) (CT : ∀ q, r = .inr q → kTh g X w1 q) (hX : ∀ U, gX g U → SX g U) (hl : xl X = l) (hin : kHin X yX4_readOne) (N : Nat) (rl : Nat → Int32 → Wd → Option ((Nat ⊕ Nat) × Wd)) (hrl : ∀ x0 x1 w r w1, rl x0 x1 w = some (r, w1) → kMx l g yX4_readLaw (ws_ yX4_readLaw cX4_readLaw 6 (some (.object "CardLoom$Law"))) fr0 lo0 w [.ref x0, .int x1] (kres (fun v => some (.ref v)) r) w1)  (x0 : Nat) (x1 : Int32) (x2 : Int32) (t0 : Int32) (w : Wd) (hF : FX4_readOne_b15 N g rl  x0 x1 x2 t0 w = some (r, w1)) : kV g X 5 w 15 [some (.ref x0), some (.int x1), some (.int x2), none, none] [.int t0] := by
  unfold FX4_readOne_b15 at hF
  refine v_istore_n C dX4_readOne_15 rfl (Nat.le_of_ble_eq_true rfl) rfl (lv' := [some (.ref x0), some (.int x1), some (.int x2), some (.int t0), none]) rfl ?_
  refine v_aload_n C dX4_readOne_16 rfl rfl ?_
  refine v_iload_n C dX4_readOne_17 rfl rfl ?_
  obtain ⟨h7, hF⟩ := k_ite hF
  refine x_callV C (fun v => some (.ref v)) lk_X4_64 (ci := 4) rfl h7 (fr2 := fr0 + 5) (lo2 := lo0 + 500) (As := [.int x2]) (st := []) (fun r9_ w9_ h9_ => by rw [hl]; exact wX4_readWithin l g hX N rl fr0 lo0 hrl x0 x2 w r9_ w9_ h9_) (by constructor <;> omega) rfl rfl (Nat.le_of_ble_eq_true rfl) dX4_readOne_18 CT hF (fun r5 u6 hF => ?_)
  show kV g X 5 u6 21 [some (.ref x0), some (.int x1), some (.int x2), some (.int t0), none] [.ref r5]
  refine v_astore C dX4_readOne_21 (Nat.le_of_ble_eq_true rfl) rfl (lv' := [some (.ref x0), some (.int x1), some (.int x2), some (.int t0), some (.ref r5)]) rfl ?_
  refine v_iload_n C dX4_readOne_23 rfl rfl ?_
  rcases k_cases hF with ⟨c8, hF⟩ | ⟨c8, hF⟩
  · refine v_lswIn C (100 : Int32) c8 dX4_readOne_24 (by decide) (off := 43) (by decide) (tgt := 67) (by decide) ?_
    refine v_aload C dX4_readOne_67 rfl ?_
    refine c_callNr C lk_X4_71 (fr2 := 32) (lo2 := 3200) (As := [.ref r5]) (st := []) (fun r9_ w9_ h9_ => by rw [hl]; exact wX0_slanting l g hX N r5 u6 r9_ w9_ h9_) (by constructor <;> omega) rfl rfl (Nat.le_of_ble_eq_true rfl) dX4_readOne_69 hF (fun r9 u10 hF => ?_)
    exact x_aret CR (Or.inl ⟨_, rfl⟩) dX4_readOne_72 hF
  · rcases k_cases hF with ⟨c11, hF⟩ | ⟨c11, hF⟩
    · refine v_lswIn C (114 : Int32) c11 dX4_readOne_24 (by decide) (off := 49) (by decide) (tgt := 73) (by decide) ?_
      refine v_aload C dX4_readOne_73 rfl ?_
      refine c_callNr C lk_X4_75 (fr2 := 32) (lo2 := 3200) (As := [.ref r5]) (st := []) (fun r9_ w9_ h9_ => by rw [hl]; exact wX0_reversed l g hX N r5 u6 r9_ w9_ h9_) (by constructor <;> omega) rfl rfl (Nat.le_of_ble_eq_true rfl) dX4_readOne_75 hF (fun r12 u13 hF => ?_)
      exact x_aret CR (Or.inl ⟨_, rfl⟩) dX4_readOne_78 hF
    · rcases k_cases hF with ⟨c14, hF⟩ | ⟨c14, hF⟩
      · refine v_lswIn C (115 : Int32) c14 dX4_readOne_24 (by decide) (off := 36) (by decide) (tgt := 60) (by decide) ?_
        refine v_iload_n C dX4_readOne_60 rfl rfl ?_
        refine v_aload C dX4_readOne_61 rfl ?_
        refine c_callNr C lk_X4_67 (fr2 := 32) (lo2 := 3200) (As := [.int t0, .ref r5]) (st := []) (fun r9_ w9_ h9_ => by rw [hl]; exact wX0_later l g hX N t0 r5 u6 r9_ w9_ h9_) (by constructor <;> omega) rfl rfl (Nat.le_of_ble_eq_true rfl) dX4_readOne_63 hF (fun r15 u16 hF => ?_)
        exact x_aret CR (Or.inl ⟨_, rfl⟩) dX4_readOne_66 hF
      · refine v_lswOut C [(100 : Int32), (114 : Int32), (115 : Int32)] (List.forall_mem_cons.mpr ⟨c8, List.forall_mem_cons.mpr ⟨c11, List.forall_mem_cons.mpr ⟨c14, fun _ h => absurd h List.not_mem_nil⟩⟩⟩) dX4_readOne_24 (by decide) (by decide) (tgt := 79) (by decide) ?_
        refine v_aload C dX4_readOne_79 rfl ?_
        refine c_callNr C lk_X4_78 (fr2 := 32) (lo2 := 3200) (As := [.ref r5]) (st := []) (fun r9_ w9_ h9_ => by rw [hl]; exact wX0_mirrored l g hX N r5 u6 r9_ w9_ h9_) (by constructor <;> omega) rfl rfl (Nat.le_of_ble_eq_true rfl) dX4_readOne_81 hF (fun r17 u18 hF => ?_)
        exact x_aret CR (Or.inl ⟨_, rfl⟩) dX4_readOne_84 hF
set_option maxHeartbeats 4000000 in
theorem wX4_readOne (l : Launch) (g : GT) (hX : ∀ U, gX g U → SX g U) (N : Nat) (rl : Nat → Int32 → Wd → Option ((Nat ⊕ Nat) × Wd)) (fr0 lo0 : Nat) (hrl : ∀ x0 x1 w r w1, rl x0 x1 w = some (r, w1) → kMx l g yX4_readLaw (ws_ yX4_readLaw cX4_readLaw 6 (some (.object "CardLoom$Law"))) fr0 lo0 w [.ref x0, .int x1] (kres (fun v => some (.ref v)) r) w1) (x0 : Nat) (x1 : Int32) (x2 : Int32) (w : Wd) (r : (Nat ⊕ Nat)) (w1 : Wd) (hF : FX4_readOne N g rl x0 x1 x2 w = some (r, w1)) : kMx l g yX4_readOne (ws_ yX4_readOne cX4_readOne 5 (some (.object "CardLoom$Law"))) (fr0 + 33) (lo0 + 3300) w [.ref x0, .int x1, .int x2] (kres (fun v => some (.ref v)) r) w1 := by
  refine kMx.ofV (lv := [some (.ref x0), some (.int x1), some (.int x2), none, none]) (by decide) rfl (Nat.le_of_ble_eq_true rfl) rfl ?_
  intro X hl hin C CR0 CT0
  have CR : ∀ v, r = .inl v → kOk g X cX4_readOne 5 RX4 (some (.object "CardLoom$Law")) (fr0 + 33) (lo0 + 3300) ((fun v => some (.ref v)) v) w1 := fun v h => CR0 _ (by rw [h]; rfl)
  have CT : ∀ q, r = .inr q → kTh g X w1 q := fun q h => CT0 q (by rw [h]; rfl)
  unfold FX4_readOne at hF
  refine v_iload_n C dX4_readOne_0 rfl rfl ?_
  refine v_bipush C (v := (115 : Int32)) dX4_readOne_1 (by decide) ?_
  refine v_icmp_ne C (tgt := 14) dX4_readOne_3 (by decide) hF (fun c1 hF => ?_) (fun c1 hF => ?_)
  · refine v_aload_n C dX4_readOne_6 rfl rfl ?_
    refine v_iconst C (v := (0 : Int32)) dX4_readOne_7 (by decide) ?_
    obtain ⟨h4, hF⟩ := k_ite hF
    refine x_callV C (fun v => some (.int v)) lk_X4_46 (ci := 4) rfl h4 (fr2 := 4) (lo2 := 400) (As := [.int (0 : Int32)]) (st := []) (fun r9_ w9_ h9_ => by rw [hl]; exact wX4_number l g hX N x0 (0 : Int32) w r9_ w9_ h9_) (by constructor <;> omega) rfl rfl (Nat.le_of_ble_eq_true rfl) dX4_readOne_8 CT hF (fun r2 u3 hF => ?_)
    show kV g X 5 u3 11 [some (.ref x0), some (.int x1), some (.int x2), none, none] [.int r2]
    refine v_goto C (tgt := 15) dX4_readOne_11 (by decide) ?_
    refine v_mask [true, true, true, false, false] (lv' := [some (.ref x0), some (.int x1), some (.int x2), none, none]) rfl ?_
    exact wX4_readOne_b15 C CR CT hX hl hin N rl hrl (x0) (x1) (x2) (r2) u3 hF
  · refine v_iconst C (v := (0 : Int32)) dX4_readOne_14 (by decide) ?_
    refine v_mask [true, true, true, false, false] (lv' := [some (.ref x0), some (.int x1), some (.int x2), none, none]) rfl ?_
    exact wX4_readOne_b15 C CR CT hX hl hin N rl hrl (x0) (x1) (x2) ((0 : Int32)) w hF
set_option maxHeartbeats 4000000 in
theorem wX4_readLawB_b106 {l : Launch} {g : GT} {fr0 lo0 : Nat} {X : CxT} {r : (Nat ⊕ Nat)} {w1 : Wd} (C : kOk g X cX4_readLaw 6 RX4 (some (.object "CardLoom$Law")) (fr0 + 34) (lo0 + 3400) none (kBad g)) (CR : ∀ v, r = .inl v → kOk g X cX4_readLaw 6 RX4 (some (.object "CardLoom$Law")) (fr0 + 34) (lo0 + 3400) ((fun v => some (.ref v)) v) w1) (CT : ∀ q, r = .inr q → kTh g X w1 q) (hX : ∀ U, gX g U → SX g U) (hl : xl X = l) (hin : kHin X yX4_readLaw) (N : Nat) (rl : Nat → Int32 → Wd → Option ((Nat ⊕ Nat) × Wd)) (hrl : ∀ x0 x1 w r w1, rl x0 x1 w = some (r, w1) → kMx l g yX4_readLaw (ws_ yX4_readLaw cX4_readLaw 6 (some (.object "CardLoom$Law"))) fr0 lo0 w [.ref x0, .int x1] (kres (fun v => some (.ref v)) r) w1)  (x0 : Nat) (x1 : Int32) (x2 : Int32) (x3 : Int32) (x4 : Int32) (w : Wd) (hF : FX4_readLawB_b106 N g rl  x0 x1 x2 x3 x4 w = some (r, w1)) : kV g X 6 w 106 [some (.ref x0), some (.int x1), some (.int x2), some (.int x3), some (.int x4), none] [] := by
  unfold FX4_readLawB_b106 at hF
  refine v_aload_n C dX4_readLaw_106 rfl rfl ?_
  refine v_dup C dX4_readLaw_107 rfl ?_
  refine v_getI C kc_X4 0 (Nat.le_of_ble_eq_true rfl) (kFl.p q267) dX4_readLaw_108 hF (fun v10 hF => ?_)
  refine v_iconst C (v := (1 : Int32)) dX4_readLaw_111 (by decide) ?_
  refine v_iadd C dX4_readLaw_112 ?_
  refine v_putW C kc_X4 0 (Nat.le_of_ble_eq_true rfl) (kFl.p q267) rfl rfl rfl dX4_readLaw_113 hF (fun u11 hF => ?_)
  refine v_iload_n C dX4_readLaw_116 rfl rfl ?_
  refine v_if_ge C (tgt := 141) dX4_readLaw_117 (by decide) hF (fun c12 hF => ?_) (fun c12 hF => ?_)
  · refine v_aload_n C dX4_readLaw_141 rfl rfl ?_
    refine v_dup C dX4_readLaw_142 rfl ?_
    refine v_getI C kc_X4 1 (Nat.le_of_ble_eq_true rfl) (kFl.p q268) dX4_readLaw_143 hF (fun v13 hF => ?_)
    refine v_iconst C (v := (1 : Int32)) dX4_readLaw_146 (by decide) ?_
    refine v_iadd C dX4_readLaw_147 ?_
    refine v_putW C kc_X4 1 (Nat.le_of_ble_eq_true rfl) (kFl.p q268) rfl rfl rfl dX4_readLaw_148 hF (fun u14 hF => ?_)
    refine v_iload_n C dX4_readLaw_151 rfl rfl ?_
    refine c_callSr C lk_X4_98 (fr2 := 1) (lo2 := 100) (As := [.int x3]) (st := []) (fun r9_ w9_ h9_ => by rw [hl]; exact wX1_at l g hX N x3 u14 r9_ w9_ h9_) (by constructor <;> omega) rfl rfl (Nat.le_of_ble_eq_true rfl) dX4_readLaw_152 hF (fun r15 u16 hF => ?_)
    refine c_callNr C lk_X4_103 (fr2 := 32) (lo2 := 3200) (As := [.ref r15]) (st := []) (fun r9_ w9_ h9_ => by rw [hl]; exact wX0_always l g hX N r15 u16 r9_ w9_ h9_) (by constructor <;> omega) rfl rfl (Nat.le_of_ble_eq_true rfl) dX4_readLaw_155 hF (fun r17 u18 hF => ?_)
    exact x_aret CR (Or.inl ⟨_, rfl⟩) dX4_readLaw_158 hF
  · refine v_iload C dX4_readLaw_120 rfl ?_
    refine v_if_eq C (tgt := 134) dX4_readLaw_122 (by decide) hF (fun c19 hF => ?_) (fun c19 hF => ?_)
    · refine v_aload_n C dX4_readLaw_134 rfl rfl ?_
      refine v_iload_n C dX4_readLaw_135 rfl rfl ?_
      refine v_iload_n C dX4_readLaw_136 rfl rfl ?_
      obtain ⟨h22, hF⟩ := k_ite hF
      refine x_callV C (fun v => some (.ref v)) lk_X4_92 (ci := 4) rfl h22 (fr2 := fr0 + 33) (lo2 := lo0 + 3300) (As := [.int x2, .int x1]) (st := []) (fun r9_ w9_ h9_ => by rw [hl]; exact wX4_readOne l g hX N rl fr0 lo0 hrl x0 x2 x1 u11 r9_ w9_ h9_) (by constructor <;> omega) rfl rfl (Nat.le_of_ble_eq_true rfl) dX4_readLaw_137 CT hF (fun r20 u21 hF => ?_)
      show kV g X 6 u21 140 [some (.ref x0), some (.int x1), some (.int x2), some (.int x3), some (.int x4), none] [.ref r20]
      exact x_aret CR (Or.inl ⟨_, rfl⟩) dX4_readLaw_140 hF
    · refine v_aload_n C dX4_readLaw_125 rfl rfl ?_
      refine v_iload_n C dX4_readLaw_126 rfl rfl ?_
      refine v_iload_n C dX4_readLaw_127 rfl rfl ?_
      obtain ⟨h25, hF⟩ := k_ite hF
      refine x_callV C (fun v => some (.ref v)) lk_X4_88 (ci := 4) rfl h25 (fr2 := fr0 + 33) (lo2 := lo0 + 3300) (As := [.int x2, .int x1]) (st := []) (fun r9_ w9_ h9_ => by rw [hl]; exact wX4_readTwo l g hX N rl fr0 lo0 hrl x0 x2 x1 u11 r9_ w9_ h9_) (by constructor <;> omega) rfl rfl (Nat.le_of_ble_eq_true rfl) dX4_readLaw_128 CT hF (fun r23 u24 hF => ?_)
      show kV g X 6 u24 131 [some (.ref x0), some (.int x1), some (.int x2), some (.int x3), some (.int x4), none] [.ref r23]
      refine v_goto C (tgt := 140) dX4_readLaw_131 (by decide) ?_
      exact x_aret CR (Or.inl ⟨_, rfl⟩) dX4_readLaw_140 hF
set_option maxHeartbeats 4000000 in
theorem wX4_readLawB_b94 {l : Launch} {g : GT} {fr0 lo0 : Nat} {X : CxT} {r : (Nat ⊕ Nat)} {w1 : Wd} (C : kOk g X cX4_readLaw 6 RX4 (some (.object "CardLoom$Law")) (fr0 + 34) (lo0 + 3400) none (kBad g)) (CR : ∀ v, r = .inl v → kOk g X cX4_readLaw 6 RX4 (some (.object "CardLoom$Law")) (fr0 + 34) (lo0 + 3400) ((fun v => some (.ref v)) v) w1) (CT : ∀ q, r = .inr q → kTh g X w1 q) (hX : ∀ U, gX g U → SX g U) (hl : xl X = l) (hin : kHin X yX4_readLaw) (N : Nat) (rl : Nat → Int32 → Wd → Option ((Nat ⊕ Nat) × Wd)) (hrl : ∀ x0 x1 w r w1, rl x0 x1 w = some (r, w1) → kMx l g yX4_readLaw (ws_ yX4_readLaw cX4_readLaw 6 (some (.object "CardLoom$Law"))) fr0 lo0 w [.ref x0, .int x1] (kres (fun v => some (.ref v)) r) w1)  (x0 : Nat) (w : Wd) (hF : FX4_readLawB_b94 N g rl  x0 w = some (r, w1)) : kV g X 6 w 94 [some (.ref x0), none, none, none, none, none] [] := by
  unfold FX4_readLawB_b94 at hF
  refine v_newW C kc_X5 q293 q294 q89 nw_X5 dX4_readLaw_94 hF (fun a27 u28 hF => ?_)
  refine v_dup C dX4_readLaw_97 rfl ?_
  refine v_aload_n C dX4_readLaw_98 rfl rfl ?_
  refine v_getI C kc_X4 0 (Nat.le_of_ble_eq_true rfl) (kFl.p q267) dX4_readLaw_99 hF (fun v29 hF => ?_)
  refine c_callI C lk_X4_32 (fr2 := 3) (lo2 := 300) (As := [.int v29]) (st := [.ref a27]) (fun r9_ w9_ h9_ => by rw [hl]; exact wX5_init l g hX N a27 v29 u28 r9_ w9_ h9_) (by constructor <;> omega) rfl rfl (Nat.le_of_ble_eq_true rfl) dX4_readLaw_102 hF (fun r30 u31 hF => ?_)
  exact x_throw C dX4_readLaw_105 CT hF
set_option maxHeartbeats 4000000 in
theorem wX4_readLawB_b72 {l : Launch} {g : GT} {fr0 lo0 : Nat} {X : CxT} {r : (Nat ⊕ Nat)} {w1 : Wd} (C : kOk g X cX4_readLaw 6 RX4 (some (.object "CardLoom$Law")) (fr0 + 34) (lo0 + 3400) none (kBad g)) (CR : ∀ v, r = .inl v → kOk g X cX4_readLaw 6 RX4 (some (.object "CardLoom$Law")) (fr0 + 34) (lo0 + 3400) ((fun v => some (.ref v)) v) w1) (CT : ∀ q, r = .inr q → kTh g X w1 q) (hX : ∀ U, gX g U → SX g U) (hl : xl X = l) (hin : kHin X yX4_readLaw) (N : Nat) (rl : Nat → Int32 → Wd → Option ((Nat ⊕ Nat) × Wd)) (hrl : ∀ x0 x1 w r w1, rl x0 x1 w = some (r, w1) → kMx l g yX4_readLaw (ws_ yX4_readLaw cX4_readLaw 6 (some (.object "CardLoom$Law"))) fr0 lo0 w [.ref x0, .int x1] (kres (fun v => some (.ref v)) r) w1)  (x0 : Nat) (x1 : Int32) (x2 : Int32) (x3 : Int32) (x4 : Int32) (t0 : Int32) (w : Wd) (hF : FX4_readLawB_b72 N g rl  x0 x1 x2 x3 x4 t0 w = some (r, w1)) : kV g X 6 w 72 [some (.ref x0), some (.int x1), some (.int x2), some (.int x3), some (.int x4), none] [.int t0] := by
  unfold FX4_readLawB_b72 at hF
  refine v_istore C dX4_readLaw_72 (Nat.le_of_ble_eq_true rfl) rfl (lv' := [some (.ref x0), some (.int x1), some (.int x2), some (.int x3), some (.int x4), some (.int t0)]) rfl ?_
  refine v_iload_n C dX4_readLaw_74 rfl rfl ?_
  refine v_if_ge C (tgt := 106) dX4_readLaw_75 (by decide) hF (fun c9 hF => ?_) (fun c9 hF => ?_)
  · refine v_mask [true, true, true, true, true, false] (lv' := [some (.ref x0), some (.int x1), some (.int x2), some (.int x3), some (.int x4), none]) rfl ?_
    exact wX4_readLawB_b106 C CR CT hX hl hin N rl hrl (x0) (x1) (x2) (x3) (x4) w hF
  · refine v_iload_n C dX4_readLaw_78 rfl rfl ?_
    refine v_bipush C (v := (6 : Int32)) dX4_readLaw_79 (by decide) ?_
    refine v_icmp_eq C (tgt := 94) dX4_readLaw_81 (by decide) hF (fun c26 hF => ?_) (fun c26 hF => ?_)
    · refine v_mask [true, false, false, false, false, false] (lv' := [some (.ref x0), none, none, none, none, none]) rfl ?_
      exact wX4_readLawB_b94 C CR CT hX hl hin N rl hrl (x0) w hF
    · refine v_iload C dX4_readLaw_84 rfl ?_
      refine v_if_ne C (tgt := 106) dX4_readLaw_86 (by decide) hF (fun c32 hF => ?_) (fun c32 hF => ?_)
      · refine v_iload C dX4_readLaw_89 rfl ?_
        refine v_if_ne C (tgt := 106) dX4_readLaw_91 (by decide) hF (fun c33 hF => ?_) (fun c33 hF => ?_)
        · refine v_mask [true, false, false, false, false, false] (lv' := [some (.ref x0), none, none, none, none, none]) rfl ?_
          exact wX4_readLawB_b94 C CR CT hX hl hin N rl hrl (x0) w hF
        · refine v_mask [true, true, true, true, true, false] (lv' := [some (.ref x0), some (.int x1), some (.int x2), some (.int x3), some (.int x4), none]) rfl ?_
          exact wX4_readLawB_b106 C CR CT hX hl hin N rl hrl (x0) (x1) (x2) (x3) (x4) w hF
      · refine v_mask [true, true, true, true, true, false] (lv' := [some (.ref x0), some (.int x1), some (.int x2), some (.int x3), some (.int x4), none]) rfl ?_
        exact wX4_readLawB_b106 C CR CT hX hl hin N rl hrl (x0) (x1) (x2) (x3) (x4) w hF
set_option maxHeartbeats 4000000 in
theorem wX4_readLawB_b67 {l : Launch} {g : GT} {fr0 lo0 : Nat} {X : CxT} {r : (Nat ⊕ Nat)} {w1 : Wd} (C : kOk g X cX4_readLaw 6 RX4 (some (.object "CardLoom$Law")) (fr0 + 34) (lo0 + 3400) none (kBad g)) (CR : ∀ v, r = .inl v → kOk g X cX4_readLaw 6 RX4 (some (.object "CardLoom$Law")) (fr0 + 34) (lo0 + 3400) ((fun v => some (.ref v)) v) w1) (CT : ∀ q, r = .inr q → kTh g X w1 q) (hX : ∀ U, gX g U → SX g U) (hl : xl X = l) (hin : kHin X yX4_readLaw) (N : Nat) (rl : Nat → Int32 → Wd → Option ((Nat ⊕ Nat) × Wd)) (hrl : ∀ x0 x1 w r w1, rl x0 x1 w = some (r, w1) → kMx l g yX4_readLaw (ws_ yX4_readLaw cX4_readLaw 6 (some (.object "CardLoom$Law"))) fr0 lo0 w [.ref x0, .int x1] (kres (fun v => some (.ref v)) r) w1)  (x0 : Nat) (x1 : Int32) (x2 : Int32) (x3 : Int32) (x4 : Int32) (w : Wd) (hF : FX4_readLawB_b67 N g rl  x0 x1 x2 x3 x4 w = some (r, w1)) : kV g X 6 w 67 [some (.ref x0), some (.int x1), some (.int x2), some (.int x3), some (.int x4), none] [] := by
  unfold FX4_readLawB_b67 at hF
  refine v_iconst C (v := (1 : Int32)) dX4_readLaw_67 (by decide) ?_
  refine v_goto C (tgt := 72) dX4_readLaw_68 (by decide) ?_
  refine v_mask [true, true, true, true, true, false] (lv' := [some (.ref x0), some (.int x1), some (.int x2), some (.int x3), some (.int x4), none]) rfl ?_
  exact wX4_readLawB_b72 C CR CT hX hl hin N rl hrl (x0) (x1) (x2) (x3) (x4) ((1 : Int32)) w hF
set_option maxHeartbeats 4000000 in
theorem wX4_readLawB_b41 {l : Launch} {g : GT} {fr0 lo0 : Nat} {X : CxT} {r : (Nat ⊕ Nat)} {w1 : Wd} (C : kOk g X cX4_readLaw 6 RX4 (some (.object "CardLoom$Law")) (fr0 + 34) (lo0 + 3400) none (kBad g)) (CR : ∀ v, r = .inl v → kOk g X cX4_readLaw 6 RX4 (some (.object "CardLoom$Law")) (fr0 + 34) (lo0 + 3400) ((fun v => some (.ref v)) v) w1) (CT : ∀ q, r = .inr q → kTh g X w1 q) (hX : ∀ U, gX g U → SX g U) (hl : xl X = l) (hin : kHin X yX4_readLaw) (N : Nat) (rl : Nat → Int32 → Wd → Option ((Nat ⊕ Nat) × Wd)) (hrl : ∀ x0 x1 w r w1, rl x0 x1 w = some (r, w1) → kMx l g yX4_readLaw (ws_ yX4_readLaw cX4_readLaw 6 (some (.object "CardLoom$Law"))) fr0 lo0 w [.ref x0, .int x1] (kres (fun v => some (.ref v)) r) w1)  (x0 : Nat) (x1 : Int32) (x2 : Int32) (x3 : Int32) (t0 : Int32) (w : Wd) (hF : FX4_readLawB_b41 N g rl  x0 x1 x2 x3 t0 w = some (r, w1)) : kV g X 6 w 41 [some (.ref x0), some (.int x1), some (.int x2), some (.int x3), none, none] [.int t0] := by
  unfold FX4_readLawB_b41 at hF
  refine v_istore C dX4_readLaw_41 (Nat.le_of_ble_eq_true rfl) rfl (lv' := [some (.ref x0), some (.int x1), some (.int x2), some (.int x3), some (.int t0), none]) rfl ?_
  refine v_iload_n C dX4_readLaw_43 rfl rfl ?_
  refine v_bipush C (v := (115 : Int32)) dX4_readLaw_44 (by decide) ?_
  refine v_icmp_eq C (tgt := 67) dX4_readLaw_46 (by decide) hF (fun c8 hF => ?_) (fun c8 hF => ?_)
  · refine v_mask [true, true, true, true, true, false] (lv' := [some (.ref x0), some (.int x1), some (.int x2), some (.int x3), some (.int t0), none]) rfl ?_
    exact wX4_readLawB_b67 C CR CT hX hl hin N rl hrl (x0) (x1) (x2) (x3) (t0) w hF
  · refine v_iload_n C dX4_readLaw_49 rfl rfl ?_
    refine v_bipush C (v := (100 : Int32)) dX4_readLaw_50 (by decide) ?_
    refine v_icmp_eq C (tgt := 67) dX4_readLaw_52 (by decide) hF (fun c34 hF => ?_) (fun c34 hF => ?_)
    · refine v_mask [true, true, true, true, true, false] (lv' := [some (.ref x0), some (.int x1), some (.int x2), some (.int x3), some (.int t0), none]) rfl ?_
      exact wX4_readLawB_b67 C CR CT hX hl hin N rl hrl (x0) (x1) (x2) (x3) (t0) w hF
    · refine v_iload_n C dX4_readLaw_55 rfl rfl ?_
      refine v_bipush C (v := (114 : Int32)) dX4_readLaw_56 (by decide) ?_
      refine v_icmp_eq C (tgt := 67) dX4_readLaw_58 (by decide) hF (fun c35 hF => ?_) (fun c35 hF => ?_)
      · refine v_mask [true, true, true, true, true, false] (lv' := [some (.ref x0), some (.int x1), some (.int x2), some (.int x3), some (.int t0), none]) rfl ?_
        exact wX4_readLawB_b67 C CR CT hX hl hin N rl hrl (x0) (x1) (x2) (x3) (t0) w hF
      · refine v_iload_n C dX4_readLaw_61 rfl rfl ?_
        refine v_bipush C (v := (109 : Int32)) dX4_readLaw_62 (by decide) ?_
        refine v_icmp_ne C (tgt := 71) dX4_readLaw_64 (by decide) hF (fun c36 hF => ?_) (fun c36 hF => ?_)
        · refine v_mask [true, true, true, true, true, false] (lv' := [some (.ref x0), some (.int x1), some (.int x2), some (.int x3), some (.int t0), none]) rfl ?_
          exact wX4_readLawB_b67 C CR CT hX hl hin N rl hrl (x0) (x1) (x2) (x3) (t0) w hF
        · refine v_iconst C (v := (0 : Int32)) dX4_readLaw_71 (by decide) ?_
          refine v_mask [true, true, true, true, true, false] (lv' := [some (.ref x0), some (.int x1), some (.int x2), some (.int x3), some (.int t0), none]) rfl ?_
          exact wX4_readLawB_b72 C CR CT hX hl hin N rl hrl (x0) (x1) (x2) (x3) (t0) ((0 : Int32)) w hF
set_option maxHeartbeats 4000000 in
theorem wX4_readLawB_b36 {l : Launch} {g : GT} {fr0 lo0 : Nat} {X : CxT} {r : (Nat ⊕ Nat)} {w1 : Wd} (C : kOk g X cX4_readLaw 6 RX4 (some (.object "CardLoom$Law")) (fr0 + 34) (lo0 + 3400) none (kBad g)) (CR : ∀ v, r = .inl v → kOk g X cX4_readLaw 6 RX4 (some (.object "CardLoom$Law")) (fr0 + 34) (lo0 + 3400) ((fun v => some (.ref v)) v) w1) (CT : ∀ q, r = .inr q → kTh g X w1 q) (hX : ∀ U, gX g U → SX g U) (hl : xl X = l) (hin : kHin X yX4_readLaw) (N : Nat) (rl : Nat → Int32 → Wd → Option ((Nat ⊕ Nat) × Wd)) (hrl : ∀ x0 x1 w r w1, rl x0 x1 w = some (r, w1) → kMx l g yX4_readLaw (ws_ yX4_readLaw cX4_readLaw 6 (some (.object "CardLoom$Law"))) fr0 lo0 w [.ref x0, .int x1] (kres (fun v => some (.ref v)) r) w1)  (x0 : Nat) (x1 : Int32) (x2 : Int32) (x3 : Int32) (w : Wd) (hF : FX4_readLawB_b36 N g rl  x0 x1 x2 x3 w = some (r, w1)) : kV g X 6 w 36 [some (.ref x0), some (.int x1), some (.int x2), some (.int x3), none, none] [] := by
  unfold FX4_readLawB_b36 at hF
  refine v_iconst C (v := (1 : Int32)) dX4_readLaw_36 (by decide) ?_
  refine v_goto C (tgt := 41) dX4_readLaw_37 (by decide) ?_
  refine v_mask [true, true, true, true, false, false] (lv' := [some (.ref x0), some (.int x1), some (.int x2), some (.int x3), none, none]) rfl ?_
  exact wX4_readLawB_b41 C CR CT hX hl hin N rl hrl (x0) (x1) (x2) (x3) ((1 : Int32)) w hF
set_option maxHeartbeats 4000000 in
theorem wX4_readLawB (l : Launch) (g : GT) (hX : ∀ U, gX g U → SX g U) (N : Nat) (rl : Nat → Int32 → Wd → Option ((Nat ⊕ Nat) × Wd)) (fr0 lo0 : Nat) (hrl : ∀ x0 x1 w r w1, rl x0 x1 w = some (r, w1) → kMx l g yX4_readLaw (ws_ yX4_readLaw cX4_readLaw 6 (some (.object "CardLoom$Law"))) fr0 lo0 w [.ref x0, .int x1] (kres (fun v => some (.ref v)) r) w1) (x0 : Nat) (x1 : Int32) (w : Wd) (r : (Nat ⊕ Nat)) (w1 : Wd) (hF : FX4_readLawB N g rl x0 x1 w = some (r, w1)) : kMx l g yX4_readLaw (ws_ yX4_readLaw cX4_readLaw 6 (some (.object "CardLoom$Law"))) (fr0 + 34) (lo0 + 3400) w [.ref x0, .int x1] (kres (fun v => some (.ref v)) r) w1 := by
  refine kMx.ofV (lv := [some (.ref x0), some (.int x1), none, none, none, none]) (by decide) rfl (Nat.le_of_ble_eq_true rfl) rfl ?_
  intro X hl hin C CR0 CT0
  have CR : ∀ v, r = .inl v → kOk g X cX4_readLaw 6 RX4 (some (.object "CardLoom$Law")) (fr0 + 34) (lo0 + 3400) ((fun v => some (.ref v)) v) w1 := fun v h => CR0 _ (by rw [h]; rfl)
  have CT : ∀ q, r = .inr q → kTh g X w1 q := fun q h => CT0 q (by rw [h]; rfl)
  unfold FX4_readLawB at hF
  refine v_aload_n C dX4_readLaw_0 rfl rfl ?_
  obtain ⟨h3, hF⟩ := k_ite hF
  refine c_callVi C lk_X4_26 (ci := 4) rfl h3 (fr2 := 1) (lo2 := 100) (As := []) (st := []) (fun r9_ w9_ h9_ => by rw [hl]; exact wX4_here l g hX N x0 w r9_ w9_ h9_) (by constructor <;> omega) rfl rfl (Nat.le_of_ble_eq_true rfl) dX4_readLaw_1 hF (fun r1 u2 hF => ?_)
  refine v_istore_n C dX4_readLaw_4 rfl (Nat.le_of_ble_eq_true rfl) rfl (lv' := [some (.ref x0), some (.int x1), some (.int r1), none, none, none]) rfl ?_
  refine v_ldcS C (hX _ C.2.2.2.2.2.1.2.2.1).2.2.2.2.2.2.2.2.2.1 dX4_readLaw_5 ?_
  refine v_iload_n C dX4_readLaw_7 rfl rfl ?_
  obtain ⟨h6, hF⟩ := k_ite hF
  refine c_callVRi C lk_X4_83 (kRcZ C hX h6) (fr2 := 4) (lo2 := 400) (As := [.int r1]) (st := []) (fun r9_ w9_ h9_ => by rw [hl]; exact wJ9_indexOf l g hX N (gT g 12) r1 u2 r9_ w9_ h9_) (by constructor <;> omega) rfl rfl (Nat.le_of_ble_eq_true rfl) dX4_readLaw_8 hF (fun r4 u5 hF => ?_)
  refine v_istore_n C dX4_readLaw_11 rfl (Nat.le_of_ble_eq_true rfl) rfl (lv' := [some (.ref x0), some (.int x1), some (.int r1), some (.int r4), none, none]) rfl ?_
  refine v_iload_n C dX4_readLaw_12 rfl rfl ?_
  refine v_bipush C (v := (107 : Int32)) dX4_readLaw_13 (by decide) ?_
  refine v_icmp_eq C (tgt := 36) dX4_readLaw_15 (by decide) hF (fun c7 hF => ?_) (fun c7 hF => ?_)
  · refine v_mask [true, true, true, true, false, false] (lv' := [some (.ref x0), some (.int x1), some (.int r1), some (.int r4), none, none]) rfl ?_
    exact wX4_readLawB_b36 C CR CT hX hl hin N rl hrl (x0) (x1) (r1) (r4) u5 hF
  · refine v_iload_n C dX4_readLaw_18 rfl rfl ?_
    refine v_bipush C (v := (99 : Int32)) dX4_readLaw_19 (by decide) ?_
    refine v_icmp_eq C (tgt := 36) dX4_readLaw_21 (by decide) hF (fun c37 hF => ?_) (fun c37 hF => ?_)
    · refine v_mask [true, true, true, true, false, false] (lv' := [some (.ref x0), some (.int x1), some (.int r1), some (.int r4), none, none]) rfl ?_
      exact wX4_readLawB_b36 C CR CT hX hl hin N rl hrl (x0) (x1) (r1) (r4) u5 hF
    · refine v_iload_n C dX4_readLaw_24 rfl rfl ?_
      refine v_bipush C (v := (120 : Int32)) dX4_readLaw_25 (by decide) ?_
      refine v_icmp_eq C (tgt := 36) dX4_readLaw_27 (by decide) hF (fun c38 hF => ?_) (fun c38 hF => ?_)
      · refine v_mask [true, true, true, true, false, false] (lv' := [some (.ref x0), some (.int x1), some (.int r1), some (.int r4), none, none]) rfl ?_
        exact wX4_readLawB_b36 C CR CT hX hl hin N rl hrl (x0) (x1) (r1) (r4) u5 hF
      · refine v_iload_n C dX4_readLaw_30 rfl rfl ?_
        refine v_bipush C (v := (116 : Int32)) dX4_readLaw_31 (by decide) ?_
        refine v_icmp_ne C (tgt := 40) dX4_readLaw_33 (by decide) hF (fun c39 hF => ?_) (fun c39 hF => ?_)
        · refine v_mask [true, true, true, true, false, false] (lv' := [some (.ref x0), some (.int x1), some (.int r1), some (.int r4), none, none]) rfl ?_
          exact wX4_readLawB_b36 C CR CT hX hl hin N rl hrl (x0) (x1) (r1) (r4) u5 hF
        · refine v_iconst C (v := (0 : Int32)) dX4_readLaw_40 (by decide) ?_
          refine v_mask [true, true, true, true, false, false] (lv' := [some (.ref x0), some (.int x1), some (.int r1), some (.int r4), none, none]) rfl ?_
          exact wX4_readLawB_b41 C CR CT hX hl hin N rl hrl (x0) (x1) (r1) (r4) ((0 : Int32)) u5 hF
set_option maxHeartbeats 4000000 in
theorem wX4_readLaw (l : Launch) (g : GT) (hX : ∀ U, gX g U → SX g U) (N : Nat) : ∀ (d x0 : Nat) (x1 : Int32) (w : Wd) (r : Nat ⊕ Nat) (w1 : Wd), FX4_readLaw N g d x0 x1 w = some (r, w1) → kMx l g yX4_readLaw (ws_ yX4_readLaw cX4_readLaw 6 (some (.object "CardLoom$Law"))) (34 * d) (3400 * d) w [.ref x0, .int x1] (kres (fun v => some (.ref v)) r) w1
  | 0, _, _, _, _, _, h => by cases h
  | d + 1, x0, x1, w, r, w1, h => wX4_readLawB l g hX N (FX4_readLaw N g d) (34 * d) (3400 * d) (wX4_readLaw l g hX N d) x0 x1 w r w1 h
set_option maxHeartbeats 4000000 in
theorem wX4_law (l : Launch) (g : GT) (hX : ∀ U, gX g U → SX g U) (N : Nat) (x0 : Nat) (w : Wd) (r : (Nat ⊕ Nat)) (w1 : Wd) (hF : FX4_law N g x0 w = some (r, w1)) : kMx l g yX4_law (ws_ yX4_law cX4_law 2 (some (.object "CardLoom$Law"))) 273 27300 w [.ref x0] (kres (fun v => some (.ref v)) r) w1 := by
  refine kMx.ofV (lv := [some (.ref x0), none]) (by decide) rfl (Nat.le_of_ble_eq_true rfl) rfl ?_
  intro X hl hin C CR0 CT0
  have CR : ∀ v, r = .inl v → kOk g X cX4_law 2 RX4 (some (.object "CardLoom$Law")) 273 27300 ((fun v => some (.ref v)) v) w1 := fun v h => CR0 _ (by rw [h]; rfl)
  have CT : ∀ q, r = .inr q → kTh g X w1 q := fun q h => CT0 q (by rw [h]; rfl)
  unfold FX4_law at hF
  refine v_aload_n C dX4_law_0 rfl rfl ?_
  refine v_iconst C (v := (0 : Int32)) dX4_law_1 (by decide) ?_
  obtain ⟨h3, hF⟩ := k_ite hF
  refine x_callV C (fun v => some (.ref v)) lk_X4_42 (ci := 4) rfl h3 (fr2 := 272) (lo2 := 27200) (As := [.int (0 : Int32)]) (st := []) (fun r9_ w9_ h9_ => by rw [hl]; exact wX4_readLaw l g hX N 8 x0 (0 : Int32) w r9_ w9_ h9_) (by decide) rfl rfl (Nat.le_of_ble_eq_true rfl) dX4_law_2 CT hF (fun r1 u2 hF => ?_)
  show kV g X 2 u2 5 [some (.ref x0), none] [.ref r1]
  refine v_astore_n C dX4_law_5 rfl (Nat.le_of_ble_eq_true rfl) rfl (lv' := [some (.ref x0), some (.ref r1)]) rfl ?_
  refine v_aload_n C dX4_law_6 rfl rfl ?_
  refine v_getI C kc_X4 0 (Nat.le_of_ble_eq_true rfl) (kFl.p q267) dX4_law_7 hF (fun v4 hF => ?_)
  refine v_aload_n C dX4_law_10 rfl rfl ?_
  refine v_getR C kc_X4 2 (Nat.le_of_ble_eq_true rfl) (kFl.p q270) dX4_law_11 hF (fun v5 hF => ?_)
  refine v_getI C kc_X0 4 (Nat.le_of_ble_eq_true rfl) (kFl.n q203) dX4_law_14 hF (fun v6 hF => ?_)
  refine v_icmp_ge C (tgt := 32) dX4_law_17 (by decide) hF (fun c7 hF => ?_) (fun c7 hF => ?_)
  · refine v_aload_n C dX4_law_32 rfl rfl ?_
    exact x_aret CR (Or.inl ⟨_, rfl⟩) dX4_law_33 hF
  · refine v_newW C kc_X5 q293 q294 q89 nw_X5 dX4_law_20 hF (fun a8 u9 hF => ?_)
    refine v_dup C dX4_law_23 rfl ?_
    refine v_aload_n C dX4_law_24 rfl rfl ?_
    refine v_getI C kc_X4 0 (Nat.le_of_ble_eq_true rfl) (kFl.p q267) dX4_law_25 hF (fun v10 hF => ?_)
    refine c_callI C lk_X4_32 (fr2 := 3) (lo2 := 300) (As := [.int v10]) (st := [.ref a8]) (fun r9_ w9_ h9_ => by rw [hl]; exact wX5_init l g hX N a8 v10 u9 r9_ w9_ h9_) (by decide) rfl rfl (Nat.le_of_ble_eq_true rfl) dX4_law_28 hF (fun r11 u12 hF => ?_)
    exact x_throw C dX4_law_31 CT hF
