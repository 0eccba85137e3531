set_option maxRecDepth 100000
set_option maxHeartbeats 4000000 in
theorem wX3_in (l : Launch) (g : GT) {o : Nat} (ho : gB g ≤ o) (u : Wd) (N : Nat) (x0 : Int32) (x1 : Int32) (x2 : Int32)  (s : M) (r : Int32) (s1 : M) (hF : FX3_in N x0 x1 x2 s = some (r, s1)) : kMt l g yX3_in (ws_ yX3_in cX3_in 3 (some .boolean)) (1) (100) (wM g o s u) [.int x0, .int x1, .int x2] (some (.int r)) (wM g o s1 u) := by
  refine kMt.ofV (lv := [some (.int x0), some (.int x1), some (.int x2)]) (by decide) rfl (Nat.le_of_ble_eq_true rfl) rfl ?_
  intro X hl hin C
  unfold FX3_in at hF
  refine v_iload_n C dX3_in_0 rfl rfl ?_
  refine v_iload_n C dX3_in_1 rfl rfl ?_
  refine v_icmp_lt C (tgt := 14) dX3_in_2 (by decide) hF (fun c1 hF => ?_) (fun c1 hF => ?_)
  · refine v_iconst C (v := (0 : Int32)) dX3_in_14 (by decide) ?_
    exact m_zret C rfl dX3_in_15 hF
  · refine v_iload_n C dX3_in_5 rfl rfl ?_
    refine v_iload_n C dX3_in_6 rfl rfl ?_
    refine v_icmp_gt C (tgt := 14) dX3_in_7 (by decide) hF (fun c2 hF => ?_) (fun c2 hF => ?_)
    · refine v_iconst C (v := (0 : Int32)) dX3_in_14 (by decide) ?_
      exact m_zret C rfl dX3_in_15 hF
    · refine v_iconst C (v := (1 : Int32)) dX3_in_10 (by decide) ?_
      refine v_goto C (tgt := 15) dX3_in_11 (by decide) ?_
      exact m_zret C rfl dX3_in_15 hF
set_option maxHeartbeats 4000000 in
theorem wX3_feed (l : Launch) (g : GT) {o : Nat} (ho : gB g ≤ o) (u : Wd) (N : Nat) (x1 : Int32)  (s : M) (r : Int32) (s1 : M) (hF : FX3_feed N x1 s = some (r, s1)) : kMt l g yX3_feed (ws_ yX3_feed cX3_feed 2 (some .int)) (2) (200) (wM g o s u) [.ref o, .int x1] (some (.int r)) (wM g o s1 u) := by
  refine kMt.ofV (lv := [some (.ref o), some (.int x1)]) (by decide) rfl (Nat.le_of_ble_eq_true rfl) rfl ?_
  intro X hl hin C
  unfold FX3_feed at hF
  refine v_iload_n C dX3_feed_0 rfl rfl ?_
  refine v_iconst C (v := (1 : Int32)) dX3_feed_1 (by decide) ?_
  refine v_bipush C (v := (127 : Int32)) dX3_feed_2 (by decide) ?_
  refine m_callSi C lk_X3_108 (fr2 := 1) (lo2 := 100) (As := [.int x1, .int (1 : Int32), .int (127 : Int32)]) (st := []) (fun r s1 h => by rw [hl]; exact wX3_in l g ho u N x1 (1 : Int32) (127 : Int32) s r s1 h) (by decide) rfl rfl (Nat.le_of_ble_eq_true rfl) dX3_feed_4 hF (fun r1 s2 hF => ?_)
  refine v_if_ne C (tgt := 13) dX3_feed_7 (by decide) hF (fun c3 hF => ?_) (fun c3 hF => ?_)
  · refine v_bipush C (v := (-2 : Int32)) dX3_feed_10 (by decide) ?_
    exact m_iret C dX3_feed_12 hF
  · refine v_aload_n C dX3_feed_13 rfl rfl ?_
    refine m_get C 17 (Nat.le_of_ble_eq_true rfl) q2319 (v := .int (s2.1 17)) rfl dX3_feed_14 ?_
    refine v_bipush C (v := (80 : Int32)) dX3_feed_17 (by decide) ?_
    refine v_icmp_ne C (tgt := 25) dX3_feed_19 (by decide) hF (fun c4 hF => ?_) (fun c4 hF => ?_)
    · refine v_bipush C (v := (-4 : Int32)) dX3_feed_22 (by decide) ?_
      exact m_iret C dX3_feed_24 hF
    · refine v_aload_n C dX3_feed_25 rfl rfl ?_
      refine m_get C 16 (Nat.le_of_ble_eq_true rfl) q2318 (v := .ref (o + 15)) rfl dX3_feed_26 ?_
      refine v_aload_n C dX3_feed_29 rfl rfl ?_
      refine m_get C 17 (Nat.le_of_ble_eq_true rfl) q2319 (v := .int (s2.1 17)) rfl dX3_feed_30 ?_
      refine v_iload_n C dX3_feed_33 rfl rfl ?_
      obtain ⟨h5, hF⟩ := k_ite hF
      refine m_ast C ho (Nat.le_of_ble_eq_true rfl) (Nat.le_of_ble_eq_true rfl) (by decide) (n := 80) rfl h5 (ix := ((s2.1 17).toNatClampNeg)) rfl dX3_feed_34 ?_
      refine v_aload_n C dX3_feed_35 rfl rfl ?_
      refine v_dup C dX3_feed_36 rfl ?_
      refine m_get C 17 (Nat.le_of_ble_eq_true rfl) q2319 (v := .int ((sA s2 15 ((s2.1 17).toNatClampNeg) x1).1 17)) rfl dX3_feed_37 ?_
      refine v_iconst C (v := (1 : Int32)) dX3_feed_40 (by decide) ?_
      refine v_iadd C dX3_feed_41 ?_
      refine m_put C ho 17 (Nat.le_of_ble_eq_true rfl) q2319 rfl rfl rfl rfl dX3_feed_42 ?_
      refine v_aload_n C dX3_feed_45 rfl rfl ?_
      refine m_get C 17 (Nat.le_of_ble_eq_true rfl) q2319 (v := .int ((sS (sA s2 15 ((s2.1 17).toNatClampNeg) x1) 17 (((sA s2 15 ((s2.1 17).toNatClampNeg) x1).1 17) + (1 : Int32))).1 17)) rfl dX3_feed_46 ?_
      exact m_iret C dX3_feed_49 hF
set_option maxHeartbeats 4000000 in
theorem wX3_clear (l : Launch) (g : GT) {o : Nat} (ho : gB g ≤ o) (u : Wd) (N : Nat)   (s : M) (r : Int32) (s1 : M) (hF : FX3_clear N  s = some (r, s1)) : kMt l g yX3_clear (ws_ yX3_clear cX3_clear 2 (some .int)) (1) (100) (wM g o s u) [.ref o] (some (.int r)) (wM g o s1 u) := by
  refine kMt.ofV (lv := [some (.ref o), none]) (by decide) rfl (Nat.le_of_ble_eq_true rfl) rfl ?_
  intro X hl hin C
  unfold FX3_clear at hF
  refine v_aload_n C dX3_clear_0 rfl rfl ?_
  refine m_get C 17 (Nat.le_of_ble_eq_true rfl) q2319 (v := .int (s.1 17)) rfl dX3_clear_1 ?_
  refine v_istore_n C dX3_clear_4 rfl (Nat.le_of_ble_eq_true rfl) rfl (lv' := [some (.ref o), some (.int (s.1 17))]) rfl ?_
  refine v_aload_n C dX3_clear_5 rfl rfl ?_
  refine v_iconst C (v := (0 : Int32)) dX3_clear_6 (by decide) ?_
  refine m_put C ho 17 (Nat.le_of_ble_eq_true rfl) q2319 rfl rfl rfl rfl dX3_clear_7 ?_
  refine v_iload_n C dX3_clear_10 rfl rfl ?_
  exact m_iret C dX3_clear_11 hF
set_option maxHeartbeats 4000000 in
theorem wX3_here (l : Launch) (g : GT) {o : Nat} (ho : gB g ≤ o) (u : Wd) (N : Nat)   (s : M) (r : Int32) (s1 : M) (hF : FX3_here N  s = some (r, s1)) : kMt l g yX3_here (ws_ yX3_here cX3_here 1 (some .int)) (1) (100) (wM g o s u) [.ref o] (some (.int r)) (wM g o s1 u) := by
  refine kMt.ofV (lv := [some (.ref o)]) (by decide) rfl (Nat.le_of_ble_eq_true rfl) rfl ?_
  intro X hl hin C
  unfold FX3_here at hF
  refine v_aload_n C dX3_here_0 rfl rfl ?_
  refine m_get C 18 (Nat.le_of_ble_eq_true rfl) q2320 (v := .int (s.1 18)) rfl dX3_here_1 ?_
  refine v_aload_n C dX3_here_4 rfl rfl ?_
  refine m_get C 17 (Nat.le_of_ble_eq_true rfl) q2319 (v := .int (s.1 17)) rfl dX3_here_5 ?_
  refine v_icmp_ge C (tgt := 23) dX3_here_8 (by decide) hF (fun c1 hF => ?_) (fun c1 hF => ?_)
  · refine v_iconst C (v := (-1 : Int32)) dX3_here_23 (by decide) ?_
    exact m_iret C dX3_here_24 hF
  · refine v_aload_n C dX3_here_11 rfl rfl ?_
    refine m_get C 16 (Nat.le_of_ble_eq_true rfl) q2318 (v := .ref (o + 15)) rfl dX3_here_12 ?_
    refine v_aload_n C dX3_here_15 rfl rfl ?_
    refine m_get C 18 (Nat.le_of_ble_eq_true rfl) q2320 (v := .int (s.1 18)) rfl dX3_here_16 ?_
    obtain ⟨h2, hF⟩ := k_ite hF
    refine m_ald C (Nat.le_of_ble_eq_true rfl) (Nat.le_of_ble_eq_true rfl) (by decide) (n := 80) rfl h2 (ix := ((s.1 18).toNatClampNeg)) rfl dX3_here_19 ?_
    refine v_goto C (tgt := 24) dX3_here_20 (by decide) ?_
    exact m_iret C dX3_here_24 hF
set_option maxHeartbeats 4000000 in
theorem wX3_wrong (l : Launch) (g : GT) {o : Nat} (ho : gB g ≤ o) (u : Wd) (N : Nat) (x1 : Int32)  (s : M) (r : Unit) (s1 : M) (hF : FX3_wrong N x1 s = some (r, s1)) : kMt l g yX3_wrong (ws_ yX3_wrong cX3_wrong 2 none) (1) (100) (wM g o s u) [.ref o, .int x1] none (wM g o s1 u) := by
  refine kMt.ofV (lv := [some (.ref o), some (.int x1)]) (by decide) rfl (Nat.le_of_ble_eq_true rfl) rfl ?_
  intro X hl hin C
  unfold FX3_wrong at hF
  refine v_aload_n C dX3_wrong_0 rfl rfl ?_
  refine m_get C 19 (Nat.le_of_ble_eq_true rfl) q2321 (v := .int (s.1 19)) rfl dX3_wrong_1 ?_
  refine v_if_ge C (tgt := 12) dX3_wrong_4 (by decide) hF (fun c1 hF => ?_) (fun c1 hF => ?_)
  · exact m_vret C dX3_wrong_12 hF
  · refine v_aload_n C dX3_wrong_7 rfl rfl ?_
    refine v_iload_n C dX3_wrong_8 rfl rfl ?_
    refine m_put C ho 19 (Nat.le_of_ble_eq_true rfl) q2321 rfl rfl rfl rfl dX3_wrong_9 ?_
    exact m_vret C dX3_wrong_12 hF
set_option maxHeartbeats 4000000 in
theorem wX3_readNumber_b70 {l : Launch} {g : GT} {X : CxT} {o : Nat} {u : Wd} {r : Int32} {s1 : M} (C : kOk g X cX3_readNumber 4 RX3 (some .int) 2 200 (some (.int r)) (wM g o s1 u)) (ho : gB g ≤ o) (hl : xl X = l) (N : Nat)  (x2 : Int32) (x3 : Int32) (s : M) (hF : FX3_readNumber_b70 N  x2 x3 s = some (r, s1)) : kV g X 4 (wM g o s u) 70 [some (.ref o), none, some (.int x2), some (.int x3)] [] := by
  unfold FX3_readNumber_b70 at hF
  refine v_aload_n C dX3_readNumber_70 rfl rfl ?_
  refine v_iload_n C dX3_readNumber_71 rfl rfl ?_
  refine m_callVv C lk_X3_125 rfl (fr2 := 1) (lo2 := 100) (As := [.int x2]) (st := []) (fun r s1 h => by rw [hl]; exact wX3_wrong l g ho u N x2 s r s1 h) (by decide) rfl rfl (Nat.le_of_ble_eq_true rfl) dX3_readNumber_72 hF (fun r3 s4 hF => ?_)
  refine v_iload_n C dX3_readNumber_75 rfl rfl ?_
  exact m_iret C dX3_readNumber_76 hF
set_option maxHeartbeats 4000000 in
theorem wX3_readNumber_b57 {l : Launch} {g : GT} {X : CxT} {o : Nat} {u : Wd} {r : Int32} {s1 : M} (C : kOk g X cX3_readNumber 4 RX3 (some .int) 2 200 (some (.int r)) (wM g o s1 u)) (ho : gB g ≤ o) (hl : xl X = l) (N : Nat)  (x1 : Int32) (x2 : Int32) (x3 : Int32) (s : M) (hF : FX3_readNumber_b57 N  x1 x2 x3 s = some (r, s1)) : kV g X 4 (wM g o s u) 57 [some (.ref o), some (.int x1), some (.int x2), some (.int x3)] [] := by
  unfold FX3_readNumber_b57 at hF
  refine v_aload_n C dX3_readNumber_57 rfl rfl ?_
  refine m_get C 18 (Nat.le_of_ble_eq_true rfl) q2320 (v := .int (s.1 18)) rfl dX3_readNumber_58 ?_
  refine v_iload_n C dX3_readNumber_61 rfl rfl ?_
  refine v_icmp_eq C (tgt := 70) dX3_readNumber_62 (by decide) hF (fun c2 hF => ?_) (fun c2 hF => ?_)
  · refine v_mask [true, false, true, true] (lv' := [some (.ref o), none, some (.int x2), some (.int x3)]) rfl ?_
    exact wX3_readNumber_b70 C ho hl N  (x2) (x3) (s) hF
  · refine v_iload_n C dX3_readNumber_65 rfl rfl ?_
    refine v_iload_n C dX3_readNumber_66 rfl rfl ?_
    refine v_icmp_ge C (tgt := 75) dX3_readNumber_67 (by decide) hF (fun c5 hF => ?_) (fun c5 hF => ?_)
    · refine v_iload_n C dX3_readNumber_75 rfl rfl ?_
      exact m_iret C dX3_readNumber_76 hF
    · refine v_mask [true, false, true, true] (lv' := [some (.ref o), none, some (.int x2), some (.int x3)]) rfl ?_
      exact wX3_readNumber_b70 C ho hl N  (x2) (x3) (s) hF
set_option maxHeartbeats 4000000 in
theorem wX3_readNumber_b7 {l : Launch} {g : GT} {X : CxT} {o : Nat} {u : Wd} {r : Int32} {s1 : M} (C : kOk g X cX3_readNumber 4 RX3 (some .int) 2 200 (some (.int r)) (wM g o s1 u)) (ho : gB g ≤ o) (hl : xl X = l) (N : Nat) (k7 : Int32 × Int32 × Int32 × M → Option (Int32 × M)) (hk7 : ∀ a, k7 a = some (r, s1) → kV g X 4 (wM g o a.2.2.2 u) 7 [some (.ref o), some (.int a.1), some (.int a.2.1), some (.int a.2.2.1)] []) (x1 : Int32) (x2 : Int32) (x3 : Int32) (s : M) (hF : FX3_readNumber_b7 N k7 x1 x2 x3 s = some (r, s1)) : kV g X 4 (wM g o s u) 7 [some (.ref o), some (.int x1), some (.int x2), some (.int x3)] [] := by
  unfold FX3_readNumber_b7 at hF
  refine v_aload_n C dX3_readNumber_7 rfl rfl ?_
  refine m_get C 18 (Nat.le_of_ble_eq_true rfl) q2320 (v := .int (s.1 18)) rfl dX3_readNumber_8 ?_
  refine v_iload_n C dX3_readNumber_11 rfl rfl ?_
  refine v_iconst C (v := (2 : Int32)) dX3_readNumber_12 (by decide) ?_
  refine v_iadd C dX3_readNumber_13 ?_
  refine v_icmp_ge C (tgt := 57) dX3_readNumber_14 (by decide) hF (fun c1 hF => ?_) (fun c1 hF => ?_)
  · refine v_mask [true, true, true, true] (lv' := [some (.ref o), some (.int x1), some (.int x2), some (.int x3)]) rfl ?_
    exact wX3_readNumber_b57 C ho hl N  (x1) (x2) (x3) (s) hF
  · refine v_aload_n C dX3_readNumber_17 rfl rfl ?_
    refine m_callVi C lk_X3_121 rfl (fr2 := 1) (lo2 := 100) (As := []) (st := []) (fun r s1 h => by rw [hl]; exact wX3_here l g ho u N  s r s1 h) (by decide) rfl rfl (Nat.le_of_ble_eq_true rfl) dX3_readNumber_18 hF (fun r6 s7 hF => ?_)
    refine v_bipush C (v := (48 : Int32)) dX3_readNumber_21 (by decide) ?_
    refine v_bipush C (v := (57 : Int32)) dX3_readNumber_23 (by decide) ?_
    refine m_callSi C lk_X3_108 (fr2 := 1) (lo2 := 100) (As := [.int r6, .int (48 : Int32), .int (57 : Int32)]) (st := []) (fun r s1 h => by rw [hl]; exact wX3_in l g ho u N r6 (48 : Int32) (57 : Int32) s7 r s1 h) (by decide) rfl rfl (Nat.le_of_ble_eq_true rfl) dX3_readNumber_25 hF (fun r8 s9 hF => ?_)
    refine v_if_eq C (tgt := 57) dX3_readNumber_28 (by decide) hF (fun c10 hF => ?_) (fun c10 hF => ?_)
    · refine v_mask [true, true, true, true] (lv' := [some (.ref o), some (.int x1), some (.int x2), some (.int x3)]) rfl ?_
      exact wX3_readNumber_b57 C ho hl N  (x1) (x2) (x3) (s9) hF
    · refine v_bipush C (v := (10 : Int32)) dX3_readNumber_31 (by decide) ?_
      refine v_iload_n C dX3_readNumber_33 rfl rfl ?_
      refine v_imul C dX3_readNumber_34 ?_
      refine v_aload_n C dX3_readNumber_35 rfl rfl ?_
      refine m_callVi C lk_X3_121 rfl (fr2 := 1) (lo2 := 100) (As := []) (st := [.int ((10 : Int32) * x3)]) (fun r s1 h => by rw [hl]; exact wX3_here l g ho u N  s9 r s1 h) (by decide) rfl rfl (Nat.le_of_ble_eq_true rfl) dX3_readNumber_36 hF (fun r11 s12 hF => ?_)
      refine v_iadd C dX3_readNumber_39 ?_
      refine v_bipush C (v := (48 : Int32)) dX3_readNumber_40 (by decide) ?_
      refine v_isub C dX3_readNumber_42 ?_
      refine v_istore_n C dX3_readNumber_43 rfl (Nat.le_of_ble_eq_true rfl) rfl (lv' := [some (.ref o), some (.int x1), some (.int x2), some (.int ((((10 : Int32) * x3) + r11) - (48 : Int32)))]) rfl ?_
      refine v_aload_n C dX3_readNumber_44 rfl rfl ?_
      refine v_dup C dX3_readNumber_45 rfl ?_
      refine m_get C 18 (Nat.le_of_ble_eq_true rfl) q2320 (v := .int (s12.1 18)) rfl dX3_readNumber_46 ?_
      refine v_iconst C (v := (1 : Int32)) dX3_readNumber_49 (by decide) ?_
      refine v_iadd C dX3_readNumber_50 ?_
      refine m_put C ho 18 (Nat.le_of_ble_eq_true rfl) q2320 rfl rfl rfl rfl dX3_readNumber_51 ?_
      refine v_goto C (tgt := 7) dX3_readNumber_54 (by decide) ?_
      refine v_mask [true, true, true, true] (lv' := [some (.ref o), some (.int x1), some (.int x2), some (.int ((((10 : Int32) * x3) + r11) - (48 : Int32)))]) rfl ?_
      exact hk7 (x1, x2, ((((10 : Int32) * x3) + r11) - (48 : Int32)), (sS s12 18 ((s12.1 18) + (1 : Int32)))) hF
set_option maxHeartbeats 4000000 in
theorem wX3_readNumber (l : Launch) (g : GT) {o : Nat} (ho : gB g ≤ o) (u : Wd) (N : Nat) (x1 : Int32)  (s : M) (r : Int32) (s1 : M) (hF : FX3_readNumber N x1 s = some (r, s1)) : kMt l g yX3_readNumber (ws_ yX3_readNumber cX3_readNumber 4 (some .int)) (2) (200) (wM g o s u) [.ref o, .int x1] (some (.int r)) (wM g o s1 u) := by
  refine kMt.ofV (lv := [some (.ref o), some (.int x1), none, none]) (by decide) rfl (Nat.le_of_ble_eq_true rfl) rfl ?_
  intro X hl hin C
  unfold FX3_readNumber at hF
  refine v_aload_n C dX3_readNumber_0 rfl rfl ?_
  refine m_get C 18 (Nat.le_of_ble_eq_true rfl) q2320 (v := .int (s.1 18)) rfl dX3_readNumber_1 ?_
  refine v_istore_n C dX3_readNumber_4 rfl (Nat.le_of_ble_eq_true rfl) rfl (lv' := [some (.ref o), some (.int x1), some (.int (s.1 18)), none]) rfl ?_
  refine v_iconst C (v := (0 : Int32)) dX3_readNumber_5 (by decide) ?_
  refine v_istore_n C dX3_readNumber_6 rfl (Nat.le_of_ble_eq_true rfl) rfl (lv' := [some (.ref o), some (.int x1), some (.int (s.1 18)), some (.int (0 : Int32))]) rfl ?_
  refine v_mask [true, true, true, true] (lv' := [some (.ref o), some (.int x1), some (.int (s.1 18)), some (.int (0 : Int32))]) rfl ?_
  exact kloop_ok (P := fun a => kV g X 4 (wM g o a.2.2.2 u) 7 [some (.ref o), some (.int a.1), some (.int a.2.1), some (.int a.2.2.1)] []) (fun self hs a hF => wX3_readNumber_b7 C ho hl N  self hs a.1 a.2.1 a.2.2.1 a.2.2.2 hF) N (x1, (s.1 18), (0 : Int32), s) hF
set_option maxHeartbeats 4000000 in
theorem wX3_expect (l : Launch) (g : GT) {o : Nat} (ho : gB g ≤ o) (u : Wd) (N : Nat) (x1 : Int32)  (s : M) (r : Unit) (s1 : M) (hF : FX3_expect N x1 s = some (r, s1)) : kMt l g yX3_expect (ws_ yX3_expect cX3_expect 2 none) (2) (200) (wM g o s u) [.ref o, .int x1] none (wM g o s1 u) := by
  refine kMt.ofV (lv := [some (.ref o), some (.int x1)]) (by decide) rfl (Nat.le_of_ble_eq_true rfl) rfl ?_
  intro X hl hin C
  unfold FX3_expect at hF
  refine v_aload_n C dX3_expect_0 rfl rfl ?_
  refine m_get C 19 (Nat.le_of_ble_eq_true rfl) q2321 (v := .int (s.1 19)) rfl dX3_expect_1 ?_
  refine v_if_lt C (tgt := 8) dX3_expect_4 (by decide) hF (fun c1 hF => ?_) (fun c1 hF => ?_)
  · refine v_aload_n C dX3_expect_8 rfl rfl ?_
    refine m_callVi C lk_X3_121 rfl (fr2 := 1) (lo2 := 100) (As := []) (st := []) (fun r s1 h => by rw [hl]; exact wX3_here l g ho u N  s r s1 h) (by decide) rfl rfl (Nat.le_of_ble_eq_true rfl) dX3_expect_9 hF (fun r2 s3 hF => ?_)
    refine v_iload_n C dX3_expect_12 rfl rfl ?_
    refine v_icmp_ne C (tgt := 29) dX3_expect_13 (by decide) hF (fun c4 hF => ?_) (fun c4 hF => ?_)
    · refine v_aload_n C dX3_expect_16 rfl rfl ?_
      refine v_dup C dX3_expect_17 rfl ?_
      refine m_get C 18 (Nat.le_of_ble_eq_true rfl) q2320 (v := .int (s3.1 18)) rfl dX3_expect_18 ?_
      refine v_iconst C (v := (1 : Int32)) dX3_expect_21 (by decide) ?_
      refine v_iadd C dX3_expect_22 ?_
      refine m_put C ho 18 (Nat.le_of_ble_eq_true rfl) q2320 rfl rfl rfl rfl dX3_expect_23 ?_
      refine v_goto C (tgt := 37) dX3_expect_26 (by decide) ?_
      exact m_vret C dX3_expect_37 hF
    · refine v_aload_n C dX3_expect_29 rfl rfl ?_
      refine v_aload_n C dX3_expect_30 rfl rfl ?_
      refine m_get C 18 (Nat.le_of_ble_eq_true rfl) q2320 (v := .int (s3.1 18)) rfl dX3_expect_31 ?_
      refine m_callVv C lk_X3_125 rfl (fr2 := 1) (lo2 := 100) (As := [.int (s3.1 18)]) (st := []) (fun r s1 h => by rw [hl]; exact wX3_wrong l g ho u N (s3.1 18) s3 r s1 h) (by decide) rfl rfl (Nat.le_of_ble_eq_true rfl) dX3_expect_34 hF (fun r5 s6 hF => ?_)
      exact m_vret C dX3_expect_37 hF
  · exact m_vret C dX3_expect_7 hF
set_option maxHeartbeats 4000000 in
theorem wX3_readLaw_b43 {l : Launch} {g : GT} {X : CxT} {o : Nat} {u : Wd} {d : Nat} {r : Int32} {s1 : M} (C : kOk g X cX3_readLaw 5 RX3 (some .int) (3 + d) (100 * (3 + d)) (some (.int r)) (wM g o s1 u)) (ho : gB g ≤ o) (hl : xl X = l) (N : Nat) (sf : M → Option (Int32 × M)) (hd0 : 0 < d) (hsf : ∀ d9, d9 + 1 = d → ∀  (s : M) r s1, sf  s = some (r, s1) → kMt l g yX3_readLaw (ws_ yX3_readLaw cX3_readLaw 5 (some .int)) (3 + d9) (100 * (3 + d9)) (wM g o s u) [.ref o] (some (.int r)) (wM g o s1 u))  (x1 : Int32) (x2 : Int32) (s : M) (hF : FX3_readLaw_b43 N sf  x1 x2 s = some (r, s1)) : kV g X 5 (wM g o s u) 43 [some (.ref o), some (.int x1), some (.int x2), none, none] [] := by
  unfold FX3_readLaw_b43 at hF
  refine v_aload_n C dX3_readLaw_43 rfl rfl ?_
  refine v_dup C dX3_readLaw_44 rfl ?_
  refine m_get C 21 (Nat.le_of_ble_eq_true rfl) q2323 (v := .int (s.1 21)) rfl dX3_readLaw_45 ?_
  refine v_iconst C (v := (1 : Int32)) dX3_readLaw_48 (by decide) ?_
  refine v_iadd C dX3_readLaw_49 ?_
  refine m_put C ho 21 (Nat.le_of_ble_eq_true rfl) q2323 rfl rfl rfl rfl dX3_readLaw_50 ?_
  refine v_aload_n C dX3_readLaw_53 rfl rfl ?_
  refine v_dup C dX3_readLaw_54 rfl ?_
  refine m_get C 22 (Nat.le_of_ble_eq_true rfl) q2324 (v := .int ((sS s 21 ((s.1 21) + (1 : Int32))).1 22)) rfl dX3_readLaw_55 ?_
  refine v_iconst C (v := (1 : Int32)) dX3_readLaw_58 (by decide) ?_
  refine v_iadd C dX3_readLaw_59 ?_
  refine m_put C ho 22 (Nat.le_of_ble_eq_true rfl) q2324 rfl rfl rfl rfl dX3_readLaw_60 ?_
  refine v_aload_n C dX3_readLaw_63 rfl rfl ?_
  refine m_get C 23 (Nat.le_of_ble_eq_true rfl) q2325 (v := .ref (o + 16)) rfl dX3_readLaw_64 ?_
  refine v_iload_n C dX3_readLaw_67 rfl rfl ?_
  refine v_iload_n C dX3_readLaw_68 rfl rfl ?_
  obtain ⟨h5, hF⟩ := k_ite hF
  refine m_ast C ho (Nat.le_of_ble_eq_true rfl) (Nat.le_of_ble_eq_true rfl) (by decide) (n := 80) rfl h5 (ix := (x2.toNatClampNeg)) rfl dX3_readLaw_69 ?_
  refine v_aload_n C dX3_readLaw_70 rfl rfl ?_
  refine v_dup C dX3_readLaw_71 rfl ?_
  refine m_get C 18 (Nat.le_of_ble_eq_true rfl) q2320 (v := .int ((sA (sS (sS s 21 ((s.1 21) + (1 : Int32))) 22 (((sS s 21 ((s.1 21) + (1 : Int32))).1 22) + (1 : Int32))) 16 (x2.toNatClampNeg) x1).1 18)) rfl dX3_readLaw_72 ?_
  refine v_iconst C (v := (1 : Int32)) dX3_readLaw_75 (by decide) ?_
  refine v_iadd C dX3_readLaw_76 ?_
  refine m_put C ho 18 (Nat.le_of_ble_eq_true rfl) q2320 rfl rfl rfl rfl dX3_readLaw_77 ?_
  refine v_iload_n C dX3_readLaw_80 rfl rfl ?_
  exact m_iret C dX3_readLaw_81 hF
set_option maxHeartbeats 4000000 in
theorem wX3_readLaw_b167 {l : Launch} {g : GT} {X : CxT} {o : Nat} {u : Wd} {d : Nat} {r : Int32} {s1 : M} (C : kOk g X cX3_readLaw 5 RX3 (some .int) (3 + d) (100 * (3 + d)) (some (.int r)) (wM g o s1 u)) (ho : gB g ≤ o) (hl : xl X = l) (N : Nat) (sf : M → Option (Int32 × M)) (hd0 : 0 < d) (hsf : ∀ d9, d9 + 1 = d → ∀  (s : M) r s1, sf  s = some (r, s1) → kMt l g yX3_readLaw (ws_ yX3_readLaw cX3_readLaw 5 (some .int)) (3 + d9) (100 * (3 + d9)) (wM g o s u) [.ref o] (some (.int r)) (wM g o s1 u))   (s : M) (hF : FX3_readLaw_b167 N sf   s = some (r, s1)) : kV g X 5 (wM g o s u) 167 [some (.ref o), none, none, none, none] [] := by
  unfold FX3_readLaw_b167 at hF
  refine v_aload_n C dX3_readLaw_167 rfl rfl ?_
  refine v_aload_n C dX3_readLaw_168 rfl rfl ?_
  refine m_get C 18 (Nat.le_of_ble_eq_true rfl) q2320 (v := .int (s.1 18)) rfl dX3_readLaw_169 ?_
  refine m_callVv C lk_X3_125 rfl (fr2 := 1) (lo2 := 100) (As := [.int (s.1 18)]) (st := []) (fun r s1 h => by rw [hl]; exact wX3_wrong l g ho u N (s.1 18) s r s1 h) ⟨by omega, by omega⟩ rfl rfl (Nat.le_of_ble_eq_true rfl) dX3_readLaw_172 hF (fun r15 s16 hF => ?_)
  refine v_iconst C (v := (0 : Int32)) dX3_readLaw_175 (by decide) ?_
  exact m_iret C dX3_readLaw_176 hF
set_option maxHeartbeats 4000000 in
theorem wX3_readLaw_b286 {l : Launch} {g : GT} {X : CxT} {o : Nat} {u : Wd} {d : Nat} {r : Int32} {s1 : M} (C : kOk g X cX3_readLaw 5 RX3 (some .int) (3 + d) (100 * (3 + d)) (some (.int r)) (wM g o s1 u)) (ho : gB g ≤ o) (hl : xl X = l) (N : Nat) (sf : M → Option (Int32 × M)) (hd0 : 0 < d) (hsf : ∀ d9, d9 + 1 = d → ∀  (s : M) r s1, sf  s = some (r, s1) → kMt l g yX3_readLaw (ws_ yX3_readLaw cX3_readLaw 5 (some .int)) (3 + d9) (100 * (3 + d9)) (wM g o s u) [.ref o] (some (.int r)) (wM g o s1 u))  (x2 : Int32) (s : M) (hF : FX3_readLaw_b286 N sf  x2 s = some (r, s1)) : kV g X 5 (wM g o s u) 286 [some (.ref o), none, some (.int x2), none, none] [] := by
  unfold FX3_readLaw_b286 at hF
  refine v_aload_n C dX3_readLaw_286 rfl rfl ?_
  refine v_bipush C (v := (41 : Int32)) dX3_readLaw_287 (by decide) ?_
  refine m_callVv C lk_X3_142 rfl (fr2 := 2) (lo2 := 200) (As := [.int (41 : Int32)]) (st := []) (fun r s1 h => by rw [hl]; exact wX3_expect l g ho u N (41 : Int32) s r s1 h) ⟨by omega, by omega⟩ rfl rfl (Nat.le_of_ble_eq_true rfl) dX3_readLaw_289 hF (fun r31 s32 hF => ?_)
  refine v_aload_n C dX3_readLaw_292 rfl rfl ?_
  refine v_dup C dX3_readLaw_293 rfl ?_
  refine m_get C 20 (Nat.le_of_ble_eq_true rfl) q2322 (v := .int (s32.1 20)) rfl dX3_readLaw_294 ?_
  refine v_iconst C (v := (1 : Int32)) dX3_readLaw_297 (by decide) ?_
  refine v_isub C dX3_readLaw_298 ?_
  refine m_put C ho 20 (Nat.le_of_ble_eq_true rfl) q2322 rfl rfl rfl rfl dX3_readLaw_299 ?_
  refine v_iload_n C dX3_readLaw_302 rfl rfl ?_
  exact m_iret C dX3_readLaw_303 hF
set_option maxHeartbeats 4000000 in
theorem wX3_readLaw_b238 {l : Launch} {g : GT} {X : CxT} {o : Nat} {u : Wd} {d : Nat} {r : Int32} {s1 : M} (C : kOk g X cX3_readLaw 5 RX3 (some .int) (3 + d) (100 * (3 + d)) (some (.int r)) (wM g o s1 u)) (ho : gB g ≤ o) (hl : xl X = l) (N : Nat) (sf : M → Option (Int32 × M)) (hd0 : 0 < d) (hsf : ∀ d9, d9 + 1 = d → ∀  (s : M) r s1, sf  s = some (r, s1) → kMt l g yX3_readLaw (ws_ yX3_readLaw cX3_readLaw 5 (some .int)) (3 + d9) (100 * (3 + d9)) (wM g o s u) [.ref o] (some (.int r)) (wM g o s1 u))  (x2 : Int32) (x4 : Int32) (t0 : Int32) (t1 : Int32) (s : M) (hF : FX3_readLaw_b238 N sf  x2 x4 t0 t1 s = some (r, s1)) : kV g X 5 (wM g o s u) 238 [some (.ref o), none, some (.int x2), none, some (.int x4)] [.int t0, .int t1, .ref (o + 17)] := by
  unfold FX3_readLaw_b238 at hF
  obtain ⟨h19, hF⟩ := k_ite hF
  refine m_ast C ho (Nat.le_of_ble_eq_true rfl) (Nat.le_of_ble_eq_true rfl) (by decide) (n := 80) rfl h19 (ix := (t1.toNatClampNeg)) rfl dX3_readLaw_238 ?_
  refine v_aload_n C dX3_readLaw_239 rfl rfl ?_
  refine v_bipush C (v := (40 : Int32)) dX3_readLaw_240 (by decide) ?_
  refine m_callVv C lk_X3_142 rfl (fr2 := 2) (lo2 := 200) (As := [.int (40 : Int32)]) (st := []) (fun r s1 h => by rw [hl]; exact wX3_expect l g ho u N (40 : Int32) (sA s 17 (t1.toNatClampNeg) t0) r s1 h) ⟨by omega, by omega⟩ rfl rfl (Nat.le_of_ble_eq_true rfl) dX3_readLaw_242 hF (fun r20 s21 hF => ?_)
  refine v_aload_n C dX3_readLaw_245 rfl rfl ?_
  refine v_dup C dX3_readLaw_246 rfl ?_
  refine m_get C 20 (Nat.le_of_ble_eq_true rfl) q2322 (v := .int (s21.1 20)) rfl dX3_readLaw_247 ?_
  refine v_iconst C (v := (1 : Int32)) dX3_readLaw_250 (by decide) ?_
  refine v_iadd C dX3_readLaw_251 ?_
  refine m_put C ho 20 (Nat.le_of_ble_eq_true rfl) q2322 rfl rfl rfl rfl dX3_readLaw_252 ?_
  refine v_aload_n C dX3_readLaw_255 rfl rfl ?_
  refine m_get C 25 (Nat.le_of_ble_eq_true rfl) q2327 (v := .ref (o + 18)) rfl dX3_readLaw_256 ?_
  refine v_iload_n C dX3_readLaw_259 rfl rfl ?_
  refine v_aload_n C dX3_readLaw_260 rfl rfl ?_
  refine m_callVi C lk_X3_145 rfl (fr2 := 3 + (d - 1)) (lo2 := 100 * (3 + (d - 1))) (As := []) (st := [.int x2, .ref (o + 18)]) (fun r s1 h => by rw [hl]; exact hsf (d - 1) (by omega)  (sS s21 20 ((s21.1 20) + (1 : Int32))) r s1 h) ⟨by omega, by omega⟩ rfl rfl (Nat.le_of_ble_eq_true rfl) dX3_readLaw_261 hF (fun r22 s23 hF => ?_)
  obtain ⟨h24, hF⟩ := k_ite hF
  refine m_ast C ho (Nat.le_of_ble_eq_true rfl) (Nat.le_of_ble_eq_true rfl) (by decide) (n := 80) rfl h24 (ix := (x2.toNatClampNeg)) rfl dX3_readLaw_264 ?_
  refine v_iload C dX3_readLaw_265 rfl ?_
  refine v_if_ne C (tgt := 286) dX3_readLaw_267 (by decide) hF (fun c25 hF => ?_) (fun c25 hF => ?_)
  · refine v_aload_n C dX3_readLaw_270 rfl rfl ?_
    refine v_bipush C (v := (44 : Int32)) dX3_readLaw_271 (by decide) ?_
    refine m_callVv C lk_X3_142 rfl (fr2 := 2) (lo2 := 200) (As := [.int (44 : Int32)]) (st := []) (fun r s1 h => by rw [hl]; exact wX3_expect l g ho u N (44 : Int32) (sA s23 18 (x2.toNatClampNeg) r22) r s1 h) ⟨by omega, by omega⟩ rfl rfl (Nat.le_of_ble_eq_true rfl) dX3_readLaw_273 hF (fun r26 s27 hF => ?_)
    refine v_aload_n C dX3_readLaw_276 rfl rfl ?_
    refine m_get C 26 (Nat.le_of_ble_eq_true rfl) q2328 (v := .ref (o + 19)) rfl dX3_readLaw_277 ?_
    refine v_iload_n C dX3_readLaw_280 rfl rfl ?_
    refine v_aload_n C dX3_readLaw_281 rfl rfl ?_
    refine m_callVi C lk_X3_145 rfl (fr2 := 3 + (d - 1)) (lo2 := 100 * (3 + (d - 1))) (As := []) (st := [.int x2, .ref (o + 19)]) (fun r s1 h => by rw [hl]; exact hsf (d - 1) (by omega)  s27 r s1 h) ⟨by omega, by omega⟩ rfl rfl (Nat.le_of_ble_eq_true rfl) dX3_readLaw_282 hF (fun r28 s29 hF => ?_)
    obtain ⟨h30, hF⟩ := k_ite hF
    refine m_ast C ho (Nat.le_of_ble_eq_true rfl) (Nat.le_of_ble_eq_true rfl) (by decide) (n := 80) rfl h30 (ix := (x2.toNatClampNeg)) rfl dX3_readLaw_285 ?_
    refine v_mask [true, false, true, false, false] (lv' := [some (.ref o), none, some (.int x2), none, none]) rfl ?_
    exact wX3_readLaw_b286 C ho hl N sf hd0 hsf  (x2) ((sA s29 19 (x2.toNatClampNeg) r28)) hF
  · refine v_mask [true, false, true, false, false] (lv' := [some (.ref o), none, some (.int x2), none, none]) rfl ?_
    exact wX3_readLaw_b286 C ho hl N sf hd0 hsf  (x2) ((sA s23 18 (x2.toNatClampNeg) r22)) hF
set_option maxHeartbeats 4000000 in
theorem wX3_readLaw_b231 {l : Launch} {g : GT} {X : CxT} {o : Nat} {u : Wd} {d : Nat} {r : Int32} {s1 : M} (C : kOk g X cX3_readLaw 5 RX3 (some .int) (3 + d) (100 * (3 + d)) (some (.int r)) (wM g o s1 u)) (ho : gB g ≤ o) (hl : xl X = l) (N : Nat) (sf : M → Option (Int32 × M)) (hd0 : 0 < d) (hsf : ∀ d9, d9 + 1 = d → ∀  (s : M) r s1, sf  s = some (r, s1) → kMt l g yX3_readLaw (ws_ yX3_readLaw cX3_readLaw 5 (some .int)) (3 + d9) (100 * (3 + d9)) (wM g o s u) [.ref o] (some (.int r)) (wM g o s1 u))  (x2 : Int32) (x4 : Int32) (t0 : Int32) (t2 : Int32) (s : M) (hF : FX3_readLaw_b231 N sf  x2 x4 t0 t2 s = some (r, s1)) : kV g X 5 (wM g o s u) 231 [some (.ref o), none, some (.int x2), none, some (.int x4)] [.int t0, .ref o, .int t2, .ref (o + 17)] := by
  unfold FX3_readLaw_b231 at hF
  refine m_callVi C lk_X3_138 rfl (fr2 := 2) (lo2 := 200) (As := [.int t0]) (st := [.int t2, .ref (o + 17)]) (fun r s1 h => by rw [hl]; exact wX3_readNumber l g ho u N t0 s r s1 h) ⟨by omega, by omega⟩ rfl rfl (Nat.le_of_ble_eq_true rfl) dX3_readLaw_231 hF (fun r34 s35 hF => ?_)
  refine v_goto C (tgt := 238) dX3_readLaw_234 (by decide) ?_
  refine v_mask [true, false, true, false, true] (lv' := [some (.ref o), none, some (.int x2), none, some (.int x4)]) rfl ?_
  exact wX3_readLaw_b238 C ho hl N sf hd0 hsf  (x2) (x4) (r34) (t2) (s35) hF
set_option maxHeartbeats 4000000 in
theorem wX3_readLaw_b226 {l : Launch} {g : GT} {X : CxT} {o : Nat} {u : Wd} {d : Nat} {r : Int32} {s1 : M} (C : kOk g X cX3_readLaw 5 RX3 (some .int) (3 + d) (100 * (3 + d)) (some (.int r)) (wM g o s1 u)) (ho : gB g ≤ o) (hl : xl X = l) (N : Nat) (sf : M → Option (Int32 × M)) (hd0 : 0 < d) (hsf : ∀ d9, d9 + 1 = d → ∀  (s : M) r s1, sf  s = some (r, s1) → kMt l g yX3_readLaw (ws_ yX3_readLaw cX3_readLaw 5 (some .int)) (3 + d9) (100 * (3 + d9)) (wM g o s u) [.ref o] (some (.int r)) (wM g o s1 u))  (x2 : Int32) (x4 : Int32) (t1 : Int32) (s : M) (hF : FX3_readLaw_b226 N sf  x2 x4 t1 s = some (r, s1)) : kV g X 5 (wM g o s u) 226 [some (.ref o), none, some (.int x2), none, some (.int x4)] [.ref o, .int t1, .ref (o + 17)] := by
  unfold FX3_readLaw_b226 at hF
  refine v_iconst C (v := (1 : Int32)) dX3_readLaw_226 (by decide) ?_
  refine v_goto C (tgt := 231) dX3_readLaw_227 (by decide) ?_
  refine v_mask [true, false, true, false, true] (lv' := [some (.ref o), none, some (.int x2), none, some (.int x4)]) rfl ?_
  exact wX3_readLaw_b231 C ho hl N sf hd0 hsf  (x2) (x4) ((1 : Int32)) (t1) (s) hF
set_option maxHeartbeats 4000000 in
theorem wX3_readLaw_b158 {l : Launch} {g : GT} {X : CxT} {o : Nat} {u : Wd} {d : Nat} {r : Int32} {s1 : M} (C : kOk g X cX3_readLaw 5 RX3 (some .int) (3 + d) (100 * (3 + d)) (some (.int r)) (wM g o s1 u)) (ho : gB g ≤ o) (hl : xl X = l) (N : Nat) (sf : M → Option (Int32 × M)) (hd0 : 0 < d) (hsf : ∀ d9, d9 + 1 = d → ∀  (s : M) r s1, sf  s = some (r, s1) → kMt l g yX3_readLaw (ws_ yX3_readLaw cX3_readLaw 5 (some .int)) (3 + d9) (100 * (3 + d9)) (wM g o s u) [.ref o] (some (.int r)) (wM g o s1 u))  (x1 : Int32) (x2 : Int32) (x3 : Int32) (x4 : Int32) (s : M) (hF : FX3_readLaw_b158 N sf  x1 x2 x3 x4 s = some (r, s1)) : kV g X 5 (wM g o s u) 158 [some (.ref o), some (.int x1), some (.int x2), some (.int x3), some (.int x4)] [] := by
  unfold FX3_readLaw_b158 at hF
  refine v_aload_n C dX3_readLaw_158 rfl rfl ?_
  refine m_get C 20 (Nat.le_of_ble_eq_true rfl) q2322 (v := .int (s.1 20)) rfl dX3_readLaw_159 ?_
  refine v_bipush C (v := (6 : Int32)) dX3_readLaw_162 (by decide) ?_
  refine v_icmp_ne C (tgt := 177) dX3_readLaw_164 (by decide) hF (fun c14 hF => ?_) (fun c14 hF => ?_)
  · refine v_mask [true, false, false, false, false] (lv' := [some (.ref o), none, none, none, none]) rfl ?_
    exact wX3_readLaw_b167 C ho hl N sf hd0 hsf   (s) hF
  · refine v_aload_n C dX3_readLaw_177 rfl rfl ?_
    refine v_dup C dX3_readLaw_178 rfl ?_
    refine m_get C 21 (Nat.le_of_ble_eq_true rfl) q2323 (v := .int (s.1 21)) rfl dX3_readLaw_179 ?_
    refine v_iconst C (v := (1 : Int32)) dX3_readLaw_182 (by decide) ?_
    refine v_iadd C dX3_readLaw_183 ?_
    refine m_put C ho 21 (Nat.le_of_ble_eq_true rfl) q2323 rfl rfl rfl rfl dX3_readLaw_184 ?_
    refine v_aload_n C dX3_readLaw_187 rfl rfl ?_
    refine m_get C 23 (Nat.le_of_ble_eq_true rfl) q2325 (v := .ref (o + 16)) rfl dX3_readLaw_188 ?_
    refine v_iload_n C dX3_readLaw_191 rfl rfl ?_
    refine v_iload_n C dX3_readLaw_192 rfl rfl ?_
    obtain ⟨h17, hF⟩ := k_ite hF
    refine m_ast C ho (Nat.le_of_ble_eq_true rfl) (Nat.le_of_ble_eq_true rfl) (by decide) (n := 80) rfl h17 (ix := (x2.toNatClampNeg)) rfl dX3_readLaw_193 ?_
    refine v_aload_n C dX3_readLaw_194 rfl rfl ?_
    refine v_dup C dX3_readLaw_195 rfl ?_
    refine m_get C 18 (Nat.le_of_ble_eq_true rfl) q2320 (v := .int ((sA (sS s 21 ((s.1 21) + (1 : Int32))) 16 (x2.toNatClampNeg) x1).1 18)) rfl dX3_readLaw_196 ?_
    refine v_iconst C (v := (1 : Int32)) dX3_readLaw_199 (by decide) ?_
    refine v_iadd C dX3_readLaw_200 ?_
    refine m_put C ho 18 (Nat.le_of_ble_eq_true rfl) q2320 rfl rfl rfl rfl dX3_readLaw_201 ?_
    refine v_aload_n C dX3_readLaw_204 rfl rfl ?_
    refine m_get C 24 (Nat.le_of_ble_eq_true rfl) q2326 (v := .ref (o + 17)) rfl dX3_readLaw_205 ?_
    refine v_iload_n C dX3_readLaw_208 rfl rfl ?_
    refine v_iload_n C dX3_readLaw_209 rfl rfl ?_
    refine v_if_eq C (tgt := 237) dX3_readLaw_210 (by decide) hF (fun c18 hF => ?_) (fun c18 hF => ?_)
    · refine v_iconst C (v := (0 : Int32)) dX3_readLaw_237 (by decide) ?_
      refine v_mask [true, false, true, false, true] (lv' := [some (.ref o), none, some (.int x2), none, some (.int x4)]) rfl ?_
      exact wX3_readLaw_b238 C ho hl N sf hd0 hsf  (x2) (x4) ((0 : Int32)) (x2) ((sS (sA (sS s 21 ((s.1 21) + (1 : Int32))) 16 (x2.toNatClampNeg) x1) 18 (((sA (sS s 21 ((s.1 21) + (1 : Int32))) 16 (x2.toNatClampNeg) x1).1 18) + (1 : Int32)))) hF
    · refine v_aload_n C dX3_readLaw_213 rfl rfl ?_
      refine v_iload_n C dX3_readLaw_214 rfl rfl ?_
      refine v_bipush C (v := (107 : Int32)) dX3_readLaw_215 (by decide) ?_
      refine v_icmp_eq C (tgt := 226) dX3_readLaw_217 (by decide) hF (fun c33 hF => ?_) (fun c33 hF => ?_)
      · refine v_mask [true, false, true, false, true] (lv' := [some (.ref o), none, some (.int x2), none, some (.int x4)]) rfl ?_
        exact wX3_readLaw_b226 C ho hl N sf hd0 hsf  (x2) (x4) (x2) ((sS (sA (sS s 21 ((s.1 21) + (1 : Int32))) 16 (x2.toNatClampNeg) x1) 18 (((sA (sS s 21 ((s.1 21) + (1 : Int32))) 16 (x2.toNatClampNeg) x1).1 18) + (1 : Int32)))) hF
      · refine v_iload_n C dX3_readLaw_220 rfl rfl ?_
        refine v_bipush C (v := (120 : Int32)) dX3_readLaw_221 (by decide) ?_
        refine v_icmp_ne C (tgt := 230) dX3_readLaw_223 (by decide) hF (fun c36 hF => ?_) (fun c36 hF => ?_)
        · refine v_mask [true, false, true, false, true] (lv' := [some (.ref o), none, some (.int x2), none, some (.int x4)]) rfl ?_
          exact wX3_readLaw_b226 C ho hl N sf hd0 hsf  (x2) (x4) (x2) ((sS (sA (sS s 21 ((s.1 21) + (1 : Int32))) 16 (x2.toNatClampNeg) x1) 18 (((sA (sS s 21 ((s.1 21) + (1 : Int32))) 16 (x2.toNatClampNeg) x1).1 18) + (1 : Int32)))) hF
        · refine v_iconst C (v := (0 : Int32)) dX3_readLaw_230 (by decide) ?_
          refine v_mask [true, false, true, false, true] (lv' := [some (.ref o), none, some (.int x2), none, some (.int x4)]) rfl ?_
          exact wX3_readLaw_b231 C ho hl N sf hd0 hsf  (x2) (x4) ((0 : Int32)) (x2) ((sS (sA (sS s 21 ((s.1 21) + (1 : Int32))) 16 (x2.toNatClampNeg) x1) 18 (((sA (sS s 21 ((s.1 21) + (1 : Int32))) 16 (x2.toNatClampNeg) x1).1 18) + (1 : Int32)))) hF
set_option maxHeartbeats 4000000 in
theorem wX3_readLaw_b141 {l : Launch} {g : GT} {X : CxT} {o : Nat} {u : Wd} {d : Nat} {r : Int32} {s1 : M} (C : kOk g X cX3_readLaw 5 RX3 (some .int) (3 + d) (100 * (3 + d)) (some (.int r)) (wM g o s1 u)) (ho : gB g ≤ o) (hl : xl X = l) (N : Nat) (sf : M → Option (Int32 × M)) (hd0 : 0 < d) (hsf : ∀ d9, d9 + 1 = d → ∀  (s : M) r s1, sf  s = some (r, s1) → kMt l g yX3_readLaw (ws_ yX3_readLaw cX3_readLaw 5 (some .int)) (3 + d9) (100 * (3 + d9)) (wM g o s u) [.ref o] (some (.int r)) (wM g o s1 u))  (x1 : Int32) (x2 : Int32) (x3 : Int32) (t0 : Int32) (s : M) (hF : FX3_readLaw_b141 N sf  x1 x2 x3 t0 s = some (r, s1)) : kV g X 5 (wM g o s u) 141 [some (.ref o), some (.int x1), some (.int x2), some (.int x3), none] [.int t0] := by
  unfold FX3_readLaw_b141 at hF
  refine v_istore C dX3_readLaw_141 (Nat.le_of_ble_eq_true rfl) rfl (lv' := [some (.ref o), some (.int x1), some (.int x2), some (.int x3), some (.int t0)]) rfl ?_
  refine v_iload_n C dX3_readLaw_143 rfl rfl ?_
  refine v_if_ne C (tgt := 158) dX3_readLaw_144 (by decide) hF (fun c11 hF => ?_) (fun c11 hF => ?_)
  · refine v_iload C dX3_readLaw_147 rfl ?_
    refine v_if_ne C (tgt := 158) dX3_readLaw_149 (by decide) hF (fun c12 hF => ?_) (fun c12 hF => ?_)
    · refine v_iload_n C dX3_readLaw_152 rfl rfl ?_
      refine v_bipush C (v := (116 : Int32)) dX3_readLaw_153 (by decide) ?_
      refine v_icmp_ne C (tgt := 167) dX3_readLaw_155 (by decide) hF (fun c13 hF => ?_) (fun c13 hF => ?_)
      · refine v_mask [true, true, true, true, true] (lv' := [some (.ref o), some (.int x1), some (.int x2), some (.int x3), some (.int t0)]) rfl ?_
        exact wX3_readLaw_b158 C ho hl N sf hd0 hsf  (x1) (x2) (x3) (t0) (s) hF
      · refine v_mask [true, false, false, false, false] (lv' := [some (.ref o), none, none, none, none]) rfl ?_
        exact wX3_readLaw_b167 C ho hl N sf hd0 hsf   (s) hF
    · refine v_mask [true, true, true, true, true] (lv' := [some (.ref o), some (.int x1), some (.int x2), some (.int x3), some (.int t0)]) rfl ?_
      exact wX3_readLaw_b158 C ho hl N sf hd0 hsf  (x1) (x2) (x3) (t0) (s) hF
  · refine v_mask [true, true, true, true, true] (lv' := [some (.ref o), some (.int x1), some (.int x2), some (.int x3), some (.int t0)]) rfl ?_
    exact wX3_readLaw_b158 C ho hl N sf hd0 hsf  (x1) (x2) (x3) (t0) (s) hF
set_option maxHeartbeats 4000000 in
theorem wX3_readLaw_b136 {l : Launch} {g : GT} {X : CxT} {o : Nat} {u : Wd} {d : Nat} {r : Int32} {s1 : M} (C : kOk g X cX3_readLaw 5 RX3 (some .int) (3 + d) (100 * (3 + d)) (some (.int r)) (wM g o s1 u)) (ho : gB g ≤ o) (hl : xl X = l) (N : Nat) (sf : M → Option (Int32 × M)) (hd0 : 0 < d) (hsf : ∀ d9, d9 + 1 = d → ∀  (s : M) r s1, sf  s = some (r, s1) → kMt l g yX3_readLaw (ws_ yX3_readLaw cX3_readLaw 5 (some .int)) (3 + d9) (100 * (3 + d9)) (wM g o s u) [.ref o] (some (.int r)) (wM g o s1 u))  (x1 : Int32) (x2 : Int32) (x3 : Int32) (s : M) (hF : FX3_readLaw_b136 N sf  x1 x2 x3 s = some (r, s1)) : kV g X 5 (wM g o s u) 136 [some (.ref o), some (.int x1), some (.int x2), some (.int x3), none] [] := by
  unfold FX3_readLaw_b136 at hF
  refine v_iconst C (v := (1 : Int32)) dX3_readLaw_136 (by decide) ?_
  refine v_goto C (tgt := 141) dX3_readLaw_137 (by decide) ?_
  refine v_mask [true, true, true, true, false] (lv' := [some (.ref o), some (.int x1), some (.int x2), some (.int x3), none]) rfl ?_
  exact wX3_readLaw_b141 C ho hl N sf hd0 hsf  (x1) (x2) (x3) ((1 : Int32)) (s) hF
set_option maxHeartbeats 4000000 in
theorem wX3_readLaw_b111 {l : Launch} {g : GT} {X : CxT} {o : Nat} {u : Wd} {d : Nat} {r : Int32} {s1 : M} (C : kOk g X cX3_readLaw 5 RX3 (some .int) (3 + d) (100 * (3 + d)) (some (.int r)) (wM g o s1 u)) (ho : gB g ≤ o) (hl : xl X = l) (N : Nat) (sf : M → Option (Int32 × M)) (hd0 : 0 < d) (hsf : ∀ d9, d9 + 1 = d → ∀  (s : M) r s1, sf  s = some (r, s1) → kMt l g yX3_readLaw (ws_ yX3_readLaw cX3_readLaw 5 (some .int)) (3 + d9) (100 * (3 + d9)) (wM g o s u) [.ref o] (some (.int r)) (wM g o s1 u))  (x1 : Int32) (x2 : Int32) (t0 : Int32) (s : M) (hF : FX3_readLaw_b111 N sf  x1 x2 t0 s = some (r, s1)) : kV g X 5 (wM g o s u) 111 [some (.ref o), some (.int x1), some (.int x2), none, none] [.int t0] := by
  unfold FX3_readLaw_b111 at hF
  refine v_istore_n C dX3_readLaw_111 rfl (Nat.le_of_ble_eq_true rfl) rfl (lv' := [some (.ref o), some (.int x1), some (.int x2), some (.int t0), none]) rfl ?_
  refine v_iload_n C dX3_readLaw_112 rfl rfl ?_
  refine v_bipush C (v := (115 : Int32)) dX3_readLaw_113 (by decide) ?_
  refine v_icmp_eq C (tgt := 136) dX3_readLaw_115 (by decide) hF (fun c10 hF => ?_) (fun c10 hF => ?_)
  · refine v_mask [true, true, true, true, false] (lv' := [some (.ref o), some (.int x1), some (.int x2), some (.int t0), none]) rfl ?_
    exact wX3_readLaw_b136 C ho hl N sf hd0 hsf  (x1) (x2) (t0) (s) hF
  · refine v_iload_n C dX3_readLaw_118 rfl rfl ?_
    refine v_bipush C (v := (100 : Int32)) dX3_readLaw_119 (by decide) ?_
    refine v_icmp_eq C (tgt := 136) dX3_readLaw_121 (by decide) hF (fun c37 hF => ?_) (fun c37 hF => ?_)
    · refine v_mask [true, true, true, true, false] (lv' := [some (.ref o), some (.int x1), some (.int x2), some (.int t0), none]) rfl ?_
      exact wX3_readLaw_b136 C ho hl N sf hd0 hsf  (x1) (x2) (t0) (s) hF
    · refine v_iload_n C dX3_readLaw_124 rfl rfl ?_
      refine v_bipush C (v := (114 : Int32)) dX3_readLaw_125 (by decide) ?_
      refine v_icmp_eq C (tgt := 136) dX3_readLaw_127 (by decide) hF (fun c38 hF => ?_) (fun c38 hF => ?_)
      · refine v_mask [true, true, true, true, false] (lv' := [some (.ref o), some (.int x1), some (.int x2), some (.int t0), none]) rfl ?_
        exact wX3_readLaw_b136 C ho hl N sf hd0 hsf  (x1) (x2) (t0) (s) hF
      · refine v_iload_n C dX3_readLaw_130 rfl rfl ?_
        refine v_bipush C (v := (109 : Int32)) dX3_readLaw_131 (by decide) ?_
        refine v_icmp_ne C (tgt := 140) dX3_readLaw_133 (by decide) hF (fun c39 hF => ?_) (fun c39 hF => ?_)
        · refine v_mask [true, true, true, true, false] (lv' := [some (.ref o), some (.int x1), some (.int x2), some (.int t0), none]) rfl ?_
          exact wX3_readLaw_b136 C ho hl N sf hd0 hsf  (x1) (x2) (t0) (s) hF
        · refine v_iconst C (v := (0 : Int32)) dX3_readLaw_140 (by decide) ?_
          refine v_mask [true, true, true, true, false] (lv' := [some (.ref o), some (.int x1), some (.int x2), some (.int t0), none]) rfl ?_
          exact wX3_readLaw_b141 C ho hl N sf hd0 hsf  (x1) (x2) (t0) ((0 : Int32)) (s) hF
set_option maxHeartbeats 4000000 in
theorem wX3_readLaw_b106 {l : Launch} {g : GT} {X : CxT} {o : Nat} {u : Wd} {d : Nat} {r : Int32} {s1 : M} (C : kOk g X cX3_readLaw 5 RX3 (some .int) (3 + d) (100 * (3 + d)) (some (.int r)) (wM g o s1 u)) (ho : gB g ≤ o) (hl : xl X = l) (N : Nat) (sf : M → Option (Int32 × M)) (hd0 : 0 < d) (hsf : ∀ d9, d9 + 1 = d → ∀  (s : M) r s1, sf  s = some (r, s1) → kMt l g yX3_readLaw (ws_ yX3_readLaw cX3_readLaw 5 (some .int)) (3 + d9) (100 * (3 + d9)) (wM g o s u) [.ref o] (some (.int r)) (wM g o s1 u))  (x1 : Int32) (x2 : Int32) (s : M) (hF : FX3_readLaw_b106 N sf  x1 x2 s = some (r, s1)) : kV g X 5 (wM g o s u) 106 [some (.ref o), some (.int x1), some (.int x2), none, none] [] := by
  unfold FX3_readLaw_b106 at hF
  refine v_iconst C (v := (1 : Int32)) dX3_readLaw_106 (by decide) ?_
  refine v_goto C (tgt := 111) dX3_readLaw_107 (by decide) ?_
  refine v_mask [true, true, true, false, false] (lv' := [some (.ref o), some (.int x1), some (.int x2), none, none]) rfl ?_
  exact wX3_readLaw_b111 C ho hl N sf hd0 hsf  (x1) (x2) ((1 : Int32)) (s) hF
set_option maxHeartbeats 4000000 in
theorem wX3_readLaw (l : Launch) (g : GT) {o : Nat} (ho : gB g ≤ o) (u : Wd) (N : Nat) : ∀ (d : Nat)  (s : M) (r : Int32) (s1 : M), FX3_readLaw N d  s = some (r, s1) → kMt l g yX3_readLaw (ws_ yX3_readLaw cX3_readLaw 5 (some .int)) ((3 + d)) ((100 * (3 + d))) (wM g o s u) [.ref o] (some (.int r)) (wM g o s1 u) := by
  intro d
  induction d with
  | zero => intro  s r s1 hF; cases hF
  | succ d ih =>
  intro  s r s1 hF
  have hsf : ∀ d9, d9 + 1 = d + 1 → ∀  (s : M) r s1, FX3_readLaw N d  s = some (r, s1) → kMt l g yX3_readLaw (ws_ yX3_readLaw cX3_readLaw 5 (some .int)) (3 + d9) (100 * (3 + d9)) (wM g o s u) [.ref o] (some (.int r)) (wM g o s1 u) := by
    intro d9 h9
    cases h9
    exact ih
  have hF : FX3_readLaw_e N (FX3_readLaw N d)  s = some (r, s1) := hF
  clear ih
  have hd0 : 0 < d + 1 := Nat.succ_pos d
  generalize FX3_readLaw N d = sf at hF hsf
  generalize d + 1 = d at hsf hd0 ⊢
  refine kMt.ofV (lv := [some (.ref o), none, none, none, none]) (by decide) rfl (Nat.le_of_ble_eq_true rfl) rfl ?_
  intro X hl hin C
  unfold FX3_readLaw_e at hF
  refine v_aload_n C dX3_readLaw_0 rfl rfl ?_
  refine m_get C 19 (Nat.le_of_ble_eq_true rfl) q2321 (v := .int (s.1 19)) rfl dX3_readLaw_1 ?_
  refine v_if_lt C (tgt := 9) dX3_readLaw_4 (by decide) hF (fun c1 hF => ?_) (fun c1 hF => ?_)
  · refine v_aload_n C dX3_readLaw_9 rfl rfl ?_
    refine m_callVi C lk_X3_121 rfl (fr2 := 1) (lo2 := 100) (As := []) (st := []) (fun r s1 h => by rw [hl]; exact wX3_here l g ho u N  s r s1 h) ⟨by omega, by omega⟩ rfl rfl (Nat.le_of_ble_eq_true rfl) dX3_readLaw_10 hF (fun r2 s3 hF => ?_)
    refine v_istore_n C dX3_readLaw_13 rfl (Nat.le_of_ble_eq_true rfl) rfl (lv' := [some (.ref o), some (.int r2), none, none, none]) rfl ?_
    refine v_aload_n C dX3_readLaw_14 rfl rfl ?_
    refine m_get C 21 (Nat.le_of_ble_eq_true rfl) q2323 (v := .int (s3.1 21)) rfl dX3_readLaw_15 ?_
    refine v_istore_n C dX3_readLaw_18 rfl (Nat.le_of_ble_eq_true rfl) rfl (lv' := [some (.ref o), some (.int r2), some (.int (s3.1 21)), none, none]) rfl ?_
    refine v_iload_n C dX3_readLaw_19 rfl rfl ?_
    refine v_bipush C (v := (105 : Int32)) dX3_readLaw_20 (by decide) ?_
    refine v_icmp_eq C (tgt := 43) dX3_readLaw_22 (by decide) hF (fun c4 hF => ?_) (fun c4 hF => ?_)
    · refine v_mask [true, true, true, false, false] (lv' := [some (.ref o), some (.int r2), some (.int (s3.1 21)), none, none]) rfl ?_
      exact wX3_readLaw_b43 C ho hl N sf hd0 hsf  (r2) ((s3.1 21)) (s3) hF
    · refine v_iload_n C dX3_readLaw_25 rfl rfl ?_
      refine v_bipush C (v := (102 : Int32)) dX3_readLaw_26 (by decide) ?_
      refine v_icmp_eq C (tgt := 43) dX3_readLaw_28 (by decide) hF (fun c6 hF => ?_) (fun c6 hF => ?_)
      · refine v_mask [true, true, true, false, false] (lv' := [some (.ref o), some (.int r2), some (.int (s3.1 21)), none, none]) rfl ?_
        exact wX3_readLaw_b43 C ho hl N sf hd0 hsf  (r2) ((s3.1 21)) (s3) hF
      · refine v_iload_n C dX3_readLaw_31 rfl rfl ?_
        refine v_bipush C (v := (98 : Int32)) dX3_readLaw_32 (by decide) ?_
        refine v_icmp_eq C (tgt := 43) dX3_readLaw_34 (by decide) hF (fun c7 hF => ?_) (fun c7 hF => ?_)
        · refine v_mask [true, true, true, false, false] (lv' := [some (.ref o), some (.int r2), some (.int (s3.1 21)), none, none]) rfl ?_
          exact wX3_readLaw_b43 C ho hl N sf hd0 hsf  (r2) ((s3.1 21)) (s3) hF
        · refine v_iload_n C dX3_readLaw_37 rfl rfl ?_
          refine v_bipush C (v := (104 : Int32)) dX3_readLaw_38 (by decide) ?_
          refine v_icmp_ne C (tgt := 82) dX3_readLaw_40 (by decide) hF (fun c8 hF => ?_) (fun c8 hF => ?_)
          · refine v_mask [true, true, true, false, false] (lv' := [some (.ref o), some (.int r2), some (.int (s3.1 21)), none, none]) rfl ?_
            exact wX3_readLaw_b43 C ho hl N sf hd0 hsf  (r2) ((s3.1 21)) (s3) hF
          · refine v_iload_n C dX3_readLaw_82 rfl rfl ?_
            refine v_bipush C (v := (107 : Int32)) dX3_readLaw_83 (by decide) ?_
            refine v_icmp_eq C (tgt := 106) dX3_readLaw_85 (by decide) hF (fun c9 hF => ?_) (fun c9 hF => ?_)
            · refine v_mask [true, true, true, false, false] (lv' := [some (.ref o), some (.int r2), some (.int (s3.1 21)), none, none]) rfl ?_
              exact wX3_readLaw_b106 C ho hl N sf hd0 hsf  (r2) ((s3.1 21)) (s3) hF
            · refine v_iload_n C dX3_readLaw_88 rfl rfl ?_
              refine v_bipush C (v := (99 : Int32)) dX3_readLaw_89 (by decide) ?_
              refine v_icmp_eq C (tgt := 106) dX3_readLaw_91 (by decide) hF (fun c40 hF => ?_) (fun c40 hF => ?_)
              · refine v_mask [true, true, true, false, false] (lv' := [some (.ref o), some (.int r2), some (.int (s3.1 21)), none, none]) rfl ?_
                exact wX3_readLaw_b106 C ho hl N sf hd0 hsf  (r2) ((s3.1 21)) (s3) hF
              · refine v_iload_n C dX3_readLaw_94 rfl rfl ?_
                refine v_bipush C (v := (120 : Int32)) dX3_readLaw_95 (by decide) ?_
                refine v_icmp_eq C (tgt := 106) dX3_readLaw_97 (by decide) hF (fun c41 hF => ?_) (fun c41 hF => ?_)
                · refine v_mask [true, true, true, false, false] (lv' := [some (.ref o), some (.int r2), some (.int (s3.1 21)), none, none]) rfl ?_
                  exact wX3_readLaw_b106 C ho hl N sf hd0 hsf  (r2) ((s3.1 21)) (s3) hF
                · refine v_iload_n C dX3_readLaw_100 rfl rfl ?_
                  refine v_bipush C (v := (115 : Int32)) dX3_readLaw_101 (by decide) ?_
                  refine v_icmp_ne C (tgt := 110) dX3_readLaw_103 (by decide) hF (fun c42 hF => ?_) (fun c42 hF => ?_)
                  · refine v_mask [true, true, true, false, false] (lv' := [some (.ref o), some (.int r2), some (.int (s3.1 21)), none, none]) rfl ?_
                    exact wX3_readLaw_b106 C ho hl N sf hd0 hsf  (r2) ((s3.1 21)) (s3) hF
                  · refine v_iconst C (v := (0 : Int32)) dX3_readLaw_110 (by decide) ?_
                    refine v_mask [true, true, true, false, false] (lv' := [some (.ref o), some (.int r2), some (.int (s3.1 21)), none, none]) rfl ?_
                    exact wX3_readLaw_b111 C ho hl N sf hd0 hsf  (r2) ((s3.1 21)) ((0 : Int32)) (s3) hF
  · refine v_iconst C (v := (0 : Int32)) dX3_readLaw_7 (by decide) ?_
    exact m_iret C dX3_readLaw_8 hF
set_option maxHeartbeats 4000000 in
theorem wX3_law_b78 {l : Launch} {g : GT} {X : CxT} {o : Nat} {u : Wd} {r : Int32} {s1 : M} (C : kOk g X cX3_law 2 RX3 (some .int) 14 1400 (some (.int r)) (wM g o s1 u)) (ho : gB g ≤ o) (hl : xl X = l) (N : Nat) (k78 : Int32 × M → Option (Int32 × M)) (hk78 : ∀ a, k78 a = some (r, s1) → kV g X 2 (wM g o a.2 u) 78 [some (.ref o), some (.int a.1)] []) (x1 : Int32) (s : M) (hF : FX3_law_b78 N k78 x1 s = some (r, s1)) : kV g X 2 (wM g o s u) 78 [some (.ref o), some (.int x1)] [] := by
  unfold FX3_law_b78 at hF
  refine v_iload_n C dX3_law_78 rfl rfl ?_
  refine v_aload_n C dX3_law_79 rfl rfl ?_
  refine m_get C 21 (Nat.le_of_ble_eq_true rfl) q2323 (v := .int (s.1 21)) rfl dX3_law_80 ?_
  refine v_icmp_ge C (tgt := 140) dX3_law_83 (by decide) hF (fun c5 hF => ?_) (fun c5 hF => ?_)
  · refine v_aload_n C dX3_law_140 rfl rfl ?_
    refine m_get C 22 (Nat.le_of_ble_eq_true rfl) q2324 (v := .int (s.1 22)) rfl dX3_law_141 ?_
    exact m_iret C dX3_law_144 hF
  · refine v_aload_n C dX3_law_86 rfl rfl ?_
    refine m_get C 12 (Nat.le_of_ble_eq_true rfl) q2314 (v := .ref (o + 11)) rfl dX3_law_87 ?_
    refine v_iload_n C dX3_law_90 rfl rfl ?_
    refine v_aload_n C dX3_law_91 rfl rfl ?_
    refine m_get C 23 (Nat.le_of_ble_eq_true rfl) q2325 (v := .ref (o + 16)) rfl dX3_law_92 ?_
    refine v_iload_n C dX3_law_95 rfl rfl ?_
    obtain ⟨h6, hF⟩ := k_ite hF
    refine m_ald C (Nat.le_of_ble_eq_true rfl) (Nat.le_of_ble_eq_true rfl) (by decide) (n := 80) rfl h6 (ix := (x1.toNatClampNeg)) rfl dX3_law_96 ?_
    obtain ⟨h7, hF⟩ := k_ite hF
    refine m_ast C ho (Nat.le_of_ble_eq_true rfl) (Nat.le_of_ble_eq_true rfl) (by decide) (n := 160) rfl h7 (ix := (x1.toNatClampNeg)) rfl dX3_law_97 ?_
    refine v_aload_n C dX3_law_98 rfl rfl ?_
    refine m_get C 13 (Nat.le_of_ble_eq_true rfl) q2315 (v := .ref (o + 12)) rfl dX3_law_99 ?_
    refine v_iload_n C dX3_law_102 rfl rfl ?_
    refine v_aload_n C dX3_law_103 rfl rfl ?_
    refine m_get C 24 (Nat.le_of_ble_eq_true rfl) q2326 (v := .ref (o + 17)) rfl dX3_law_104 ?_
    refine v_iload_n C dX3_law_107 rfl rfl ?_
    obtain ⟨h8, hF⟩ := k_ite hF
    refine m_ald C (Nat.le_of_ble_eq_true rfl) (Nat.le_of_ble_eq_true rfl) (by decide) (n := 80) rfl h8 (ix := (x1.toNatClampNeg)) rfl dX3_law_108 ?_
    obtain ⟨h9, hF⟩ := k_ite hF
    refine m_ast C ho (Nat.le_of_ble_eq_true rfl) (Nat.le_of_ble_eq_true rfl) (by decide) (n := 160) rfl h9 (ix := (x1.toNatClampNeg)) rfl dX3_law_109 ?_
    refine v_aload_n C dX3_law_110 rfl rfl ?_
    refine m_get C 14 (Nat.le_of_ble_eq_true rfl) q2316 (v := .ref (o + 13)) rfl dX3_law_111 ?_
    refine v_iload_n C dX3_law_114 rfl rfl ?_
    refine v_aload_n C dX3_law_115 rfl rfl ?_
    refine m_get C 25 (Nat.le_of_ble_eq_true rfl) q2327 (v := .ref (o + 18)) rfl dX3_law_116 ?_
    refine v_iload_n C dX3_law_119 rfl rfl ?_
    obtain ⟨h10, hF⟩ := k_ite hF
    refine m_ald C (Nat.le_of_ble_eq_true rfl) (Nat.le_of_ble_eq_true rfl) (by decide) (n := 80) rfl h10 (ix := (x1.toNatClampNeg)) rfl dX3_law_120 ?_
    obtain ⟨h11, hF⟩ := k_ite hF
    refine m_ast C ho (Nat.le_of_ble_eq_true rfl) (Nat.le_of_ble_eq_true rfl) (by decide) (n := 160) rfl h11 (ix := (x1.toNatClampNeg)) rfl dX3_law_121 ?_
    refine v_aload_n C dX3_law_122 rfl rfl ?_
    refine m_get C 15 (Nat.le_of_ble_eq_true rfl) q2317 (v := .ref (o + 14)) rfl dX3_law_123 ?_
    refine v_iload_n C dX3_law_126 rfl rfl ?_
    refine v_aload_n C dX3_law_127 rfl rfl ?_
    refine m_get C 26 (Nat.le_of_ble_eq_true rfl) q2328 (v := .ref (o + 19)) rfl dX3_law_128 ?_
    refine v_iload_n C dX3_law_131 rfl rfl ?_
    obtain ⟨h12, hF⟩ := k_ite hF
    refine m_ald C (Nat.le_of_ble_eq_true rfl) (Nat.le_of_ble_eq_true rfl) (by decide) (n := 80) rfl h12 (ix := (x1.toNatClampNeg)) rfl dX3_law_132 ?_
    obtain ⟨h13, hF⟩ := k_ite hF
    refine m_ast C ho (Nat.le_of_ble_eq_true rfl) (Nat.le_of_ble_eq_true rfl) (by decide) (n := 160) rfl h13 (ix := (x1.toNatClampNeg)) rfl dX3_law_133 ?_
    refine v_iinc C dX3_law_134 rfl (v := (x1 + (1 : Int32))) rfl (Nat.le_of_ble_eq_true rfl) rfl (lv' := [some (.ref o), some (.int (x1 + (1 : Int32)))]) rfl ?_
    refine v_goto C (tgt := 78) dX3_law_137 (by decide) ?_
    refine v_mask [true, true] (lv' := [some (.ref o), some (.int (x1 + (1 : Int32)))]) rfl ?_
    exact hk78 ((x1 + (1 : Int32)), (sA (sA (sA (sA s 11 (x1.toNatClampNeg) (s.2 16 (x1.toNatClampNeg))) 12 (x1.toNatClampNeg) ((sA s 11 (x1.toNatClampNeg) (s.2 16 (x1.toNatClampNeg))).2 17 (x1.toNatClampNeg))) 13 (x1.toNatClampNeg) ((sA (sA s 11 (x1.toNatClampNeg) (s.2 16 (x1.toNatClampNeg))) 12 (x1.toNatClampNeg) ((sA s 11 (x1.toNatClampNeg) (s.2 16 (x1.toNatClampNeg))).2 17 (x1.toNatClampNeg))).2 18 (x1.toNatClampNeg))) 14 (x1.toNatClampNeg) ((sA (sA (sA s 11 (x1.toNatClampNeg) (s.2 16 (x1.toNatClampNeg))) 12 (x1.toNatClampNeg) ((sA s 11 (x1.toNatClampNeg) (s.2 16 (x1.toNatClampNeg))).2 17 (x1.toNatClampNeg))) 13 (x1.toNatClampNeg) ((sA (sA s 11 (x1.toNatClampNeg) (s.2 16 (x1.toNatClampNeg))) 12 (x1.toNatClampNeg) ((sA s 11 (x1.toNatClampNeg) (s.2 16 (x1.toNatClampNeg))).2 17 (x1.toNatClampNeg))).2 18 (x1.toNatClampNeg))).2 19 (x1.toNatClampNeg)))) hF
set_option maxHeartbeats 4000000 in
theorem wX3_law_b56 {l : Launch} {g : GT} {X : CxT} {o : Nat} {u : Wd} {r : Int32} {s1 : M} (C : kOk g X cX3_law 2 RX3 (some .int) 14 1400 (some (.int r)) (wM g o s1 u)) (ho : gB g ≤ o) (hl : xl X = l) (N : Nat)   (s : M) (hF : FX3_law_b56 N   s = some (r, s1)) : kV g X 2 (wM g o s u) 56 [some (.ref o), none] [] := by
  unfold FX3_law_b56 at hF
  refine v_aload_n C dX3_law_56 rfl rfl ?_
  refine v_iconst C (v := (0 : Int32)) dX3_law_57 (by decide) ?_
  refine m_put C ho 17 (Nat.le_of_ble_eq_true rfl) q2319 rfl rfl rfl rfl dX3_law_58 ?_
  refine v_aload_n C dX3_law_61 rfl rfl ?_
  refine m_get C 19 (Nat.le_of_ble_eq_true rfl) q2321 (v := .int ((sS s 17 (0 : Int32)).1 19)) rfl dX3_law_62 ?_
  refine v_if_lt C (tgt := 76) dX3_law_65 (by decide) hF (fun c4 hF => ?_) (fun c4 hF => ?_)
  · refine v_iconst C (v := (0 : Int32)) dX3_law_76 (by decide) ?_
    refine v_istore_n C dX3_law_77 rfl (Nat.le_of_ble_eq_true rfl) rfl (lv' := [some (.ref o), some (.int (0 : Int32))]) rfl ?_
    refine v_mask [true, true] (lv' := [some (.ref o), some (.int (0 : Int32))]) rfl ?_
    exact kloop_ok (P := fun a => kV g X 2 (wM g o a.2 u) 78 [some (.ref o), some (.int a.1)] []) (fun self hs a hF => wX3_law_b78 C ho hl N  self hs a.1 a.2 hF) N ((0 : Int32), (sS s 17 (0 : Int32))) hF
  · refine v_bipush C (v := (-100 : Int32)) dX3_law_68 (by decide) ?_
    refine v_aload_n C dX3_law_70 rfl rfl ?_
    refine m_get C 19 (Nat.le_of_ble_eq_true rfl) q2321 (v := .int ((sS s 17 (0 : Int32)).1 19)) rfl dX3_law_71 ?_
    refine v_isub C dX3_law_74 ?_
    exact m_iret C dX3_law_75 hF
set_option maxHeartbeats 4000000 in
theorem wX3_law (l : Launch) (g : GT) {o : Nat} (ho : gB g ≤ o) (u : Wd) (N : Nat)   (s : M) (r : Int32) (s1 : M) (hF : FX3_law N  s = some (r, s1)) : kMt l g yX3_law (ws_ yX3_law cX3_law 2 (some .int)) (14) (1400) (wM g o s u) [.ref o] (some (.int r)) (wM g o s1 u) := by
  refine kMt.ofV (lv := [some (.ref o), none]) (by decide) rfl (Nat.le_of_ble_eq_true rfl) rfl ?_
  intro X hl hin C
  unfold FX3_law at hF
  refine v_aload_n C dX3_law_0 rfl rfl ?_
  refine v_iconst C (v := (0 : Int32)) dX3_law_1 (by decide) ?_
  refine m_put C ho 18 (Nat.le_of_ble_eq_true rfl) q2320 rfl rfl rfl rfl dX3_law_2 ?_
  refine v_aload_n C dX3_law_5 rfl rfl ?_
  refine v_iconst C (v := (-1 : Int32)) dX3_law_6 (by decide) ?_
  refine m_put C ho 19 (Nat.le_of_ble_eq_true rfl) q2321 rfl rfl rfl rfl dX3_law_7 ?_
  refine v_aload_n C dX3_law_10 rfl rfl ?_
  refine v_iconst C (v := (0 : Int32)) dX3_law_11 (by decide) ?_
  refine m_put C ho 20 (Nat.le_of_ble_eq_true rfl) q2322 rfl rfl rfl rfl dX3_law_12 ?_
  refine v_aload_n C dX3_law_15 rfl rfl ?_
  refine v_iconst C (v := (0 : Int32)) dX3_law_16 (by decide) ?_
  refine m_put C ho 21 (Nat.le_of_ble_eq_true rfl) q2323 rfl rfl rfl rfl dX3_law_17 ?_
  refine v_aload_n C dX3_law_20 rfl rfl ?_
  refine v_iconst C (v := (0 : Int32)) dX3_law_21 (by decide) ?_
  refine m_put C ho 22 (Nat.le_of_ble_eq_true rfl) q2324 rfl rfl rfl rfl dX3_law_22 ?_
  refine v_aload_n C dX3_law_25 rfl rfl ?_
  refine m_callVi C lk_X3_145 rfl (fr2 := 13) (lo2 := 1300) (As := []) (st := []) (fun r s1 h => by rw [hl]; exact wX3_readLaw l g ho u N 10  (sS (sS (sS (sS (sS s 18 (0 : Int32)) 19 (-1 : Int32)) 20 (0 : Int32)) 21 (0 : Int32)) 22 (0 : Int32)) r s1 h) (by decide) rfl rfl (Nat.le_of_ble_eq_true rfl) dX3_law_26 hF (fun r1 s2 hF => ?_)
  refine v_pop C dX3_law_29 rfl ?_
  refine v_aload_n C dX3_law_30 rfl rfl ?_
  refine m_get C 19 (Nat.le_of_ble_eq_true rfl) q2321 (v := .int (s2.1 19)) rfl dX3_law_31 ?_
  refine v_if_ge C (tgt := 56) dX3_law_34 (by decide) hF (fun c3 hF => ?_) (fun c3 hF => ?_)
  · refine v_mask [true, false] (lv' := [some (.ref o), none]) rfl ?_
    exact wX3_law_b56 C ho hl N   (s2) hF
  · refine v_aload_n C dX3_law_37 rfl rfl ?_
    refine m_get C 18 (Nat.le_of_ble_eq_true rfl) q2320 (v := .int (s2.1 18)) rfl dX3_law_38 ?_
    refine v_aload_n C dX3_law_41 rfl rfl ?_
    refine m_get C 17 (Nat.le_of_ble_eq_true rfl) q2319 (v := .int (s2.1 17)) rfl dX3_law_42 ?_
    refine v_icmp_ge C (tgt := 56) dX3_law_45 (by decide) hF (fun c14 hF => ?_) (fun c14 hF => ?_)
    · refine v_mask [true, false] (lv' := [some (.ref o), none]) rfl ?_
      exact wX3_law_b56 C ho hl N   (s2) hF
    · refine v_aload_n C dX3_law_48 rfl rfl ?_
      refine v_aload_n C dX3_law_49 rfl rfl ?_
      refine m_get C 18 (Nat.le_of_ble_eq_true rfl) q2320 (v := .int (s2.1 18)) rfl dX3_law_50 ?_
      refine m_callVv C lk_X3_125 rfl (fr2 := 1) (lo2 := 100) (As := [.int (s2.1 18)]) (st := []) (fun r s1 h => by rw [hl]; exact wX3_wrong l g ho u N (s2.1 18) s2 r s1 h) (by decide) rfl rfl (Nat.le_of_ble_eq_true rfl) dX3_law_53 hF (fun r15 s16 hF => ?_)
      refine v_mask [true, false] (lv' := [some (.ref o), none]) rfl ?_
      exact wX3_law_b56 C ho hl N   (s16) hF
set_option maxHeartbeats 4000000 in
theorem wX3_readCard_b124 {l : Launch} {g : GT} {X : CxT} {o : Nat} {u : Wd} {r : Unit} {s1 : M} (C : kOk g X cX3_readCard 3 RX3 none 2 200 none (wM g o s1 u)) (ho : gB g ≤ o) (hl : xl X = l) (N : Nat)  (t0 : Int32) (t1 : Int32) (s : M) (hF : FX3_readCard_b124 N  t0 t1 s = some (r, s1)) : kV g X 3 (wM g o s u) 124 [some (.ref o), none, none] [.int t0, .int t1, .ref (o + 21)] := by
  unfold FX3_readCard_b124 at hF
  obtain ⟨h9, hF⟩ := k_ite hF
  refine m_ast C ho (Nat.le_of_ble_eq_true rfl) (Nat.le_of_ble_eq_true rfl) (by decide) (n := 10) rfl h9 (ix := (t1.toNatClampNeg)) rfl dX3_readCard_124 ?_
  refine v_aload_n C dX3_readCard_125 rfl rfl ?_
  refine v_dup C dX3_readCard_126 rfl ?_
  refine m_get C 18 (Nat.le_of_ble_eq_true rfl) q2320 (v := .int ((sA s 21 (t1.toNatClampNeg) t0).1 18)) rfl dX3_readCard_127 ?_
  refine v_iconst C (v := (1 : Int32)) dX3_readCard_130 (by decide) ?_
  refine v_iadd C dX3_readCard_131 ?_
  refine m_put C ho 18 (Nat.le_of_ble_eq_true rfl) q2320 rfl rfl rfl rfl dX3_readCard_132 ?_
  exact m_vret C dX3_readCard_135 hF
set_option maxHeartbeats 4000000 in
theorem wX3_readCard_b105 {l : Launch} {g : GT} {X : CxT} {o : Nat} {u : Wd} {r : Unit} {s1 : M} (C : kOk g X cX3_readCard 3 RX3 none 2 200 none (wM g o s1 u)) (ho : gB g ≤ o) (hl : xl X = l) (N : Nat)  (x1 : Int32) (s : M) (hF : FX3_readCard_b105 N  x1 s = some (r, s1)) : kV g X 3 (wM g o s u) 105 [some (.ref o), some (.int x1), none] [] := by
  unfold FX3_readCard_b105 at hF
  refine v_aload_n C dX3_readCard_105 rfl rfl ?_
  refine m_get C 28 (Nat.le_of_ble_eq_true rfl) q2330 (v := .ref (o + 21)) rfl dX3_readCard_106 ?_
  refine v_iload_n C dX3_readCard_109 rfl rfl ?_
  refine v_aload_n C dX3_readCard_110 rfl rfl ?_
  refine m_callVi C lk_X3_121 rfl (fr2 := 1) (lo2 := 100) (As := []) (st := [.int x1, .ref (o + 21)]) (fun r s1 h => by rw [hl]; exact wX3_here l g ho u N  s r s1 h) (by decide) rfl rfl (Nat.le_of_ble_eq_true rfl) dX3_readCard_111 hF (fun r6 s7 hF => ?_)
  refine v_bipush C (v := (90 : Int32)) dX3_readCard_114 (by decide) ?_
  refine v_icmp_ne C (tgt := 123) dX3_readCard_116 (by decide) hF (fun c8 hF => ?_) (fun c8 hF => ?_)
  · refine v_iconst C (v := (1 : Int32)) dX3_readCard_119 (by decide) ?_
    refine v_goto C (tgt := 124) dX3_readCard_120 (by decide) ?_
    refine v_mask [true, false, false] (lv' := [some (.ref o), none, none]) rfl ?_
    exact wX3_readCard_b124 C ho hl N  ((1 : Int32)) (x1) (s7) hF
  · refine v_iconst C (v := (0 : Int32)) dX3_readCard_123 (by decide) ?_
    refine v_mask [true, false, false] (lv' := [some (.ref o), none, none]) rfl ?_
    exact wX3_readCard_b124 C ho hl N  ((0 : Int32)) (x1) (s7) hF
set_option maxHeartbeats 4000000 in
theorem wX3_readCard_b70 {l : Launch} {g : GT} {X : CxT} {o : Nat} {u : Wd} {r : Unit} {s1 : M} (C : kOk g X cX3_readCard 3 RX3 none 2 200 none (wM g o s1 u)) (ho : gB g ≤ o) (hl : xl X = l) (N : Nat)  (x1 : Int32) (s : M) (hF : FX3_readCard_b70 N  x1 s = some (r, s1)) : kV g X 3 (wM g o s u) 70 [some (.ref o), some (.int x1), none] [] := by
  unfold FX3_readCard_b70 at hF
  refine v_aload_n C dX3_readCard_70 rfl rfl ?_
  refine m_get C 19 (Nat.le_of_ble_eq_true rfl) q2321 (v := .int (s.1 19)) rfl dX3_readCard_71 ?_
  refine v_if_lt C (tgt := 78) dX3_readCard_74 (by decide) hF (fun c2 hF => ?_) (fun c2 hF => ?_)
  · refine v_aload_n C dX3_readCard_78 rfl rfl ?_
    refine m_callVi C lk_X3_121 rfl (fr2 := 1) (lo2 := 100) (As := []) (st := []) (fun r s1 h => by rw [hl]; exact wX3_here l g ho u N  s r s1 h) (by decide) rfl rfl (Nat.le_of_ble_eq_true rfl) dX3_readCard_79 hF (fun r3 s4 hF => ?_)
    refine v_bipush C (v := (83 : Int32)) dX3_readCard_82 (by decide) ?_
    refine v_icmp_eq C (tgt := 105) dX3_readCard_84 (by decide) hF (fun c5 hF => ?_) (fun c5 hF => ?_)
    · refine v_mask [true, true, false] (lv' := [some (.ref o), some (.int x1), none]) rfl ?_
      exact wX3_readCard_b105 C ho hl N  (x1) (s4) hF
    · refine v_aload_n C dX3_readCard_87 rfl rfl ?_
      refine m_callVi C lk_X3_121 rfl (fr2 := 1) (lo2 := 100) (As := []) (st := []) (fun r s1 h => by rw [hl]; exact wX3_here l g ho u N  s4 r s1 h) (by decide) rfl rfl (Nat.le_of_ble_eq_true rfl) dX3_readCard_88 hF (fun r10 s11 hF => ?_)
      refine v_bipush C (v := (90 : Int32)) dX3_readCard_91 (by decide) ?_
      refine v_icmp_eq C (tgt := 105) dX3_readCard_93 (by decide) hF (fun c12 hF => ?_) (fun c12 hF => ?_)
      · refine v_mask [true, true, false] (lv' := [some (.ref o), some (.int x1), none]) rfl ?_
        exact wX3_readCard_b105 C ho hl N  (x1) (s11) hF
      · refine v_aload_n C dX3_readCard_96 rfl rfl ?_
        refine v_aload_n C dX3_readCard_97 rfl rfl ?_
        refine m_get C 18 (Nat.le_of_ble_eq_true rfl) q2320 (v := .int (s11.1 18)) rfl dX3_readCard_98 ?_
        refine m_callVv C lk_X3_125 rfl (fr2 := 1) (lo2 := 100) (As := [.int (s11.1 18)]) (st := []) (fun r s1 h => by rw [hl]; exact wX3_wrong l g ho u N (s11.1 18) s11 r s1 h) (by decide) rfl rfl (Nat.le_of_ble_eq_true rfl) dX3_readCard_101 hF (fun r13 s14 hF => ?_)
        exact m_vret C dX3_readCard_104 hF
  · exact m_vret C dX3_readCard_77 hF
set_option maxHeartbeats 4000000 in
theorem wX3_readCard_b2 {l : Launch} {g : GT} {X : CxT} {o : Nat} {u : Wd} {r : Unit} {s1 : M} (C : kOk g X cX3_readCard 3 RX3 none 2 200 none (wM g o s1 u)) (ho : gB g ≤ o) (hl : xl X = l) (N : Nat) (k2 : Int32 × Int32 × M → Option (Unit × M)) (hk2 : ∀ a, k2 a = some (r, s1) → kV g X 3 (wM g o a.2.2 u) 2 [some (.ref o), some (.int a.1), some (.int a.2.1)] []) (x1 : Int32) (x2 : Int32) (s : M) (hF : FX3_readCard_b2 N k2 x1 x2 s = some (r, s1)) : kV g X 3 (wM g o s u) 2 [some (.ref o), some (.int x1), some (.int x2)] [] := by
  unfold FX3_readCard_b2 at hF
  refine v_iload_n C dX3_readCard_2 rfl rfl ?_
  refine v_iconst C (v := (4 : Int32)) dX3_readCard_3 (by decide) ?_
  refine v_icmp_ge C (tgt := 70) dX3_readCard_4 (by decide) hF (fun c1 hF => ?_) (fun c1 hF => ?_)
  · refine v_mask [true, true, false] (lv' := [some (.ref o), some (.int x1), none]) rfl ?_
    exact wX3_readCard_b70 C ho hl N  (x1) (s) hF
  · refine v_aload_n C dX3_readCard_7 rfl rfl ?_
    refine m_get C 19 (Nat.le_of_ble_eq_true rfl) q2321 (v := .int (s.1 19)) rfl dX3_readCard_8 ?_
    refine v_if_ge C (tgt := 70) dX3_readCard_11 (by decide) hF (fun c15 hF => ?_) (fun c15 hF => ?_)
    · refine v_mask [true, true, false] (lv' := [some (.ref o), some (.int x1), none]) rfl ?_
      exact wX3_readCard_b70 C ho hl N  (x1) (s) hF
    · refine v_aload_n C dX3_readCard_14 rfl rfl ?_
      refine m_callVi C lk_X3_121 rfl (fr2 := 1) (lo2 := 100) (As := []) (st := []) (fun r s1 h => by rw [hl]; exact wX3_here l g ho u N  s r s1 h) (by decide) rfl rfl (Nat.le_of_ble_eq_true rfl) dX3_readCard_15 hF (fun r16 s17 hF => ?_)
      refine v_bipush C (v := (97 : Int32)) dX3_readCard_18 (by decide) ?_
      refine v_bipush C (v := (106 : Int32)) dX3_readCard_20 (by decide) ?_
      refine m_callSi C lk_X3_108 (fr2 := 1) (lo2 := 100) (As := [.int r16, .int (97 : Int32), .int (106 : Int32)]) (st := []) (fun r s1 h => by rw [hl]; exact wX3_in l g ho u N r16 (97 : Int32) (106 : Int32) s17 r s1 h) (by decide) rfl rfl (Nat.le_of_ble_eq_true rfl) dX3_readCard_22 hF (fun r18 s19 hF => ?_)
      refine v_if_ne C (tgt := 37) dX3_readCard_25 (by decide) hF (fun c20 hF => ?_) (fun c20 hF => ?_)
      · refine v_aload_n C dX3_readCard_28 rfl rfl ?_
        refine v_aload_n C dX3_readCard_29 rfl rfl ?_
        refine m_get C 18 (Nat.le_of_ble_eq_true rfl) q2320 (v := .int (s19.1 18)) rfl dX3_readCard_30 ?_
        refine m_callVv C lk_X3_125 rfl (fr2 := 1) (lo2 := 100) (As := [.int (s19.1 18)]) (st := []) (fun r s1 h => by rw [hl]; exact wX3_wrong l g ho u N (s19.1 18) s19 r s1 h) (by decide) rfl rfl (Nat.le_of_ble_eq_true rfl) dX3_readCard_33 hF (fun r21 s22 hF => ?_)
        exact m_vret C dX3_readCard_36 hF
      · refine v_aload_n C dX3_readCard_37 rfl rfl ?_
        refine m_get C 27 (Nat.le_of_ble_eq_true rfl) q2329 (v := .ref (o + 20)) rfl dX3_readCard_38 ?_
        refine v_iconst C (v := (4 : Int32)) dX3_readCard_41 (by decide) ?_
        refine v_iload_n C dX3_readCard_42 rfl rfl ?_
        refine v_imul C dX3_readCard_43 ?_
        refine v_iload_n C dX3_readCard_44 rfl rfl ?_
        refine v_iadd C dX3_readCard_45 ?_
        refine v_aload_n C dX3_readCard_46 rfl rfl ?_
        refine m_callVi C lk_X3_121 rfl (fr2 := 1) (lo2 := 100) (As := []) (st := [.int (((4 : Int32) * x1) + x2), .ref (o + 20)]) (fun r s1 h => by rw [hl]; exact wX3_here l g ho u N  s19 r s1 h) (by decide) rfl rfl (Nat.le_of_ble_eq_true rfl) dX3_readCard_47 hF (fun r23 s24 hF => ?_)
        refine v_bipush C (v := (97 : Int32)) dX3_readCard_50 (by decide) ?_
        refine v_isub C dX3_readCard_52 ?_
        obtain ⟨h25, hF⟩ := k_ite hF
        refine m_ast C ho (Nat.le_of_ble_eq_true rfl) (Nat.le_of_ble_eq_true rfl) (by decide) (n := 40) rfl h25 (ix := ((((4 : Int32) * x1) + x2).toNatClampNeg)) rfl dX3_readCard_53 ?_
        refine v_aload_n C dX3_readCard_54 rfl rfl ?_
        refine v_dup C dX3_readCard_55 rfl ?_
        refine m_get C 18 (Nat.le_of_ble_eq_true rfl) q2320 (v := .int ((sA s24 20 ((((4 : Int32) * x1) + x2).toNatClampNeg) (r23 - (97 : Int32))).1 18)) rfl dX3_readCard_56 ?_
        refine v_iconst C (v := (1 : Int32)) dX3_readCard_59 (by decide) ?_
        refine v_iadd C dX3_readCard_60 ?_
        refine m_put C ho 18 (Nat.le_of_ble_eq_true rfl) q2320 rfl rfl rfl rfl dX3_readCard_61 ?_
        refine v_iinc C dX3_readCard_64 rfl (v := (x2 + (1 : Int32))) rfl (Nat.le_of_ble_eq_true rfl) rfl (lv' := [some (.ref o), some (.int x1), some (.int (x2 + (1 : Int32)))]) rfl ?_
        refine v_goto C (tgt := 2) dX3_readCard_67 (by decide) ?_
        refine v_mask [true, true, true] (lv' := [some (.ref o), some (.int x1), some (.int (x2 + (1 : Int32)))]) rfl ?_
        exact hk2 (x1, (x2 + (1 : Int32)), (sS (sA s24 20 ((((4 : Int32) * x1) + x2).toNatClampNeg) (r23 - (97 : Int32))) 18 (((sA s24 20 ((((4 : Int32) * x1) + x2).toNatClampNeg) (r23 - (97 : Int32))).1 18) + (1 : Int32)))) hF
set_option maxHeartbeats 4000000 in
theorem wX3_readCard (l : Launch) (g : GT) {o : Nat} (ho : gB g ≤ o) (u : Wd) (N : Nat) (x1 : Int32)  (s : M) (r : Unit) (s1 : M) (hF : FX3_readCard N x1 s = some (r, s1)) : kMt l g yX3_readCard (ws_ yX3_readCard cX3_readCard 3 none) (2) (200) (wM g o s u) [.ref o, .int x1] none (wM g o s1 u) := by
  refine kMt.ofV (lv := [some (.ref o), some (.int x1), none]) (by decide) rfl (Nat.le_of_ble_eq_true rfl) rfl ?_
  intro X hl hin C
  unfold FX3_readCard at hF
  refine v_iconst C (v := (0 : Int32)) dX3_readCard_0 (by decide) ?_
  refine v_istore_n C dX3_readCard_1 rfl (Nat.le_of_ble_eq_true rfl) rfl (lv' := [some (.ref o), some (.int x1), some (.int (0 : Int32))]) rfl ?_
  refine v_mask [true, true, true] (lv' := [some (.ref o), some (.int x1), some (.int (0 : Int32))]) rfl ?_
  exact kloop_ok (P := fun a => kV g X 3 (wM g o a.2.2 u) 2 [some (.ref o), some (.int a.1), some (.int a.2.1)] []) (fun self hs a hF => wX3_readCard_b2 C ho hl N  self hs a.1 a.2.1 a.2.2 hF) N (x1, (0 : Int32), s) hF
set_option maxHeartbeats 4000000 in
theorem wX3_thread_b155 {l : Launch} {g : GT} {X : CxT} {o : Nat} {u : Wd} {r : Int32} {s1 : M} (C : kOk g X cX3_thread 4 RX3 (some .int) 3 300 (some (.int r)) (wM g o s1 u)) (ho : gB g ≤ o) (hl : xl X = l) (N : Nat) (k122 : Int32 × Int32 × M → Option (Int32 × M)) (hk122 : ∀ a, k122 a = some (r, s1) → kV g X 4 (wM g o a.2.2 u) 122 [some (.ref o), some (.int a.1), some (.int a.2.1), none] []) (k155 : Int32 × Int32 × Int32 × M → Option (Int32 × M)) (hk155 : ∀ a, k155 a = some (r, s1) → kV g X 4 (wM g o a.2.2.2 u) 155 [some (.ref o), some (.int a.1), some (.int a.2.1), some (.int a.2.2.1)] []) (x1 : Int32) (x2 : Int32) (x3 : Int32) (s : M) (hF : FX3_thread_b155 N k122 k155 x1 x2 x3 s = some (r, s1)) : kV g X 4 (wM g o s u) 155 [some (.ref o), some (.int x1), some (.int x2), some (.int x3)] [] := by
  unfold FX3_thread_b155 at hF
  refine v_iload_n C dX3_thread_155 rfl rfl ?_
  refine v_iconst C (v := (4 : Int32)) dX3_thread_156 (by decide) ?_
  refine v_icmp_ge C (tgt := 186) dX3_thread_157 (by decide) hF (fun c11 hF => ?_) (fun c11 hF => ?_)
  · refine v_iinc C dX3_thread_186 rfl (v := (x2 + (1 : Int32))) rfl (Nat.le_of_ble_eq_true rfl) rfl (lv' := [some (.ref o), some (.int x1), some (.int (x2 + (1 : Int32))), some (.int x3)]) rfl ?_
    refine v_goto C (tgt := 122) dX3_thread_189 (by decide) ?_
    refine v_mask [true, true, true, false] (lv' := [some (.ref o), some (.int x1), some (.int (x2 + (1 : Int32))), none]) rfl ?_
    exact hk122 (x1, (x2 + (1 : Int32)), s) hF
  · refine v_aload_n C dX3_thread_160 rfl rfl ?_
    refine m_get C 3 (Nat.le_of_ble_eq_true rfl) q2305 (v := .ref (o + 3)) rfl dX3_thread_161 ?_
    refine v_iconst C (v := (4 : Int32)) dX3_thread_164 (by decide) ?_
    refine v_iload_n C dX3_thread_165 rfl rfl ?_
    refine v_imul C dX3_thread_166 ?_
    refine v_iload_n C dX3_thread_167 rfl rfl ?_
    refine v_iadd C dX3_thread_168 ?_
    refine v_aload_n C dX3_thread_169 rfl rfl ?_
    refine m_get C 27 (Nat.le_of_ble_eq_true rfl) q2329 (v := .ref (o + 20)) rfl dX3_thread_170 ?_
    refine v_iconst C (v := (4 : Int32)) dX3_thread_173 (by decide) ?_
    refine v_iload_n C dX3_thread_174 rfl rfl ?_
    refine v_imul C dX3_thread_175 ?_
    refine v_iload_n C dX3_thread_176 rfl rfl ?_
    refine v_iadd C dX3_thread_177 ?_
    obtain ⟨h12, hF⟩ := k_ite hF
    refine m_ald C (Nat.le_of_ble_eq_true rfl) (Nat.le_of_ble_eq_true rfl) (by decide) (n := 40) rfl h12 (ix := ((((4 : Int32) * x2) + x3).toNatClampNeg)) rfl dX3_thread_178 ?_
    obtain ⟨h13, hF⟩ := k_ite hF
    refine m_ast C ho (Nat.le_of_ble_eq_true rfl) (Nat.le_of_ble_eq_true rfl) (by decide) (n := 80) rfl h13 (ix := ((((4 : Int32) * x2) + x3).toNatClampNeg)) rfl dX3_thread_179 ?_
    refine v_iinc C dX3_thread_180 rfl (v := (x3 + (1 : Int32))) rfl (Nat.le_of_ble_eq_true rfl) rfl (lv' := [some (.ref o), some (.int x1), some (.int x2), some (.int (x3 + (1 : Int32)))]) rfl ?_
    refine v_goto C (tgt := 155) dX3_thread_183 (by decide) ?_
    refine v_mask [true, true, true, true] (lv' := [some (.ref o), some (.int x1), some (.int x2), some (.int (x3 + (1 : Int32)))]) rfl ?_
    exact hk155 (x1, x2, (x3 + (1 : Int32)), (sA s 3 ((((4 : Int32) * x2) + x3).toNatClampNeg) (s.2 20 ((((4 : Int32) * x2) + x3).toNatClampNeg)))) hF
set_option maxHeartbeats 4000000 in
theorem wX3_thread_b122 {l : Launch} {g : GT} {X : CxT} {o : Nat} {u : Wd} {r : Int32} {s1 : M} (C : kOk g X cX3_thread 4 RX3 (some .int) 3 300 (some (.int r)) (wM g o s1 u)) (ho : gB g ≤ o) (hl : xl X = l) (N : Nat) (k122 : Int32 × Int32 × M → Option (Int32 × M)) (hk122 : ∀ a, k122 a = some (r, s1) → kV g X 4 (wM g o a.2.2 u) 122 [some (.ref o), some (.int a.1), some (.int a.2.1), none] []) (x1 : Int32) (x2 : Int32) (s : M) (hF : FX3_thread_b122 N k122 x1 x2 s = some (r, s1)) : kV g X 4 (wM g o s u) 122 [some (.ref o), some (.int x1), some (.int x2), none] [] := by
  unfold FX3_thread_b122 at hF
  refine v_iload_n C dX3_thread_122 rfl rfl ?_
  refine v_iload_n C dX3_thread_123 rfl rfl ?_
  refine v_icmp_ge C (tgt := 192) dX3_thread_124 (by decide) hF (fun c6 hF => ?_) (fun c6 hF => ?_)
  · refine v_iload_n C dX3_thread_192 rfl rfl ?_
    exact m_iret C dX3_thread_193 hF
  · refine v_aload_n C dX3_thread_127 rfl rfl ?_
    refine m_get C 4 (Nat.le_of_ble_eq_true rfl) q2306 (v := .ref (o + 4)) rfl dX3_thread_128 ?_
    refine v_iload_n C dX3_thread_131 rfl rfl ?_
    refine v_aload_n C dX3_thread_132 rfl rfl ?_
    refine m_get C 28 (Nat.le_of_ble_eq_true rfl) q2330 (v := .ref (o + 21)) rfl dX3_thread_133 ?_
    refine v_iload_n C dX3_thread_136 rfl rfl ?_
    obtain ⟨h7, hF⟩ := k_ite hF
    refine m_ald C (Nat.le_of_ble_eq_true rfl) (Nat.le_of_ble_eq_true rfl) (by decide) (n := 10) rfl h7 (ix := (x2.toNatClampNeg)) rfl dX3_thread_137 ?_
    obtain ⟨h8, hF⟩ := k_ite hF
    refine m_ast C ho (Nat.le_of_ble_eq_true rfl) (Nat.le_of_ble_eq_true rfl) (by decide) (n := 20) rfl h8 (ix := (x2.toNatClampNeg)) rfl dX3_thread_138 ?_
    refine v_aload_n C dX3_thread_139 rfl rfl ?_
    refine m_get C 5 (Nat.le_of_ble_eq_true rfl) q2307 (v := .ref (o + 5)) rfl dX3_thread_140 ?_
    refine v_iload_n C dX3_thread_143 rfl rfl ?_
    refine v_iconst C (v := (0 : Int32)) dX3_thread_144 (by decide) ?_
    obtain ⟨h9, hF⟩ := k_ite hF
    refine m_ast C ho (Nat.le_of_ble_eq_true rfl) (Nat.le_of_ble_eq_true rfl) (by decide) (n := 20) rfl h9 (ix := (x2.toNatClampNeg)) rfl dX3_thread_145 ?_
    refine v_aload_n C dX3_thread_146 rfl rfl ?_
    refine m_get C 6 (Nat.le_of_ble_eq_true rfl) q2308 (v := .ref (o + 6)) rfl dX3_thread_147 ?_
    refine v_iload_n C dX3_thread_150 rfl rfl ?_
    refine v_iconst C (v := (0 : Int32)) dX3_thread_151 (by decide) ?_
    obtain ⟨h10, hF⟩ := k_ite hF
    refine m_ast C ho (Nat.le_of_ble_eq_true rfl) (Nat.le_of_ble_eq_true rfl) (by decide) (n := 20) rfl h10 (ix := (x2.toNatClampNeg)) rfl dX3_thread_152 ?_
    refine v_iconst C (v := (0 : Int32)) dX3_thread_153 (by decide) ?_
    refine v_istore_n C dX3_thread_154 rfl (Nat.le_of_ble_eq_true rfl) rfl (lv' := [some (.ref o), some (.int x1), some (.int x2), some (.int (0 : Int32))]) rfl ?_
    refine v_mask [true, true, true, true] (lv' := [some (.ref o), some (.int x1), some (.int x2), some (.int (0 : Int32))]) rfl ?_
    exact kloop_ok (P := fun a => kV g X 4 (wM g o a.2.2.2 u) 155 [some (.ref o), some (.int a.1), some (.int a.2.1), some (.int a.2.2.1)] []) (fun self hs a hF => wX3_thread_b155 C ho hl N k122 hk122 self hs a.1 a.2.1 a.2.2.1 a.2.2.2 hF) N (x1, x2, (0 : Int32), (sA (sA (sA s 4 (x2.toNatClampNeg) (s.2 21 (x2.toNatClampNeg))) 5 (x2.toNatClampNeg) (0 : Int32)) 6 (x2.toNatClampNeg) (0 : Int32))) hF
set_option maxHeartbeats 4000000 in
theorem wX3_thread_b86 {l : Launch} {g : GT} {X : CxT} {o : Nat} {u : Wd} {r : Int32} {s1 : M} (C : kOk g X cX3_thread 4 RX3 (some .int) 3 300 (some (.int r)) (wM g o s1 u)) (ho : gB g ≤ o) (hl : xl X = l) (N : Nat)  (x1 : Int32) (s : M) (hF : FX3_thread_b86 N  x1 s = some (r, s1)) : kV g X 4 (wM g o s u) 86 [some (.ref o), some (.int x1), none, none] [] := by
  unfold FX3_thread_b86 at hF
  refine v_aload_n C dX3_thread_86 rfl rfl ?_
  refine v_iconst C (v := (0 : Int32)) dX3_thread_87 (by decide) ?_
  refine m_put C ho 17 (Nat.le_of_ble_eq_true rfl) q2319 rfl rfl rfl rfl dX3_thread_88 ?_
  refine v_aload_n C dX3_thread_91 rfl rfl ?_
  refine m_get C 19 (Nat.le_of_ble_eq_true rfl) q2321 (v := .int ((sS s 17 (0 : Int32)).1 19)) rfl dX3_thread_92 ?_
  refine v_if_lt C (tgt := 106) dX3_thread_95 (by decide) hF (fun c5 hF => ?_) (fun c5 hF => ?_)
  · refine v_aload_n C dX3_thread_106 rfl rfl ?_
    refine m_get C 1 (Nat.le_of_ble_eq_true rfl) q2303 (v := .ref (o + 1)) rfl dX3_thread_107 ?_
    refine v_iconst C (v := (0 : Int32)) dX3_thread_110 (by decide) ?_
    refine v_iload_n C dX3_thread_111 rfl rfl ?_
    refine m_ast C ho (Nat.le_of_ble_eq_true rfl) (Nat.le_of_ble_eq_true rfl) (by decide) (n := 2) rfl rfl (ix := 0) (by decide) dX3_thread_112 ?_
    refine v_aload_n C dX3_thread_113 rfl rfl ?_
    refine m_get C 2 (Nat.le_of_ble_eq_true rfl) q2304 (v := .ref (o + 2)) rfl dX3_thread_114 ?_
    refine v_iconst C (v := (0 : Int32)) dX3_thread_117 (by decide) ?_
    refine v_iconst C (v := (0 : Int32)) dX3_thread_118 (by decide) ?_
    refine m_ast C ho (Nat.le_of_ble_eq_true rfl) (Nat.le_of_ble_eq_true rfl) (by decide) (n := 2) rfl rfl (ix := 0) (by decide) dX3_thread_119 ?_
    refine v_iconst C (v := (0 : Int32)) dX3_thread_120 (by decide) ?_
    refine v_istore_n C dX3_thread_121 rfl (Nat.le_of_ble_eq_true rfl) rfl (lv' := [some (.ref o), some (.int x1), some (.int (0 : Int32)), none]) rfl ?_
    refine v_mask [true, true, true, false] (lv' := [some (.ref o), some (.int x1), some (.int (0 : Int32)), none]) rfl ?_
    exact kloop_ok (P := fun a => kV g X 4 (wM g o a.2.2 u) 122 [some (.ref o), some (.int a.1), some (.int a.2.1), none] []) (fun self hs a hF => wX3_thread_b122 C ho hl N  self hs a.1 a.2.1 a.2.2 hF) N (x1, (0 : Int32), (sA (sA (sS s 17 (0 : Int32)) 1 0 x1) 2 0 (0 : Int32))) hF
  · refine v_bipush C (v := (-100 : Int32)) dX3_thread_98 (by decide) ?_
    refine v_aload_n C dX3_thread_100 rfl rfl ?_
    refine m_get C 19 (Nat.le_of_ble_eq_true rfl) q2321 (v := .int ((sS s 17 (0 : Int32)).1 19)) rfl dX3_thread_101 ?_
    refine v_isub C dX3_thread_104 ?_
    exact m_iret C dX3_thread_105 hF
set_option maxHeartbeats 4000000 in
theorem wX3_thread_b60 {l : Launch} {g : GT} {X : CxT} {o : Nat} {u : Wd} {r : Int32} {s1 : M} (C : kOk g X cX3_thread 4 RX3 (some .int) 3 300 (some (.int r)) (wM g o s1 u)) (ho : gB g ≤ o) (hl : xl X = l) (N : Nat)  (x1 : Int32) (s : M) (hF : FX3_thread_b60 N  x1 s = some (r, s1)) : kV g X 4 (wM g o s u) 60 [some (.ref o), some (.int x1), none, none] [] := by
  unfold FX3_thread_b60 at hF
  refine v_aload_n C dX3_thread_60 rfl rfl ?_
  refine m_get C 19 (Nat.le_of_ble_eq_true rfl) q2321 (v := .int (s.1 19)) rfl dX3_thread_61 ?_
  refine v_if_ge C (tgt := 86) dX3_thread_64 (by decide) hF (fun c4 hF => ?_) (fun c4 hF => ?_)
  · refine v_mask [true, true, false, false] (lv' := [some (.ref o), some (.int x1), none, none]) rfl ?_
    exact wX3_thread_b86 C ho hl N  (x1) (s) hF
  · refine v_aload_n C dX3_thread_67 rfl rfl ?_
    refine m_get C 18 (Nat.le_of_ble_eq_true rfl) q2320 (v := .int (s.1 18)) rfl dX3_thread_68 ?_
    refine v_aload_n C dX3_thread_71 rfl rfl ?_
    refine m_get C 17 (Nat.le_of_ble_eq_true rfl) q2319 (v := .int (s.1 17)) rfl dX3_thread_72 ?_
    refine v_icmp_ge C (tgt := 86) dX3_thread_75 (by decide) hF (fun c14 hF => ?_) (fun c14 hF => ?_)
    · refine v_mask [true, true, false, false] (lv' := [some (.ref o), some (.int x1), none, none]) rfl ?_
      exact wX3_thread_b86 C ho hl N  (x1) (s) hF
    · refine v_aload_n C dX3_thread_78 rfl rfl ?_
      refine v_aload_n C dX3_thread_79 rfl rfl ?_
      refine m_get C 18 (Nat.le_of_ble_eq_true rfl) q2320 (v := .int (s.1 18)) rfl dX3_thread_80 ?_
      refine m_callVv C lk_X3_125 rfl (fr2 := 1) (lo2 := 100) (As := [.int (s.1 18)]) (st := []) (fun r s1 h => by rw [hl]; exact wX3_wrong l g ho u N (s.1 18) s r s1 h) (by decide) rfl rfl (Nat.le_of_ble_eq_true rfl) dX3_thread_83 hF (fun r15 s16 hF => ?_)
      refine v_mask [true, true, false, false] (lv' := [some (.ref o), some (.int x1), none, none]) rfl ?_
      exact wX3_thread_b86 C ho hl N  (x1) (s16) hF
set_option maxHeartbeats 4000000 in
theorem wX3_thread_b17 {l : Launch} {g : GT} {X : CxT} {o : Nat} {u : Wd} {r : Int32} {s1 : M} (C : kOk g X cX3_thread 4 RX3 (some .int) 3 300 (some (.int r)) (wM g o s1 u)) (ho : gB g ≤ o) (hl : xl X = l) (N : Nat) (k17 : Int32 × M → Option (Int32 × M)) (hk17 : ∀ a, k17 a = some (r, s1) → kV g X 4 (wM g o a.2 u) 17 [some (.ref o), some (.int a.1), none, none] []) (x1 : Int32) (s : M) (hF : FX3_thread_b17 N k17 x1 s = some (r, s1)) : kV g X 4 (wM g o s u) 17 [some (.ref o), some (.int x1), none, none] [] := by
  unfold FX3_thread_b17 at hF
  refine v_aload_n C dX3_thread_17 rfl rfl ?_
  refine m_get C 19 (Nat.le_of_ble_eq_true rfl) q2321 (v := .int (s.1 19)) rfl dX3_thread_18 ?_
  refine v_if_ge C (tgt := 60) dX3_thread_21 (by decide) hF (fun c3 hF => ?_) (fun c3 hF => ?_)
  · refine v_mask [true, true, false, false] (lv' := [some (.ref o), some (.int x1), none, none]) rfl ?_
    exact wX3_thread_b60 C ho hl N  (x1) (s) hF
  · refine v_iload_n C dX3_thread_24 rfl rfl ?_
    refine v_bipush C (v := (10 : Int32)) dX3_thread_25 (by decide) ?_
    refine v_icmp_ge C (tgt := 60) dX3_thread_27 (by decide) hF (fun c17 hF => ?_) (fun c17 hF => ?_)
    · refine v_mask [true, true, false, false] (lv' := [some (.ref o), some (.int x1), none, none]) rfl ?_
      exact wX3_thread_b60 C ho hl N  (x1) (s) hF
    · refine v_aload_n C dX3_thread_30 rfl rfl ?_
      refine m_callVi C lk_X3_121 rfl (fr2 := 1) (lo2 := 100) (As := []) (st := []) (fun r s1 h => by rw [hl]; exact wX3_here l g ho u N  s r s1 h) (by decide) rfl rfl (Nat.le_of_ble_eq_true rfl) dX3_thread_31 hF (fun r18 s19 hF => ?_)
      refine v_bipush C (v := (59 : Int32)) dX3_thread_34 (by decide) ?_
      refine v_icmp_ne C (tgt := 60) dX3_thread_36 (by decide) hF (fun c20 hF => ?_) (fun c20 hF => ?_)
      · refine v_aload_n C dX3_thread_39 rfl rfl ?_
        refine v_dup C dX3_thread_40 rfl ?_
        refine m_get C 18 (Nat.le_of_ble_eq_true rfl) q2320 (v := .int (s19.1 18)) rfl dX3_thread_41 ?_
        refine v_iconst C (v := (1 : Int32)) dX3_thread_44 (by decide) ?_
        refine v_iadd C dX3_thread_45 ?_
        refine m_put C ho 18 (Nat.le_of_ble_eq_true rfl) q2320 rfl rfl rfl rfl dX3_thread_46 ?_
        refine v_aload_n C dX3_thread_49 rfl rfl ?_
        refine v_iload_n C dX3_thread_50 rfl rfl ?_
        refine m_callVv C lk_X3_152 rfl (fr2 := 2) (lo2 := 200) (As := [.int x1]) (st := []) (fun r s1 h => by rw [hl]; exact wX3_readCard l g ho u N x1 (sS s19 18 ((s19.1 18) + (1 : Int32))) r s1 h) (by decide) rfl rfl (Nat.le_of_ble_eq_true rfl) dX3_thread_51 hF (fun r21 s22 hF => ?_)
        refine v_iinc C dX3_thread_54 rfl (v := (x1 + (1 : Int32))) rfl (Nat.le_of_ble_eq_true rfl) rfl (lv' := [some (.ref o), some (.int (x1 + (1 : Int32))), none, none]) rfl ?_
        refine v_goto C (tgt := 17) dX3_thread_57 (by decide) ?_
        refine v_mask [true, true, false, false] (lv' := [some (.ref o), some (.int (x1 + (1 : Int32))), none, none]) rfl ?_
        exact hk17 ((x1 + (1 : Int32)), s22) hF
      · refine v_mask [true, true, false, false] (lv' := [some (.ref o), some (.int x1), none, none]) rfl ?_
        exact wX3_thread_b60 C ho hl N  (x1) (s19) hF
set_option maxHeartbeats 4000000 in
theorem wX3_thread (l : Launch) (g : GT) {o : Nat} (ho : gB g ≤ o) (u : Wd) (N : Nat)   (s : M) (r : Int32) (s1 : M) (hF : FX3_thread N  s = some (r, s1)) : kMt l g yX3_thread (ws_ yX3_thread cX3_thread 4 (some .int)) (3) (300) (wM g o s u) [.ref o] (some (.int r)) (wM g o s1 u) := by
  refine kMt.ofV (lv := [some (.ref o), none, none, none]) (by decide) rfl (Nat.le_of_ble_eq_true rfl) rfl ?_
  intro X hl hin C
  unfold FX3_thread at hF
  refine v_aload_n C dX3_thread_0 rfl rfl ?_
  refine v_iconst C (v := (0 : Int32)) dX3_thread_1 (by decide) ?_
  refine m_put C ho 18 (Nat.le_of_ble_eq_true rfl) q2320 rfl rfl rfl rfl dX3_thread_2 ?_
  refine v_aload_n C dX3_thread_5 rfl rfl ?_
  refine v_iconst C (v := (-1 : Int32)) dX3_thread_6 (by decide) ?_
  refine m_put C ho 19 (Nat.le_of_ble_eq_true rfl) q2321 rfl rfl rfl rfl dX3_thread_7 ?_
  refine v_aload_n C dX3_thread_10 rfl rfl ?_
  refine v_iconst C (v := (0 : Int32)) dX3_thread_11 (by decide) ?_
  refine m_callVv C lk_X3_152 rfl (fr2 := 2) (lo2 := 200) (As := [.int (0 : Int32)]) (st := []) (fun r s1 h => by rw [hl]; exact wX3_readCard l g ho u N (0 : Int32) (sS (sS s 18 (0 : Int32)) 19 (-1 : Int32)) r s1 h) (by decide) rfl rfl (Nat.le_of_ble_eq_true rfl) dX3_thread_12 hF (fun r1 s2 hF => ?_)
  refine v_iconst C (v := (1 : Int32)) dX3_thread_15 (by decide) ?_
  refine v_istore_n C dX3_thread_16 rfl (Nat.le_of_ble_eq_true rfl) rfl (lv' := [some (.ref o), some (.int (1 : Int32)), none, none]) rfl ?_
  refine v_mask [true, true, false, false] (lv' := [some (.ref o), some (.int (1 : Int32)), none, none]) rfl ?_
  exact kloop_ok (P := fun a => kV g X 4 (wM g o a.2 u) 17 [some (.ref o), some (.int a.1), none, none] []) (fun self hs a hF => wX3_thread_b17 C ho hl N  self hs a.1 a.2 hF) N ((1 : Int32), s2) hF
set_option maxHeartbeats 4000000 in
theorem wX3_isCard (l : Launch) (g : GT) {o : Nat} (ho : gB g ≤ o) (u : Wd) (N : Nat) (x1 : Int32)  (s : M) (r : Int32) (s1 : M) (hF : FX3_isCard N x1 s = some (r, s1)) : kMt l g yX3_isCard (ws_ yX3_isCard cX3_isCard 2 (some .boolean)) (2) (200) (wM g o s u) [.ref o, .int x1] (some (.int r)) (wM g o s1 u) := by
  refine kMt.ofV (lv := [some (.ref o), some (.int x1)]) (by decide) rfl (Nat.le_of_ble_eq_true rfl) rfl ?_
  intro X hl hin C
  unfold FX3_isCard at hF
  refine v_iload_n C dX3_isCard_0 rfl rfl ?_
  refine v_iconst C (v := (0 : Int32)) dX3_isCard_1 (by decide) ?_
  refine v_aload_n C dX3_isCard_2 rfl rfl ?_
  refine m_get C 1 (Nat.le_of_ble_eq_true rfl) q2303 (v := .ref (o + 1)) rfl dX3_isCard_3 ?_
  refine v_iconst C (v := (0 : Int32)) dX3_isCard_6 (by decide) ?_
  refine m_ald C (Nat.le_of_ble_eq_true rfl) (Nat.le_of_ble_eq_true rfl) (by decide) (n := 2) rfl rfl (ix := 0) (by decide) dX3_isCard_7 ?_
  refine v_iconst C (v := (1 : Int32)) dX3_isCard_8 (by decide) ?_
  refine v_isub C dX3_isCard_9 ?_
  refine m_callSi C lk_X3_108 (fr2 := 1) (lo2 := 100) (As := [.int x1, .int (0 : Int32), .int ((s.2 1 0) - (1 : Int32))]) (st := []) (fun r s1 h => by rw [hl]; exact wX3_in l g ho u N x1 (0 : Int32) ((s.2 1 0) - (1 : Int32)) s r s1 h) (by decide) rfl rfl (Nat.le_of_ble_eq_true rfl) dX3_isCard_10 hF (fun r1 s2 hF => ?_)
  obtain ⟨h3, hF⟩ := k_ite hF
  exact m_zret C (nb_nar h3) dX3_isCard_13 hF
set_option maxHeartbeats 4000000 in
theorem wX3_floatOf_b40 {l : Launch} {g : GT} {X : CxT} {o : Nat} {u : Wd} {r : Int32} {s1 : M} (C : kOk g X cX3_floatOf 5 RX3 (some .int) 1 100 (some (.int r)) (wM g o s1 u)) (ho : gB g ≤ o) (hl : xl X = l) (N : Nat) (k7 : Int32 × Int32 × Int32 × Int32 × M → Option (Int32 × M)) (hk7 : ∀ a, k7 a = some (r, s1) → kV g X 5 (wM g o a.2.2.2.2 u) 7 [some (.ref o), some (.int a.1), some (.int a.2.1), some (.int a.2.2.1), some (.int a.2.2.2.1)] []) (x1 : Int32) (x2 : Int32) (x4 : Int32) (t0 : Int32) (s : M) (hF : FX3_floatOf_b40 N k7 x1 x2 x4 t0 s = some (r, s1)) : kV g X 5 (wM g o s u) 40 [some (.ref o), some (.int x1), some (.int x2), none, some (.int x4)] [.int t0] := by
  unfold FX3_floatOf_b40 at hF
  refine v_istore_n C dX3_floatOf_40 rfl (Nat.le_of_ble_eq_true rfl) rfl (lv' := [some (.ref o), some (.int x1), some (.int x2), some (.int t0), some (.int x4)]) rfl ?_
  refine v_iload_n C dX3_floatOf_41 rfl rfl ?_
  refine v_iload_n C dX3_floatOf_42 rfl rfl ?_
  refine v_mmax C q2482 (by decide) (Nat.le_of_ble_eq_true rfl) dX3_floatOf_43 ?_
  refine v_istore_n C dX3_floatOf_46 rfl (Nat.le_of_ble_eq_true rfl) rfl (lv' := [some (.ref o), some (.int x1), some (.int (kmax x2 t0)), some (.int t0), some (.int x4)]) rfl ?_
  refine v_iinc C dX3_floatOf_47 rfl (v := (x4 + (1 : Int32))) rfl (Nat.le_of_ble_eq_true rfl) rfl (lv' := [some (.ref o), some (.int x1), some (.int (kmax x2 t0)), some (.int t0), some (.int (x4 + (1 : Int32)))]) rfl ?_
  refine v_goto C (tgt := 7) dX3_floatOf_50 (by decide) ?_
  refine v_mask [true, true, true, true, true] (lv' := [some (.ref o), some (.int x1), some (.int (kmax x2 t0)), some (.int t0), some (.int (x4 + (1 : Int32)))]) rfl ?_
  exact hk7 (x1, (kmax x2 t0), t0, (x4 + (1 : Int32)), s) hF
set_option maxHeartbeats 4000000 in
theorem wX3_floatOf_b7 {l : Launch} {g : GT} {X : CxT} {o : Nat} {u : Wd} {r : Int32} {s1 : M} (C : kOk g X cX3_floatOf 5 RX3 (some .int) 1 100 (some (.int r)) (wM g o s1 u)) (ho : gB g ≤ o) (hl : xl X = l) (N : Nat) (k7 : Int32 × Int32 × Int32 × Int32 × M → Option (Int32 × M)) (hk7 : ∀ a, k7 a = some (r, s1) → kV g X 5 (wM g o a.2.2.2.2 u) 7 [some (.ref o), some (.int a.1), some (.int a.2.1), some (.int a.2.2.1), some (.int a.2.2.2.1)] []) (x1 : Int32) (x2 : Int32) (x3 : Int32) (x4 : Int32) (s : M) (hF : FX3_floatOf_b7 N k7 x1 x2 x3 x4 s = some (r, s1)) : kV g X 5 (wM g o s u) 7 [some (.ref o), some (.int x1), some (.int x2), some (.int x3), some (.int x4)] [] := by
  unfold FX3_floatOf_b7 at hF
  refine v_iload C dX3_floatOf_7 rfl ?_
  refine v_aload_n C dX3_floatOf_9 rfl rfl ?_
  refine m_get C 2 (Nat.le_of_ble_eq_true rfl) q2304 (v := .ref (o + 2)) rfl dX3_floatOf_10 ?_
  refine v_iconst C (v := (0 : Int32)) dX3_floatOf_13 (by decide) ?_
  refine m_ald C (Nat.le_of_ble_eq_true rfl) (Nat.le_of_ble_eq_true rfl) (by decide) (n := 2) rfl rfl (ix := 0) (by decide) dX3_floatOf_14 ?_
  refine v_icmp_ge C (tgt := 53) dX3_floatOf_15 (by decide) hF (fun c1 hF => ?_) (fun c1 hF => ?_)
  · refine v_iload_n C dX3_floatOf_53 rfl rfl ?_
    exact m_iret C dX3_floatOf_54 hF
  · refine v_aload_n C dX3_floatOf_18 rfl rfl ?_
    refine m_get C 10 (Nat.le_of_ble_eq_true rfl) q2312 (v := .ref (o + 10)) rfl dX3_floatOf_19 ?_
    refine v_bipush C (v := (10 : Int32)) dX3_floatOf_22 (by decide) ?_
    refine v_iload C dX3_floatOf_24 rfl ?_
    refine v_imul C dX3_floatOf_26 ?_
    refine v_iload_n C dX3_floatOf_27 rfl rfl ?_
    refine v_iadd C dX3_floatOf_28 ?_
    obtain ⟨h2, hF⟩ := k_ite hF
    refine m_ald C (Nat.le_of_ble_eq_true rfl) (Nat.le_of_ble_eq_true rfl) (by decide) (n := 1000) rfl h2 (ix := ((((10 : Int32) * x4) + x1).toNatClampNeg)) rfl dX3_floatOf_29 ?_
    refine v_if_ne C (tgt := 39) dX3_floatOf_30 (by decide) hF (fun c3 hF => ?_) (fun c3 hF => ?_)
    · refine v_iload_n C dX3_floatOf_33 rfl rfl ?_
      refine v_iconst C (v := (1 : Int32)) dX3_floatOf_34 (by decide) ?_
      refine v_iadd C dX3_floatOf_35 ?_
      refine v_goto C (tgt := 40) dX3_floatOf_36 (by decide) ?_
      refine v_mask [true, true, true, false, true] (lv' := [some (.ref o), some (.int x1), some (.int x2), none, some (.int x4)]) rfl ?_
      exact wX3_floatOf_b40 C ho hl N k7 hk7 (x1) (x2) (x4) ((x3 + (1 : Int32))) (s) hF
    · refine v_iconst C (v := (0 : Int32)) dX3_floatOf_39 (by decide) ?_
      refine v_mask [true, true, true, false, true] (lv' := [some (.ref o), some (.int x1), some (.int x2), none, some (.int x4)]) rfl ?_
      exact wX3_floatOf_b40 C ho hl N k7 hk7 (x1) (x2) (x4) ((0 : Int32)) (s) hF
set_option maxHeartbeats 4000000 in
theorem wX3_floatOf (l : Launch) (g : GT) {o : Nat} (ho : gB g ≤ o) (u : Wd) (N : Nat) (x1 : Int32)  (s : M) (r : Int32) (s1 : M) (hF : FX3_floatOf N x1 s = some (r, s1)) : kMt l g yX3_floatOf (ws_ yX3_floatOf cX3_floatOf 5 (some .int)) (1) (100) (wM g o s u) [.ref o, .int x1] (some (.int r)) (wM g o s1 u) := by
  refine kMt.ofV (lv := [some (.ref o), some (.int x1), none, none, none]) (by decide) rfl (Nat.le_of_ble_eq_true rfl) rfl ?_
  intro X hl hin C
  unfold FX3_floatOf at hF
  refine v_iconst C (v := (0 : Int32)) dX3_floatOf_0 (by decide) ?_
  refine v_istore_n C dX3_floatOf_1 rfl (Nat.le_of_ble_eq_true rfl) rfl (lv' := [some (.ref o), some (.int x1), some (.int (0 : Int32)), none, none]) rfl ?_
  refine v_iconst C (v := (0 : Int32)) dX3_floatOf_2 (by decide) ?_
  refine v_istore_n C dX3_floatOf_3 rfl (Nat.le_of_ble_eq_true rfl) rfl (lv' := [some (.ref o), some (.int x1), some (.int (0 : Int32)), some (.int (0 : Int32)), none]) rfl ?_
  refine v_iconst C (v := (0 : Int32)) dX3_floatOf_4 (by decide) ?_
  refine v_istore C dX3_floatOf_5 (Nat.le_of_ble_eq_true rfl) rfl (lv' := [some (.ref o), some (.int x1), some (.int (0 : Int32)), some (.int (0 : Int32)), some (.int (0 : Int32))]) rfl ?_
  refine v_mask [true, true, true, true, true] (lv' := [some (.ref o), some (.int x1), some (.int (0 : Int32)), some (.int (0 : Int32)), some (.int (0 : Int32))]) rfl ?_
  exact kloop_ok (P := fun a => kV g X 5 (wM g o a.2.2.2.2 u) 7 [some (.ref o), some (.int a.1), some (.int a.2.1), some (.int a.2.2.1), some (.int a.2.2.2.1)] []) (fun self hs a hF => wX3_floatOf_b7 C ho hl N  self hs a.1 a.2.1 a.2.2.1 a.2.2.2.1 a.2.2.2.2 hF) N (x1, (0 : Int32), (0 : Int32), (0 : Int32), s) hF
set_option maxHeartbeats 4000000 in
theorem wX3_lawOf_b181 {l : Launch} {g : GT} {X : CxT} {o : Nat} {u : Wd} {d : Nat} {r : Int32} {s1 : M} (C : kOk g X cX3_lawOf 6 RX3 (some .int) (1 + d) (100 * (1 + d)) (some (.int r)) (wM g o s1 u)) (ho : gB g ≤ o) (hl : xl X = l) (N : Nat) (sf : Int32 → Int32 → Int32 → M → Option (Int32 × M)) (hd0 : 0 < d) (hsf : ∀ d9, d9 + 1 = d → ∀ (x1 : Int32) (x2 : Int32) (x3 : Int32) (s : M) r s1, sf x1 x2 x3 s = some (r, s1) → kMt l g yX3_lawOf (ws_ yX3_lawOf cX3_lawOf 6 (some .int)) (1 + d9) (100 * (1 + d9)) (wM g o s u) [.ref o, .int x1, .int x2, .int x3] (some (.int r)) (wM g o s1 u))  (x2 : Int32) (x3 : Int32) (t0 : Int32) (s : M) (hF : FX3_lawOf_b181 N sf  x2 x3 t0 s = some (r, s1)) : kV g X 6 (wM g o s u) 181 [none, none, some (.int x2), some (.int x3), none, none] [.int t0, .ref o] := by
  unfold FX3_lawOf_b181 at hF
  refine v_iload_n C dX3_lawOf_181 rfl rfl ?_
  refine v_iload_n C dX3_lawOf_182 rfl rfl ?_
  refine m_callVi C lk_X3_148 rfl (fr2 := 1 + (d - 1)) (lo2 := 100 * (1 + (d - 1))) (As := [.int t0, .int x2, .int x3]) (st := []) (fun r s1 h => by rw [hl]; exact hsf (d - 1) (by omega) t0 x2 x3 s r s1 h) ⟨by omega, by omega⟩ rfl rfl (Nat.le_of_ble_eq_true rfl) dX3_lawOf_183 hF (fun r7 s8 hF => ?_)
  exact m_iret C dX3_lawOf_186 hF
set_option maxHeartbeats 4000000 in
theorem wX3_lawOf_b153 {l : Launch} {g : GT} {X : CxT} {o : Nat} {u : Wd} {d : Nat} {r : Int32} {s1 : M} (C : kOk g X cX3_lawOf 6 RX3 (some .int) (1 + d) (100 * (1 + d)) (some (.int r)) (wM g o s1 u)) (ho : gB g ≤ o) (hl : xl X = l) (N : Nat) (sf : Int32 → Int32 → Int32 → M → Option (Int32 × M)) (hd0 : 0 < d) (hsf : ∀ d9, d9 + 1 = d → ∀ (x1 : Int32) (x2 : Int32) (x3 : Int32) (s : M) r s1, sf x1 x2 x3 s = some (r, s1) → kMt l g yX3_lawOf (ws_ yX3_lawOf cX3_lawOf 6 (some .int)) (1 + d9) (100 * (1 + d9)) (wM g o s u) [.ref o, .int x1, .int x2, .int x3] (some (.int r)) (wM g o s1 u))  (x2 : Int32) (x3 : Int32) (t0 : Int32) (s : M) (hF : FX3_lawOf_b153 N sf  x2 x3 t0 s = some (r, s1)) : kV g X 6 (wM g o s u) 153 [none, none, some (.int x2), some (.int x3), none, none] [.int t0, .ref o] := by
  unfold FX3_lawOf_b153 at hF
  refine v_iload_n C dX3_lawOf_153 rfl rfl ?_
  refine v_iload_n C dX3_lawOf_154 rfl rfl ?_
  refine m_callVi C lk_X3_148 rfl (fr2 := 1 + (d - 1)) (lo2 := 100 * (1 + (d - 1))) (As := [.int t0, .int x2, .int x3]) (st := []) (fun r s1 h => by rw [hl]; exact hsf (d - 1) (by omega) t0 x2 x3 s r s1 h) ⟨by omega, by omega⟩ rfl rfl (Nat.le_of_ble_eq_true rfl) dX3_lawOf_155 hF (fun r21 s22 hF => ?_)
  exact m_iret C dX3_lawOf_158 hF
set_option maxHeartbeats 4000000 in
theorem wX3_lawOf_b210 {l : Launch} {g : GT} {X : CxT} {o : Nat} {u : Wd} {d : Nat} {r : Int32} {s1 : M} (C : kOk g X cX3_lawOf 6 RX3 (some .int) (1 + d) (100 * (1 + d)) (some (.int r)) (wM g o s1 u)) (ho : gB g ≤ o) (hl : xl X = l) (N : Nat) (sf : Int32 → Int32 → Int32 → M → Option (Int32 × M)) (hd0 : 0 < d) (hsf : ∀ d9, d9 + 1 = d → ∀ (x1 : Int32) (x2 : Int32) (x3 : Int32) (s : M) r s1, sf x1 x2 x3 s = some (r, s1) → kMt l g yX3_lawOf (ws_ yX3_lawOf cX3_lawOf 6 (some .int)) (1 + d9) (100 * (1 + d9)) (wM g o s u) [.ref o, .int x1, .int x2, .int x3] (some (.int r)) (wM g o s1 u))  (x2 : Int32) (x3 : Int32) (t0 : Int32) (s : M) (hF : FX3_lawOf_b210 N sf  x2 x3 t0 s = some (r, s1)) : kV g X 6 (wM g o s u) 210 [none, none, some (.int x2), some (.int x3), none, none] [.int t0, .ref o] := by
  unfold FX3_lawOf_b210 at hF
  refine v_iload_n C dX3_lawOf_210 rfl rfl ?_
  refine v_iload_n C dX3_lawOf_211 rfl rfl ?_
  refine m_callVi C lk_X3_148 rfl (fr2 := 1 + (d - 1)) (lo2 := 100 * (1 + (d - 1))) (As := [.int t0, .int x2, .int x3]) (st := []) (fun r s1 h => by rw [hl]; exact hsf (d - 1) (by omega) t0 x2 x3 s r s1 h) ⟨by omega, by omega⟩ rfl rfl (Nat.le_of_ble_eq_true rfl) dX3_lawOf_212 hF (fun r42 s43 hF => ?_)
  exact m_iret C dX3_lawOf_215 hF
set_option maxHeartbeats 4000000 in
theorem wX3_lawOf (l : Launch) (g : GT) {o : Nat} (ho : gB g ≤ o) (u : Wd) (N : Nat) : ∀ (d : Nat) (x1 : Int32) (x2 : Int32) (x3 : Int32) (s : M) (r : Int32) (s1 : M), FX3_lawOf N d x1 x2 x3 s = some (r, s1) → kMt l g yX3_lawOf (ws_ yX3_lawOf cX3_lawOf 6 (some .int)) ((1 + d)) ((100 * (1 + d))) (wM g o s u) [.ref o, .int x1, .int x2, .int x3] (some (.int r)) (wM g o s1 u) := by
  intro d
  induction d with
  | zero => intro x1 x2 x3 s r s1 hF; cases hF
  | succ d ih =>
  intro x1 x2 x3 s r s1 hF
  have hsf : ∀ d9, d9 + 1 = d + 1 → ∀ (x1 : Int32) (x2 : Int32) (x3 : Int32) (s : M) r s1, FX3_lawOf N d x1 x2 x3 s = some (r, s1) → kMt l g yX3_lawOf (ws_ yX3_lawOf cX3_lawOf 6 (some .int)) (1 + d9) (100 * (1 + d9)) (wM g o s u) [.ref o, .int x1, .int x2, .int x3] (some (.int r)) (wM g o s1 u) := by
    intro d9 h9
    cases h9
    exact ih
  have hF : FX3_lawOf_e N (FX3_lawOf N d) x1 x2 x3 s = some (r, s1) := hF
  clear ih
  have hd0 : 0 < d + 1 := Nat.succ_pos d
  generalize FX3_lawOf N d = sf at hF hsf
  generalize d + 1 = d at hsf hd0 ⊢
  refine kMt.ofV (lv := [some (.ref o), some (.int x1), some (.int x2), some (.int x3), none, none]) (by decide) rfl (Nat.le_of_ble_eq_true rfl) rfl ?_
  intro X hl hin C
  unfold FX3_lawOf_e at hF
  refine v_aload_n C dX3_lawOf_0 rfl rfl ?_
  refine m_get C 13 (Nat.le_of_ble_eq_true rfl) q2315 (v := .ref (o + 12)) rfl dX3_lawOf_1 ?_
  refine v_iload_n C dX3_lawOf_4 rfl rfl ?_
  obtain ⟨h1, hF⟩ := k_ite hF
  refine m_ald C (Nat.le_of_ble_eq_true rfl) (Nat.le_of_ble_eq_true rfl) (by decide) (n := 160) rfl h1 (ix := (x1.toNatClampNeg)) rfl dX3_lawOf_5 ?_
  refine v_istore C dX3_lawOf_6 (Nat.le_of_ble_eq_true rfl) rfl (lv' := [some (.ref o), some (.int x1), some (.int x2), some (.int x3), some (.int (s.2 12 (x1.toNatClampNeg))), none]) rfl ?_
  refine v_aload_n C dX3_lawOf_8 rfl rfl ?_
  refine m_get C 12 (Nat.le_of_ble_eq_true rfl) q2314 (v := .ref (o + 11)) rfl dX3_lawOf_9 ?_
  refine v_iload_n C dX3_lawOf_12 rfl rfl ?_
  obtain ⟨h2, hF⟩ := k_ite hF
  refine m_ald C (Nat.le_of_ble_eq_true rfl) (Nat.le_of_ble_eq_true rfl) (by decide) (n := 160) rfl h2 (ix := (x1.toNatClampNeg)) rfl dX3_lawOf_13 ?_
  rcases k_cases hF with ⟨c3, hF⟩ | ⟨c3, hF⟩
  · refine v_tswIn C (98 : Int32) c3 dX3_lawOf_14 (by decide) (by decide) (off := 110) rfl (tgt := 124) (by decide) ?_
    refine v_iconst C (v := (2 : Int32)) dX3_lawOf_124 (by decide) ?_
    exact m_iret C dX3_lawOf_125 hF
  · rcases k_cases hF with ⟨c4, hF⟩ | ⟨c4, hF⟩
    · refine v_tswIn C (99 : Int32) c4 dX3_lawOf_14 (by decide) (by decide) (off := 145) rfl (tgt := 159) (by decide) ?_
      refine v_aload_n C dX3_lawOf_159 rfl rfl ?_
      refine v_iload_n C dX3_lawOf_160 rfl rfl ?_
      refine v_iload C dX3_lawOf_161 rfl ?_
      refine v_icmp_ge C (tgt := 175) dX3_lawOf_163 (by decide) hF (fun c5 hF => ?_) (fun c5 hF => ?_)
      · refine v_aload_n C dX3_lawOf_175 rfl rfl ?_
        refine m_get C 15 (Nat.le_of_ble_eq_true rfl) q2317 (v := .ref (o + 14)) rfl dX3_lawOf_176 ?_
        refine v_iload_n C dX3_lawOf_179 rfl rfl ?_
        obtain ⟨h6, hF⟩ := k_ite hF
        refine m_ald C (Nat.le_of_ble_eq_true rfl) (Nat.le_of_ble_eq_true rfl) (by decide) (n := 160) rfl h6 (ix := (x1.toNatClampNeg)) rfl dX3_lawOf_180 ?_
        refine v_mask [false, false, true, true, false, false] (lv' := [none, none, some (.int x2), some (.int x3), none, none]) rfl ?_
        exact wX3_lawOf_b181 C ho hl N sf hd0 hsf  (x2) (x3) ((s.2 14 (x1.toNatClampNeg))) (s) hF
      · refine v_aload_n C dX3_lawOf_166 rfl rfl ?_
        refine m_get C 14 (Nat.le_of_ble_eq_true rfl) q2316 (v := .ref (o + 13)) rfl dX3_lawOf_167 ?_
        refine v_iload_n C dX3_lawOf_170 rfl rfl ?_
        obtain ⟨h9, hF⟩ := k_ite hF
        refine m_ald C (Nat.le_of_ble_eq_true rfl) (Nat.le_of_ble_eq_true rfl) (by decide) (n := 160) rfl h9 (ix := (x1.toNatClampNeg)) rfl dX3_lawOf_171 ?_
        refine v_goto C (tgt := 181) dX3_lawOf_172 (by decide) ?_
        refine v_mask [false, false, true, true, false, false] (lv' := [none, none, some (.int x2), some (.int x3), none, none]) rfl ?_
        exact wX3_lawOf_b181 C ho hl N sf hd0 hsf  (x2) (x3) ((s.2 13 (x1.toNatClampNeg))) (s) hF
    · rcases k_cases hF with ⟨c10, hF⟩ | ⟨c10, hF⟩
      · refine v_tswIn C (100 : Int32) c10 dX3_lawOf_14 (by decide) (by decide) (off := 218) rfl (tgt := 232) (by decide) ?_
        refine v_aload_n C dX3_lawOf_232 rfl rfl ?_
        refine v_aload_n C dX3_lawOf_233 rfl rfl ?_
        refine m_get C 14 (Nat.le_of_ble_eq_true rfl) q2316 (v := .ref (o + 13)) rfl dX3_lawOf_234 ?_
        refine v_iload_n C dX3_lawOf_237 rfl rfl ?_
        obtain ⟨h11, hF⟩ := k_ite hF
        refine m_ald C (Nat.le_of_ble_eq_true rfl) (Nat.le_of_ble_eq_true rfl) (by decide) (n := 160) rfl h11 (ix := (x1.toNatClampNeg)) rfl dX3_lawOf_238 ?_
        refine v_iload_n C dX3_lawOf_239 rfl rfl ?_
        refine v_iload_n C dX3_lawOf_240 rfl rfl ?_
        refine v_iload_n C dX3_lawOf_241 rfl rfl ?_
        refine v_iadd C dX3_lawOf_242 ?_
        refine m_callVi C lk_X3_148 rfl (fr2 := 1 + (d - 1)) (lo2 := 100 * (1 + (d - 1))) (As := [.int (s.2 13 (x1.toNatClampNeg)), .int x2, .int (x3 + x2)]) (st := []) (fun r s1 h => by rw [hl]; exact hsf (d - 1) (by omega) (s.2 13 (x1.toNatClampNeg)) x2 (x3 + x2) s r s1 h) ⟨by omega, by omega⟩ rfl rfl (Nat.le_of_ble_eq_true rfl) dX3_lawOf_243 hF (fun r12 s13 hF => ?_)
        exact m_iret C dX3_lawOf_246 hF
      · rcases k_cases hF with ⟨c14, hF⟩ | ⟨c14, hF⟩
        · refine v_tswIn C (102 : Int32) c14 dX3_lawOf_14 (by decide) (by decide) (off := 108) rfl (tgt := 122) (by decide) ?_
          refine v_iconst C (v := (1 : Int32)) dX3_lawOf_122 (by decide) ?_
          exact m_iret C dX3_lawOf_123 hF
        · rcases k_cases hF with ⟨c15, hF⟩ | ⟨c15, hF⟩
          · refine v_tswIn C (104 : Int32) c15 dX3_lawOf_14 (by decide) (by decide) (off := 112) rfl (tgt := 126) (by decide) ?_
            refine v_iconst C (v := (3 : Int32)) dX3_lawOf_126 (by decide) ?_
            exact m_iret C dX3_lawOf_127 hF
          · rcases k_cases hF with ⟨c16, hF⟩ | ⟨c16, hF⟩
            · refine v_tswIn C (105 : Int32) c16 dX3_lawOf_14 (by decide) (by decide) (off := 106) rfl (tgt := 120) (by decide) ?_
              refine v_iconst C (v := (0 : Int32)) dX3_lawOf_120 (by decide) ?_
              exact m_iret C dX3_lawOf_121 hF
            · rcases k_cases hF with ⟨c17, hF⟩ | ⟨c17, hF⟩
              · refine v_tswIn C (107 : Int32) c17 dX3_lawOf_14 (by decide) (by decide) (off := 114) rfl (tgt := 128) (by decide) ?_
                refine v_aload_n C dX3_lawOf_128 rfl rfl ?_
                refine v_iload_n C dX3_lawOf_129 rfl rfl ?_
                refine v_iload C dX3_lawOf_130 rfl ?_
                obtain ⟨h18, hF⟩ := k_ite hF
                refine v_idiv C dX3_lawOf_132 h18 ?_
                refine v_iconst C (v := (2 : Int32)) dX3_lawOf_133 (by decide) ?_
                refine v_irem C dX3_lawOf_134 (by decide) ?_
                refine v_if_ne C (tgt := 147) dX3_lawOf_135 (by decide) hF (fun c19 hF => ?_) (fun c19 hF => ?_)
                · refine v_aload_n C dX3_lawOf_138 rfl rfl ?_
                  refine m_get C 14 (Nat.le_of_ble_eq_true rfl) q2316 (v := .ref (o + 13)) rfl dX3_lawOf_139 ?_
                  refine v_iload_n C dX3_lawOf_142 rfl rfl ?_
                  obtain ⟨h20, hF⟩ := k_ite hF
                  refine m_ald C (Nat.le_of_ble_eq_true rfl) (Nat.le_of_ble_eq_true rfl) (by decide) (n := 160) rfl h20 (ix := (x1.toNatClampNeg)) rfl dX3_lawOf_143 ?_
                  refine v_goto C (tgt := 153) dX3_lawOf_144 (by decide) ?_
                  refine v_mask [false, false, true, true, false, false] (lv' := [none, none, some (.int x2), some (.int x3), none, none]) rfl ?_
                  exact wX3_lawOf_b153 C ho hl N sf hd0 hsf  (x2) (x3) ((s.2 13 (x1.toNatClampNeg))) (s) hF
                · refine v_aload_n C dX3_lawOf_147 rfl rfl ?_
                  refine m_get C 15 (Nat.le_of_ble_eq_true rfl) q2317 (v := .ref (o + 14)) rfl dX3_lawOf_148 ?_
                  refine v_iload_n C dX3_lawOf_151 rfl rfl ?_
                  obtain ⟨h23, hF⟩ := k_ite hF
                  refine m_ald C (Nat.le_of_ble_eq_true rfl) (Nat.le_of_ble_eq_true rfl) (by decide) (n := 160) rfl h23 (ix := (x1.toNatClampNeg)) rfl dX3_lawOf_152 ?_
                  refine v_mask [false, false, true, true, false, false] (lv' := [none, none, some (.int x2), some (.int x3), none, none]) rfl ?_
                  exact wX3_lawOf_b153 C ho hl N sf hd0 hsf  (x2) (x3) ((s.2 14 (x1.toNatClampNeg))) (s) hF
              · rcases k_cases hF with ⟨c24, hF⟩ | ⟨c24, hF⟩
                · refine v_tswIn C (109 : Int32) c24 dX3_lawOf_14 (by decide) (by decide) (off := 233) rfl (tgt := 247) (by decide) ?_
                  refine v_aload_n C dX3_lawOf_247 rfl rfl ?_
                  refine v_aload_n C dX3_lawOf_248 rfl rfl ?_
                  refine m_get C 14 (Nat.le_of_ble_eq_true rfl) q2316 (v := .ref (o + 13)) rfl dX3_lawOf_249 ?_
                  refine v_iload_n C dX3_lawOf_252 rfl rfl ?_
                  obtain ⟨h25, hF⟩ := k_ite hF
                  refine m_ald C (Nat.le_of_ble_eq_true rfl) (Nat.le_of_ble_eq_true rfl) (by decide) (n := 160) rfl h25 (ix := (x1.toNatClampNeg)) rfl dX3_lawOf_253 ?_
                  refine v_aload_n C dX3_lawOf_254 rfl rfl ?_
                  refine m_get C 1 (Nat.le_of_ble_eq_true rfl) q2303 (v := .ref (o + 1)) rfl dX3_lawOf_255 ?_
                  refine v_iconst C (v := (0 : Int32)) dX3_lawOf_258 (by decide) ?_
                  refine m_ald C (Nat.le_of_ble_eq_true rfl) (Nat.le_of_ble_eq_true rfl) (by decide) (n := 2) rfl rfl (ix := 0) (by decide) dX3_lawOf_259 ?_
                  refine v_iconst C (v := (1 : Int32)) dX3_lawOf_260 (by decide) ?_
                  refine v_isub C dX3_lawOf_261 ?_
                  refine v_iload_n C dX3_lawOf_262 rfl rfl ?_
                  refine v_isub C dX3_lawOf_263 ?_
                  refine v_iload_n C dX3_lawOf_264 rfl rfl ?_
                  refine m_callVi C lk_X3_148 rfl (fr2 := 1 + (d - 1)) (lo2 := 100 * (1 + (d - 1))) (As := [.int (s.2 13 (x1.toNatClampNeg)), .int (((s.2 1 0) - (1 : Int32)) - x2), .int x3]) (st := []) (fun r s1 h => by rw [hl]; exact hsf (d - 1) (by omega) (s.2 13 (x1.toNatClampNeg)) (((s.2 1 0) - (1 : Int32)) - x2) x3 s r s1 h) ⟨by omega, by omega⟩ rfl rfl (Nat.le_of_ble_eq_true rfl) dX3_lawOf_265 hF (fun r26 s27 hF => ?_)
                  exact m_iret C dX3_lawOf_268 hF
                · rcases k_cases hF with ⟨c28, hF⟩ | ⟨c28, hF⟩
                  · refine v_tswIn C (114 : Int32) c28 dX3_lawOf_14 (by decide) (by decide) (off := 255) rfl (tgt := 269) (by decide) ?_
                    refine v_aload_n C dX3_lawOf_269 rfl rfl ?_
                    refine v_aload_n C dX3_lawOf_270 rfl rfl ?_
                    refine m_get C 14 (Nat.le_of_ble_eq_true rfl) q2316 (v := .ref (o + 13)) rfl dX3_lawOf_271 ?_
                    refine v_iload_n C dX3_lawOf_274 rfl rfl ?_
                    obtain ⟨h29, hF⟩ := k_ite hF
                    refine m_ald C (Nat.le_of_ble_eq_true rfl) (Nat.le_of_ble_eq_true rfl) (by decide) (n := 160) rfl h29 (ix := (x1.toNatClampNeg)) rfl dX3_lawOf_275 ?_
                    refine v_iload_n C dX3_lawOf_276 rfl rfl ?_
                    refine v_iload_n C dX3_lawOf_277 rfl rfl ?_
                    refine m_callVi C lk_X3_148 rfl (fr2 := 1 + (d - 1)) (lo2 := 100 * (1 + (d - 1))) (As := [.int (s.2 13 (x1.toNatClampNeg)), .int x2, .int x3]) (st := []) (fun r s1 h => by rw [hl]; exact hsf (d - 1) (by omega) (s.2 13 (x1.toNatClampNeg)) x2 x3 s r s1 h) ⟨by omega, by omega⟩ rfl rfl (Nat.le_of_ble_eq_true rfl) dX3_lawOf_278 hF (fun r30 s31 hF => ?_)
                    refine v_istore C dX3_lawOf_281 (Nat.le_of_ble_eq_true rfl) rfl (lv' := [some (.ref o), some (.int x1), some (.int x2), some (.int x3), some (.int (s.2 12 (x1.toNatClampNeg))), some (.int r30)]) rfl ?_
                    refine v_iload C dX3_lawOf_283 rfl ?_
                    refine v_iconst C (v := (1 : Int32)) dX3_lawOf_285 (by decide) ?_
                    refine v_icmp_ne C (tgt := 293) dX3_lawOf_286 (by decide) hF (fun c32 hF => ?_) (fun c32 hF => ?_)
                    · refine v_iconst C (v := (2 : Int32)) dX3_lawOf_289 (by decide) ?_
                      refine v_goto C (tgt := 305) dX3_lawOf_290 (by decide) ?_
                      exact m_iret C dX3_lawOf_305 hF
                    · refine v_iload C dX3_lawOf_293 rfl ?_
                      refine v_iconst C (v := (2 : Int32)) dX3_lawOf_295 (by decide) ?_
                      refine v_icmp_ne C (tgt := 303) dX3_lawOf_296 (by decide) hF (fun c33 hF => ?_) (fun c33 hF => ?_)
                      · refine v_iconst C (v := (1 : Int32)) dX3_lawOf_299 (by decide) ?_
                        refine v_goto C (tgt := 305) dX3_lawOf_300 (by decide) ?_
                        exact m_iret C dX3_lawOf_305 hF
                      · refine v_iload C dX3_lawOf_303 rfl ?_
                        exact m_iret C dX3_lawOf_305 hF
                  · rcases k_cases hF with ⟨c34, hF⟩ | ⟨c34, hF⟩
                    · refine v_tswIn C (115 : Int32) c34 dX3_lawOf_14 (by decide) (by decide) (off := 202) rfl (tgt := 216) (by decide) ?_
                      refine v_aload_n C dX3_lawOf_216 rfl rfl ?_
                      refine v_aload_n C dX3_lawOf_217 rfl rfl ?_
                      refine m_get C 14 (Nat.le_of_ble_eq_true rfl) q2316 (v := .ref (o + 13)) rfl dX3_lawOf_218 ?_
                      refine v_iload_n C dX3_lawOf_221 rfl rfl ?_
                      obtain ⟨h35, hF⟩ := k_ite hF
                      refine m_ald C (Nat.le_of_ble_eq_true rfl) (Nat.le_of_ble_eq_true rfl) (by decide) (n := 160) rfl h35 (ix := (x1.toNatClampNeg)) rfl dX3_lawOf_222 ?_
                      refine v_iload_n C dX3_lawOf_223 rfl rfl ?_
                      refine v_iload_n C dX3_lawOf_224 rfl rfl ?_
                      refine v_iload C dX3_lawOf_225 rfl ?_
                      refine v_iadd C dX3_lawOf_227 ?_
                      refine m_callVi C lk_X3_148 rfl (fr2 := 1 + (d - 1)) (lo2 := 100 * (1 + (d - 1))) (As := [.int (s.2 13 (x1.toNatClampNeg)), .int x2, .int (x3 + (s.2 12 (x1.toNatClampNeg)))]) (st := []) (fun r s1 h => by rw [hl]; exact hsf (d - 1) (by omega) (s.2 13 (x1.toNatClampNeg)) x2 (x3 + (s.2 12 (x1.toNatClampNeg))) s r s1 h) ⟨by omega, by omega⟩ rfl rfl (Nat.le_of_ble_eq_true rfl) dX3_lawOf_228 hF (fun r36 s37 hF => ?_)
                      exact m_iret C dX3_lawOf_231 hF
                    · rcases k_cases hF with ⟨c38, hF⟩ | ⟨c38, hF⟩
                      · refine v_tswIn C (120 : Int32) c38 dX3_lawOf_14 (by decide) (by decide) (off := 173) rfl (tgt := 187) (by decide) ?_
                        refine v_aload_n C dX3_lawOf_187 rfl rfl ?_
                        refine v_iload_n C dX3_lawOf_188 rfl rfl ?_
                        refine v_iload C dX3_lawOf_189 rfl ?_
                        obtain ⟨h39, hF⟩ := k_ite hF
                        refine v_irem C dX3_lawOf_191 h39 ?_
                        refine v_if_ne C (tgt := 204) dX3_lawOf_192 (by decide) hF (fun c40 hF => ?_) (fun c40 hF => ?_)
                        · refine v_aload_n C dX3_lawOf_195 rfl rfl ?_
                          refine m_get C 15 (Nat.le_of_ble_eq_true rfl) q2317 (v := .ref (o + 14)) rfl dX3_lawOf_196 ?_
                          refine v_iload_n C dX3_lawOf_199 rfl rfl ?_
                          obtain ⟨h41, hF⟩ := k_ite hF
                          refine m_ald C (Nat.le_of_ble_eq_true rfl) (Nat.le_of_ble_eq_true rfl) (by decide) (n := 160) rfl h41 (ix := (x1.toNatClampNeg)) rfl dX3_lawOf_200 ?_
                          refine v_goto C (tgt := 210) dX3_lawOf_201 (by decide) ?_
                          refine v_mask [false, false, true, true, false, false] (lv' := [none, none, some (.int x2), some (.int x3), none, none]) rfl ?_
                          exact wX3_lawOf_b210 C ho hl N sf hd0 hsf  (x2) (x3) ((s.2 14 (x1.toNatClampNeg))) (s) hF
                        · refine v_aload_n C dX3_lawOf_204 rfl rfl ?_
                          refine m_get C 14 (Nat.le_of_ble_eq_true rfl) q2316 (v := .ref (o + 13)) rfl dX3_lawOf_205 ?_
                          refine v_iload_n C dX3_lawOf_208 rfl rfl ?_
                          obtain ⟨h44, hF⟩ := k_ite hF
                          refine m_ald C (Nat.le_of_ble_eq_true rfl) (Nat.le_of_ble_eq_true rfl) (by decide) (n := 160) rfl h44 (ix := (x1.toNatClampNeg)) rfl dX3_lawOf_209 ?_
                          refine v_mask [false, false, true, true, false, false] (lv' := [none, none, some (.int x2), some (.int x3), none, none]) rfl ?_
                          exact wX3_lawOf_b210 C ho hl N sf hd0 hsf  (x2) (x3) ((s.2 13 (x1.toNatClampNeg))) (s) hF
                      · refine v_tswOut C [(98 : Int32), (99 : Int32), (100 : Int32), (102 : Int32), (104 : Int32), (105 : Int32), (107 : Int32), (109 : Int32), (114 : Int32), (115 : Int32), (120 : Int32)] (List.forall_mem_cons.mpr ⟨c3, List.forall_mem_cons.mpr ⟨c4, List.forall_mem_cons.mpr ⟨c10, List.forall_mem_cons.mpr ⟨c14, List.forall_mem_cons.mpr ⟨c15, List.forall_mem_cons.mpr ⟨c16, List.forall_mem_cons.mpr ⟨c17, List.forall_mem_cons.mpr ⟨c24, List.forall_mem_cons.mpr ⟨c28, List.forall_mem_cons.mpr ⟨c34, List.forall_mem_cons.mpr ⟨c38, fun _ h => absurd h List.not_mem_nil⟩⟩⟩⟩⟩⟩⟩⟩⟩⟩⟩) dX3_lawOf_14 (by decide +kernel) (by decide) (tgt := 306) (by decide) ?_
                        refine v_aload_n C dX3_lawOf_306 rfl rfl ?_
                        refine v_aload_n C dX3_lawOf_307 rfl rfl ?_
                        refine m_get C 14 (Nat.le_of_ble_eq_true rfl) q2316 (v := .ref (o + 13)) rfl dX3_lawOf_308 ?_
                        refine v_iload_n C dX3_lawOf_311 rfl rfl ?_
                        obtain ⟨h45, hF⟩ := k_ite hF
                        refine m_ald C (Nat.le_of_ble_eq_true rfl) (Nat.le_of_ble_eq_true rfl) (by decide) (n := 160) rfl h45 (ix := (x1.toNatClampNeg)) rfl dX3_lawOf_312 ?_
                        refine v_iload_n C dX3_lawOf_313 rfl rfl ?_
                        refine v_iload_n C dX3_lawOf_314 rfl rfl ?_
                        refine m_callVi C lk_X3_148 rfl (fr2 := 1 + (d - 1)) (lo2 := 100 * (1 + (d - 1))) (As := [.int (s.2 13 (x1.toNatClampNeg)), .int x2, .int x3]) (st := []) (fun r s1 h => by rw [hl]; exact hsf (d - 1) (by omega) (s.2 13 (x1.toNatClampNeg)) x2 x3 s r s1 h) ⟨by omega, by omega⟩ rfl rfl (Nat.le_of_ble_eq_true rfl) dX3_lawOf_315 hF (fun r46 s47 hF => ?_)
                        refine v_istore C dX3_lawOf_318 (Nat.le_of_ble_eq_true rfl) rfl (lv' := [some (.ref o), some (.int x1), some (.int x2), some (.int x3), some (.int (s.2 12 (x1.toNatClampNeg))), some (.int r46)]) rfl ?_
                        refine v_iload C dX3_lawOf_320 rfl ?_
                        refine v_if_eq C (tgt := 330) dX3_lawOf_322 (by decide) hF (fun c48 hF => ?_) (fun c48 hF => ?_)
                        · refine v_aload_n C dX3_lawOf_330 rfl rfl ?_
                          refine v_aload_n C dX3_lawOf_331 rfl rfl ?_
                          refine m_get C 15 (Nat.le_of_ble_eq_true rfl) q2317 (v := .ref (o + 14)) rfl dX3_lawOf_332 ?_
                          refine v_iload_n C dX3_lawOf_335 rfl rfl ?_
                          obtain ⟨h49, hF⟩ := k_ite hF
                          refine m_ald C (Nat.le_of_ble_eq_true rfl) (Nat.le_of_ble_eq_true rfl) (by decide) (n := 160) rfl h49 (ix := (x1.toNatClampNeg)) rfl dX3_lawOf_336 ?_
                          refine v_iload_n C dX3_lawOf_337 rfl rfl ?_
                          refine v_iload_n C dX3_lawOf_338 rfl rfl ?_
                          refine m_callVi C lk_X3_148 rfl (fr2 := 1 + (d - 1)) (lo2 := 100 * (1 + (d - 1))) (As := [.int (s47.2 14 (x1.toNatClampNeg)), .int x2, .int x3]) (st := []) (fun r s1 h => by rw [hl]; exact hsf (d - 1) (by omega) (s47.2 14 (x1.toNatClampNeg)) x2 x3 s47 r s1 h) ⟨by omega, by omega⟩ rfl rfl (Nat.le_of_ble_eq_true rfl) dX3_lawOf_339 hF (fun r50 s51 hF => ?_)
                          exact m_iret C dX3_lawOf_342 hF
                        · refine v_iload C dX3_lawOf_325 rfl ?_
                          refine v_goto C (tgt := 342) dX3_lawOf_327 (by decide) ?_
                          exact m_iret C dX3_lawOf_342 hF
set_option maxHeartbeats 4000000 in
theorem wX3_card (l : Launch) (g : GT) {o : Nat} (ho : gB g ≤ o) (u : Wd) (N : Nat) (x1 : Int32) (x2 : Int32)  (s : M) (r : Int32) (s1 : M) (hF : FX3_card N x1 x2 s = some (r, s1)) : kMt l g yX3_card (ws_ yX3_card cX3_card 3 (some .int)) (12) (1200) (wM g o s u) [.ref o, .int x1, .int x2] (some (.int r)) (wM g o s1 u) := by
  refine kMt.ofV (lv := [some (.ref o), some (.int x1), some (.int x2)]) (by decide) rfl (Nat.le_of_ble_eq_true rfl) rfl ?_
  intro X hl hin C
  unfold FX3_card at hF
  refine v_aload_n C dX3_card_0 rfl rfl ?_
  refine v_iload_n C dX3_card_1 rfl rfl ?_
  refine m_callVi C lk_X3_161 rfl (fr2 := 2) (lo2 := 200) (As := [.int x1]) (st := []) (fun r s1 h => by rw [hl]; exact wX3_isCard l g ho u N x1 s r s1 h) (by decide) rfl rfl (Nat.le_of_ble_eq_true rfl) dX3_card_2 hF (fun r1 s2 hF => ?_)
  refine v_if_eq C (tgt := 18) dX3_card_5 (by decide) hF (fun c3 hF => ?_) (fun c3 hF => ?_)
  · refine v_iconst C (v := (-1 : Int32)) dX3_card_18 (by decide) ?_
    exact m_iret C dX3_card_19 hF
  · refine v_iload_n C dX3_card_8 rfl rfl ?_
    refine v_iconst C (v := (0 : Int32)) dX3_card_9 (by decide) ?_
    refine v_bipush C (v := (8 : Int32)) dX3_card_10 (by decide) ?_
    refine m_callSi C lk_X3_108 (fr2 := 1) (lo2 := 100) (As := [.int x2, .int (0 : Int32), .int (8 : Int32)]) (st := []) (fun r s1 h => by rw [hl]; exact wX3_in l g ho u N x2 (0 : Int32) (8 : Int32) s2 r s1 h) (by decide) rfl rfl (Nat.le_of_ble_eq_true rfl) dX3_card_12 hF (fun r4 s5 hF => ?_)
    refine v_if_ne C (tgt := 20) dX3_card_15 (by decide) hF (fun c6 hF => ?_) (fun c6 hF => ?_)
    · refine v_iconst C (v := (-1 : Int32)) dX3_card_18 (by decide) ?_
      exact m_iret C dX3_card_19 hF
    · refine v_iload_n C dX3_card_20 rfl rfl ?_
      rcases k_cases hF with ⟨c7, hF⟩ | ⟨c7, hF⟩
      · refine v_tswIn C (4 : Int32) c7 dX3_card_21 (by decide) (by decide) (off := 35) rfl (tgt := 56) (by decide) ?_
        refine v_aload_n C dX3_card_56 rfl rfl ?_
        refine m_get C 4 (Nat.le_of_ble_eq_true rfl) q2306 (v := .ref (o + 4)) rfl dX3_card_57 ?_
        refine v_iload_n C dX3_card_60 rfl rfl ?_
        obtain ⟨h8, hF⟩ := k_ite hF
        refine m_ald C (Nat.le_of_ble_eq_true rfl) (Nat.le_of_ble_eq_true rfl) (by decide) (n := 20) rfl h8 (ix := (x1.toNatClampNeg)) rfl dX3_card_61 ?_
        exact m_iret C dX3_card_62 hF
      · rcases k_cases hF with ⟨c9, hF⟩ | ⟨c9, hF⟩
        · refine v_tswIn C (5 : Int32) c9 dX3_card_21 (by decide) (by decide) (off := 42) rfl (tgt := 63) (by decide) ?_
          refine v_aload_n C dX3_card_63 rfl rfl ?_
          refine m_get C 5 (Nat.le_of_ble_eq_true rfl) q2307 (v := .ref (o + 5)) rfl dX3_card_64 ?_
          refine v_iload_n C dX3_card_67 rfl rfl ?_
          obtain ⟨h10, hF⟩ := k_ite hF
          refine m_ald C (Nat.le_of_ble_eq_true rfl) (Nat.le_of_ble_eq_true rfl) (by decide) (n := 20) rfl h10 (ix := (x1.toNatClampNeg)) rfl dX3_card_68 ?_
          exact m_iret C dX3_card_69 hF
        · rcases k_cases hF with ⟨c11, hF⟩ | ⟨c11, hF⟩
          · refine v_tswIn C (6 : Int32) c11 dX3_card_21 (by decide) (by decide) (off := 49) rfl (tgt := 70) (by decide) ?_
            refine v_aload_n C dX3_card_70 rfl rfl ?_
            refine m_get C 6 (Nat.le_of_ble_eq_true rfl) q2308 (v := .ref (o + 6)) rfl dX3_card_71 ?_
            refine v_iload_n C dX3_card_74 rfl rfl ?_
            obtain ⟨h12, hF⟩ := k_ite hF
            refine m_ald C (Nat.le_of_ble_eq_true rfl) (Nat.le_of_ble_eq_true rfl) (by decide) (n := 20) rfl h12 (ix := (x1.toNatClampNeg)) rfl dX3_card_75 ?_
            refine v_bipush C (v := (100 : Int32)) dX3_card_76 (by decide) ?_
            refine v_iadd C dX3_card_78 ?_
            exact m_iret C dX3_card_79 hF
          · rcases k_cases hF with ⟨c13, hF⟩ | ⟨c13, hF⟩
            · refine v_tswIn C (7 : Int32) c13 dX3_card_21 (by decide) (by decide) (off := 59) rfl (tgt := 80) (by decide) ?_
              refine v_aload_n C dX3_card_80 rfl rfl ?_
              refine v_iload_n C dX3_card_81 rfl rfl ?_
              refine m_callVi C lk_X3_165 rfl (fr2 := 1) (lo2 := 100) (As := [.int x1]) (st := []) (fun r s1 h => by rw [hl]; exact wX3_floatOf l g ho u N x1 s5 r s1 h) (by decide) rfl rfl (Nat.le_of_ble_eq_true rfl) dX3_card_82 hF (fun r14 s15 hF => ?_)
              exact m_iret C dX3_card_85 hF
            · rcases k_cases hF with ⟨c16, hF⟩ | ⟨c16, hF⟩
              · refine v_tswIn C (8 : Int32) c16 dX3_card_21 (by decide) (by decide) (off := 65) rfl (tgt := 86) (by decide) ?_
                refine v_aload_n C dX3_card_86 rfl rfl ?_
                refine v_iconst C (v := (0 : Int32)) dX3_card_87 (by decide) ?_
                refine v_iload_n C dX3_card_88 rfl rfl ?_
                refine v_aload_n C dX3_card_89 rfl rfl ?_
                refine m_get C 2 (Nat.le_of_ble_eq_true rfl) q2304 (v := .ref (o + 2)) rfl dX3_card_90 ?_
                refine v_iconst C (v := (0 : Int32)) dX3_card_93 (by decide) ?_
                refine m_ald C (Nat.le_of_ble_eq_true rfl) (Nat.le_of_ble_eq_true rfl) (by decide) (n := 2) rfl rfl (ix := 0) (by decide) dX3_card_94 ?_
                refine m_callVi C lk_X3_148 rfl (fr2 := 11) (lo2 := 1100) (As := [.int (0 : Int32), .int x1, .int (s5.2 2 0)]) (st := []) (fun r s1 h => by rw [hl]; exact wX3_lawOf l g ho u N 10 (0 : Int32) x1 (s5.2 2 0) s5 r s1 h) (by decide) rfl rfl (Nat.le_of_ble_eq_true rfl) dX3_card_95 hF (fun r17 s18 hF => ?_)
                exact m_iret C dX3_card_98 hF
              · refine v_tswOut C [(4 : Int32), (5 : Int32), (6 : Int32), (7 : Int32), (8 : Int32)] (List.forall_mem_cons.mpr ⟨c7, List.forall_mem_cons.mpr ⟨c9, List.forall_mem_cons.mpr ⟨c11, List.forall_mem_cons.mpr ⟨c13, List.forall_mem_cons.mpr ⟨c16, fun _ h => absurd h List.not_mem_nil⟩⟩⟩⟩⟩) dX3_card_21 (by decide +kernel) (by decide) (tgt := 99) (by decide) ?_
                refine v_aload_n C dX3_card_99 rfl rfl ?_
                refine m_get C 3 (Nat.le_of_ble_eq_true rfl) q2305 (v := .ref (o + 3)) rfl dX3_card_100 ?_
                refine v_iconst C (v := (4 : Int32)) dX3_card_103 (by decide) ?_
                refine v_iload_n C dX3_card_104 rfl rfl ?_
                refine v_imul C dX3_card_105 ?_
                refine v_iload_n C dX3_card_106 rfl rfl ?_
                refine v_iadd C dX3_card_107 ?_
                obtain ⟨h19, hF⟩ := k_ite hF
                refine m_ald C (Nat.le_of_ble_eq_true rfl) (Nat.le_of_ble_eq_true rfl) (by decide) (n := 80) rfl h19 (ix := ((((4 : Int32) * x1) + x2).toNatClampNeg)) rfl dX3_card_108 ?_
                exact m_iret C dX3_card_109 hF
set_option maxHeartbeats 4000000 in
theorem wX3_slant (l : Launch) (g : GT) {o : Nat} (ho : gB g ≤ o) (u : Wd) (N : Nat) (x1 : Int32)  (s : M) (r : Int32) (s1 : M) (hF : FX3_slant N x1 s = some (r, s1)) : kMt l g yX3_slant (ws_ yX3_slant cX3_slant 2 (some .int)) (3) (300) (wM g o s u) [.ref o, .int x1] (some (.int r)) (wM g o s1 u) := by
  refine kMt.ofV (lv := [some (.ref o), some (.int x1)]) (by decide) rfl (Nat.le_of_ble_eq_true rfl) rfl ?_
  intro X hl hin C
  unfold FX3_slant at hF
  refine v_aload_n C dX3_slant_0 rfl rfl ?_
  refine v_iload_n C dX3_slant_1 rfl rfl ?_
  refine m_callVi C lk_X3_161 rfl (fr2 := 2) (lo2 := 200) (As := [.int x1]) (st := []) (fun r s1 h => by rw [hl]; exact wX3_isCard l g ho u N x1 s r s1 h) (by decide) rfl rfl (Nat.le_of_ble_eq_true rfl) dX3_slant_2 hF (fun r1 s2 hF => ?_)
  refine v_if_ne C (tgt := 10) dX3_slant_5 (by decide) hF (fun c3 hF => ?_) (fun c3 hF => ?_)
  · refine v_iconst C (v := (-1 : Int32)) dX3_slant_8 (by decide) ?_
    exact m_iret C dX3_slant_9 hF
  · refine v_aload_n C dX3_slant_10 rfl rfl ?_
    refine m_get C 4 (Nat.le_of_ble_eq_true rfl) q2306 (v := .ref (o + 4)) rfl dX3_slant_11 ?_
    refine v_iload_n C dX3_slant_14 rfl rfl ?_
    refine v_iconst C (v := (1 : Int32)) dX3_slant_15 (by decide) ?_
    refine v_aload_n C dX3_slant_16 rfl rfl ?_
    refine m_get C 4 (Nat.le_of_ble_eq_true rfl) q2306 (v := .ref (o + 4)) rfl dX3_slant_17 ?_
    refine v_iload_n C dX3_slant_20 rfl rfl ?_
    obtain ⟨h4, hF⟩ := k_ite hF
    refine m_ald C (Nat.le_of_ble_eq_true rfl) (Nat.le_of_ble_eq_true rfl) (by decide) (n := 20) rfl h4 (ix := (x1.toNatClampNeg)) rfl dX3_slant_21 ?_
    refine v_isub C dX3_slant_22 ?_
    obtain ⟨h5, hF⟩ := k_ite hF
    refine m_ast C ho (Nat.le_of_ble_eq_true rfl) (Nat.le_of_ble_eq_true rfl) (by decide) (n := 20) rfl h5 (ix := (x1.toNatClampNeg)) rfl dX3_slant_23 ?_
    refine v_aload_n C dX3_slant_24 rfl rfl ?_
    refine m_get C 4 (Nat.le_of_ble_eq_true rfl) q2306 (v := .ref (o + 4)) rfl dX3_slant_25 ?_
    refine v_iload_n C dX3_slant_28 rfl rfl ?_
    obtain ⟨h6, hF⟩ := k_ite hF
    refine m_ald C (Nat.le_of_ble_eq_true rfl) (Nat.le_of_ble_eq_true rfl) (by decide) (n := 20) rfl h6 (ix := (x1.toNatClampNeg)) rfl dX3_slant_29 ?_
    exact m_iret C dX3_slant_30 hF
set_option maxHeartbeats 4000000 in
theorem wX3_place (l : Launch) (g : GT) {o : Nat} (ho : gB g ≤ o) (u : Wd) (N : Nat) (x1 : Int32) (x2 : Int32)  (s : M) (r : Int32) (s1 : M) (hF : FX3_place N x1 x2 s = some (r, s1)) : kMt l g yX3_place (ws_ yX3_place cX3_place 4 (some .int)) (3) (300) (wM g o s u) [.ref o, .int x1, .int x2] (some (.int r)) (wM g o s1 u) := by
  refine kMt.ofV (lv := [some (.ref o), some (.int x1), some (.int x2), none]) (by decide) rfl (Nat.le_of_ble_eq_true rfl) rfl ?_
  intro X hl hin C
  unfold FX3_place at hF
  refine v_aload_n C dX3_place_0 rfl rfl ?_
  refine v_iload_n C dX3_place_1 rfl rfl ?_
  refine m_callVi C lk_X3_161 rfl (fr2 := 2) (lo2 := 200) (As := [.int x1]) (st := []) (fun r s1 h => by rw [hl]; exact wX3_isCard l g ho u N x1 s r s1 h) (by decide) rfl rfl (Nat.le_of_ble_eq_true rfl) dX3_place_2 hF (fun r1 s2 hF => ?_)
  refine v_if_ne C (tgt := 10) dX3_place_5 (by decide) hF (fun c3 hF => ?_) (fun c3 hF => ?_)
  · refine v_iconst C (v := (-1 : Int32)) dX3_place_8 (by decide) ?_
    exact m_iret C dX3_place_9 hF
  · refine v_iload_n C dX3_place_10 rfl rfl ?_
    refine v_iconst C (v := (0 : Int32)) dX3_place_11 (by decide) ?_
    refine v_iconst C (v := (3 : Int32)) dX3_place_12 (by decide) ?_
    refine m_callSi C lk_X3_108 (fr2 := 1) (lo2 := 100) (As := [.int x2, .int (0 : Int32), .int (3 : Int32)]) (st := []) (fun r s1 h => by rw [hl]; exact wX3_in l g ho u N x2 (0 : Int32) (3 : Int32) s2 r s1 h) (by decide) rfl rfl (Nat.le_of_ble_eq_true rfl) dX3_place_13 hF (fun r4 s5 hF => ?_)
    refine v_if_ne C (tgt := 22) dX3_place_16 (by decide) hF (fun c6 hF => ?_) (fun c6 hF => ?_)
    · refine v_bipush C (v := (-2 : Int32)) dX3_place_19 (by decide) ?_
      exact m_iret C dX3_place_21 hF
    · refine v_aload_n C dX3_place_22 rfl rfl ?_
      refine m_get C 5 (Nat.le_of_ble_eq_true rfl) q2307 (v := .ref (o + 5)) rfl dX3_place_23 ?_
      refine v_iload_n C dX3_place_26 rfl rfl ?_
      obtain ⟨h7, hF⟩ := k_ite hF
      refine m_ald C (Nat.le_of_ble_eq_true rfl) (Nat.le_of_ble_eq_true rfl) (by decide) (n := 20) rfl h7 (ix := (x1.toNatClampNeg)) rfl dX3_place_27 ?_
      refine v_istore_n C dX3_place_28 rfl (Nat.le_of_ble_eq_true rfl) rfl (lv' := [some (.ref o), some (.int x1), some (.int x2), some (.int (s5.2 5 (x1.toNatClampNeg)))]) rfl ?_
      refine v_aload_n C dX3_place_29 rfl rfl ?_
      refine m_get C 5 (Nat.le_of_ble_eq_true rfl) q2307 (v := .ref (o + 5)) rfl dX3_place_30 ?_
      refine v_iload_n C dX3_place_33 rfl rfl ?_
      refine v_iload_n C dX3_place_34 rfl rfl ?_
      obtain ⟨h8, hF⟩ := k_ite hF
      refine m_ast C ho (Nat.le_of_ble_eq_true rfl) (Nat.le_of_ble_eq_true rfl) (by decide) (n := 20) rfl h8 (ix := (x1.toNatClampNeg)) rfl dX3_place_35 ?_
      refine v_iload_n C dX3_place_36 rfl rfl ?_
      exact m_iret C dX3_place_37 hF
set_option maxHeartbeats 4000000 in
theorem wX3_isColour (l : Launch) (g : GT) {o : Nat} (ho : gB g ≤ o) (u : Wd) (N : Nat) (x0 : Int32)  (s : M) (r : Int32) (s1 : M) (hF : FX3_isColour N x0 s = some (r, s1)) : kMt l g yX3_isColour (ws_ yX3_isColour cX3_isColour 1 (some .boolean)) (2) (200) (wM g o s u) [.int x0] (some (.int r)) (wM g o s1 u) := by
  refine kMt.ofV (lv := [some (.int x0)]) (by decide) rfl (Nat.le_of_ble_eq_true rfl) rfl ?_
  intro X hl hin C
  unfold FX3_isColour at hF
  refine v_iload_n C dX3_isColour_0 rfl rfl ?_
  refine v_iconst C (v := (0 : Int32)) dX3_isColour_1 (by decide) ?_
  refine v_bipush C (v := (9 : Int32)) dX3_isColour_2 (by decide) ?_
  refine m_callSi C lk_X3_108 (fr2 := 1) (lo2 := 100) (As := [.int x0, .int (0 : Int32), .int (9 : Int32)]) (st := []) (fun r s1 h => by rw [hl]; exact wX3_in l g ho u N x0 (0 : Int32) (9 : Int32) s r s1 h) (by decide) rfl rfl (Nat.le_of_ble_eq_true rfl) dX3_isColour_4 hF (fun r1 s2 hF => ?_)
  obtain ⟨h3, hF⟩ := k_ite hF
  exact m_zret C (nb_nar h3) dX3_isColour_7 hF
set_option maxHeartbeats 4000000 in
theorem wX3_recolour (l : Launch) (g : GT) {o : Nat} (ho : gB g ≤ o) (u : Wd) (N : Nat) (x1 : Int32) (x2 : Int32) (x3 : Int32)  (s : M) (r : Int32) (s1 : M) (hF : FX3_recolour N x1 x2 x3 s = some (r, s1)) : kMt l g yX3_recolour (ws_ yX3_recolour cX3_recolour 5 (some .int)) (3) (300) (wM g o s u) [.ref o, .int x1, .int x2, .int x3] (some (.int r)) (wM g o s1 u) := by
  refine kMt.ofV (lv := [some (.ref o), some (.int x1), some (.int x2), some (.int x3), none]) (by decide) rfl (Nat.le_of_ble_eq_true rfl) rfl ?_
  intro X hl hin C
  unfold FX3_recolour at hF
  refine v_aload_n C dX3_recolour_0 rfl rfl ?_
  refine v_iload_n C dX3_recolour_1 rfl rfl ?_
  refine m_callVi C lk_X3_161 rfl (fr2 := 2) (lo2 := 200) (As := [.int x1]) (st := []) (fun r s1 h => by rw [hl]; exact wX3_isCard l g ho u N x1 s r s1 h) (by decide) rfl rfl (Nat.le_of_ble_eq_true rfl) dX3_recolour_2 hF (fun r1 s2 hF => ?_)
  refine v_if_eq C (tgt := 17) dX3_recolour_5 (by decide) hF (fun c3 hF => ?_) (fun c3 hF => ?_)
  · refine v_iconst C (v := (-1 : Int32)) dX3_recolour_17 (by decide) ?_
    exact m_iret C dX3_recolour_18 hF
  · refine v_iload_n C dX3_recolour_8 rfl rfl ?_
    refine v_iconst C (v := (0 : Int32)) dX3_recolour_9 (by decide) ?_
    refine v_iconst C (v := (3 : Int32)) dX3_recolour_10 (by decide) ?_
    refine m_callSi C lk_X3_108 (fr2 := 1) (lo2 := 100) (As := [.int x2, .int (0 : Int32), .int (3 : Int32)]) (st := []) (fun r s1 h => by rw [hl]; exact wX3_in l g ho u N x2 (0 : Int32) (3 : Int32) s2 r s1 h) (by decide) rfl rfl (Nat.le_of_ble_eq_true rfl) dX3_recolour_11 hF (fun r4 s5 hF => ?_)
    refine v_if_ne C (tgt := 19) dX3_recolour_14 (by decide) hF (fun c6 hF => ?_) (fun c6 hF => ?_)
    · refine v_iconst C (v := (-1 : Int32)) dX3_recolour_17 (by decide) ?_
      exact m_iret C dX3_recolour_18 hF
    · refine v_iload_n C dX3_recolour_19 rfl rfl ?_
      refine m_callSi C lk_X3_168 (fr2 := 2) (lo2 := 200) (As := [.int x3]) (st := []) (fun r s1 h => by rw [hl]; exact wX3_isColour l g ho u N x3 s5 r s1 h) (by decide) rfl rfl (Nat.le_of_ble_eq_true rfl) dX3_recolour_20 hF (fun r7 s8 hF => ?_)
      refine v_if_ne C (tgt := 29) dX3_recolour_23 (by decide) hF (fun c9 hF => ?_) (fun c9 hF => ?_)
      · refine v_bipush C (v := (-2 : Int32)) dX3_recolour_26 (by decide) ?_
        exact m_iret C dX3_recolour_28 hF
      · refine v_aload_n C dX3_recolour_29 rfl rfl ?_
        refine m_get C 3 (Nat.le_of_ble_eq_true rfl) q2305 (v := .ref (o + 3)) rfl dX3_recolour_30 ?_
        refine v_iconst C (v := (4 : Int32)) dX3_recolour_33 (by decide) ?_
        refine v_iload_n C dX3_recolour_34 rfl rfl ?_
        refine v_imul C dX3_recolour_35 ?_
        refine v_iload_n C dX3_recolour_36 rfl rfl ?_
        refine v_iadd C dX3_recolour_37 ?_
        obtain ⟨h10, hF⟩ := k_ite hF
        refine m_ald C (Nat.le_of_ble_eq_true rfl) (Nat.le_of_ble_eq_true rfl) (by decide) (n := 80) rfl h10 (ix := ((((4 : Int32) * x1) + x2).toNatClampNeg)) rfl dX3_recolour_38 ?_
        refine v_istore C dX3_recolour_39 (Nat.le_of_ble_eq_true rfl) rfl (lv' := [some (.ref o), some (.int x1), some (.int x2), some (.int x3), some (.int (s8.2 3 ((((4 : Int32) * x1) + x2).toNatClampNeg)))]) rfl ?_
        refine v_aload_n C dX3_recolour_41 rfl rfl ?_
        refine m_get C 3 (Nat.le_of_ble_eq_true rfl) q2305 (v := .ref (o + 3)) rfl dX3_recolour_42 ?_
        refine v_iconst C (v := (4 : Int32)) dX3_recolour_45 (by decide) ?_
        refine v_iload_n C dX3_recolour_46 rfl rfl ?_
        refine v_imul C dX3_recolour_47 ?_
        refine v_iload_n C dX3_recolour_48 rfl rfl ?_
        refine v_iadd C dX3_recolour_49 ?_
        refine v_iload_n C dX3_recolour_50 rfl rfl ?_
        obtain ⟨h11, hF⟩ := k_ite hF
        refine m_ast C ho (Nat.le_of_ble_eq_true rfl) (Nat.le_of_ble_eq_true rfl) (by decide) (n := 80) rfl h11 (ix := ((((4 : Int32) * x1) + x2).toNatClampNeg)) rfl dX3_recolour_51 ?_
        refine v_iload C dX3_recolour_52 rfl ?_
        exact m_iret C dX3_recolour_54 hF
set_option maxHeartbeats 4000000 in
theorem wX3_grown (l : Launch) (g : GT) {o : Nat} (ho : gB g ≤ o) (u : Wd) (N : Nat) (x0 : Int32)  (s : M) (r : Int32) (s1 : M) (hF : FX3_grown N x0 s = some (r, s1)) : kMt l g yX3_grown (ws_ yX3_grown cX3_grown 1 (some .int)) (1) (100) (wM g o s u) [.int x0] (some (.int r)) (wM g o s1 u) := by
  refine kMt.ofV (lv := [some (.int x0)]) (by decide) rfl (Nat.le_of_ble_eq_true rfl) rfl ?_
  intro X hl hin C
  unfold FX3_grown at hF
  refine v_iload_n C dX3_grown_0 rfl rfl ?_
  refine v_iconst C (v := (1 : Int32)) dX3_grown_1 (by decide) ?_
  refine v_icmp_ne C (tgt := 9) dX3_grown_2 (by decide) hF (fun c1 hF => ?_) (fun c1 hF => ?_)
  · refine v_iconst C (v := (1 : Int32)) dX3_grown_5 (by decide) ?_
    refine v_goto C (tgt := 28) dX3_grown_6 (by decide) ?_
    exact m_iret C dX3_grown_28 hF
  · refine v_iload_n C dX3_grown_9 rfl rfl ?_
    refine v_iconst C (v := (2 : Int32)) dX3_grown_10 (by decide) ?_
    refine v_icmp_ne C (tgt := 18) dX3_grown_11 (by decide) hF (fun c2 hF => ?_) (fun c2 hF => ?_)
    · refine v_iconst C (v := (-1 : Int32)) dX3_grown_14 (by decide) ?_
      refine v_goto C (tgt := 28) dX3_grown_15 (by decide) ?_
      exact m_iret C dX3_grown_28 hF
    · refine v_iload_n C dX3_grown_18 rfl rfl ?_
      refine v_iconst C (v := (3 : Int32)) dX3_grown_19 (by decide) ?_
      refine v_icmp_ne C (tgt := 27) dX3_grown_20 (by decide) hF (fun c3 hF => ?_) (fun c3 hF => ?_)
      · refine v_iconst C (v := (2 : Int32)) dX3_grown_23 (by decide) ?_
        refine v_goto C (tgt := 28) dX3_grown_24 (by decide) ?_
        exact m_iret C dX3_grown_28 hF
      · refine v_iconst C (v := (0 : Int32)) dX3_grown_27 (by decide) ?_
        exact m_iret C dX3_grown_28 hF
set_option maxHeartbeats 4000000 in
theorem wX3_jams_b2 {l : Launch} {g : GT} {X : CxT} {o : Nat} {u : Wd} {r : Int32} {s1 : M} (C : kOk g X cX3_jams 2 RX3 (some .boolean) 2 200 (some (.int r)) (wM g o s1 u)) (ho : gB g ≤ o) (hl : xl X = l) (N : Nat) (k2 : Int32 × M → Option (Int32 × M)) (hk2 : ∀ a, k2 a = some (r, s1) → kV g X 2 (wM g o a.2 u) 2 [some (.ref o), some (.int a.1)] []) (x1 : Int32) (s : M) (hF : FX3_jams_b2 N k2 x1 s = some (r, s1)) : kV g X 2 (wM g o s u) 2 [some (.ref o), some (.int x1)] [] := by
  unfold FX3_jams_b2 at hF
  refine v_iload_n C dX3_jams_2 rfl rfl ?_
  refine v_aload_n C dX3_jams_3 rfl rfl ?_
  refine m_get C 1 (Nat.le_of_ble_eq_true rfl) q2303 (v := .ref (o + 1)) rfl dX3_jams_4 ?_
  refine v_iconst C (v := (0 : Int32)) dX3_jams_7 (by decide) ?_
  refine m_ald C (Nat.le_of_ble_eq_true rfl) (Nat.le_of_ble_eq_true rfl) (by decide) (n := 2) rfl rfl (ix := 0) (by decide) dX3_jams_8 ?_
  refine v_icmp_ge C (tgt := 46) dX3_jams_9 (by decide) hF (fun c1 hF => ?_) (fun c1 hF => ?_)
  · refine v_iconst C (v := (0 : Int32)) dX3_jams_46 (by decide) ?_
    exact m_zret C rfl dX3_jams_47 hF
  · refine v_aload_n C dX3_jams_12 rfl rfl ?_
    refine m_get C 6 (Nat.le_of_ble_eq_true rfl) q2308 (v := .ref (o + 6)) rfl dX3_jams_13 ?_
    refine v_iload_n C dX3_jams_16 rfl rfl ?_
    obtain ⟨h2, hF⟩ := k_ite hF
    refine m_ald C (Nat.le_of_ble_eq_true rfl) (Nat.le_of_ble_eq_true rfl) (by decide) (n := 20) rfl h2 (ix := (x1.toNatClampNeg)) rfl dX3_jams_17 ?_
    refine v_aload_n C dX3_jams_18 rfl rfl ?_
    refine m_get C 29 (Nat.le_of_ble_eq_true rfl) q2331 (v := .ref (o + 22)) rfl dX3_jams_19 ?_
    refine v_iload_n C dX3_jams_22 rfl rfl ?_
    obtain ⟨h3, hF⟩ := k_ite hF
    refine m_ald C (Nat.le_of_ble_eq_true rfl) (Nat.le_of_ble_eq_true rfl) (by decide) (n := 10) rfl h3 (ix := (x1.toNatClampNeg)) rfl dX3_jams_23 ?_
    refine m_callSi C lk_X3_171 (fr2 := 1) (lo2 := 100) (As := [.int (s.2 22 (x1.toNatClampNeg))]) (st := [.int (s.2 6 (x1.toNatClampNeg))]) (fun r s1 h => by rw [hl]; exact wX3_grown l g ho u N (s.2 22 (x1.toNatClampNeg)) s r s1 h) (by decide) rfl rfl (Nat.le_of_ble_eq_true rfl) dX3_jams_24 hF (fun r4 s5 hF => ?_)
    refine v_iadd C dX3_jams_27 ?_
    refine v_bipush C (v := (-99 : Int32)) dX3_jams_28 (by decide) ?_
    refine v_bipush C (v := (99 : Int32)) dX3_jams_30 (by decide) ?_
    refine m_callSi C lk_X3_108 (fr2 := 1) (lo2 := 100) (As := [.int ((s.2 6 (x1.toNatClampNeg)) + r4), .int (-99 : Int32), .int (99 : Int32)]) (st := []) (fun r s1 h => by rw [hl]; exact wX3_in l g ho u N ((s.2 6 (x1.toNatClampNeg)) + r4) (-99 : Int32) (99 : Int32) s5 r s1 h) (by decide) rfl rfl (Nat.le_of_ble_eq_true rfl) dX3_jams_32 hF (fun r6 s7 hF => ?_)
    refine v_if_ne C (tgt := 40) dX3_jams_35 (by decide) hF (fun c8 hF => ?_) (fun c8 hF => ?_)
    · refine v_iconst C (v := (1 : Int32)) dX3_jams_38 (by decide) ?_
      exact m_zret C rfl dX3_jams_39 hF
    · refine v_iinc C dX3_jams_40 rfl (v := (x1 + (1 : Int32))) rfl (Nat.le_of_ble_eq_true rfl) rfl (lv' := [some (.ref o), some (.int (x1 + (1 : Int32)))]) rfl ?_
      refine v_goto C (tgt := 2) dX3_jams_43 (by decide) ?_
      refine v_mask [true, true] (lv' := [some (.ref o), some (.int (x1 + (1 : Int32)))]) rfl ?_
      exact hk2 ((x1 + (1 : Int32)), s7) hF
set_option maxHeartbeats 4000000 in
theorem wX3_jams (l : Launch) (g : GT) {o : Nat} (ho : gB g ≤ o) (u : Wd) (N : Nat)   (s : M) (r : Int32) (s1 : M) (hF : FX3_jams N  s = some (r, s1)) : kMt l g yX3_jams (ws_ yX3_jams cX3_jams 2 (some .boolean)) (2) (200) (wM g o s u) [.ref o] (some (.int r)) (wM g o s1 u) := by
  refine kMt.ofV (lv := [some (.ref o), none]) (by decide) rfl (Nat.le_of_ble_eq_true rfl) rfl ?_
  intro X hl hin C
  unfold FX3_jams at hF
  refine v_iconst C (v := (0 : Int32)) dX3_jams_0 (by decide) ?_
  refine v_istore_n C dX3_jams_1 rfl (Nat.le_of_ble_eq_true rfl) rfl (lv' := [some (.ref o), some (.int (0 : Int32))]) rfl ?_
  refine v_mask [true, true] (lv' := [some (.ref o), some (.int (0 : Int32))]) rfl ?_
  exact kloop_ok (P := fun a => kV g X 2 (wM g o a.2 u) 2 [some (.ref o), some (.int a.1)] []) (fun self hs a hF => wX3_jams_b2 C ho hl N  self hs a.1 a.2 hF) N ((0 : Int32), s) hF
set_option maxHeartbeats 4000000 in
theorem wX3_moved (l : Launch) (g : GT) {o : Nat} (ho : gB g ≤ o) (u : Wd) (N : Nat) (x0 : Int32)  (s : M) (r : Int32) (s1 : M) (hF : FX3_moved N x0 s = some (r, s1)) : kMt l g yX3_moved (ws_ yX3_moved cX3_moved 1 (some .int)) (1) (100) (wM g o s u) [.int x0] (some (.int r)) (wM g o s1 u) := by
  refine kMt.ofV (lv := [some (.int x0)]) (by decide) rfl (Nat.le_of_ble_eq_true rfl) rfl ?_
  intro X hl hin C
  unfold FX3_moved at hF
  refine v_iload_n C dX3_moved_0 rfl rfl ?_
  refine v_iconst C (v := (1 : Int32)) dX3_moved_1 (by decide) ?_
  refine v_icmp_ne C (tgt := 9) dX3_moved_2 (by decide) hF (fun c1 hF => ?_) (fun c1 hF => ?_)
  · refine v_iconst C (v := (1 : Int32)) dX3_moved_5 (by decide) ?_
    refine v_goto C (tgt := 28) dX3_moved_6 (by decide) ?_
    exact m_iret C dX3_moved_28 hF
  · refine v_iload_n C dX3_moved_9 rfl rfl ?_
    refine v_iconst C (v := (2 : Int32)) dX3_moved_10 (by decide) ?_
    refine v_icmp_ne C (tgt := 18) dX3_moved_11 (by decide) hF (fun c2 hF => ?_) (fun c2 hF => ?_)
    · refine v_iconst C (v := (3 : Int32)) dX3_moved_14 (by decide) ?_
      refine v_goto C (tgt := 28) dX3_moved_15 (by decide) ?_
      exact m_iret C dX3_moved_28 hF
    · refine v_iload_n C dX3_moved_18 rfl rfl ?_
      refine v_iconst C (v := (3 : Int32)) dX3_moved_19 (by decide) ?_
      refine v_icmp_ne C (tgt := 27) dX3_moved_20 (by decide) hF (fun c3 hF => ?_) (fun c3 hF => ?_)
      · refine v_iconst C (v := (2 : Int32)) dX3_moved_23 (by decide) ?_
        refine v_goto C (tgt := 28) dX3_moved_24 (by decide) ?_
        exact m_iret C dX3_moved_28 hF
      · refine v_iconst C (v := (0 : Int32)) dX3_moved_27 (by decide) ?_
        exact m_iret C dX3_moved_28 hF
set_option maxHeartbeats 4000000 in
theorem wX3_weavePick_b185 {l : Launch} {g : GT} {X : CxT} {o : Nat} {u : Wd} {r : Unit} {s1 : M} (C : kOk g X cX3_weavePick 4 RX3 none 2 200 none (wM g o s1 u)) (ho : gB g ≤ o) (hl : xl X = l) (N : Nat) (k9 : Int32 × Int32 × M → Option (Unit × M)) (hk9 : ∀ a, k9 a = some (r, s1) → kV g X 4 (wM g o a.2.2 u) 9 [some (.ref o), some (.int a.1), some (.int a.2.1), none] []) (x1 : Int32) (x2 : Int32) (t0 : Int32) (t1 : Int32) (s : M) (hF : FX3_weavePick_b185 N k9 x1 x2 t0 t1 s = some (r, s1)) : kV g X 4 (wM g o s u) 185 [some (.ref o), some (.int x1), some (.int x2), none] [.int t0, .int t1, .ref (o + 9)] := by
  unfold FX3_weavePick_b185 at hF
  obtain ⟨h19, hF⟩ := k_ite hF
  refine m_ast C ho (Nat.le_of_ble_eq_true rfl) (Nat.le_of_ble_eq_true rfl) (by decide) (n := 1000) rfl h19 (ix := (t1.toNatClampNeg)) rfl dX3_weavePick_185 ?_
  refine v_iinc C dX3_weavePick_186 rfl (v := (x2 + (1 : Int32))) rfl (Nat.le_of_ble_eq_true rfl) rfl (lv' := [some (.ref o), some (.int x1), some (.int (x2 + (1 : Int32))), none]) rfl ?_
  refine v_goto C (tgt := 9) dX3_weavePick_189 (by decide) ?_
  refine v_mask [true, true, true, false] (lv' := [some (.ref o), some (.int x1), some (.int (x2 + (1 : Int32))), none]) rfl ?_
  exact hk9 (x1, (x2 + (1 : Int32)), (sA s 9 (t1.toNatClampNeg) t0)) hF
set_option maxHeartbeats 4000000 in
theorem wX3_weavePick_b177 {l : Launch} {g : GT} {X : CxT} {o : Nat} {u : Wd} {r : Unit} {s1 : M} (C : kOk g X cX3_weavePick 4 RX3 none 2 200 none (wM g o s1 u)) (ho : gB g ≤ o) (hl : xl X = l) (N : Nat) (k9 : Int32 × Int32 × M → Option (Unit × M)) (hk9 : ∀ a, k9 a = some (r, s1) → kV g X 4 (wM g o a.2.2 u) 9 [some (.ref o), some (.int a.1), some (.int a.2.1), none] []) (x1 : Int32) (x2 : Int32) (t0 : Int32) (t1 : Int32) (t2 : Int32) (s : M) (hF : FX3_weavePick_b177 N k9 x1 x2 t0 t1 t2 s = some (r, s1)) : kV g X 4 (wM g o s u) 177 [some (.ref o), some (.int x1), some (.int x2), none] [.int t0, .int t1, .int t2, .ref (o + 9)] := by
  unfold FX3_weavePick_b177 at hF
  refine v_icmp_ne C (tgt := 184) dX3_weavePick_177 (by decide) hF (fun c24 hF => ?_) (fun c24 hF => ?_)
  · refine v_iconst C (v := (1 : Int32)) dX3_weavePick_180 (by decide) ?_
    refine v_goto C (tgt := 185) dX3_weavePick_181 (by decide) ?_
    refine v_mask [true, true, true, false] (lv' := [some (.ref o), some (.int x1), some (.int x2), none]) rfl ?_
    exact wX3_weavePick_b185 C ho hl N k9 hk9 (x1) (x2) ((1 : Int32)) (t2) (s) hF
  · refine v_iconst C (v := (2 : Int32)) dX3_weavePick_184 (by decide) ?_
    refine v_mask [true, true, true, false] (lv' := [some (.ref o), some (.int x1), some (.int x2), none]) rfl ?_
    exact wX3_weavePick_b185 C ho hl N k9 hk9 (x1) (x2) ((2 : Int32)) (t2) (s) hF
set_option maxHeartbeats 4000000 in
theorem wX3_weavePick_b163 {l : Launch} {g : GT} {X : CxT} {o : Nat} {u : Wd} {r : Unit} {s1 : M} (C : kOk g X cX3_weavePick 4 RX3 none 2 200 none (wM g o s1 u)) (ho : gB g ≤ o) (hl : xl X = l) (N : Nat) (k9 : Int32 × Int32 × M → Option (Unit × M)) (hk9 : ∀ a, k9 a = some (r, s1) → kV g X 4 (wM g o a.2.2 u) 9 [some (.ref o), some (.int a.1), some (.int a.2.1), none] []) (x1 : Int32) (x2 : Int32) (t0 : Int32) (t1 : Int32) (s : M) (hF : FX3_weavePick_b163 N k9 x1 x2 t0 t1 s = some (r, s1)) : kV g X 4 (wM g o s u) 163 [some (.ref o), some (.int x1), some (.int x2), none] [.int t0, .int t1, .ref (o + 9)] := by
  unfold FX3_weavePick_b163 at hF
  refine v_aload_n C dX3_weavePick_163 rfl rfl ?_
  refine m_get C 4 (Nat.le_of_ble_eq_true rfl) q2306 (v := .ref (o + 4)) rfl dX3_weavePick_164 ?_
  refine v_iload_n C dX3_weavePick_167 rfl rfl ?_
  obtain ⟨h22, hF⟩ := k_ite hF
  refine m_ald C (Nat.le_of_ble_eq_true rfl) (Nat.le_of_ble_eq_true rfl) (by decide) (n := 20) rfl h22 (ix := (x2.toNatClampNeg)) rfl dX3_weavePick_168 ?_
  refine v_if_ne C (tgt := 176) dX3_weavePick_169 (by decide) hF (fun c23 hF => ?_) (fun c23 hF => ?_)
  · refine v_iconst C (v := (1 : Int32)) dX3_weavePick_172 (by decide) ?_
    refine v_goto C (tgt := 177) dX3_weavePick_173 (by decide) ?_
    refine v_mask [true, true, true, false] (lv' := [some (.ref o), some (.int x1), some (.int x2), none]) rfl ?_
    exact wX3_weavePick_b177 C ho hl N k9 hk9 (x1) (x2) ((1 : Int32)) (t0) (t1) (s) hF
  · refine v_iconst C (v := (0 : Int32)) dX3_weavePick_176 (by decide) ?_
    refine v_mask [true, true, true, false] (lv' := [some (.ref o), some (.int x1), some (.int x2), none]) rfl ?_
    exact wX3_weavePick_b177 C ho hl N k9 hk9 (x1) (x2) ((0 : Int32)) (t0) (t1) (s) hF
set_option maxHeartbeats 4000000 in
theorem wX3_weavePick_b9 {l : Launch} {g : GT} {X : CxT} {o : Nat} {u : Wd} {r : Unit} {s1 : M} (C : kOk g X cX3_weavePick 4 RX3 none 2 200 none (wM g o s1 u)) (ho : gB g ≤ o) (hl : xl X = l) (N : Nat) (k9 : Int32 × Int32 × M → Option (Unit × M)) (hk9 : ∀ a, k9 a = some (r, s1) → kV g X 4 (wM g o a.2.2 u) 9 [some (.ref o), some (.int a.1), some (.int a.2.1), none] []) (x1 : Int32) (x2 : Int32) (s : M) (hF : FX3_weavePick_b9 N k9 x1 x2 s = some (r, s1)) : kV g X 4 (wM g o s u) 9 [some (.ref o), some (.int x1), some (.int x2), none] [] := by
  unfold FX3_weavePick_b9 at hF
  refine v_iload_n C dX3_weavePick_9 rfl rfl ?_
  refine v_aload_n C dX3_weavePick_10 rfl rfl ?_
  refine m_get C 1 (Nat.le_of_ble_eq_true rfl) q2303 (v := .ref (o + 1)) rfl dX3_weavePick_11 ?_
  refine v_iconst C (v := (0 : Int32)) dX3_weavePick_14 (by decide) ?_
  refine m_ald C (Nat.le_of_ble_eq_true rfl) (Nat.le_of_ble_eq_true rfl) (by decide) (n := 2) rfl rfl (ix := 0) (by decide) dX3_weavePick_15 ?_
  refine v_icmp_ge C (tgt := 192) dX3_weavePick_16 (by decide) hF (fun c1 hF => ?_) (fun c1 hF => ?_)
  · refine v_aload_n C dX3_weavePick_192 rfl rfl ?_
    refine m_get C 2 (Nat.le_of_ble_eq_true rfl) q2304 (v := .ref (o + 2)) rfl dX3_weavePick_193 ?_
    refine v_iconst C (v := (0 : Int32)) dX3_weavePick_196 (by decide) ?_
    refine v_dup2_11 C dX3_weavePick_197 rfl rfl ?_
    refine m_ald C (Nat.le_of_ble_eq_true rfl) (Nat.le_of_ble_eq_true rfl) (by decide) (n := 2) rfl rfl (ix := 0) (by decide) dX3_weavePick_198 ?_
    refine v_iconst C (v := (1 : Int32)) dX3_weavePick_199 (by decide) ?_
    refine v_iadd C dX3_weavePick_200 ?_
    refine m_ast C ho (Nat.le_of_ble_eq_true rfl) (Nat.le_of_ble_eq_true rfl) (by decide) (n := 2) rfl rfl (ix := 0) (by decide) dX3_weavePick_201 ?_
    exact m_vret C dX3_weavePick_202 hF
  · refine v_aload_n C dX3_weavePick_19 rfl rfl ?_
    refine m_get C 29 (Nat.le_of_ble_eq_true rfl) q2331 (v := .ref (o + 22)) rfl dX3_weavePick_20 ?_
    refine v_iload_n C dX3_weavePick_23 rfl rfl ?_
    obtain ⟨h2, hF⟩ := k_ite hF
    refine m_ald C (Nat.le_of_ble_eq_true rfl) (Nat.le_of_ble_eq_true rfl) (by decide) (n := 10) rfl h2 (ix := (x2.toNatClampNeg)) rfl dX3_weavePick_24 ?_
    refine v_istore_n C dX3_weavePick_25 rfl (Nat.le_of_ble_eq_true rfl) rfl (lv' := [some (.ref o), some (.int x1), some (.int x2), some (.int (s.2 22 (x2.toNatClampNeg)))]) rfl ?_
    refine v_aload_n C dX3_weavePick_26 rfl rfl ?_
    refine m_get C 5 (Nat.le_of_ble_eq_true rfl) q2307 (v := .ref (o + 5)) rfl dX3_weavePick_27 ?_
    refine v_iload_n C dX3_weavePick_30 rfl rfl ?_
    refine v_aload_n C dX3_weavePick_31 rfl rfl ?_
    refine m_get C 5 (Nat.le_of_ble_eq_true rfl) q2307 (v := .ref (o + 5)) rfl dX3_weavePick_32 ?_
    refine v_iload_n C dX3_weavePick_35 rfl rfl ?_
    obtain ⟨h3, hF⟩ := k_ite hF
    refine m_ald C (Nat.le_of_ble_eq_true rfl) (Nat.le_of_ble_eq_true rfl) (by decide) (n := 20) rfl h3 (ix := (x2.toNatClampNeg)) rfl dX3_weavePick_36 ?_
    refine v_iload_n C dX3_weavePick_37 rfl rfl ?_
    refine m_callSi C lk_X3_174 (fr2 := 1) (lo2 := 100) (As := [.int (s.2 22 (x2.toNatClampNeg))]) (st := [.int (s.2 5 (x2.toNatClampNeg)), .int x2, .ref (o + 5)]) (fun r s1 h => by rw [hl]; exact wX3_moved l g ho u N (s.2 22 (x2.toNatClampNeg)) s r s1 h) (by decide) rfl rfl (Nat.le_of_ble_eq_true rfl) dX3_weavePick_38 hF (fun r4 s5 hF => ?_)
    refine v_iadd C dX3_weavePick_41 ?_
    refine v_iconst C (v := (4 : Int32)) dX3_weavePick_42 (by decide) ?_
    refine v_irem C dX3_weavePick_43 (by decide) ?_
    obtain ⟨h6, hF⟩ := k_ite hF
    refine m_ast C ho (Nat.le_of_ble_eq_true rfl) (Nat.le_of_ble_eq_true rfl) (by decide) (n := 20) rfl h6 (ix := (x2.toNatClampNeg)) rfl dX3_weavePick_44 ?_
    refine v_aload_n C dX3_weavePick_45 rfl rfl ?_
    refine m_get C 6 (Nat.le_of_ble_eq_true rfl) q2308 (v := .ref (o + 6)) rfl dX3_weavePick_46 ?_
    refine v_iload_n C dX3_weavePick_49 rfl rfl ?_
    refine v_dup2_11 C dX3_weavePick_50 rfl rfl ?_
    obtain ⟨h7, hF⟩ := k_ite hF
    refine m_ald C (Nat.le_of_ble_eq_true rfl) (Nat.le_of_ble_eq_true rfl) (by decide) (n := 20) rfl h7 (ix := (x2.toNatClampNeg)) rfl dX3_weavePick_51 ?_
    refine v_iload_n C dX3_weavePick_52 rfl rfl ?_
    refine m_callSi C lk_X3_171 (fr2 := 1) (lo2 := 100) (As := [.int (s.2 22 (x2.toNatClampNeg))]) (st := [.int ((sA s5 5 (x2.toNatClampNeg) (((s.2 5 (x2.toNatClampNeg)) + r4) - ((s.2 5 (x2.toNatClampNeg)) + r4) / (4 : Int32) * (4 : Int32))).2 6 (x2.toNatClampNeg)), .int x2, .ref (o + 6)]) (fun r s1 h => by rw [hl]; exact wX3_grown l g ho u N (s.2 22 (x2.toNatClampNeg)) (sA s5 5 (x2.toNatClampNeg) (((s.2 5 (x2.toNatClampNeg)) + r4) - ((s.2 5 (x2.toNatClampNeg)) + r4) / (4 : Int32) * (4 : Int32))) r s1 h) (by decide) rfl rfl (Nat.le_of_ble_eq_true rfl) dX3_weavePick_53 hF (fun r8 s9 hF => ?_)
    refine v_iadd C dX3_weavePick_56 ?_
    obtain ⟨h10, hF⟩ := k_ite hF
    refine m_ast C ho (Nat.le_of_ble_eq_true rfl) (Nat.le_of_ble_eq_true rfl) (by decide) (n := 20) rfl h10 (ix := (x2.toNatClampNeg)) rfl dX3_weavePick_57 ?_
    refine v_aload_n C dX3_weavePick_58 rfl rfl ?_
    refine m_get C 10 (Nat.le_of_ble_eq_true rfl) q2312 (v := .ref (o + 10)) rfl dX3_weavePick_59 ?_
    refine v_bipush C (v := (10 : Int32)) dX3_weavePick_62 (by decide) ?_
    refine v_iload_n C dX3_weavePick_64 rfl rfl ?_
    refine v_imul C dX3_weavePick_65 ?_
    refine v_iload_n C dX3_weavePick_66 rfl rfl ?_
    refine v_iadd C dX3_weavePick_67 ?_
    refine v_iload_n C dX3_weavePick_68 rfl rfl ?_
    obtain ⟨h11, hF⟩ := k_ite hF
    refine m_ast C ho (Nat.le_of_ble_eq_true rfl) (Nat.le_of_ble_eq_true rfl) (by decide) (n := 1000) rfl h11 (ix := ((((10 : Int32) * x1) + x2).toNatClampNeg)) rfl dX3_weavePick_69 ?_
    refine v_aload_n C dX3_weavePick_70 rfl rfl ?_
    refine m_get C 7 (Nat.le_of_ble_eq_true rfl) q2309 (v := .ref (o + 7)) rfl dX3_weavePick_71 ?_
    refine v_bipush C (v := (10 : Int32)) dX3_weavePick_74 (by decide) ?_
    refine v_iload_n C dX3_weavePick_76 rfl rfl ?_
    refine v_imul C dX3_weavePick_77 ?_
    refine v_iload_n C dX3_weavePick_78 rfl rfl ?_
    refine v_iadd C dX3_weavePick_79 ?_
    refine v_aload_n C dX3_weavePick_80 rfl rfl ?_
    refine m_get C 3 (Nat.le_of_ble_eq_true rfl) q2305 (v := .ref (o + 3)) rfl dX3_weavePick_81 ?_
    refine v_iconst C (v := (4 : Int32)) dX3_weavePick_84 (by decide) ?_
    refine v_iload_n C dX3_weavePick_85 rfl rfl ?_
    refine v_imul C dX3_weavePick_86 ?_
    refine v_aload_n C dX3_weavePick_87 rfl rfl ?_
    refine m_get C 5 (Nat.le_of_ble_eq_true rfl) q2307 (v := .ref (o + 5)) rfl dX3_weavePick_88 ?_
    refine v_iload_n C dX3_weavePick_91 rfl rfl ?_
    obtain ⟨h12, hF⟩ := k_ite hF
    refine m_ald C (Nat.le_of_ble_eq_true rfl) (Nat.le_of_ble_eq_true rfl) (by decide) (n := 20) rfl h12 (ix := (x2.toNatClampNeg)) rfl dX3_weavePick_92 ?_
    refine v_iadd C dX3_weavePick_93 ?_
    obtain ⟨h13, hF⟩ := k_ite hF
    refine m_ald C (Nat.le_of_ble_eq_true rfl) (Nat.le_of_ble_eq_true rfl) (by decide) (n := 80) rfl h13 (ix := ((((4 : Int32) * x2) + ((sA (sA s9 6 (x2.toNatClampNeg) (((sA s5 5 (x2.toNatClampNeg) (((s.2 5 (x2.toNatClampNeg)) + r4) - ((s.2 5 (x2.toNatClampNeg)) + r4) / (4 : Int32) * (4 : Int32))).2 6 (x2.toNatClampNeg)) + r8)) 10 ((((10 : Int32) * x1) + x2).toNatClampNeg) (s.2 22 (x2.toNatClampNeg))).2 5 (x2.toNatClampNeg))).toNatClampNeg)) rfl dX3_weavePick_94 ?_
    obtain ⟨h14, hF⟩ := k_ite hF
    refine m_ast C ho (Nat.le_of_ble_eq_true rfl) (Nat.le_of_ble_eq_true rfl) (by decide) (n := 1000) rfl h14 (ix := ((((10 : Int32) * x1) + x2).toNatClampNeg)) rfl dX3_weavePick_95 ?_
    refine v_aload_n C dX3_weavePick_96 rfl rfl ?_
    refine m_get C 8 (Nat.le_of_ble_eq_true rfl) q2310 (v := .ref (o + 8)) rfl dX3_weavePick_97 ?_
    refine v_bipush C (v := (10 : Int32)) dX3_weavePick_100 (by decide) ?_
    refine v_iload_n C dX3_weavePick_102 rfl rfl ?_
    refine v_imul C dX3_weavePick_103 ?_
    refine v_iload_n C dX3_weavePick_104 rfl rfl ?_
    refine v_iadd C dX3_weavePick_105 ?_
    refine v_aload_n C dX3_weavePick_106 rfl rfl ?_
    refine m_get C 3 (Nat.le_of_ble_eq_true rfl) q2305 (v := .ref (o + 3)) rfl dX3_weavePick_107 ?_
    refine v_iconst C (v := (4 : Int32)) dX3_weavePick_110 (by decide) ?_
    refine v_iload_n C dX3_weavePick_111 rfl rfl ?_
    refine v_imul C dX3_weavePick_112 ?_
    refine v_aload_n C dX3_weavePick_113 rfl rfl ?_
    refine m_get C 5 (Nat.le_of_ble_eq_true rfl) q2307 (v := .ref (o + 5)) rfl dX3_weavePick_114 ?_
    refine v_iload_n C dX3_weavePick_117 rfl rfl ?_
    obtain ⟨h15, hF⟩ := k_ite hF
    refine m_ald C (Nat.le_of_ble_eq_true rfl) (Nat.le_of_ble_eq_true rfl) (by decide) (n := 20) rfl h15 (ix := (x2.toNatClampNeg)) rfl dX3_weavePick_118 ?_
    refine v_iconst C (v := (2 : Int32)) dX3_weavePick_119 (by decide) ?_
    refine v_iadd C dX3_weavePick_120 ?_
    refine v_iconst C (v := (4 : Int32)) dX3_weavePick_121 (by decide) ?_
    refine v_irem C dX3_weavePick_122 (by decide) ?_
    refine v_iadd C dX3_weavePick_123 ?_
    obtain ⟨h16, hF⟩ := k_ite hF
    refine m_ald C (Nat.le_of_ble_eq_true rfl) (Nat.le_of_ble_eq_true rfl) (by decide) (n := 80) rfl h16 (ix := ((((4 : Int32) * x2) + ((((sA (sA (sA s9 6 (x2.toNatClampNeg) (((sA s5 5 (x2.toNatClampNeg) (((s.2 5 (x2.toNatClampNeg)) + r4) - ((s.2 5 (x2.toNatClampNeg)) + r4) / (4 : Int32) * (4 : Int32))).2 6 (x2.toNatClampNeg)) + r8)) 10 ((((10 : Int32) * x1) + x2).toNatClampNeg) (s.2 22 (x2.toNatClampNeg))) 7 ((((10 : Int32) * x1) + x2).toNatClampNeg) ((sA (sA s9 6 (x2.toNatClampNeg) (((sA s5 5 (x2.toNatClampNeg) (((s.2 5 (x2.toNatClampNeg)) + r4) - ((s.2 5 (x2.toNatClampNeg)) + r4) / (4 : Int32) * (4 : Int32))).2 6 (x2.toNatClampNeg)) + r8)) 10 ((((10 : Int32) * x1) + x2).toNatClampNeg) (s.2 22 (x2.toNatClampNeg))).2 3 ((((4 : Int32) * x2) + ((sA (sA s9 6 (x2.toNatClampNeg) (((sA s5 5 (x2.toNatClampNeg) (((s.2 5 (x2.toNatClampNeg)) + r4) - ((s.2 5 (x2.toNatClampNeg)) + r4) / (4 : Int32) * (4 : Int32))).2 6 (x2.toNatClampNeg)) + r8)) 10 ((((10 : Int32) * x1) + x2).toNatClampNeg) (s.2 22 (x2.toNatClampNeg))).2 5 (x2.toNatClampNeg))).toNatClampNeg))).2 5 (x2.toNatClampNeg)) + (2 : Int32)) - (((sA (sA (sA s9 6 (x2.toNatClampNeg) (((sA s5 5 (x2.toNatClampNeg) (((s.2 5 (x2.toNatClampNeg)) + r4) - ((s.2 5 (x2.toNatClampNeg)) + r4) / (4 : Int32) * (4 : Int32))).2 6 (x2.toNatClampNeg)) + r8)) 10 ((((10 : Int32) * x1) + x2).toNatClampNeg) (s.2 22 (x2.toNatClampNeg))) 7 ((((10 : Int32) * x1) + x2).toNatClampNeg) ((sA (sA s9 6 (x2.toNatClampNeg) (((sA s5 5 (x2.toNatClampNeg) (((s.2 5 (x2.toNatClampNeg)) + r4) - ((s.2 5 (x2.toNatClampNeg)) + r4) / (4 : Int32) * (4 : Int32))).2 6 (x2.toNatClampNeg)) + r8)) 10 ((((10 : Int32) * x1) + x2).toNatClampNeg) (s.2 22 (x2.toNatClampNeg))).2 3 ((((4 : Int32) * x2) + ((sA (sA s9 6 (x2.toNatClampNeg) (((sA s5 5 (x2.toNatClampNeg) (((s.2 5 (x2.toNatClampNeg)) + r4) - ((s.2 5 (x2.toNatClampNeg)) + r4) / (4 : Int32) * (4 : Int32))).2 6 (x2.toNatClampNeg)) + r8)) 10 ((((10 : Int32) * x1) + x2).toNatClampNeg) (s.2 22 (x2.toNatClampNeg))).2 5 (x2.toNatClampNeg))).toNatClampNeg))).2 5 (x2.toNatClampNeg)) + (2 : Int32)) / (4 : Int32) * (4 : Int32))).toNatClampNeg)) rfl dX3_weavePick_124 ?_
    obtain ⟨h17, hF⟩ := k_ite hF
    refine m_ast C ho (Nat.le_of_ble_eq_true rfl) (Nat.le_of_ble_eq_true rfl) (by decide) (n := 1000) rfl h17 (ix := ((((10 : Int32) * x1) + x2).toNatClampNeg)) rfl dX3_weavePick_125 ?_
    refine v_aload_n C dX3_weavePick_126 rfl rfl ?_
    refine m_get C 9 (Nat.le_of_ble_eq_true rfl) q2311 (v := .ref (o + 9)) rfl dX3_weavePick_127 ?_
    refine v_bipush C (v := (10 : Int32)) dX3_weavePick_130 (by decide) ?_
    refine v_iload_n C dX3_weavePick_132 rfl rfl ?_
    refine v_imul C dX3_weavePick_133 ?_
    refine v_iload_n C dX3_weavePick_134 rfl rfl ?_
    refine v_iadd C dX3_weavePick_135 ?_
    refine v_iload_n C dX3_weavePick_136 rfl rfl ?_
    refine v_if_ne C (tgt := 144) dX3_weavePick_137 (by decide) hF (fun c18 hF => ?_) (fun c18 hF => ?_)
    · refine v_iconst C (v := (0 : Int32)) dX3_weavePick_140 (by decide) ?_
      refine v_goto C (tgt := 185) dX3_weavePick_141 (by decide) ?_
      refine v_mask [true, true, true, false] (lv' := [some (.ref o), some (.int x1), some (.int x2), none]) rfl ?_
      exact wX3_weavePick_b185 C ho hl N k9 hk9 (x1) (x2) ((0 : Int32)) ((((10 : Int32) * x1) + x2)) ((sA (sA (sA (sA s9 6 (x2.toNatClampNeg) (((sA s5 5 (x2.toNatClampNeg) (((s.2 5 (x2.toNatClampNeg)) + r4) - ((s.2 5 (x2.toNatClampNeg)) + r4) / (4 : Int32) * (4 : Int32))).2 6 (x2.toNatClampNeg)) + r8)) 10 ((((10 : Int32) * x1) + x2).toNatClampNeg) (s.2 22 (x2.toNatClampNeg))) 7 ((((10 : Int32) * x1) + x2).toNatClampNeg) ((sA (sA s9 6 (x2.toNatClampNeg) (((sA s5 5 (x2.toNatClampNeg) (((s.2 5 (x2.toNatClampNeg)) + r4) - ((s.2 5 (x2.toNatClampNeg)) + r4) / (4 : Int32) * (4 : Int32))).2 6 (x2.toNatClampNeg)) + r8)) 10 ((((10 : Int32) * x1) + x2).toNatClampNeg) (s.2 22 (x2.toNatClampNeg))).2 3 ((((4 : Int32) * x2) + ((sA (sA s9 6 (x2.toNatClampNeg) (((sA s5 5 (x2.toNatClampNeg) (((s.2 5 (x2.toNatClampNeg)) + r4) - ((s.2 5 (x2.toNatClampNeg)) + r4) / (4 : Int32) * (4 : Int32))).2 6 (x2.toNatClampNeg)) + r8)) 10 ((((10 : Int32) * x1) + x2).toNatClampNeg) (s.2 22 (x2.toNatClampNeg))).2 5 (x2.toNatClampNeg))).toNatClampNeg))) 8 ((((10 : Int32) * x1) + x2).toNatClampNeg) ((sA (sA (sA s9 6 (x2.toNatClampNeg) (((sA s5 5 (x2.toNatClampNeg) (((s.2 5 (x2.toNatClampNeg)) + r4) - ((s.2 5 (x2.toNatClampNeg)) + r4) / (4 : Int32) * (4 : Int32))).2 6 (x2.toNatClampNeg)) + r8)) 10 ((((10 : Int32) * x1) + x2).toNatClampNeg) (s.2 22 (x2.toNatClampNeg))) 7 ((((10 : Int32) * x1) + x2).toNatClampNeg) ((sA (sA s9 6 (x2.toNatClampNeg) (((sA s5 5 (x2.toNatClampNeg) (((s.2 5 (x2.toNatClampNeg)) + r4) - ((s.2 5 (x2.toNatClampNeg)) + r4) / (4 : Int32) * (4 : Int32))).2 6 (x2.toNatClampNeg)) + r8)) 10 ((((10 : Int32) * x1) + x2).toNatClampNeg) (s.2 22 (x2.toNatClampNeg))).2 3 ((((4 : Int32) * x2) + ((sA (sA s9 6 (x2.toNatClampNeg) (((sA s5 5 (x2.toNatClampNeg) (((s.2 5 (x2.toNatClampNeg)) + r4) - ((s.2 5 (x2.toNatClampNeg)) + r4) / (4 : Int32) * (4 : Int32))).2 6 (x2.toNatClampNeg)) + r8)) 10 ((((10 : Int32) * x1) + x2).toNatClampNeg) (s.2 22 (x2.toNatClampNeg))).2 5 (x2.toNatClampNeg))).toNatClampNeg))).2 3 ((((4 : Int32) * x2) + ((((sA (sA (sA s9 6 (x2.toNatClampNeg) (((sA s5 5 (x2.toNatClampNeg) (((s.2 5 (x2.toNatClampNeg)) + r4) - ((s.2 5 (x2.toNatClampNeg)) + r4) / (4 : Int32) * (4 : Int32))).2 6 (x2.toNatClampNeg)) + r8)) 10 ((((10 : Int32) * x1) + x2).toNatClampNeg) (s.2 22 (x2.toNatClampNeg))) 7 ((((10 : Int32) * x1) + x2).toNatClampNeg) ((sA (sA s9 6 (x2.toNatClampNeg) (((sA s5 5 (x2.toNatClampNeg) (((s.2 5 (x2.toNatClampNeg)) + r4) - ((s.2 5 (x2.toNatClampNeg)) + r4) / (4 : Int32) * (4 : Int32))).2 6 (x2.toNatClampNeg)) + r8)) 10 ((((10 : Int32) * x1) + x2).toNatClampNeg) (s.2 22 (x2.toNatClampNeg))).2 3 ((((4 : Int32) * x2) + ((sA (sA s9 6 (x2.toNatClampNeg) (((sA s5 5 (x2.toNatClampNeg) (((s.2 5 (x2.toNatClampNeg)) + r4) - ((s.2 5 (x2.toNatClampNeg)) + r4) / (4 : Int32) * (4 : Int32))).2 6 (x2.toNatClampNeg)) + r8)) 10 ((((10 : Int32) * x1) + x2).toNatClampNeg) (s.2 22 (x2.toNatClampNeg))).2 5 (x2.toNatClampNeg))).toNatClampNeg))).2 5 (x2.toNatClampNeg)) + (2 : Int32)) - (((sA (sA (sA s9 6 (x2.toNatClampNeg) (((sA s5 5 (x2.toNatClampNeg) (((s.2 5 (x2.toNatClampNeg)) + r4) - ((s.2 5 (x2.toNatClampNeg)) + r4) / (4 : Int32) * (4 : Int32))).2 6 (x2.toNatClampNeg)) + r8)) 10 ((((10 : Int32) * x1) + x2).toNatClampNeg) (s.2 22 (x2.toNatClampNeg))) 7 ((((10 : Int32) * x1) + x2).toNatClampNeg) ((sA (sA s9 6 (x2.toNatClampNeg) (((sA s5 5 (x2.toNatClampNeg) (((s.2 5 (x2.toNatClampNeg)) + r4) - ((s.2 5 (x2.toNatClampNeg)) + r4) / (4 : Int32) * (4 : Int32))).2 6 (x2.toNatClampNeg)) + r8)) 10 ((((10 : Int32) * x1) + x2).toNatClampNeg) (s.2 22 (x2.toNatClampNeg))).2 3 ((((4 : Int32) * x2) + ((sA (sA s9 6 (x2.toNatClampNeg) (((sA s5 5 (x2.toNatClampNeg) (((s.2 5 (x2.toNatClampNeg)) + r4) - ((s.2 5 (x2.toNatClampNeg)) + r4) / (4 : Int32) * (4 : Int32))).2 6 (x2.toNatClampNeg)) + r8)) 10 ((((10 : Int32) * x1) + x2).toNatClampNeg) (s.2 22 (x2.toNatClampNeg))).2 5 (x2.toNatClampNeg))).toNatClampNeg))).2 5 (x2.toNatClampNeg)) + (2 : Int32)) / (4 : Int32) * (4 : Int32))).toNatClampNeg)))) hF
    · refine v_iload_n C dX3_weavePick_144 rfl rfl ?_
      refine v_iconst C (v := (3 : Int32)) dX3_weavePick_145 (by decide) ?_
      refine v_icmp_ne C (tgt := 153) dX3_weavePick_146 (by decide) hF (fun c20 hF => ?_) (fun c20 hF => ?_)
      · refine v_iconst C (v := (3 : Int32)) dX3_weavePick_149 (by decide) ?_
        refine v_goto C (tgt := 185) dX3_weavePick_150 (by decide) ?_
        refine v_mask [true, true, true, false] (lv' := [some (.ref o), some (.int x1), some (.int x2), none]) rfl ?_
        exact wX3_weavePick_b185 C ho hl N k9 hk9 (x1) (x2) ((3 : Int32)) ((((10 : Int32) * x1) + x2)) ((sA (sA (sA (sA s9 6 (x2.toNatClampNeg) (((sA s5 5 (x2.toNatClampNeg) (((s.2 5 (x2.toNatClampNeg)) + r4) - ((s.2 5 (x2.toNatClampNeg)) + r4) / (4 : Int32) * (4 : Int32))).2 6 (x2.toNatClampNeg)) + r8)) 10 ((((10 : Int32) * x1) + x2).toNatClampNeg) (s.2 22 (x2.toNatClampNeg))) 7 ((((10 : Int32) * x1) + x2).toNatClampNeg) ((sA (sA s9 6 (x2.toNatClampNeg) (((sA s5 5 (x2.toNatClampNeg) (((s.2 5 (x2.toNatClampNeg)) + r4) - ((s.2 5 (x2.toNatClampNeg)) + r4) / (4 : Int32) * (4 : Int32))).2 6 (x2.toNatClampNeg)) + r8)) 10 ((((10 : Int32) * x1) + x2).toNatClampNeg) (s.2 22 (x2.toNatClampNeg))).2 3 ((((4 : Int32) * x2) + ((sA (sA s9 6 (x2.toNatClampNeg) (((sA s5 5 (x2.toNatClampNeg) (((s.2 5 (x2.toNatClampNeg)) + r4) - ((s.2 5 (x2.toNatClampNeg)) + r4) / (4 : Int32) * (4 : Int32))).2 6 (x2.toNatClampNeg)) + r8)) 10 ((((10 : Int32) * x1) + x2).toNatClampNeg) (s.2 22 (x2.toNatClampNeg))).2 5 (x2.toNatClampNeg))).toNatClampNeg))) 8 ((((10 : Int32) * x1) + x2).toNatClampNeg) ((sA (sA (sA s9 6 (x2.toNatClampNeg) (((sA s5 5 (x2.toNatClampNeg) (((s.2 5 (x2.toNatClampNeg)) + r4) - ((s.2 5 (x2.toNatClampNeg)) + r4) / (4 : Int32) * (4 : Int32))).2 6 (x2.toNatClampNeg)) + r8)) 10 ((((10 : Int32) * x1) + x2).toNatClampNeg) (s.2 22 (x2.toNatClampNeg))) 7 ((((10 : Int32) * x1) + x2).toNatClampNeg) ((sA (sA s9 6 (x2.toNatClampNeg) (((sA s5 5 (x2.toNatClampNeg) (((s.2 5 (x2.toNatClampNeg)) + r4) - ((s.2 5 (x2.toNatClampNeg)) + r4) / (4 : Int32) * (4 : Int32))).2 6 (x2.toNatClampNeg)) + r8)) 10 ((((10 : Int32) * x1) + x2).toNatClampNeg) (s.2 22 (x2.toNatClampNeg))).2 3 ((((4 : Int32) * x2) + ((sA (sA s9 6 (x2.toNatClampNeg) (((sA s5 5 (x2.toNatClampNeg) (((s.2 5 (x2.toNatClampNeg)) + r4) - ((s.2 5 (x2.toNatClampNeg)) + r4) / (4 : Int32) * (4 : Int32))).2 6 (x2.toNatClampNeg)) + r8)) 10 ((((10 : Int32) * x1) + x2).toNatClampNeg) (s.2 22 (x2.toNatClampNeg))).2 5 (x2.toNatClampNeg))).toNatClampNeg))).2 3 ((((4 : Int32) * x2) + ((((sA (sA (sA s9 6 (x2.toNatClampNeg) (((sA s5 5 (x2.toNatClampNeg) (((s.2 5 (x2.toNatClampNeg)) + r4) - ((s.2 5 (x2.toNatClampNeg)) + r4) / (4 : Int32) * (4 : Int32))).2 6 (x2.toNatClampNeg)) + r8)) 10 ((((10 : Int32) * x1) + x2).toNatClampNeg) (s.2 22 (x2.toNatClampNeg))) 7 ((((10 : Int32) * x1) + x2).toNatClampNeg) ((sA (sA s9 6 (x2.toNatClampNeg) (((sA s5 5 (x2.toNatClampNeg) (((s.2 5 (x2.toNatClampNeg)) + r4) - ((s.2 5 (x2.toNatClampNeg)) + r4) / (4 : Int32) * (4 : Int32))).2 6 (x2.toNatClampNeg)) + r8)) 10 ((((10 : Int32) * x1) + x2).toNatClampNeg) (s.2 22 (x2.toNatClampNeg))).2 3 ((((4 : Int32) * x2) + ((sA (sA s9 6 (x2.toNatClampNeg) (((sA s5 5 (x2.toNatClampNeg) (((s.2 5 (x2.toNatClampNeg)) + r4) - ((s.2 5 (x2.toNatClampNeg)) + r4) / (4 : Int32) * (4 : Int32))).2 6 (x2.toNatClampNeg)) + r8)) 10 ((((10 : Int32) * x1) + x2).toNatClampNeg) (s.2 22 (x2.toNatClampNeg))).2 5 (x2.toNatClampNeg))).toNatClampNeg))).2 5 (x2.toNatClampNeg)) + (2 : Int32)) - (((sA (sA (sA s9 6 (x2.toNatClampNeg) (((sA s5 5 (x2.toNatClampNeg) (((s.2 5 (x2.toNatClampNeg)) + r4) - ((s.2 5 (x2.toNatClampNeg)) + r4) / (4 : Int32) * (4 : Int32))).2 6 (x2.toNatClampNeg)) + r8)) 10 ((((10 : Int32) * x1) + x2).toNatClampNeg) (s.2 22 (x2.toNatClampNeg))) 7 ((((10 : Int32) * x1) + x2).toNatClampNeg) ((sA (sA s9 6 (x2.toNatClampNeg) (((sA s5 5 (x2.toNatClampNeg) (((s.2 5 (x2.toNatClampNeg)) + r4) - ((s.2 5 (x2.toNatClampNeg)) + r4) / (4 : Int32) * (4 : Int32))).2 6 (x2.toNatClampNeg)) + r8)) 10 ((((10 : Int32) * x1) + x2).toNatClampNeg) (s.2 22 (x2.toNatClampNeg))).2 3 ((((4 : Int32) * x2) + ((sA (sA s9 6 (x2.toNatClampNeg) (((sA s5 5 (x2.toNatClampNeg) (((s.2 5 (x2.toNatClampNeg)) + r4) - ((s.2 5 (x2.toNatClampNeg)) + r4) / (4 : Int32) * (4 : Int32))).2 6 (x2.toNatClampNeg)) + r8)) 10 ((((10 : Int32) * x1) + x2).toNatClampNeg) (s.2 22 (x2.toNatClampNeg))).2 5 (x2.toNatClampNeg))).toNatClampNeg))).2 5 (x2.toNatClampNeg)) + (2 : Int32)) / (4 : Int32) * (4 : Int32))).toNatClampNeg)))) hF
      · refine v_iload_n C dX3_weavePick_153 rfl rfl ?_
        refine v_iconst C (v := (1 : Int32)) dX3_weavePick_154 (by decide) ?_
        refine v_icmp_ne C (tgt := 162) dX3_weavePick_155 (by decide) hF (fun c21 hF => ?_) (fun c21 hF => ?_)
        · refine v_iconst C (v := (1 : Int32)) dX3_weavePick_158 (by decide) ?_
          refine v_goto C (tgt := 163) dX3_weavePick_159 (by decide) ?_
          refine v_mask [true, true, true, false] (lv' := [some (.ref o), some (.int x1), some (.int x2), none]) rfl ?_
          exact wX3_weavePick_b163 C ho hl N k9 hk9 (x1) (x2) ((1 : Int32)) ((((10 : Int32) * x1) + x2)) ((sA (sA (sA (sA s9 6 (x2.toNatClampNeg) (((sA s5 5 (x2.toNatClampNeg) (((s.2 5 (x2.toNatClampNeg)) + r4) - ((s.2 5 (x2.toNatClampNeg)) + r4) / (4 : Int32) * (4 : Int32))).2 6 (x2.toNatClampNeg)) + r8)) 10 ((((10 : Int32) * x1) + x2).toNatClampNeg) (s.2 22 (x2.toNatClampNeg))) 7 ((((10 : Int32) * x1) + x2).toNatClampNeg) ((sA (sA s9 6 (x2.toNatClampNeg) (((sA s5 5 (x2.toNatClampNeg) (((s.2 5 (x2.toNatClampNeg)) + r4) - ((s.2 5 (x2.toNatClampNeg)) + r4) / (4 : Int32) * (4 : Int32))).2 6 (x2.toNatClampNeg)) + r8)) 10 ((((10 : Int32) * x1) + x2).toNatClampNeg) (s.2 22 (x2.toNatClampNeg))).2 3 ((((4 : Int32) * x2) + ((sA (sA s9 6 (x2.toNatClampNeg) (((sA s5 5 (x2.toNatClampNeg) (((s.2 5 (x2.toNatClampNeg)) + r4) - ((s.2 5 (x2.toNatClampNeg)) + r4) / (4 : Int32) * (4 : Int32))).2 6 (x2.toNatClampNeg)) + r8)) 10 ((((10 : Int32) * x1) + x2).toNatClampNeg) (s.2 22 (x2.toNatClampNeg))).2 5 (x2.toNatClampNeg))).toNatClampNeg))) 8 ((((10 : Int32) * x1) + x2).toNatClampNeg) ((sA (sA (sA s9 6 (x2.toNatClampNeg) (((sA s5 5 (x2.toNatClampNeg) (((s.2 5 (x2.toNatClampNeg)) + r4) - ((s.2 5 (x2.toNatClampNeg)) + r4) / (4 : Int32) * (4 : Int32))).2 6 (x2.toNatClampNeg)) + r8)) 10 ((((10 : Int32) * x1) + x2).toNatClampNeg) (s.2 22 (x2.toNatClampNeg))) 7 ((((10 : Int32) * x1) + x2).toNatClampNeg) ((sA (sA s9 6 (x2.toNatClampNeg) (((sA s5 5 (x2.toNatClampNeg) (((s.2 5 (x2.toNatClampNeg)) + r4) - ((s.2 5 (x2.toNatClampNeg)) + r4) / (4 : Int32) * (4 : Int32))).2 6 (x2.toNatClampNeg)) + r8)) 10 ((((10 : Int32) * x1) + x2).toNatClampNeg) (s.2 22 (x2.toNatClampNeg))).2 3 ((((4 : Int32) * x2) + ((sA (sA s9 6 (x2.toNatClampNeg) (((sA s5 5 (x2.toNatClampNeg) (((s.2 5 (x2.toNatClampNeg)) + r4) - ((s.2 5 (x2.toNatClampNeg)) + r4) / (4 : Int32) * (4 : Int32))).2 6 (x2.toNatClampNeg)) + r8)) 10 ((((10 : Int32) * x1) + x2).toNatClampNeg) (s.2 22 (x2.toNatClampNeg))).2 5 (x2.toNatClampNeg))).toNatClampNeg))).2 3 ((((4 : Int32) * x2) + ((((sA (sA (sA s9 6 (x2.toNatClampNeg) (((sA s5 5 (x2.toNatClampNeg) (((s.2 5 (x2.toNatClampNeg)) + r4) - ((s.2 5 (x2.toNatClampNeg)) + r4) / (4 : Int32) * (4 : Int32))).2 6 (x2.toNatClampNeg)) + r8)) 10 ((((10 : Int32) * x1) + x2).toNatClampNeg) (s.2 22 (x2.toNatClampNeg))) 7 ((((10 : Int32) * x1) + x2).toNatClampNeg) ((sA (sA s9 6 (x2.toNatClampNeg) (((sA s5 5 (x2.toNatClampNeg) (((s.2 5 (x2.toNatClampNeg)) + r4) - ((s.2 5 (x2.toNatClampNeg)) + r4) / (4 : Int32) * (4 : Int32))).2 6 (x2.toNatClampNeg)) + r8)) 10 ((((10 : Int32) * x1) + x2).toNatClampNeg) (s.2 22 (x2.toNatClampNeg))).2 3 ((((4 : Int32) * x2) + ((sA (sA s9 6 (x2.toNatClampNeg) (((sA s5 5 (x2.toNatClampNeg) (((s.2 5 (x2.toNatClampNeg)) + r4) - ((s.2 5 (x2.toNatClampNeg)) + r4) / (4 : Int32) * (4 : Int32))).2 6 (x2.toNatClampNeg)) + r8)) 10 ((((10 : Int32) * x1) + x2).toNatClampNeg) (s.2 22 (x2.toNatClampNeg))).2 5 (x2.toNatClampNeg))).toNatClampNeg))).2 5 (x2.toNatClampNeg)) + (2 : Int32)) - (((sA (sA (sA s9 6 (x2.toNatClampNeg) (((sA s5 5 (x2.toNatClampNeg) (((s.2 5 (x2.toNatClampNeg)) + r4) - ((s.2 5 (x2.toNatClampNeg)) + r4) / (4 : Int32) * (4 : Int32))).2 6 (x2.toNatClampNeg)) + r8)) 10 ((((10 : Int32) * x1) + x2).toNatClampNeg) (s.2 22 (x2.toNatClampNeg))) 7 ((((10 : Int32) * x1) + x2).toNatClampNeg) ((sA (sA s9 6 (x2.toNatClampNeg) (((sA s5 5 (x2.toNatClampNeg) (((s.2 5 (x2.toNatClampNeg)) + r4) - ((s.2 5 (x2.toNatClampNeg)) + r4) / (4 : Int32) * (4 : Int32))).2 6 (x2.toNatClampNeg)) + r8)) 10 ((((10 : Int32) * x1) + x2).toNatClampNeg) (s.2 22 (x2.toNatClampNeg))).2 3 ((((4 : Int32) * x2) + ((sA (sA s9 6 (x2.toNatClampNeg) (((sA s5 5 (x2.toNatClampNeg) (((s.2 5 (x2.toNatClampNeg)) + r4) - ((s.2 5 (x2.toNatClampNeg)) + r4) / (4 : Int32) * (4 : Int32))).2 6 (x2.toNatClampNeg)) + r8)) 10 ((((10 : Int32) * x1) + x2).toNatClampNeg) (s.2 22 (x2.toNatClampNeg))).2 5 (x2.toNatClampNeg))).toNatClampNeg))).2 5 (x2.toNatClampNeg)) + (2 : Int32)) / (4 : Int32) * (4 : Int32))).toNatClampNeg)))) hF
        · refine v_iconst C (v := (0 : Int32)) dX3_weavePick_162 (by decide) ?_
          refine v_mask [true, true, true, false] (lv' := [some (.ref o), some (.int x1), some (.int x2), none]) rfl ?_
          exact wX3_weavePick_b163 C ho hl N k9 hk9 (x1) (x2) ((0 : Int32)) ((((10 : Int32) * x1) + x2)) ((sA (sA (sA (sA s9 6 (x2.toNatClampNeg) (((sA s5 5 (x2.toNatClampNeg) (((s.2 5 (x2.toNatClampNeg)) + r4) - ((s.2 5 (x2.toNatClampNeg)) + r4) / (4 : Int32) * (4 : Int32))).2 6 (x2.toNatClampNeg)) + r8)) 10 ((((10 : Int32) * x1) + x2).toNatClampNeg) (s.2 22 (x2.toNatClampNeg))) 7 ((((10 : Int32) * x1) + x2).toNatClampNeg) ((sA (sA s9 6 (x2.toNatClampNeg) (((sA s5 5 (x2.toNatClampNeg) (((s.2 5 (x2.toNatClampNeg)) + r4) - ((s.2 5 (x2.toNatClampNeg)) + r4) / (4 : Int32) * (4 : Int32))).2 6 (x2.toNatClampNeg)) + r8)) 10 ((((10 : Int32) * x1) + x2).toNatClampNeg) (s.2 22 (x2.toNatClampNeg))).2 3 ((((4 : Int32) * x2) + ((sA (sA s9 6 (x2.toNatClampNeg) (((sA s5 5 (x2.toNatClampNeg) (((s.2 5 (x2.toNatClampNeg)) + r4) - ((s.2 5 (x2.toNatClampNeg)) + r4) / (4 : Int32) * (4 : Int32))).2 6 (x2.toNatClampNeg)) + r8)) 10 ((((10 : Int32) * x1) + x2).toNatClampNeg) (s.2 22 (x2.toNatClampNeg))).2 5 (x2.toNatClampNeg))).toNatClampNeg))) 8 ((((10 : Int32) * x1) + x2).toNatClampNeg) ((sA (sA (sA s9 6 (x2.toNatClampNeg) (((sA s5 5 (x2.toNatClampNeg) (((s.2 5 (x2.toNatClampNeg)) + r4) - ((s.2 5 (x2.toNatClampNeg)) + r4) / (4 : Int32) * (4 : Int32))).2 6 (x2.toNatClampNeg)) + r8)) 10 ((((10 : Int32) * x1) + x2).toNatClampNeg) (s.2 22 (x2.toNatClampNeg))) 7 ((((10 : Int32) * x1) + x2).toNatClampNeg) ((sA (sA s9 6 (x2.toNatClampNeg) (((sA s5 5 (x2.toNatClampNeg) (((s.2 5 (x2.toNatClampNeg)) + r4) - ((s.2 5 (x2.toNatClampNeg)) + r4) / (4 : Int32) * (4 : Int32))).2 6 (x2.toNatClampNeg)) + r8)) 10 ((((10 : Int32) * x1) + x2).toNatClampNeg) (s.2 22 (x2.toNatClampNeg))).2 3 ((((4 : Int32) * x2) + ((sA (sA s9 6 (x2.toNatClampNeg) (((sA s5 5 (x2.toNatClampNeg) (((s.2 5 (x2.toNatClampNeg)) + r4) - ((s.2 5 (x2.toNatClampNeg)) + r4) / (4 : Int32) * (4 : Int32))).2 6 (x2.toNatClampNeg)) + r8)) 10 ((((10 : Int32) * x1) + x2).toNatClampNeg) (s.2 22 (x2.toNatClampNeg))).2 5 (x2.toNatClampNeg))).toNatClampNeg))).2 3 ((((4 : Int32) * x2) + ((((sA (sA (sA s9 6 (x2.toNatClampNeg) (((sA s5 5 (x2.toNatClampNeg) (((s.2 5 (x2.toNatClampNeg)) + r4) - ((s.2 5 (x2.toNatClampNeg)) + r4) / (4 : Int32) * (4 : Int32))).2 6 (x2.toNatClampNeg)) + r8)) 10 ((((10 : Int32) * x1) + x2).toNatClampNeg) (s.2 22 (x2.toNatClampNeg))) 7 ((((10 : Int32) * x1) + x2).toNatClampNeg) ((sA (sA s9 6 (x2.toNatClampNeg) (((sA s5 5 (x2.toNatClampNeg) (((s.2 5 (x2.toNatClampNeg)) + r4) - ((s.2 5 (x2.toNatClampNeg)) + r4) / (4 : Int32) * (4 : Int32))).2 6 (x2.toNatClampNeg)) + r8)) 10 ((((10 : Int32) * x1) + x2).toNatClampNeg) (s.2 22 (x2.toNatClampNeg))).2 3 ((((4 : Int32) * x2) + ((sA (sA s9 6 (x2.toNatClampNeg) (((sA s5 5 (x2.toNatClampNeg) (((s.2 5 (x2.toNatClampNeg)) + r4) - ((s.2 5 (x2.toNatClampNeg)) + r4) / (4 : Int32) * (4 : Int32))).2 6 (x2.toNatClampNeg)) + r8)) 10 ((((10 : Int32) * x1) + x2).toNatClampNeg) (s.2 22 (x2.toNatClampNeg))).2 5 (x2.toNatClampNeg))).toNatClampNeg))).2 5 (x2.toNatClampNeg)) + (2 : Int32)) - (((sA (sA (sA s9 6 (x2.toNatClampNeg) (((sA s5 5 (x2.toNatClampNeg) (((s.2 5 (x2.toNatClampNeg)) + r4) - ((s.2 5 (x2.toNatClampNeg)) + r4) / (4 : Int32) * (4 : Int32))).2 6 (x2.toNatClampNeg)) + r8)) 10 ((((10 : Int32) * x1) + x2).toNatClampNeg) (s.2 22 (x2.toNatClampNeg))) 7 ((((10 : Int32) * x1) + x2).toNatClampNeg) ((sA (sA s9 6 (x2.toNatClampNeg) (((sA s5 5 (x2.toNatClampNeg) (((s.2 5 (x2.toNatClampNeg)) + r4) - ((s.2 5 (x2.toNatClampNeg)) + r4) / (4 : Int32) * (4 : Int32))).2 6 (x2.toNatClampNeg)) + r8)) 10 ((((10 : Int32) * x1) + x2).toNatClampNeg) (s.2 22 (x2.toNatClampNeg))).2 3 ((((4 : Int32) * x2) + ((sA (sA s9 6 (x2.toNatClampNeg) (((sA s5 5 (x2.toNatClampNeg) (((s.2 5 (x2.toNatClampNeg)) + r4) - ((s.2 5 (x2.toNatClampNeg)) + r4) / (4 : Int32) * (4 : Int32))).2 6 (x2.toNatClampNeg)) + r8)) 10 ((((10 : Int32) * x1) + x2).toNatClampNeg) (s.2 22 (x2.toNatClampNeg))).2 5 (x2.toNatClampNeg))).toNatClampNeg))).2 5 (x2.toNatClampNeg)) + (2 : Int32)) / (4 : Int32) * (4 : Int32))).toNatClampNeg)))) hF
