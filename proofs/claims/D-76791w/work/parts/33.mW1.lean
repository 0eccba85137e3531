set_option maxRecDepth 100000
set_option maxHeartbeats 4000000 in
theorem wX3_weavePick (l : Launch) (g : GT) {o : Nat} (ho : gB g ≤ o) (u : Wd) (N : Nat)   (s : M) (r : Unit) (s1 : M) (hF : FX3_weavePick N  s = some (r, s1)) : kMt l g yX3_weavePick (ws_ yX3_weavePick cX3_weavePick 4 none) (2) (200) (wM g o s u) [.ref o] none (wM g o s1 u) := by
  refine kMt.ofV (lv := [some (.ref o), none, none, none]) (by decide) rfl (Nat.le_of_ble_eq_true rfl) rfl ?_
  intro X hl hin C
  unfold FX3_weavePick at hF
  refine v_aload_n C dX3_weavePick_0 rfl rfl ?_
  refine m_get C 2 (Nat.le_of_ble_eq_true rfl) q2304 (v := .ref (o + 2)) rfl dX3_weavePick_1 ?_
  refine v_iconst C (v := (0 : Int32)) dX3_weavePick_4 (by decide) ?_
  refine m_ald C (Nat.le_of_ble_eq_true rfl) (Nat.le_of_ble_eq_true rfl) (by decide) (n := 2) rfl rfl (ix := 0) (by decide) dX3_weavePick_5 ?_
  refine v_istore_n C dX3_weavePick_6 rfl (Nat.le_of_ble_eq_true rfl) rfl (lv' := [some (.ref o), some (.int (s.2 2 0)), none, none]) rfl ?_
  refine v_iconst C (v := (0 : Int32)) dX3_weavePick_7 (by decide) ?_
  refine v_istore_n C dX3_weavePick_8 rfl (Nat.le_of_ble_eq_true rfl) rfl (lv' := [some (.ref o), some (.int (s.2 2 0)), some (.int (0 : Int32)), none]) rfl ?_
  refine v_mask [true, true, true, false] (lv' := [some (.ref o), some (.int (s.2 2 0)), some (.int (0 : Int32)), none]) rfl ?_
  exact kloop_ok (P := fun a => kV g X 4 (wM g o a.2.2 u) 9 [some (.ref o), some (.int a.1), some (.int a.2.1), none] []) (fun self hs a hF => wX3_weavePick_b9 C ho hl N  self hs a.1 a.2.1 a.2.2 hF) N ((s.2 2 0), (0 : Int32), s) hF
set_option maxHeartbeats 4000000 in
theorem wX3_pick (l : Launch) (g : GT) {o : Nat} (ho : gB g ≤ o) (u : Wd) (N : Nat)   (s : M) (r : Int32) (s1 : M) (hF : FX3_pick N  s = some (r, s1)) : kMt l g yX3_pick (ws_ yX3_pick cX3_pick 1 (some .int)) (3) (300) (wM g o s u) [.ref o] (some (.int r)) (wM g o s1 u) := by
  refine kMt.ofV (lv := [some (.ref o)]) (by decide) rfl (Nat.le_of_ble_eq_true rfl) rfl ?_
  intro X hl hin C
  unfold FX3_pick at hF
  refine v_aload_n C dX3_pick_0 rfl rfl ?_
  refine m_get C 2 (Nat.le_of_ble_eq_true rfl) q2304 (v := .ref (o + 2)) rfl dX3_pick_1 ?_
  refine v_iconst C (v := (0 : Int32)) dX3_pick_4 (by decide) ?_
  refine m_ald C (Nat.le_of_ble_eq_true rfl) (Nat.le_of_ble_eq_true rfl) (by decide) (n := 2) rfl rfl (ix := 0) (by decide) dX3_pick_5 ?_
  refine v_bipush C (v := (50 : Int32)) dX3_pick_6 (by decide) ?_
  refine v_icmp_ne C (tgt := 14) dX3_pick_8 (by decide) hF (fun c1 hF => ?_) (fun c1 hF => ?_)
  · refine v_bipush C (v := (-4 : Int32)) dX3_pick_11 (by decide) ?_
    exact m_iret C dX3_pick_13 hF
  · refine v_aload_n C dX3_pick_14 rfl rfl ?_
    refine m_callVi C lk_X3_177 rfl (fr2 := 2) (lo2 := 200) (As := []) (st := []) (fun r s1 h => by rw [hl]; exact wX3_jams l g ho u N  s r s1 h) (by decide) rfl rfl (Nat.le_of_ble_eq_true rfl) dX3_pick_15 hF (fun r2 s3 hF => ?_)
    refine v_if_eq C (tgt := 24) dX3_pick_18 (by decide) hF (fun c4 hF => ?_) (fun c4 hF => ?_)
    · refine v_aload_n C dX3_pick_24 rfl rfl ?_
      refine m_callVv C lk_X3_181 rfl (fr2 := 2) (lo2 := 200) (As := []) (st := []) (fun r s1 h => by rw [hl]; exact wX3_weavePick l g ho u N  s3 r s1 h) (by decide) rfl rfl (Nat.le_of_ble_eq_true rfl) dX3_pick_25 hF (fun r5 s6 hF => ?_)
      refine v_aload_n C dX3_pick_28 rfl rfl ?_
      refine m_get C 2 (Nat.le_of_ble_eq_true rfl) q2304 (v := .ref (o + 2)) rfl dX3_pick_29 ?_
      refine v_iconst C (v := (0 : Int32)) dX3_pick_32 (by decide) ?_
      refine m_ald C (Nat.le_of_ble_eq_true rfl) (Nat.le_of_ble_eq_true rfl) (by decide) (n := 2) rfl rfl (ix := 0) (by decide) dX3_pick_33 ?_
      exact m_iret C dX3_pick_34 hF
    · refine v_bipush C (v := (-6 : Int32)) dX3_pick_21 (by decide) ?_
      exact m_iret C dX3_pick_23 hF
set_option maxHeartbeats 4000000 in
theorem wX3_picked_b31 {l : Launch} {g : GT} {X : CxT} {o : Nat} {u : Wd} {r : Int32} {s1 : M} (C : kOk g X cX3_picked 4 RX3 (some .int) 4 400 (some (.int r)) (wM g o s1 u)) (ho : gB g ≤ o) (hl : xl X = l) (N : Nat) (k2 : Int32 × Int32 × Int32 × M → Option (Int32 × M)) (hk2 : ∀ a, k2 a = some (r, s1) → kV g X 4 (wM g o a.2.2.2 u) 2 [some (.ref o), some (.int a.1), some (.int a.2.1), some (.int a.2.2.1)] []) (x1 : Int32) (x2 : Int32) (x3 : Int32) (t0 : Int32) (t1 : Int32) (s : M) (hF : FX3_picked_b31 N k2 x1 x2 x3 t0 t1 s = some (r, s1)) : kV g X 4 (wM g o s u) 31 [some (.ref o), some (.int x1), some (.int x2), some (.int x3)] [.int t0, .int t1, .ref (o + 22)] := by
  unfold FX3_picked_b31 at hF
  obtain ⟨h5, hF⟩ := k_ite hF
  refine m_ast C ho (Nat.le_of_ble_eq_true rfl) (Nat.le_of_ble_eq_true rfl) (by decide) (n := 10) rfl h5 (ix := (t1.toNatClampNeg)) rfl dX3_picked_31 ?_
  refine v_iinc C dX3_picked_32 rfl (v := (x3 + (1 : Int32))) rfl (Nat.le_of_ble_eq_true rfl) rfl (lv' := [some (.ref o), some (.int x1), some (.int x2), some (.int (x3 + (1 : Int32)))]) rfl ?_
  refine v_goto C (tgt := 2) dX3_picked_35 (by decide) ?_
  refine v_mask [true, true, true, true] (lv' := [some (.ref o), some (.int x1), some (.int x2), some (.int (x3 + (1 : Int32)))]) rfl ?_
  exact hk2 (x1, x2, (x3 + (1 : Int32)), (sA s 22 (t1.toNatClampNeg) t0)) hF
set_option maxHeartbeats 4000000 in
theorem wX3_picked_b2 {l : Launch} {g : GT} {X : CxT} {o : Nat} {u : Wd} {r : Int32} {s1 : M} (C : kOk g X cX3_picked 4 RX3 (some .int) 4 400 (some (.int r)) (wM g o s1 u)) (ho : gB g ≤ o) (hl : xl X = l) (N : Nat) (k2 : Int32 × Int32 × Int32 × M → Option (Int32 × M)) (hk2 : ∀ a, k2 a = some (r, s1) → kV g X 4 (wM g o a.2.2.2 u) 2 [some (.ref o), some (.int a.1), some (.int a.2.1), some (.int a.2.2.1)] []) (x1 : Int32) (x2 : Int32) (x3 : Int32) (s : M) (hF : FX3_picked_b2 N k2 x1 x2 x3 s = some (r, s1)) : kV g X 4 (wM g o s u) 2 [some (.ref o), some (.int x1), some (.int x2), some (.int x3)] [] := by
  unfold FX3_picked_b2 at hF
  refine v_iload_n C dX3_picked_2 rfl rfl ?_
  refine v_aload_n C dX3_picked_3 rfl rfl ?_
  refine m_get C 1 (Nat.le_of_ble_eq_true rfl) q2303 (v := .ref (o + 1)) rfl dX3_picked_4 ?_
  refine v_iconst C (v := (0 : Int32)) dX3_picked_7 (by decide) ?_
  refine m_ald C (Nat.le_of_ble_eq_true rfl) (Nat.le_of_ble_eq_true rfl) (by decide) (n := 2) rfl rfl (ix := 0) (by decide) dX3_picked_8 ?_
  refine v_icmp_ge C (tgt := 38) dX3_picked_9 (by decide) hF (fun c1 hF => ?_) (fun c1 hF => ?_)
  · refine v_aload_n C dX3_picked_38 rfl rfl ?_
    refine m_callVi C lk_X3_184 rfl (fr2 := 3) (lo2 := 300) (As := []) (st := []) (fun r s1 h => by rw [hl]; exact wX3_pick l g ho u N  s r s1 h) (by decide) rfl rfl (Nat.le_of_ble_eq_true rfl) dX3_picked_39 hF (fun r2 s3 hF => ?_)
    exact m_iret C dX3_picked_42 hF
  · refine v_aload_n C dX3_picked_12 rfl rfl ?_
    refine m_get C 29 (Nat.le_of_ble_eq_true rfl) q2331 (v := .ref (o + 22)) rfl dX3_picked_13 ?_
    refine v_iload_n C dX3_picked_16 rfl rfl ?_
    refine v_iload_n C dX3_picked_17 rfl rfl ?_
    refine v_iload_n C dX3_picked_18 rfl rfl ?_
    refine v_ishr C dX3_picked_19 ?_
    refine v_iconst C (v := (1 : Int32)) dX3_picked_20 (by decide) ?_
    refine v_iand C dX3_picked_21 ?_
    refine v_iconst C (v := (1 : Int32)) dX3_picked_22 (by decide) ?_
    refine v_icmp_ne C (tgt := 30) dX3_picked_23 (by decide) hF (fun c4 hF => ?_) (fun c4 hF => ?_)
    · refine v_iload_n C dX3_picked_26 rfl rfl ?_
      refine v_goto C (tgt := 31) dX3_picked_27 (by decide) ?_
      refine v_mask [true, true, true, true] (lv' := [some (.ref o), some (.int x1), some (.int x2), some (.int x3)]) rfl ?_
      exact wX3_picked_b31 C ho hl N k2 hk2 (x1) (x2) (x3) (x2) (x3) (s) hF
    · refine v_iconst C (v := (0 : Int32)) dX3_picked_30 (by decide) ?_
      refine v_mask [true, true, true, true] (lv' := [some (.ref o), some (.int x1), some (.int x2), some (.int x3)]) rfl ?_
      exact wX3_picked_b31 C ho hl N k2 hk2 (x1) (x2) (x3) ((0 : Int32)) (x3) (s) hF
set_option maxHeartbeats 4000000 in
theorem wX3_picked (l : Launch) (g : GT) {o : Nat} (ho : gB g ≤ o) (u : Wd) (N : Nat) (x1 : Int32) (x2 : Int32)  (s : M) (r : Int32) (s1 : M) (hF : FX3_picked N x1 x2 s = some (r, s1)) : kMt l g yX3_picked (ws_ yX3_picked cX3_picked 4 (some .int)) (4) (400) (wM g o s u) [.ref o, .int x1, .int x2] (some (.int r)) (wM g o s1 u) := by
  refine kMt.ofV (lv := [some (.ref o), some (.int x1), some (.int x2), none]) (by decide) rfl (Nat.le_of_ble_eq_true rfl) rfl ?_
  intro X hl hin C
  unfold FX3_picked at hF
  refine v_iconst C (v := (0 : Int32)) dX3_picked_0 (by decide) ?_
  refine v_istore_n C dX3_picked_1 rfl (Nat.le_of_ble_eq_true rfl) rfl (lv' := [some (.ref o), some (.int x1), some (.int x2), some (.int (0 : Int32))]) rfl ?_
  refine v_mask [true, true, true, true] (lv' := [some (.ref o), some (.int x1), some (.int x2), some (.int (0 : Int32))]) rfl ?_
  exact kloop_ok (P := fun a => kV g X 4 (wM g o a.2.2.2 u) 2 [some (.ref o), some (.int a.1), some (.int a.2.1), some (.int a.2.2.1)] []) (fun self hs a hF => wX3_picked_b2 C ho hl N  self hs a.1 a.2.1 a.2.2.1 a.2.2.2 hF) N (x1, x2, (0 : Int32), s) hF
set_option maxHeartbeats 4000000 in
theorem wX3_turn (l : Launch) (g : GT) {o : Nat} (ho : gB g ≤ o) (u : Wd) (N : Nat) (x1 : Int32) (x2 : Int32)  (s : M) (r : Int32) (s1 : M) (hF : FX3_turn N x1 x2 s = some (r, s1)) : kMt l g yX3_turn (ws_ yX3_turn cX3_turn 3 (some .int)) (5) (500) (wM g o s u) [.ref o, .int x1, .int x2] (some (.int r)) (wM g o s1 u) := by
  refine kMt.ofV (lv := [some (.ref o), some (.int x1), some (.int x2)]) (by decide) rfl (Nat.le_of_ble_eq_true rfl) rfl ?_
  intro X hl hin C
  unfold FX3_turn at hF
  refine v_aload_n C dX3_turn_0 rfl rfl ?_
  refine v_iload_n C dX3_turn_1 rfl rfl ?_
  refine m_callVi C lk_X3_161 rfl (fr2 := 2) (lo2 := 200) (As := [.int x1]) (st := []) (fun r s1 h => by rw [hl]; exact wX3_isCard l g ho u N x1 s r s1 h) (by decide) rfl rfl (Nat.le_of_ble_eq_true rfl) dX3_turn_2 hF (fun r1 s2 hF => ?_)
  refine v_if_ne C (tgt := 10) dX3_turn_5 (by decide) hF (fun c3 hF => ?_) (fun c3 hF => ?_)
  · refine v_iconst C (v := (-1 : Int32)) dX3_turn_8 (by decide) ?_
    exact m_iret C dX3_turn_9 hF
  · refine v_iload_n C dX3_turn_10 rfl rfl ?_
    refine v_iconst C (v := (0 : Int32)) dX3_turn_11 (by decide) ?_
    refine v_iconst C (v := (3 : Int32)) dX3_turn_12 (by decide) ?_
    refine m_callSi C lk_X3_108 (fr2 := 1) (lo2 := 100) (As := [.int x2, .int (0 : Int32), .int (3 : Int32)]) (st := []) (fun r s1 h => by rw [hl]; exact wX3_in l g ho u N x2 (0 : Int32) (3 : Int32) s2 r s1 h) (by decide) rfl rfl (Nat.le_of_ble_eq_true rfl) dX3_turn_13 hF (fun r4 s5 hF => ?_)
    refine v_if_eq C (tgt := 30) dX3_turn_16 (by decide) hF (fun c6 hF => ?_) (fun c6 hF => ?_)
    · refine v_bipush C (v := (-2 : Int32)) dX3_turn_30 (by decide) ?_
      exact m_iret C dX3_turn_32 hF
    · refine v_aload_n C dX3_turn_19 rfl rfl ?_
      refine v_iconst C (v := (1 : Int32)) dX3_turn_20 (by decide) ?_
      refine v_iload_n C dX3_turn_21 rfl rfl ?_
      refine v_ishl C dX3_turn_22 ?_
      refine v_iload_n C dX3_turn_23 rfl rfl ?_
      refine m_callVi C lk_X3_187 rfl (fr2 := 4) (lo2 := 400) (As := [.int ((1 : Int32) <<< (x1 &&& 31)), .int x2]) (st := []) (fun r s1 h => by rw [hl]; exact wX3_picked l g ho u N ((1 : Int32) <<< (x1 &&& 31)) x2 s5 r s1 h) (by decide) rfl rfl (Nat.le_of_ble_eq_true rfl) dX3_turn_24 hF (fun r7 s8 hF => ?_)
      refine v_goto C (tgt := 32) dX3_turn_27 (by decide) ?_
      exact m_iret C dX3_turn_32 hF
set_option maxHeartbeats 4000000 in
theorem wX3_pack (l : Launch) (g : GT) {o : Nat} (ho : gB g ≤ o) (u : Wd) (N : Nat) (x1 : Int32) (x2 : Int32)  (s : M) (r : Int32) (s1 : M) (hF : FX3_pack N x1 x2 s = some (r, s1)) : kMt l g yX3_pack (ws_ yX3_pack cX3_pack 3 (some .int)) (5) (500) (wM g o s u) [.ref o, .int x1, .int x2] (some (.int r)) (wM g o s1 u) := by
  refine kMt.ofV (lv := [some (.ref o), some (.int x1), some (.int x2)]) (by decide) rfl (Nat.le_of_ble_eq_true rfl) rfl ?_
  intro X hl hin C
  unfold FX3_pack at hF
  refine v_iload_n C dX3_pack_0 rfl rfl ?_
  refine v_iconst C (v := (0 : Int32)) dX3_pack_1 (by decide) ?_
  refine v_iconst C (v := (1 : Int32)) dX3_pack_2 (by decide) ?_
  refine v_aload_n C dX3_pack_3 rfl rfl ?_
  refine m_get C 1 (Nat.le_of_ble_eq_true rfl) q2303 (v := .ref (o + 1)) rfl dX3_pack_4 ?_
  refine v_iconst C (v := (0 : Int32)) dX3_pack_7 (by decide) ?_
  refine m_ald C (Nat.le_of_ble_eq_true rfl) (Nat.le_of_ble_eq_true rfl) (by decide) (n := 2) rfl rfl (ix := 0) (by decide) dX3_pack_8 ?_
  refine v_ishl C dX3_pack_9 ?_
  refine v_iconst C (v := (1 : Int32)) dX3_pack_10 (by decide) ?_
  refine v_isub C dX3_pack_11 ?_
  refine m_callSi C lk_X3_108 (fr2 := 1) (lo2 := 100) (As := [.int x1, .int (0 : Int32), .int (((1 : Int32) <<< ((s.2 1 0) &&& 31)) - (1 : Int32))]) (st := []) (fun r s1 h => by rw [hl]; exact wX3_in l g ho u N x1 (0 : Int32) (((1 : Int32) <<< ((s.2 1 0) &&& 31)) - (1 : Int32)) s r s1 h) (by decide) rfl rfl (Nat.le_of_ble_eq_true rfl) dX3_pack_12 hF (fun r1 s2 hF => ?_)
  refine v_if_eq C (tgt := 27) dX3_pack_15 (by decide) hF (fun c3 hF => ?_) (fun c3 hF => ?_)
  · refine v_bipush C (v := (-2 : Int32)) dX3_pack_27 (by decide) ?_
    exact m_iret C dX3_pack_29 hF
  · refine v_iload_n C dX3_pack_18 rfl rfl ?_
    refine v_iconst C (v := (0 : Int32)) dX3_pack_19 (by decide) ?_
    refine v_iconst C (v := (3 : Int32)) dX3_pack_20 (by decide) ?_
    refine m_callSi C lk_X3_108 (fr2 := 1) (lo2 := 100) (As := [.int x2, .int (0 : Int32), .int (3 : Int32)]) (st := []) (fun r s1 h => by rw [hl]; exact wX3_in l g ho u N x2 (0 : Int32) (3 : Int32) s2 r s1 h) (by decide) rfl rfl (Nat.le_of_ble_eq_true rfl) dX3_pack_21 hF (fun r4 s5 hF => ?_)
    refine v_if_ne C (tgt := 30) dX3_pack_24 (by decide) hF (fun c6 hF => ?_) (fun c6 hF => ?_)
    · refine v_bipush C (v := (-2 : Int32)) dX3_pack_27 (by decide) ?_
      exact m_iret C dX3_pack_29 hF
    · refine v_aload_n C dX3_pack_30 rfl rfl ?_
      refine m_get C 1 (Nat.le_of_ble_eq_true rfl) q2303 (v := .ref (o + 1)) rfl dX3_pack_31 ?_
      refine v_iconst C (v := (0 : Int32)) dX3_pack_34 (by decide) ?_
      refine m_ald C (Nat.le_of_ble_eq_true rfl) (Nat.le_of_ble_eq_true rfl) (by decide) (n := 2) rfl rfl (ix := 0) (by decide) dX3_pack_35 ?_
      refine v_if_ne C (tgt := 44) dX3_pack_36 (by decide) hF (fun c7 hF => ?_) (fun c7 hF => ?_)
      · refine v_bipush C (v := (-3 : Int32)) dX3_pack_39 (by decide) ?_
        refine v_goto C (tgt := 50) dX3_pack_41 (by decide) ?_
        exact m_iret C dX3_pack_50 hF
      · refine v_aload_n C dX3_pack_44 rfl rfl ?_
        refine v_iload_n C dX3_pack_45 rfl rfl ?_
        refine v_iload_n C dX3_pack_46 rfl rfl ?_
        refine m_callVi C lk_X3_187 rfl (fr2 := 4) (lo2 := 400) (As := [.int x1, .int x2]) (st := []) (fun r s1 h => by rw [hl]; exact wX3_picked l g ho u N x1 x2 s5 r s1 h) (by decide) rfl rfl (Nat.le_of_ble_eq_true rfl) dX3_pack_47 hF (fun r8 s9 hF => ?_)
        exact m_iret C dX3_pack_50 hF
set_option maxHeartbeats 4000000 in
theorem wX3_layLaw_b2 {l : Launch} {g : GT} {X : CxT} {o : Nat} {u : Wd} {r : Unit} {s1 : M} (C : kOk g X cX3_layLaw 3 RX3 none 12 1200 none (wM g o s1 u)) (ho : gB g ≤ o) (hl : xl X = l) (N : Nat) (k2 : Int32 × Int32 × M → Option (Unit × M)) (hk2 : ∀ a, k2 a = some (r, s1) → kV g X 3 (wM g o a.2.2 u) 2 [some (.ref o), some (.int a.1), some (.int a.2.1)] []) (x1 : Int32) (x2 : Int32) (s : M) (hF : FX3_layLaw_b2 N k2 x1 x2 s = some (r, s1)) : kV g X 3 (wM g o s u) 2 [some (.ref o), some (.int x1), some (.int x2)] [] := by
  unfold FX3_layLaw_b2 at hF
  refine v_iload_n C dX3_layLaw_2 rfl rfl ?_
  refine v_aload_n C dX3_layLaw_3 rfl rfl ?_
  refine m_get C 1 (Nat.le_of_ble_eq_true rfl) q2303 (v := .ref (o + 1)) rfl dX3_layLaw_4 ?_
  refine v_iconst C (v := (0 : Int32)) dX3_layLaw_7 (by decide) ?_
  refine m_ald C (Nat.le_of_ble_eq_true rfl) (Nat.le_of_ble_eq_true rfl) (by decide) (n := 2) rfl rfl (ix := 0) (by decide) dX3_layLaw_8 ?_
  refine v_icmp_ge C (tgt := 31) dX3_layLaw_9 (by decide) hF (fun c1 hF => ?_) (fun c1 hF => ?_)
  · exact m_vret C dX3_layLaw_31 hF
  · refine v_aload_n C dX3_layLaw_12 rfl rfl ?_
    refine m_get C 29 (Nat.le_of_ble_eq_true rfl) q2331 (v := .ref (o + 22)) rfl dX3_layLaw_13 ?_
    refine v_iload_n C dX3_layLaw_16 rfl rfl ?_
    refine v_aload_n C dX3_layLaw_17 rfl rfl ?_
    refine v_iconst C (v := (0 : Int32)) dX3_layLaw_18 (by decide) ?_
    refine v_iload_n C dX3_layLaw_19 rfl rfl ?_
    refine v_iload_n C dX3_layLaw_20 rfl rfl ?_
    refine m_callVi C lk_X3_148 rfl (fr2 := 11) (lo2 := 1100) (As := [.int (0 : Int32), .int x2, .int x1]) (st := [.int x2, .ref (o + 22)]) (fun r s1 h => by rw [hl]; exact wX3_lawOf l g ho u N 10 (0 : Int32) x2 x1 s r s1 h) (by decide) rfl rfl (Nat.le_of_ble_eq_true rfl) dX3_layLaw_21 hF (fun r2 s3 hF => ?_)
    obtain ⟨h4, hF⟩ := k_ite hF
    refine m_ast C ho (Nat.le_of_ble_eq_true rfl) (Nat.le_of_ble_eq_true rfl) (by decide) (n := 10) rfl h4 (ix := (x2.toNatClampNeg)) rfl dX3_layLaw_24 ?_
    refine v_iinc C dX3_layLaw_25 rfl (v := (x2 + (1 : Int32))) rfl (Nat.le_of_ble_eq_true rfl) rfl (lv' := [some (.ref o), some (.int x1), some (.int (x2 + (1 : Int32)))]) rfl ?_
    refine v_goto C (tgt := 2) dX3_layLaw_28 (by decide) ?_
    refine v_mask [true, true, true] (lv' := [some (.ref o), some (.int x1), some (.int (x2 + (1 : Int32)))]) rfl ?_
    exact hk2 (x1, (x2 + (1 : Int32)), (sA s3 22 (x2.toNatClampNeg) r2)) hF
set_option maxHeartbeats 4000000 in
theorem wX3_layLaw (l : Launch) (g : GT) {o : Nat} (ho : gB g ≤ o) (u : Wd) (N : Nat) (x1 : Int32)  (s : M) (r : Unit) (s1 : M) (hF : FX3_layLaw N x1 s = some (r, s1)) : kMt l g yX3_layLaw (ws_ yX3_layLaw cX3_layLaw 3 none) (12) (1200) (wM g o s u) [.ref o, .int x1] none (wM g o s1 u) := by
  refine kMt.ofV (lv := [some (.ref o), some (.int x1), none]) (by decide) rfl (Nat.le_of_ble_eq_true rfl) rfl ?_
  intro X hl hin C
  unfold FX3_layLaw at hF
  refine v_iconst C (v := (0 : Int32)) dX3_layLaw_0 (by decide) ?_
  refine v_istore_n C dX3_layLaw_1 rfl (Nat.le_of_ble_eq_true rfl) rfl (lv' := [some (.ref o), some (.int x1), some (.int (0 : Int32))]) rfl ?_
  refine v_mask [true, true, true] (lv' := [some (.ref o), some (.int x1), some (.int (0 : Int32))]) rfl ?_
  exact kloop_ok (P := fun a => kV g X 3 (wM g o a.2.2 u) 2 [some (.ref o), some (.int a.1), some (.int a.2.1)] []) (fun self hs a hF => wX3_layLaw_b2 C ho hl N  self hs a.1 a.2.1 a.2.2 hF) N (x1, (0 : Int32), s) hF
set_option maxHeartbeats 4000000 in
theorem wX3_weave_b27 {l : Launch} {g : GT} {X : CxT} {o : Nat} {u : Wd} {r : Int32} {s1 : M} (C : kOk g X cX3_weave 3 RX3 (some .int) 13 1300 (some (.int r)) (wM g o s1 u)) (ho : gB g ≤ o) (hl : xl X = l) (N : Nat) (k27 : Int32 × Int32 × M → Option (Int32 × M)) (hk27 : ∀ a, k27 a = some (r, s1) → kV g X 3 (wM g o a.2.2 u) 27 [some (.ref o), some (.int a.1), some (.int a.2.1)] []) (x1 : Int32) (x2 : Int32) (s : M) (hF : FX3_weave_b27 N k27 x1 x2 s = some (r, s1)) : kV g X 3 (wM g o s u) 27 [some (.ref o), some (.int x1), some (.int x2)] [] := by
  unfold FX3_weave_b27 at hF
  refine v_iload_n C dX3_weave_27 rfl rfl ?_
  refine v_iload_n C dX3_weave_28 rfl rfl ?_
  refine v_icmp_ge C (tgt := 57) dX3_weave_29 (by decide) hF (fun c5 hF => ?_) (fun c5 hF => ?_)
  · refine v_iload_n C dX3_weave_57 rfl rfl ?_
    exact m_iret C dX3_weave_58 hF
  · refine v_aload_n C dX3_weave_32 rfl rfl ?_
    refine v_aload_n C dX3_weave_33 rfl rfl ?_
    refine m_get C 2 (Nat.le_of_ble_eq_true rfl) q2304 (v := .ref (o + 2)) rfl dX3_weave_34 ?_
    refine v_iconst C (v := (0 : Int32)) dX3_weave_37 (by decide) ?_
    refine m_ald C (Nat.le_of_ble_eq_true rfl) (Nat.le_of_ble_eq_true rfl) (by decide) (n := 2) rfl rfl (ix := 0) (by decide) dX3_weave_38 ?_
    refine m_callVv C lk_X3_190 rfl (fr2 := 12) (lo2 := 1200) (As := [.int (s.2 2 0)]) (st := []) (fun r s1 h => by rw [hl]; exact wX3_layLaw l g ho u N (s.2 2 0) s r s1 h) (by decide) rfl rfl (Nat.le_of_ble_eq_true rfl) dX3_weave_39 hF (fun r6 s7 hF => ?_)
    refine v_aload_n C dX3_weave_42 rfl rfl ?_
    refine m_callVi C lk_X3_184 rfl (fr2 := 3) (lo2 := 300) (As := []) (st := []) (fun r s1 h => by rw [hl]; exact wX3_pick l g ho u N  s7 r s1 h) (by decide) rfl rfl (Nat.le_of_ble_eq_true rfl) dX3_weave_43 hF (fun r8 s9 hF => ?_)
    refine v_if_ge C (tgt := 51) dX3_weave_46 (by decide) hF (fun c10 hF => ?_) (fun c10 hF => ?_)
    · refine v_iinc C dX3_weave_51 rfl (v := (x2 + (1 : Int32))) rfl (Nat.le_of_ble_eq_true rfl) rfl (lv' := [some (.ref o), some (.int x1), some (.int (x2 + (1 : Int32)))]) rfl ?_
      refine v_goto C (tgt := 27) dX3_weave_54 (by decide) ?_
      refine v_mask [true, true, true] (lv' := [some (.ref o), some (.int x1), some (.int (x2 + (1 : Int32)))]) rfl ?_
      exact hk27 (x1, (x2 + (1 : Int32)), s9) hF
    · refine v_iload_n C dX3_weave_49 rfl rfl ?_
      exact m_iret C dX3_weave_50 hF
set_option maxHeartbeats 4000000 in
theorem wX3_weave (l : Launch) (g : GT) {o : Nat} (ho : gB g ≤ o) (u : Wd) (N : Nat) (x1 : Int32)  (s : M) (r : Int32) (s1 : M) (hF : FX3_weave N x1 s = some (r, s1)) : kMt l g yX3_weave (ws_ yX3_weave cX3_weave 3 (some .int)) (13) (1300) (wM g o s u) [.ref o, .int x1] (some (.int r)) (wM g o s1 u) := by
  refine kMt.ofV (lv := [some (.ref o), some (.int x1), none]) (by decide) rfl (Nat.le_of_ble_eq_true rfl) rfl ?_
  intro X hl hin C
  unfold FX3_weave at hF
  refine v_iload_n C dX3_weave_0 rfl rfl ?_
  refine v_iconst C (v := (1 : Int32)) dX3_weave_1 (by decide) ?_
  refine v_bipush C (v := (50 : Int32)) dX3_weave_2 (by decide) ?_
  refine m_callSi C lk_X3_108 (fr2 := 1) (lo2 := 100) (As := [.int x1, .int (1 : Int32), .int (50 : Int32)]) (st := []) (fun r s1 h => by rw [hl]; exact wX3_in l g ho u N x1 (1 : Int32) (50 : Int32) s r s1 h) (by decide) rfl rfl (Nat.le_of_ble_eq_true rfl) dX3_weave_4 hF (fun r1 s2 hF => ?_)
  refine v_if_ne C (tgt := 13) dX3_weave_7 (by decide) hF (fun c3 hF => ?_) (fun c3 hF => ?_)
  · refine v_bipush C (v := (-2 : Int32)) dX3_weave_10 (by decide) ?_
    exact m_iret C dX3_weave_12 hF
  · refine v_aload_n C dX3_weave_13 rfl rfl ?_
    refine m_get C 1 (Nat.le_of_ble_eq_true rfl) q2303 (v := .ref (o + 1)) rfl dX3_weave_14 ?_
    refine v_iconst C (v := (0 : Int32)) dX3_weave_17 (by decide) ?_
    refine m_ald C (Nat.le_of_ble_eq_true rfl) (Nat.le_of_ble_eq_true rfl) (by decide) (n := 2) rfl rfl (ix := 0) (by decide) dX3_weave_18 ?_
    refine v_if_ne C (tgt := 25) dX3_weave_19 (by decide) hF (fun c4 hF => ?_) (fun c4 hF => ?_)
    · refine v_bipush C (v := (-3 : Int32)) dX3_weave_22 (by decide) ?_
      exact m_iret C dX3_weave_24 hF
    · refine v_iconst C (v := (0 : Int32)) dX3_weave_25 (by decide) ?_
      refine v_istore_n C dX3_weave_26 rfl (Nat.le_of_ble_eq_true rfl) rfl (lv' := [some (.ref o), some (.int x1), some (.int (0 : Int32))]) rfl ?_
      refine v_mask [true, true, true] (lv' := [some (.ref o), some (.int x1), some (.int (0 : Int32))]) rfl ?_
      exact kloop_ok (P := fun a => kV g X 3 (wM g o a.2.2 u) 27 [some (.ref o), some (.int a.1), some (.int a.2.1)] []) (fun self hs a hF => wX3_weave_b27 C ho hl N  self hs a.1 a.2.1 a.2.2 hF) N (x1, (0 : Int32), s2) hF
set_option maxHeartbeats 4000000 in
theorem wX3_unweave_b41 {l : Launch} {g : GT} {X : CxT} {o : Nat} {u : Wd} {r : Int32} {s1 : M} (C : kOk g X cX3_unweave 5 RX3 (some .int) 2 200 (some (.int r)) (wM g o s1 u)) (ho : gB g ≤ o) (hl : xl X = l) (N : Nat) (k15 : Int32 × Int32 × M → Option (Int32 × M)) (hk15 : ∀ a, k15 a = some (r, s1) → kV g X 5 (wM g o a.2.2 u) 15 [some (.ref o), some (.int a.1), some (.int a.2.1), none, none] []) (k41 : Int32 × Int32 × Int32 × M → Option (Int32 × M)) (hk41 : ∀ a, k41 a = some (r, s1) → kV g X 5 (wM g o a.2.2.2 u) 41 [some (.ref o), some (.int a.1), some (.int a.2.1), some (.int a.2.2.1), none] []) (x1 : Int32) (x2 : Int32) (x3 : Int32) (s : M) (hF : FX3_unweave_b41 N k15 k41 x1 x2 x3 s = some (r, s1)) : kV g X 5 (wM g o s u) 41 [some (.ref o), some (.int x1), some (.int x2), some (.int x3), none] [] := by
  unfold FX3_unweave_b41 at hF
  refine v_iload_n C dX3_unweave_41 rfl rfl ?_
  refine v_aload_n C dX3_unweave_42 rfl rfl ?_
  refine m_get C 1 (Nat.le_of_ble_eq_true rfl) q2303 (v := .ref (o + 1)) rfl dX3_unweave_43 ?_
  refine v_iconst C (v := (0 : Int32)) dX3_unweave_46 (by decide) ?_
  refine m_ald C (Nat.le_of_ble_eq_true rfl) (Nat.le_of_ble_eq_true rfl) (by decide) (n := 2) rfl rfl (ix := 0) (by decide) dX3_unweave_47 ?_
  refine v_icmp_ge C (tgt := 111) dX3_unweave_48 (by decide) hF (fun c6 hF => ?_) (fun c6 hF => ?_)
  · refine v_iinc C dX3_unweave_111 rfl (v := (x2 + (1 : Int32))) rfl (Nat.le_of_ble_eq_true rfl) rfl (lv' := [some (.ref o), some (.int x1), some (.int (x2 + (1 : Int32))), some (.int x3), none]) rfl ?_
    refine v_goto C (tgt := 15) dX3_unweave_114 (by decide) ?_
    refine v_mask [true, true, true, false, false] (lv' := [some (.ref o), some (.int x1), some (.int (x2 + (1 : Int32))), none, none]) rfl ?_
    exact hk15 (x1, (x2 + (1 : Int32)), s) hF
  · refine v_aload_n C dX3_unweave_51 rfl rfl ?_
    refine m_get C 10 (Nat.le_of_ble_eq_true rfl) q2312 (v := .ref (o + 10)) rfl dX3_unweave_52 ?_
    refine v_bipush C (v := (10 : Int32)) dX3_unweave_55 (by decide) ?_
    refine v_aload_n C dX3_unweave_57 rfl rfl ?_
    refine m_get C 2 (Nat.le_of_ble_eq_true rfl) q2304 (v := .ref (o + 2)) rfl dX3_unweave_58 ?_
    refine v_iconst C (v := (0 : Int32)) dX3_unweave_61 (by decide) ?_
    refine m_ald C (Nat.le_of_ble_eq_true rfl) (Nat.le_of_ble_eq_true rfl) (by decide) (n := 2) rfl rfl (ix := 0) (by decide) dX3_unweave_62 ?_
    refine v_imul C dX3_unweave_63 ?_
    refine v_iload_n C dX3_unweave_64 rfl rfl ?_
    refine v_iadd C dX3_unweave_65 ?_
    obtain ⟨h7, hF⟩ := k_ite hF
    refine m_ald C (Nat.le_of_ble_eq_true rfl) (Nat.le_of_ble_eq_true rfl) (by decide) (n := 1000) rfl h7 (ix := ((((10 : Int32) * (s.2 2 0)) + x3).toNatClampNeg)) rfl dX3_unweave_66 ?_
    refine v_istore C dX3_unweave_67 (Nat.le_of_ble_eq_true rfl) rfl (lv' := [some (.ref o), some (.int x1), some (.int x2), some (.int x3), some (.int (s.2 10 ((((10 : Int32) * (s.2 2 0)) + x3).toNatClampNeg)))]) rfl ?_
    refine v_aload_n C dX3_unweave_69 rfl rfl ?_
    refine m_get C 5 (Nat.le_of_ble_eq_true rfl) q2307 (v := .ref (o + 5)) rfl dX3_unweave_70 ?_
    refine v_iload_n C dX3_unweave_73 rfl rfl ?_
    refine v_aload_n C dX3_unweave_74 rfl rfl ?_
    refine m_get C 5 (Nat.le_of_ble_eq_true rfl) q2307 (v := .ref (o + 5)) rfl dX3_unweave_75 ?_
    refine v_iload_n C dX3_unweave_78 rfl rfl ?_
    obtain ⟨h8, hF⟩ := k_ite hF
    refine m_ald C (Nat.le_of_ble_eq_true rfl) (Nat.le_of_ble_eq_true rfl) (by decide) (n := 20) rfl h8 (ix := (x3.toNatClampNeg)) rfl dX3_unweave_79 ?_
    refine v_iconst C (v := (4 : Int32)) dX3_unweave_80 (by decide) ?_
    refine v_iadd C dX3_unweave_81 ?_
    refine v_iload C dX3_unweave_82 rfl ?_
    refine m_callSi C lk_X3_174 (fr2 := 1) (lo2 := 100) (As := [.int (s.2 10 ((((10 : Int32) * (s.2 2 0)) + x3).toNatClampNeg))]) (st := [.int ((s.2 5 (x3.toNatClampNeg)) + (4 : Int32)), .int x3, .ref (o + 5)]) (fun r s1 h => by rw [hl]; exact wX3_moved l g ho u N (s.2 10 ((((10 : Int32) * (s.2 2 0)) + x3).toNatClampNeg)) s r s1 h) (by decide) rfl rfl (Nat.le_of_ble_eq_true rfl) dX3_unweave_84 hF (fun r9 s10 hF => ?_)
    refine v_isub C dX3_unweave_87 ?_
    refine v_iconst C (v := (4 : Int32)) dX3_unweave_88 (by decide) ?_
    refine v_irem C dX3_unweave_89 (by decide) ?_
    obtain ⟨h11, hF⟩ := k_ite hF
    refine m_ast C ho (Nat.le_of_ble_eq_true rfl) (Nat.le_of_ble_eq_true rfl) (by decide) (n := 20) rfl h11 (ix := (x3.toNatClampNeg)) rfl dX3_unweave_90 ?_
    refine v_aload_n C dX3_unweave_91 rfl rfl ?_
    refine m_get C 6 (Nat.le_of_ble_eq_true rfl) q2308 (v := .ref (o + 6)) rfl dX3_unweave_92 ?_
    refine v_iload_n C dX3_unweave_95 rfl rfl ?_
    refine v_dup2_11 C dX3_unweave_96 rfl rfl ?_
    obtain ⟨h12, hF⟩ := k_ite hF
    refine m_ald C (Nat.le_of_ble_eq_true rfl) (Nat.le_of_ble_eq_true rfl) (by decide) (n := 20) rfl h12 (ix := (x3.toNatClampNeg)) rfl dX3_unweave_97 ?_
    refine v_iload C dX3_unweave_98 rfl ?_
    refine m_callSi C lk_X3_171 (fr2 := 1) (lo2 := 100) (As := [.int (s.2 10 ((((10 : Int32) * (s.2 2 0)) + x3).toNatClampNeg))]) (st := [.int ((sA s10 5 (x3.toNatClampNeg) ((((s.2 5 (x3.toNatClampNeg)) + (4 : Int32)) - r9) - (((s.2 5 (x3.toNatClampNeg)) + (4 : Int32)) - r9) / (4 : Int32) * (4 : Int32))).2 6 (x3.toNatClampNeg)), .int x3, .ref (o + 6)]) (fun r s1 h => by rw [hl]; exact wX3_grown l g ho u N (s.2 10 ((((10 : Int32) * (s.2 2 0)) + x3).toNatClampNeg)) (sA s10 5 (x3.toNatClampNeg) ((((s.2 5 (x3.toNatClampNeg)) + (4 : Int32)) - r9) - (((s.2 5 (x3.toNatClampNeg)) + (4 : Int32)) - r9) / (4 : Int32) * (4 : Int32))) r s1 h) (by decide) rfl rfl (Nat.le_of_ble_eq_true rfl) dX3_unweave_100 hF (fun r13 s14 hF => ?_)
    refine v_isub C dX3_unweave_103 ?_
    obtain ⟨h15, hF⟩ := k_ite hF
    refine m_ast C ho (Nat.le_of_ble_eq_true rfl) (Nat.le_of_ble_eq_true rfl) (by decide) (n := 20) rfl h15 (ix := (x3.toNatClampNeg)) rfl dX3_unweave_104 ?_
    refine v_iinc C dX3_unweave_105 rfl (v := (x3 + (1 : Int32))) rfl (Nat.le_of_ble_eq_true rfl) rfl (lv' := [some (.ref o), some (.int x1), some (.int x2), some (.int (x3 + (1 : Int32))), some (.int (s.2 10 ((((10 : Int32) * (s.2 2 0)) + x3).toNatClampNeg)))]) rfl ?_
    refine v_goto C (tgt := 41) dX3_unweave_108 (by decide) ?_
    refine v_mask [true, true, true, true, false] (lv' := [some (.ref o), some (.int x1), some (.int x2), some (.int (x3 + (1 : Int32))), none]) rfl ?_
    exact hk41 (x1, x2, (x3 + (1 : Int32)), (sA s14 6 (x3.toNatClampNeg) (((sA s10 5 (x3.toNatClampNeg) ((((s.2 5 (x3.toNatClampNeg)) + (4 : Int32)) - r9) - (((s.2 5 (x3.toNatClampNeg)) + (4 : Int32)) - r9) / (4 : Int32) * (4 : Int32))).2 6 (x3.toNatClampNeg)) - r13))) hF
set_option maxHeartbeats 4000000 in
theorem wX3_unweave_b15 {l : Launch} {g : GT} {X : CxT} {o : Nat} {u : Wd} {r : Int32} {s1 : M} (C : kOk g X cX3_unweave 5 RX3 (some .int) 2 200 (some (.int r)) (wM g o s1 u)) (ho : gB g ≤ o) (hl : xl X = l) (N : Nat) (k15 : Int32 × Int32 × M → Option (Int32 × M)) (hk15 : ∀ a, k15 a = some (r, s1) → kV g X 5 (wM g o a.2.2 u) 15 [some (.ref o), some (.int a.1), some (.int a.2.1), none, none] []) (x1 : Int32) (x2 : Int32) (s : M) (hF : FX3_unweave_b15 N k15 x1 x2 s = some (r, s1)) : kV g X 5 (wM g o s u) 15 [some (.ref o), some (.int x1), some (.int x2), none, none] [] := by
  unfold FX3_unweave_b15 at hF
  refine v_iload_n C dX3_unweave_15 rfl rfl ?_
  refine v_iload_n C dX3_unweave_16 rfl rfl ?_
  refine v_icmp_ge C (tgt := 117) dX3_unweave_17 (by decide) hF (fun c4 hF => ?_) (fun c4 hF => ?_)
  · refine v_iload_n C dX3_unweave_117 rfl rfl ?_
    exact m_iret C dX3_unweave_118 hF
  · refine v_aload_n C dX3_unweave_20 rfl rfl ?_
    refine m_get C 2 (Nat.le_of_ble_eq_true rfl) q2304 (v := .ref (o + 2)) rfl dX3_unweave_21 ?_
    refine v_iconst C (v := (0 : Int32)) dX3_unweave_24 (by decide) ?_
    refine m_ald C (Nat.le_of_ble_eq_true rfl) (Nat.le_of_ble_eq_true rfl) (by decide) (n := 2) rfl rfl (ix := 0) (by decide) dX3_unweave_25 ?_
    refine v_if_le C (tgt := 117) dX3_unweave_26 (by decide) hF (fun c5 hF => ?_) (fun c5 hF => ?_)
    · refine v_iload_n C dX3_unweave_117 rfl rfl ?_
      exact m_iret C dX3_unweave_118 hF
    · refine v_aload_n C dX3_unweave_29 rfl rfl ?_
      refine m_get C 2 (Nat.le_of_ble_eq_true rfl) q2304 (v := .ref (o + 2)) rfl dX3_unweave_30 ?_
      refine v_iconst C (v := (0 : Int32)) dX3_unweave_33 (by decide) ?_
      refine v_dup2_11 C dX3_unweave_34 rfl rfl ?_
      refine m_ald C (Nat.le_of_ble_eq_true rfl) (Nat.le_of_ble_eq_true rfl) (by decide) (n := 2) rfl rfl (ix := 0) (by decide) dX3_unweave_35 ?_
      refine v_iconst C (v := (1 : Int32)) dX3_unweave_36 (by decide) ?_
      refine v_isub C dX3_unweave_37 ?_
      refine m_ast C ho (Nat.le_of_ble_eq_true rfl) (Nat.le_of_ble_eq_true rfl) (by decide) (n := 2) rfl rfl (ix := 0) (by decide) dX3_unweave_38 ?_
      refine v_iconst C (v := (0 : Int32)) dX3_unweave_39 (by decide) ?_
      refine v_istore_n C dX3_unweave_40 rfl (Nat.le_of_ble_eq_true rfl) rfl (lv' := [some (.ref o), some (.int x1), some (.int x2), some (.int (0 : Int32)), none]) rfl ?_
      refine v_mask [true, true, true, true, false] (lv' := [some (.ref o), some (.int x1), some (.int x2), some (.int (0 : Int32)), none]) rfl ?_
      exact kloop_ok (P := fun a => kV g X 5 (wM g o a.2.2.2 u) 41 [some (.ref o), some (.int a.1), some (.int a.2.1), some (.int a.2.2.1), none] []) (fun self hs a hF => wX3_unweave_b41 C ho hl N k15 hk15 self hs a.1 a.2.1 a.2.2.1 a.2.2.2 hF) N (x1, x2, (0 : Int32), (sA s 2 0 ((s.2 2 0) - (1 : Int32)))) hF
set_option maxHeartbeats 4000000 in
theorem wX3_unweave (l : Launch) (g : GT) {o : Nat} (ho : gB g ≤ o) (u : Wd) (N : Nat) (x1 : Int32)  (s : M) (r : Int32) (s1 : M) (hF : FX3_unweave N x1 s = some (r, s1)) : kMt l g yX3_unweave (ws_ yX3_unweave cX3_unweave 5 (some .int)) (2) (200) (wM g o s u) [.ref o, .int x1] (some (.int r)) (wM g o s1 u) := by
  refine kMt.ofV (lv := [some (.ref o), some (.int x1), none, none, none]) (by decide) rfl (Nat.le_of_ble_eq_true rfl) rfl ?_
  intro X hl hin C
  unfold FX3_unweave at hF
  refine v_iload_n C dX3_unweave_0 rfl rfl ?_
  refine v_iconst C (v := (1 : Int32)) dX3_unweave_1 (by decide) ?_
  refine v_bipush C (v := (50 : Int32)) dX3_unweave_2 (by decide) ?_
  refine m_callSi C lk_X3_108 (fr2 := 1) (lo2 := 100) (As := [.int x1, .int (1 : Int32), .int (50 : Int32)]) (st := []) (fun r s1 h => by rw [hl]; exact wX3_in l g ho u N x1 (1 : Int32) (50 : Int32) s r s1 h) (by decide) rfl rfl (Nat.le_of_ble_eq_true rfl) dX3_unweave_4 hF (fun r1 s2 hF => ?_)
  refine v_if_ne C (tgt := 13) dX3_unweave_7 (by decide) hF (fun c3 hF => ?_) (fun c3 hF => ?_)
  · refine v_bipush C (v := (-2 : Int32)) dX3_unweave_10 (by decide) ?_
    exact m_iret C dX3_unweave_12 hF
  · refine v_iconst C (v := (0 : Int32)) dX3_unweave_13 (by decide) ?_
    refine v_istore_n C dX3_unweave_14 rfl (Nat.le_of_ble_eq_true rfl) rfl (lv' := [some (.ref o), some (.int x1), some (.int (0 : Int32)), none, none]) rfl ?_
    refine v_mask [true, true, true, false, false] (lv' := [some (.ref o), some (.int x1), some (.int (0 : Int32)), none, none]) rfl ?_
    exact kloop_ok (P := fun a => kV g X 5 (wM g o a.2.2 u) 15 [some (.ref o), some (.int a.1), some (.int a.2.1), none, none] []) (fun self hs a hF => wX3_unweave_b15 C ho hl N  self hs a.1 a.2.1 a.2.2 hF) N (x1, (0 : Int32), s2) hF
set_option maxHeartbeats 4000000 in
theorem wX3_isRow (l : Launch) (g : GT) {o : Nat} (ho : gB g ≤ o) (u : Wd) (N : Nat) (x1 : Int32)  (s : M) (r : Int32) (s1 : M) (hF : FX3_isRow N x1 s = some (r, s1)) : kMt l g yX3_isRow (ws_ yX3_isRow cX3_isRow 2 (some .boolean)) (2) (200) (wM g o s u) [.ref o, .int x1] (some (.int r)) (wM g o s1 u) := by
  refine kMt.ofV (lv := [some (.ref o), some (.int x1)]) (by decide) rfl (Nat.le_of_ble_eq_true rfl) rfl ?_
  intro X hl hin C
  unfold FX3_isRow at hF
  refine v_iload_n C dX3_isRow_0 rfl rfl ?_
  refine v_iconst C (v := (0 : Int32)) dX3_isRow_1 (by decide) ?_
  refine v_aload_n C dX3_isRow_2 rfl rfl ?_
  refine m_get C 2 (Nat.le_of_ble_eq_true rfl) q2304 (v := .ref (o + 2)) rfl dX3_isRow_3 ?_
  refine v_iconst C (v := (0 : Int32)) dX3_isRow_6 (by decide) ?_
  refine m_ald C (Nat.le_of_ble_eq_true rfl) (Nat.le_of_ble_eq_true rfl) (by decide) (n := 2) rfl rfl (ix := 0) (by decide) dX3_isRow_7 ?_
  refine v_iconst C (v := (1 : Int32)) dX3_isRow_8 (by decide) ?_
  refine v_isub C dX3_isRow_9 ?_
  refine m_callSi C lk_X3_108 (fr2 := 1) (lo2 := 100) (As := [.int x1, .int (0 : Int32), .int ((s.2 2 0) - (1 : Int32))]) (st := []) (fun r s1 h => by rw [hl]; exact wX3_in l g ho u N x1 (0 : Int32) ((s.2 2 0) - (1 : Int32)) s r s1 h) (by decide) rfl rfl (Nat.le_of_ble_eq_true rfl) dX3_isRow_10 hF (fun r1 s2 hF => ?_)
  obtain ⟨h3, hF⟩ := k_ite hF
  exact m_zret C (nb_nar h3) dX3_isRow_13 hF
set_option maxHeartbeats 4000000 in
theorem wX3_asked (l : Launch) (g : GT) {o : Nat} (ho : gB g ≤ o) (u : Wd) (N : Nat) (j1 : Nat) (x2 : Int32) (x3 : Int32) (hj1 : 0 < j1 ∧ j1 ≤ 31 ∧ j1 ≠ 29) (s : M) (r : Int32) (s1 : M) (hF : FX3_asked N j1 x2 x3 s = some (r, s1)) : kMt l g yX3_asked (ws_ yX3_asked cX3_asked 4 (some .int)) (3) (300) (wM g o s u) [.ref o, .ref (o + j1), .int x2, .int x3] (some (.int r)) (wM g o s1 u) := by
  refine kMt.ofV (lv := [some (.ref o), some (.ref (o + j1)), some (.int x2), some (.int x3)]) (by decide) rfl (Nat.le_of_ble_eq_true rfl) rfl ?_
  intro X hl hin C
  unfold FX3_asked at hF
  refine v_aload_n C dX3_asked_0 rfl rfl ?_
  refine v_iload_n C dX3_asked_1 rfl rfl ?_
  refine m_callVi C lk_X3_193 rfl (fr2 := 2) (lo2 := 200) (As := [.int x2]) (st := []) (fun r s1 h => by rw [hl]; exact wX3_isRow l g ho u N x2 s r s1 h) (by decide) rfl rfl (Nat.le_of_ble_eq_true rfl) dX3_asked_2 hF (fun r1 s2 hF => ?_)
  refine v_if_eq C (tgt := 27) dX3_asked_5 (by decide) hF (fun c3 hF => ?_) (fun c3 hF => ?_)
  · refine v_iconst C (v := (-1 : Int32)) dX3_asked_27 (by decide) ?_
    exact m_iret C dX3_asked_28 hF
  · refine v_aload_n C dX3_asked_8 rfl rfl ?_
    refine v_iload_n C dX3_asked_9 rfl rfl ?_
    refine m_callVi C lk_X3_161 rfl (fr2 := 2) (lo2 := 200) (As := [.int x3]) (st := []) (fun r s1 h => by rw [hl]; exact wX3_isCard l g ho u N x3 s2 r s1 h) (by decide) rfl rfl (Nat.le_of_ble_eq_true rfl) dX3_asked_10 hF (fun r4 s5 hF => ?_)
    refine v_if_eq C (tgt := 27) dX3_asked_13 (by decide) hF (fun c6 hF => ?_) (fun c6 hF => ?_)
    · refine v_iconst C (v := (-1 : Int32)) dX3_asked_27 (by decide) ?_
      exact m_iret C dX3_asked_28 hF
    · refine v_aload_n C dX3_asked_16 rfl rfl ?_
      refine v_bipush C (v := (10 : Int32)) dX3_asked_17 (by decide) ?_
      refine v_iload_n C dX3_asked_19 rfl rfl ?_
      refine v_imul C dX3_asked_20 ?_
      refine v_iload_n C dX3_asked_21 rfl rfl ?_
      refine v_iadd C dX3_asked_22 ?_
      obtain ⟨h7, hF⟩ := k_ite hF
      refine m_ald C hj1.1 hj1.2.1 hj1.2.2 (n := (lenM j1)) rfl h7 (ix := ((((10 : Int32) * x2) + x3).toNatClampNeg)) rfl dX3_asked_23 ?_
      refine v_goto C (tgt := 28) dX3_asked_24 (by decide) ?_
      exact m_iret C dX3_asked_28 hF
set_option maxHeartbeats 4000000 in
theorem wX3_front (l : Launch) (g : GT) {o : Nat} (ho : gB g ≤ o) (u : Wd) (N : Nat) (x1 : Int32) (x2 : Int32)  (s : M) (r : Int32) (s1 : M) (hF : FX3_front N x1 x2 s = some (r, s1)) : kMt l g yX3_front (ws_ yX3_front cX3_front 3 (some .int)) (4) (400) (wM g o s u) [.ref o, .int x1, .int x2] (some (.int r)) (wM g o s1 u) := by
  refine kMt.ofV (lv := [some (.ref o), some (.int x1), some (.int x2)]) (by decide) rfl (Nat.le_of_ble_eq_true rfl) rfl ?_
  intro X hl hin C
  unfold FX3_front at hF
  refine v_aload_n C dX3_front_0 rfl rfl ?_
  refine v_aload_n C dX3_front_1 rfl rfl ?_
  refine m_get C 7 (Nat.le_of_ble_eq_true rfl) q2309 (v := .ref (o + 7)) rfl dX3_front_2 ?_
  refine v_iload_n C dX3_front_5 rfl rfl ?_
  refine v_iload_n C dX3_front_6 rfl rfl ?_
  refine m_callVi C lk_X3_196 rfl (fr2 := 3) (lo2 := 300) (As := [.ref (o + 7), .int x1, .int x2]) (st := []) (fun r s1 h => by rw [hl]; exact wX3_asked l g ho u N 7 x1 x2 ⟨Nat.le_of_ble_eq_true rfl, Nat.le_of_ble_eq_true rfl, by decide⟩ s r s1 h) (by decide) rfl rfl (Nat.le_of_ble_eq_true rfl) dX3_front_7 hF (fun r1 s2 hF => ?_)
  exact m_iret C dX3_front_10 hF
set_option maxHeartbeats 4000000 in
theorem wX3_back (l : Launch) (g : GT) {o : Nat} (ho : gB g ≤ o) (u : Wd) (N : Nat) (x1 : Int32) (x2 : Int32)  (s : M) (r : Int32) (s1 : M) (hF : FX3_back N x1 x2 s = some (r, s1)) : kMt l g yX3_back (ws_ yX3_back cX3_back 3 (some .int)) (4) (400) (wM g o s u) [.ref o, .int x1, .int x2] (some (.int r)) (wM g o s1 u) := by
  refine kMt.ofV (lv := [some (.ref o), some (.int x1), some (.int x2)]) (by decide) rfl (Nat.le_of_ble_eq_true rfl) rfl ?_
  intro X hl hin C
  unfold FX3_back at hF
  refine v_aload_n C dX3_back_0 rfl rfl ?_
  refine v_aload_n C dX3_back_1 rfl rfl ?_
  refine m_get C 8 (Nat.le_of_ble_eq_true rfl) q2310 (v := .ref (o + 8)) rfl dX3_back_2 ?_
  refine v_iload_n C dX3_back_5 rfl rfl ?_
  refine v_iload_n C dX3_back_6 rfl rfl ?_
  refine m_callVi C lk_X3_196 rfl (fr2 := 3) (lo2 := 300) (As := [.ref (o + 8), .int x1, .int x2]) (st := []) (fun r s1 h => by rw [hl]; exact wX3_asked l g ho u N 8 x1 x2 ⟨Nat.le_of_ble_eq_true rfl, Nat.le_of_ble_eq_true rfl, by decide⟩ s r s1 h) (by decide) rfl rfl (Nat.le_of_ble_eq_true rfl) dX3_back_7 hF (fun r1 s2 hF => ?_)
  exact m_iret C dX3_back_10 hF
set_option maxHeartbeats 4000000 in
theorem wX3_lean (l : Launch) (g : GT) {o : Nat} (ho : gB g ≤ o) (u : Wd) (N : Nat) (x1 : Int32) (x2 : Int32)  (s : M) (r : Int32) (s1 : M) (hF : FX3_lean N x1 x2 s = some (r, s1)) : kMt l g yX3_lean (ws_ yX3_lean cX3_lean 3 (some .int)) (4) (400) (wM g o s u) [.ref o, .int x1, .int x2] (some (.int r)) (wM g o s1 u) := by
  refine kMt.ofV (lv := [some (.ref o), some (.int x1), some (.int x2)]) (by decide) rfl (Nat.le_of_ble_eq_true rfl) rfl ?_
  intro X hl hin C
  unfold FX3_lean at hF
  refine v_aload_n C dX3_lean_0 rfl rfl ?_
  refine v_aload_n C dX3_lean_1 rfl rfl ?_
  refine m_get C 9 (Nat.le_of_ble_eq_true rfl) q2311 (v := .ref (o + 9)) rfl dX3_lean_2 ?_
  refine v_iload_n C dX3_lean_5 rfl rfl ?_
  refine v_iload_n C dX3_lean_6 rfl rfl ?_
  refine m_callVi C lk_X3_196 rfl (fr2 := 3) (lo2 := 300) (As := [.ref (o + 9), .int x1, .int x2]) (st := []) (fun r s1 h => by rw [hl]; exact wX3_asked l g ho u N 9 x1 x2 ⟨Nat.le_of_ble_eq_true rfl, Nat.le_of_ble_eq_true rfl, by decide⟩ s r s1 h) (by decide) rfl rfl (Nat.le_of_ble_eq_true rfl) dX3_lean_7 hF (fun r1 s2 hF => ?_)
  exact m_iret C dX3_lean_10 hF
set_option maxHeartbeats 4000000 in
theorem wX3_turning (l : Launch) (g : GT) {o : Nat} (ho : gB g ≤ o) (u : Wd) (N : Nat) (x1 : Int32) (x2 : Int32)  (s : M) (r : Int32) (s1 : M) (hF : FX3_turning N x1 x2 s = some (r, s1)) : kMt l g yX3_turning (ws_ yX3_turning cX3_turning 3 (some .int)) (4) (400) (wM g o s u) [.ref o, .int x1, .int x2] (some (.int r)) (wM g o s1 u) := by
  refine kMt.ofV (lv := [some (.ref o), some (.int x1), some (.int x2)]) (by decide) rfl (Nat.le_of_ble_eq_true rfl) rfl ?_
  intro X hl hin C
  unfold FX3_turning at hF
  refine v_aload_n C dX3_turning_0 rfl rfl ?_
  refine v_aload_n C dX3_turning_1 rfl rfl ?_
  refine m_get C 10 (Nat.le_of_ble_eq_true rfl) q2312 (v := .ref (o + 10)) rfl dX3_turning_2 ?_
  refine v_iload_n C dX3_turning_5 rfl rfl ?_
  refine v_iload_n C dX3_turning_6 rfl rfl ?_
  refine m_callVi C lk_X3_196 rfl (fr2 := 3) (lo2 := 300) (As := [.ref (o + 10), .int x1, .int x2]) (st := []) (fun r s1 h => by rw [hl]; exact wX3_asked l g ho u N 10 x1 x2 ⟨Nat.le_of_ble_eq_true rfl, Nat.le_of_ble_eq_true rfl, by decide⟩ s r s1 h) (by decide) rfl rfl (Nat.le_of_ble_eq_true rfl) dX3_turning_7 hF (fun r1 s2 hF => ?_)
  exact m_iret C dX3_turning_10 hF
set_option maxHeartbeats 4000000 in
theorem wX3_begins_b2 {l : Launch} {g : GT} {X : CxT} {o : Nat} {u : Wd} {r : Unit} {s1 : M} (C : kOk g X cX3_begins 2 RX3 none 1 100 none (wM g o s1 u)) (ho : gB g ≤ o) (hl : xl X = l) (N : Nat) (k2 : Int32 × M → Option (Unit × M)) (hk2 : ∀ a, k2 a = some (r, s1) → kV g X 2 (wM g o a.2 u) 2 [some (.ref o), some (.int a.1)] []) (x1 : Int32) (s : M) (hF : FX3_begins_b2 N k2 x1 s = some (r, s1)) : kV g X 2 (wM g o s u) 2 [some (.ref o), some (.int x1)] [] := by
  unfold FX3_begins_b2 at hF
  refine v_iload_n C dX3_begins_2 rfl rfl ?_
  refine v_aload_n C dX3_begins_3 rfl rfl ?_
  refine m_get C 1 (Nat.le_of_ble_eq_true rfl) q2303 (v := .ref (o + 1)) rfl dX3_begins_4 ?_
  refine v_iconst C (v := (0 : Int32)) dX3_begins_7 (by decide) ?_
  refine m_ald C (Nat.le_of_ble_eq_true rfl) (Nat.le_of_ble_eq_true rfl) (by decide) (n := 2) rfl rfl (ix := 0) (by decide) dX3_begins_8 ?_
  refine v_icmp_ge C (tgt := 42) dX3_begins_9 (by decide) hF (fun c1 hF => ?_) (fun c1 hF => ?_)
  · exact m_vret C dX3_begins_42 hF
  · refine v_aload_n C dX3_begins_12 rfl rfl ?_
    refine m_get C 30 (Nat.le_of_ble_eq_true rfl) q2332 (v := .ref (o + 23)) rfl dX3_begins_13 ?_
    refine v_iload_n C dX3_begins_16 rfl rfl ?_
    refine v_aload_n C dX3_begins_17 rfl rfl ?_
    refine m_get C 5 (Nat.le_of_ble_eq_true rfl) q2307 (v := .ref (o + 5)) rfl dX3_begins_18 ?_
    refine v_iload_n C dX3_begins_21 rfl rfl ?_
    obtain ⟨h2, hF⟩ := k_ite hF
    refine m_ald C (Nat.le_of_ble_eq_true rfl) (Nat.le_of_ble_eq_true rfl) (by decide) (n := 20) rfl h2 (ix := (x1.toNatClampNeg)) rfl dX3_begins_22 ?_
    obtain ⟨h3, hF⟩ := k_ite hF
    refine m_ast C ho (Nat.le_of_ble_eq_true rfl) (Nat.le_of_ble_eq_true rfl) (by decide) (n := 10) rfl h3 (ix := (x1.toNatClampNeg)) rfl dX3_begins_23 ?_
    refine v_aload_n C dX3_begins_24 rfl rfl ?_
    refine m_get C 31 (Nat.le_of_ble_eq_true rfl) q2333 (v := .ref (o + 24)) rfl dX3_begins_25 ?_
    refine v_iload_n C dX3_begins_28 rfl rfl ?_
    refine v_aload_n C dX3_begins_29 rfl rfl ?_
    refine m_get C 6 (Nat.le_of_ble_eq_true rfl) q2308 (v := .ref (o + 6)) rfl dX3_begins_30 ?_
    refine v_iload_n C dX3_begins_33 rfl rfl ?_
    obtain ⟨h4, hF⟩ := k_ite hF
    refine m_ald C (Nat.le_of_ble_eq_true rfl) (Nat.le_of_ble_eq_true rfl) (by decide) (n := 20) rfl h4 (ix := (x1.toNatClampNeg)) rfl dX3_begins_34 ?_
    obtain ⟨h5, hF⟩ := k_ite hF
    refine m_ast C ho (Nat.le_of_ble_eq_true rfl) (Nat.le_of_ble_eq_true rfl) (by decide) (n := 10) rfl h5 (ix := (x1.toNatClampNeg)) rfl dX3_begins_35 ?_
    refine v_iinc C dX3_begins_36 rfl (v := (x1 + (1 : Int32))) rfl (Nat.le_of_ble_eq_true rfl) rfl (lv' := [some (.ref o), some (.int (x1 + (1 : Int32)))]) rfl ?_
    refine v_goto C (tgt := 2) dX3_begins_39 (by decide) ?_
    refine v_mask [true, true] (lv' := [some (.ref o), some (.int (x1 + (1 : Int32)))]) rfl ?_
    exact hk2 ((x1 + (1 : Int32)), (sA (sA s 23 (x1.toNatClampNeg) (s.2 5 (x1.toNatClampNeg))) 24 (x1.toNatClampNeg) ((sA s 23 (x1.toNatClampNeg) (s.2 5 (x1.toNatClampNeg))).2 6 (x1.toNatClampNeg)))) hF
set_option maxHeartbeats 4000000 in
theorem wX3_begins (l : Launch) (g : GT) {o : Nat} (ho : gB g ≤ o) (u : Wd) (N : Nat)   (s : M) (r : Unit) (s1 : M) (hF : FX3_begins N  s = some (r, s1)) : kMt l g yX3_begins (ws_ yX3_begins cX3_begins 2 none) (1) (100) (wM g o s u) [.ref o] none (wM g o s1 u) := by
  refine kMt.ofV (lv := [some (.ref o), none]) (by decide) rfl (Nat.le_of_ble_eq_true rfl) rfl ?_
  intro X hl hin C
  unfold FX3_begins at hF
  refine v_iconst C (v := (0 : Int32)) dX3_begins_0 (by decide) ?_
  refine v_istore_n C dX3_begins_1 rfl (Nat.le_of_ble_eq_true rfl) rfl (lv' := [some (.ref o), some (.int (0 : Int32))]) rfl ?_
  refine v_mask [true, true] (lv' := [some (.ref o), some (.int (0 : Int32))]) rfl ?_
  exact kloop_ok (P := fun a => kV g X 2 (wM g o a.2 u) 2 [some (.ref o), some (.int a.1)] []) (fun self hs a hF => wX3_begins_b2 C ho hl N  self hs a.1 a.2 hF) N ((0 : Int32), s) hF
set_option maxHeartbeats 4000000 in
theorem wX3_mind_b62 {l : Launch} {g : GT} {X : CxT} {o : Nat} {u : Wd} {r : Int32} {s1 : M} (C : kOk g X cX3_mind 3 RX3 (some .boolean) 13 1300 (some (.int r)) (wM g o s1 u)) (ho : gB g ≤ o) (hl : xl X = l) (N : Nat) (k62 : Int32 × M → Option (Int32 × M)) (hk62 : ∀ a, k62 a = some (r, s1) → kV g X 3 (wM g o a.2 u) 62 [some (.ref o), none, some (.int a.1)] []) (x2 : Int32) (s : M) (hF : FX3_mind_b62 N k62 x2 s = some (r, s1)) : kV g X 3 (wM g o s u) 62 [some (.ref o), none, some (.int x2)] [] := by
  unfold FX3_mind_b62 at hF
  refine v_iload_n C dX3_mind_62 rfl rfl ?_
  refine v_aload_n C dX3_mind_63 rfl rfl ?_
  refine m_get C 1 (Nat.le_of_ble_eq_true rfl) q2303 (v := .ref (o + 1)) rfl dX3_mind_64 ?_
  refine v_iconst C (v := (0 : Int32)) dX3_mind_67 (by decide) ?_
  refine m_ald C (Nat.le_of_ble_eq_true rfl) (Nat.le_of_ble_eq_true rfl) (by decide) (n := 2) rfl rfl (ix := 0) (by decide) dX3_mind_68 ?_
  refine v_icmp_ge C (tgt := 120) dX3_mind_69 (by decide) hF (fun c4 hF => ?_) (fun c4 hF => ?_)
  · refine v_iconst C (v := (1 : Int32)) dX3_mind_120 (by decide) ?_
    exact m_zret C rfl dX3_mind_121 hF
  · refine v_aload_n C dX3_mind_72 rfl rfl ?_
    refine m_get C 30 (Nat.le_of_ble_eq_true rfl) q2332 (v := .ref (o + 23)) rfl dX3_mind_73 ?_
    refine v_iload_n C dX3_mind_76 rfl rfl ?_
    refine v_aload_n C dX3_mind_77 rfl rfl ?_
    refine m_get C 30 (Nat.le_of_ble_eq_true rfl) q2332 (v := .ref (o + 23)) rfl dX3_mind_78 ?_
    refine v_iload_n C dX3_mind_81 rfl rfl ?_
    obtain ⟨h5, hF⟩ := k_ite hF
    refine m_ald C (Nat.le_of_ble_eq_true rfl) (Nat.le_of_ble_eq_true rfl) (by decide) (n := 10) rfl h5 (ix := (x2.toNatClampNeg)) rfl dX3_mind_82 ?_
    refine v_aload_n C dX3_mind_83 rfl rfl ?_
    refine m_get C 29 (Nat.le_of_ble_eq_true rfl) q2331 (v := .ref (o + 22)) rfl dX3_mind_84 ?_
    refine v_iload_n C dX3_mind_87 rfl rfl ?_
    obtain ⟨h6, hF⟩ := k_ite hF
    refine m_ald C (Nat.le_of_ble_eq_true rfl) (Nat.le_of_ble_eq_true rfl) (by decide) (n := 10) rfl h6 (ix := (x2.toNatClampNeg)) rfl dX3_mind_88 ?_
    refine m_callSi C lk_X3_174 (fr2 := 1) (lo2 := 100) (As := [.int (s.2 22 (x2.toNatClampNeg))]) (st := [.int (s.2 23 (x2.toNatClampNeg)), .int x2, .ref (o + 23)]) (fun r s1 h => by rw [hl]; exact wX3_moved l g ho u N (s.2 22 (x2.toNatClampNeg)) s r s1 h) (by decide) rfl rfl (Nat.le_of_ble_eq_true rfl) dX3_mind_89 hF (fun r7 s8 hF => ?_)
    refine v_iadd C dX3_mind_92 ?_
    refine v_iconst C (v := (4 : Int32)) dX3_mind_93 (by decide) ?_
    refine v_irem C dX3_mind_94 (by decide) ?_
    obtain ⟨h9, hF⟩ := k_ite hF
    refine m_ast C ho (Nat.le_of_ble_eq_true rfl) (Nat.le_of_ble_eq_true rfl) (by decide) (n := 10) rfl h9 (ix := (x2.toNatClampNeg)) rfl dX3_mind_95 ?_
    refine v_aload_n C dX3_mind_96 rfl rfl ?_
    refine m_get C 31 (Nat.le_of_ble_eq_true rfl) q2333 (v := .ref (o + 24)) rfl dX3_mind_97 ?_
    refine v_iload_n C dX3_mind_100 rfl rfl ?_
    refine v_dup2_11 C dX3_mind_101 rfl rfl ?_
    obtain ⟨h10, hF⟩ := k_ite hF
    refine m_ald C (Nat.le_of_ble_eq_true rfl) (Nat.le_of_ble_eq_true rfl) (by decide) (n := 10) rfl h10 (ix := (x2.toNatClampNeg)) rfl dX3_mind_102 ?_
    refine v_aload_n C dX3_mind_103 rfl rfl ?_
    refine m_get C 29 (Nat.le_of_ble_eq_true rfl) q2331 (v := .ref (o + 22)) rfl dX3_mind_104 ?_
    refine v_iload_n C dX3_mind_107 rfl rfl ?_
    obtain ⟨h11, hF⟩ := k_ite hF
    refine m_ald C (Nat.le_of_ble_eq_true rfl) (Nat.le_of_ble_eq_true rfl) (by decide) (n := 10) rfl h11 (ix := (x2.toNatClampNeg)) rfl dX3_mind_108 ?_
    refine m_callSi C lk_X3_171 (fr2 := 1) (lo2 := 100) (As := [.int ((sA s8 23 (x2.toNatClampNeg) (((s.2 23 (x2.toNatClampNeg)) + r7) - ((s.2 23 (x2.toNatClampNeg)) + r7) / (4 : Int32) * (4 : Int32))).2 22 (x2.toNatClampNeg))]) (st := [.int ((sA s8 23 (x2.toNatClampNeg) (((s.2 23 (x2.toNatClampNeg)) + r7) - ((s.2 23 (x2.toNatClampNeg)) + r7) / (4 : Int32) * (4 : Int32))).2 24 (x2.toNatClampNeg)), .int x2, .ref (o + 24)]) (fun r s1 h => by rw [hl]; exact wX3_grown l g ho u N ((sA s8 23 (x2.toNatClampNeg) (((s.2 23 (x2.toNatClampNeg)) + r7) - ((s.2 23 (x2.toNatClampNeg)) + r7) / (4 : Int32) * (4 : Int32))).2 22 (x2.toNatClampNeg)) (sA s8 23 (x2.toNatClampNeg) (((s.2 23 (x2.toNatClampNeg)) + r7) - ((s.2 23 (x2.toNatClampNeg)) + r7) / (4 : Int32) * (4 : Int32))) r s1 h) (by decide) rfl rfl (Nat.le_of_ble_eq_true rfl) dX3_mind_109 hF (fun r12 s13 hF => ?_)
    refine v_iadd C dX3_mind_112 ?_
    obtain ⟨h14, hF⟩ := k_ite hF
    refine m_ast C ho (Nat.le_of_ble_eq_true rfl) (Nat.le_of_ble_eq_true rfl) (by decide) (n := 10) rfl h14 (ix := (x2.toNatClampNeg)) rfl dX3_mind_113 ?_
    refine v_iinc C dX3_mind_114 rfl (v := (x2 + (1 : Int32))) rfl (Nat.le_of_ble_eq_true rfl) rfl (lv' := [some (.ref o), none, some (.int (x2 + (1 : Int32)))]) rfl ?_
    refine v_goto C (tgt := 62) dX3_mind_117 (by decide) ?_
    refine v_mask [true, false, true] (lv' := [some (.ref o), none, some (.int (x2 + (1 : Int32)))]) rfl ?_
    exact hk62 ((x2 + (1 : Int32)), (sA s13 24 (x2.toNatClampNeg) (((sA s8 23 (x2.toNatClampNeg) (((s.2 23 (x2.toNatClampNeg)) + r7) - ((s.2 23 (x2.toNatClampNeg)) + r7) / (4 : Int32) * (4 : Int32))).2 24 (x2.toNatClampNeg)) + r12))) hF
set_option maxHeartbeats 4000000 in
theorem wX3_mind_b16 {l : Launch} {g : GT} {X : CxT} {o : Nat} {u : Wd} {r : Int32} {s1 : M} (C : kOk g X cX3_mind 3 RX3 (some .boolean) 13 1300 (some (.int r)) (wM g o s1 u)) (ho : gB g ≤ o) (hl : xl X = l) (N : Nat) (k16 : Int32 × M → Option (Int32 × M)) (hk16 : ∀ a, k16 a = some (r, s1) → kV g X 3 (wM g o a.2 u) 16 [some (.ref o), none, some (.int a.1)] []) (x2 : Int32) (s : M) (hF : FX3_mind_b16 N k16 x2 s = some (r, s1)) : kV g X 3 (wM g o s u) 16 [some (.ref o), none, some (.int x2)] [] := by
  unfold FX3_mind_b16 at hF
  refine v_iload_n C dX3_mind_16 rfl rfl ?_
  refine v_aload_n C dX3_mind_17 rfl rfl ?_
  refine m_get C 1 (Nat.le_of_ble_eq_true rfl) q2303 (v := .ref (o + 1)) rfl dX3_mind_18 ?_
  refine v_iconst C (v := (0 : Int32)) dX3_mind_21 (by decide) ?_
  refine m_ald C (Nat.le_of_ble_eq_true rfl) (Nat.le_of_ble_eq_true rfl) (by decide) (n := 2) rfl rfl (ix := 0) (by decide) dX3_mind_22 ?_
  refine v_icmp_ge C (tgt := 60) dX3_mind_23 (by decide) hF (fun c3 hF => ?_) (fun c3 hF => ?_)
  · refine v_iconst C (v := (0 : Int32)) dX3_mind_60 (by decide) ?_
    refine v_istore_n C dX3_mind_61 rfl (Nat.le_of_ble_eq_true rfl) rfl (lv' := [some (.ref o), none, some (.int (0 : Int32))]) rfl ?_
    refine v_mask [true, false, true] (lv' := [some (.ref o), none, some (.int (0 : Int32))]) rfl ?_
    exact kloop_ok (P := fun a => kV g X 3 (wM g o a.2 u) 62 [some (.ref o), none, some (.int a.1)] []) (fun self hs a hF => wX3_mind_b62 C ho hl N  self hs a.1 a.2 hF) N ((0 : Int32), s) hF
  · refine v_aload_n C dX3_mind_26 rfl rfl ?_
    refine m_get C 31 (Nat.le_of_ble_eq_true rfl) q2333 (v := .ref (o + 24)) rfl dX3_mind_27 ?_
    refine v_iload_n C dX3_mind_30 rfl rfl ?_
    obtain ⟨h15, hF⟩ := k_ite hF
    refine m_ald C (Nat.le_of_ble_eq_true rfl) (Nat.le_of_ble_eq_true rfl) (by decide) (n := 10) rfl h15 (ix := (x2.toNatClampNeg)) rfl dX3_mind_31 ?_
    refine v_aload_n C dX3_mind_32 rfl rfl ?_
    refine m_get C 29 (Nat.le_of_ble_eq_true rfl) q2331 (v := .ref (o + 22)) rfl dX3_mind_33 ?_
    refine v_iload_n C dX3_mind_36 rfl rfl ?_
    obtain ⟨h16, hF⟩ := k_ite hF
    refine m_ald C (Nat.le_of_ble_eq_true rfl) (Nat.le_of_ble_eq_true rfl) (by decide) (n := 10) rfl h16 (ix := (x2.toNatClampNeg)) rfl dX3_mind_37 ?_
    refine m_callSi C lk_X3_171 (fr2 := 1) (lo2 := 100) (As := [.int (s.2 22 (x2.toNatClampNeg))]) (st := [.int (s.2 24 (x2.toNatClampNeg))]) (fun r s1 h => by rw [hl]; exact wX3_grown l g ho u N (s.2 22 (x2.toNatClampNeg)) s r s1 h) (by decide) rfl rfl (Nat.le_of_ble_eq_true rfl) dX3_mind_38 hF (fun r17 s18 hF => ?_)
    refine v_iadd C dX3_mind_41 ?_
    refine v_bipush C (v := (-99 : Int32)) dX3_mind_42 (by decide) ?_
    refine v_bipush C (v := (99 : Int32)) dX3_mind_44 (by decide) ?_
    refine m_callSi C lk_X3_108 (fr2 := 1) (lo2 := 100) (As := [.int ((s.2 24 (x2.toNatClampNeg)) + r17), .int (-99 : Int32), .int (99 : Int32)]) (st := []) (fun r s1 h => by rw [hl]; exact wX3_in l g ho u N ((s.2 24 (x2.toNatClampNeg)) + r17) (-99 : Int32) (99 : Int32) s18 r s1 h) (by decide) rfl rfl (Nat.le_of_ble_eq_true rfl) dX3_mind_46 hF (fun r19 s20 hF => ?_)
    refine v_if_ne C (tgt := 54) dX3_mind_49 (by decide) hF (fun c21 hF => ?_) (fun c21 hF => ?_)
    · refine v_iconst C (v := (0 : Int32)) dX3_mind_52 (by decide) ?_
      exact m_zret C rfl dX3_mind_53 hF
    · refine v_iinc C dX3_mind_54 rfl (v := (x2 + (1 : Int32))) rfl (Nat.le_of_ble_eq_true rfl) rfl (lv' := [some (.ref o), none, some (.int (x2 + (1 : Int32)))]) rfl ?_
      refine v_goto C (tgt := 16) dX3_mind_57 (by decide) ?_
      refine v_mask [true, false, true] (lv' := [some (.ref o), none, some (.int (x2 + (1 : Int32)))]) rfl ?_
      exact hk16 ((x2 + (1 : Int32)), s20) hF
set_option maxHeartbeats 4000000 in
theorem wX3_mind (l : Launch) (g : GT) {o : Nat} (ho : gB g ≤ o) (u : Wd) (N : Nat) (x1 : Int32)  (s : M) (r : Int32) (s1 : M) (hF : FX3_mind N x1 s = some (r, s1)) : kMt l g yX3_mind (ws_ yX3_mind cX3_mind 3 (some .boolean)) (13) (1300) (wM g o s u) [.ref o, .int x1] (some (.int r)) (wM g o s1 u) := by
  refine kMt.ofV (lv := [some (.ref o), some (.int x1), none]) (by decide) rfl (Nat.le_of_ble_eq_true rfl) rfl ?_
  intro X hl hin C
  unfold FX3_mind at hF
  refine v_aload_n C dX3_mind_0 rfl rfl ?_
  refine v_aload_n C dX3_mind_1 rfl rfl ?_
  refine m_get C 2 (Nat.le_of_ble_eq_true rfl) q2304 (v := .ref (o + 2)) rfl dX3_mind_2 ?_
  refine v_iconst C (v := (0 : Int32)) dX3_mind_5 (by decide) ?_
  refine m_ald C (Nat.le_of_ble_eq_true rfl) (Nat.le_of_ble_eq_true rfl) (by decide) (n := 2) rfl rfl (ix := 0) (by decide) dX3_mind_6 ?_
  refine v_iload_n C dX3_mind_7 rfl rfl ?_
  refine v_iadd C dX3_mind_8 ?_
  refine v_iconst C (v := (1 : Int32)) dX3_mind_9 (by decide) ?_
  refine v_isub C dX3_mind_10 ?_
  refine m_callVv C lk_X3_190 rfl (fr2 := 12) (lo2 := 1200) (As := [.int (((s.2 2 0) + x1) - (1 : Int32))]) (st := []) (fun r s1 h => by rw [hl]; exact wX3_layLaw l g ho u N (((s.2 2 0) + x1) - (1 : Int32)) s r s1 h) (by decide) rfl rfl (Nat.le_of_ble_eq_true rfl) dX3_mind_11 hF (fun r1 s2 hF => ?_)
  refine v_iconst C (v := (0 : Int32)) dX3_mind_14 (by decide) ?_
  refine v_istore_n C dX3_mind_15 rfl (Nat.le_of_ble_eq_true rfl) rfl (lv' := [some (.ref o), some (.int x1), some (.int (0 : Int32))]) rfl ?_
  refine v_mask [true, false, true] (lv' := [some (.ref o), none, some (.int (0 : Int32))]) rfl ?_
  exact kloop_ok (P := fun a => kV g X 3 (wM g o a.2 u) 16 [some (.ref o), none, some (.int a.1)] []) (fun self hs a hF => wX3_mind_b16 C ho hl N  self hs a.1 a.2 hF) N ((0 : Int32), s2) hF
set_option maxHeartbeats 4000000 in
theorem wX3_areAsNow_b2 {l : Launch} {g : GT} {X : CxT} {o : Nat} {u : Wd} {r : Int32} {s1 : M} (C : kOk g X cX3_areAsNow 2 RX3 (some .boolean) 1 100 (some (.int r)) (wM g o s1 u)) (ho : gB g ≤ o) (hl : xl X = l) (N : Nat) (k2 : Int32 × M → Option (Int32 × M)) (hk2 : ∀ a, k2 a = some (r, s1) → kV g X 2 (wM g o a.2 u) 2 [some (.ref o), some (.int a.1)] []) (x1 : Int32) (s : M) (hF : FX3_areAsNow_b2 N k2 x1 s = some (r, s1)) : kV g X 2 (wM g o s u) 2 [some (.ref o), some (.int x1)] [] := by
  unfold FX3_areAsNow_b2 at hF
  refine v_iload_n C dX3_areAsNow_2 rfl rfl ?_
  refine v_aload_n C dX3_areAsNow_3 rfl rfl ?_
  refine m_get C 1 (Nat.le_of_ble_eq_true rfl) q2303 (v := .ref (o + 1)) rfl dX3_areAsNow_4 ?_
  refine v_iconst C (v := (0 : Int32)) dX3_areAsNow_7 (by decide) ?_
  refine m_ald C (Nat.le_of_ble_eq_true rfl) (Nat.le_of_ble_eq_true rfl) (by decide) (n := 2) rfl rfl (ix := 0) (by decide) dX3_areAsNow_8 ?_
  refine v_icmp_ge C (tgt := 35) dX3_areAsNow_9 (by decide) hF (fun c1 hF => ?_) (fun c1 hF => ?_)
  · refine v_iconst C (v := (1 : Int32)) dX3_areAsNow_35 (by decide) ?_
    exact m_zret C rfl dX3_areAsNow_36 hF
  · refine v_aload_n C dX3_areAsNow_12 rfl rfl ?_
    refine m_get C 30 (Nat.le_of_ble_eq_true rfl) q2332 (v := .ref (o + 23)) rfl dX3_areAsNow_13 ?_
    refine v_iload_n C dX3_areAsNow_16 rfl rfl ?_
    obtain ⟨h2, hF⟩ := k_ite hF
    refine m_ald C (Nat.le_of_ble_eq_true rfl) (Nat.le_of_ble_eq_true rfl) (by decide) (n := 10) rfl h2 (ix := (x1.toNatClampNeg)) rfl dX3_areAsNow_17 ?_
    refine v_aload_n C dX3_areAsNow_18 rfl rfl ?_
    refine m_get C 5 (Nat.le_of_ble_eq_true rfl) q2307 (v := .ref (o + 5)) rfl dX3_areAsNow_19 ?_
    refine v_iload_n C dX3_areAsNow_22 rfl rfl ?_
    obtain ⟨h3, hF⟩ := k_ite hF
    refine m_ald C (Nat.le_of_ble_eq_true rfl) (Nat.le_of_ble_eq_true rfl) (by decide) (n := 20) rfl h3 (ix := (x1.toNatClampNeg)) rfl dX3_areAsNow_23 ?_
    refine v_icmp_eq C (tgt := 29) dX3_areAsNow_24 (by decide) hF (fun c4 hF => ?_) (fun c4 hF => ?_)
    · refine v_iinc C dX3_areAsNow_29 rfl (v := (x1 + (1 : Int32))) rfl (Nat.le_of_ble_eq_true rfl) rfl (lv' := [some (.ref o), some (.int (x1 + (1 : Int32)))]) rfl ?_
      refine v_goto C (tgt := 2) dX3_areAsNow_32 (by decide) ?_
      refine v_mask [true, true] (lv' := [some (.ref o), some (.int (x1 + (1 : Int32)))]) rfl ?_
      exact hk2 ((x1 + (1 : Int32)), s) hF
    · refine v_iconst C (v := (0 : Int32)) dX3_areAsNow_27 (by decide) ?_
      exact m_zret C rfl dX3_areAsNow_28 hF
set_option maxHeartbeats 4000000 in
theorem wX3_areAsNow (l : Launch) (g : GT) {o : Nat} (ho : gB g ≤ o) (u : Wd) (N : Nat)   (s : M) (r : Int32) (s1 : M) (hF : FX3_areAsNow N  s = some (r, s1)) : kMt l g yX3_areAsNow (ws_ yX3_areAsNow cX3_areAsNow 2 (some .boolean)) (1) (100) (wM g o s u) [.ref o] (some (.int r)) (wM g o s1 u) := by
  refine kMt.ofV (lv := [some (.ref o), none]) (by decide) rfl (Nat.le_of_ble_eq_true rfl) rfl ?_
  intro X hl hin C
  unfold FX3_areAsNow at hF
  refine v_iconst C (v := (0 : Int32)) dX3_areAsNow_0 (by decide) ?_
  refine v_istore_n C dX3_areAsNow_1 rfl (Nat.le_of_ble_eq_true rfl) rfl (lv' := [some (.ref o), some (.int (0 : Int32))]) rfl ?_
  refine v_mask [true, true] (lv' := [some (.ref o), some (.int (0 : Int32))]) rfl ?_
  exact kloop_ok (P := fun a => kV g X 2 (wM g o a.2 u) 2 [some (.ref o), some (.int a.1)] []) (fun self hs a hF => wX3_areAsNow_b2 C ho hl N  self hs a.1 a.2 hF) N ((0 : Int32), s) hF
set_option maxHeartbeats 4000000 in
theorem wX3_returns_b18 {l : Launch} {g : GT} {X : CxT} {o : Nat} {u : Wd} {r : Int32} {s1 : M} (C : kOk g X cX3_returns 2 RX3 (some .int) 14 1400 (some (.int r)) (wM g o s1 u)) (ho : gB g ≤ o) (hl : xl X = l) (N : Nat) (k18 : Int32 × M → Option (Int32 × M)) (hk18 : ∀ a, k18 a = some (r, s1) → kV g X 2 (wM g o a.2 u) 18 [some (.ref o), some (.int a.1)] []) (x1 : Int32) (s : M) (hF : FX3_returns_b18 N k18 x1 s = some (r, s1)) : kV g X 2 (wM g o s u) 18 [some (.ref o), some (.int x1)] [] := by
  unfold FX3_returns_b18 at hF
  refine v_iload_n C dX3_returns_18 rfl rfl ?_
  refine v_sipush C (v := (200 : Int32)) dX3_returns_19 (by decide) ?_
  refine v_icmp_gt C (tgt := 51) dX3_returns_22 (by decide) hF (fun c4 hF => ?_) (fun c4 hF => ?_)
  · refine v_bipush C (v := (-5 : Int32)) dX3_returns_51 (by decide) ?_
    exact m_iret C dX3_returns_53 hF
  · refine v_aload_n C dX3_returns_25 rfl rfl ?_
    refine v_iload_n C dX3_returns_26 rfl rfl ?_
    refine m_callVi C lk_X3_203 rfl (fr2 := 13) (lo2 := 1300) (As := [.int x1]) (st := []) (fun r s1 h => by rw [hl]; exact wX3_mind l g ho u N x1 s r s1 h) (by decide) rfl rfl (Nat.le_of_ble_eq_true rfl) dX3_returns_27 hF (fun r5 s6 hF => ?_)
    refine v_if_ne C (tgt := 36) dX3_returns_30 (by decide) hF (fun c7 hF => ?_) (fun c7 hF => ?_)
    · refine v_bipush C (v := (-5 : Int32)) dX3_returns_33 (by decide) ?_
      exact m_iret C dX3_returns_35 hF
    · refine v_aload_n C dX3_returns_36 rfl rfl ?_
      refine m_callVi C lk_X3_206 rfl (fr2 := 1) (lo2 := 100) (As := []) (st := []) (fun r s1 h => by rw [hl]; exact wX3_areAsNow l g ho u N  s6 r s1 h) (by decide) rfl rfl (Nat.le_of_ble_eq_true rfl) dX3_returns_37 hF (fun r8 s9 hF => ?_)
      refine v_if_eq C (tgt := 45) dX3_returns_40 (by decide) hF (fun c10 hF => ?_) (fun c10 hF => ?_)
      · refine v_iinc C dX3_returns_45 rfl (v := (x1 + (1 : Int32))) rfl (Nat.le_of_ble_eq_true rfl) rfl (lv' := [some (.ref o), some (.int (x1 + (1 : Int32)))]) rfl ?_
        refine v_goto C (tgt := 18) dX3_returns_48 (by decide) ?_
        refine v_mask [true, true] (lv' := [some (.ref o), some (.int (x1 + (1 : Int32)))]) rfl ?_
        exact hk18 ((x1 + (1 : Int32)), s9) hF
      · refine v_iload_n C dX3_returns_43 rfl rfl ?_
        exact m_iret C dX3_returns_44 hF
set_option maxHeartbeats 4000000 in
theorem wX3_returns (l : Launch) (g : GT) {o : Nat} (ho : gB g ≤ o) (u : Wd) (N : Nat)   (s : M) (r : Int32) (s1 : M) (hF : FX3_returns N  s = some (r, s1)) : kMt l g yX3_returns (ws_ yX3_returns cX3_returns 2 (some .int)) (14) (1400) (wM g o s u) [.ref o] (some (.int r)) (wM g o s1 u) := by
  refine kMt.ofV (lv := [some (.ref o), none]) (by decide) rfl (Nat.le_of_ble_eq_true rfl) rfl ?_
  intro X hl hin C
  unfold FX3_returns at hF
  refine v_aload_n C dX3_returns_0 rfl rfl ?_
  refine m_get C 1 (Nat.le_of_ble_eq_true rfl) q2303 (v := .ref (o + 1)) rfl dX3_returns_1 ?_
  refine v_iconst C (v := (0 : Int32)) dX3_returns_4 (by decide) ?_
  refine m_ald C (Nat.le_of_ble_eq_true rfl) (Nat.le_of_ble_eq_true rfl) (by decide) (n := 2) rfl rfl (ix := 0) (by decide) dX3_returns_5 ?_
  refine v_if_ne C (tgt := 12) dX3_returns_6 (by decide) hF (fun c1 hF => ?_) (fun c1 hF => ?_)
  · refine v_bipush C (v := (-3 : Int32)) dX3_returns_9 (by decide) ?_
    exact m_iret C dX3_returns_11 hF
  · refine v_aload_n C dX3_returns_12 rfl rfl ?_
    refine m_callVv C lk_X3_200 rfl (fr2 := 1) (lo2 := 100) (As := []) (st := []) (fun r s1 h => by rw [hl]; exact wX3_begins l g ho u N  s r s1 h) (by decide) rfl rfl (Nat.le_of_ble_eq_true rfl) dX3_returns_13 hF (fun r2 s3 hF => ?_)
    refine v_iconst C (v := (1 : Int32)) dX3_returns_16 (by decide) ?_
    refine v_istore_n C dX3_returns_17 rfl (Nat.le_of_ble_eq_true rfl) rfl (lv' := [some (.ref o), some (.int (1 : Int32))]) rfl ?_
    refine v_mask [true, true] (lv' := [some (.ref o), some (.int (1 : Int32))]) rfl ?_
    exact kloop_ok (P := fun a => kV g X 2 (wM g o a.2 u) 18 [some (.ref o), some (.int a.1)] []) (fun self hs a hF => wX3_returns_b18 C ho hl N  self hs a.1 a.2 hF) N ((1 : Int32), s3) hF
set_option maxHeartbeats 4000000 in
theorem wX3_areFlat_b2 {l : Launch} {g : GT} {X : CxT} {o : Nat} {u : Wd} {r : Int32} {s1 : M} (C : kOk g X cX3_areFlat 2 RX3 (some .boolean) 1 100 (some (.int r)) (wM g o s1 u)) (ho : gB g ≤ o) (hl : xl X = l) (N : Nat) (k2 : Int32 × M → Option (Int32 × M)) (hk2 : ∀ a, k2 a = some (r, s1) → kV g X 2 (wM g o a.2 u) 2 [some (.ref o), some (.int a.1)] []) (x1 : Int32) (s : M) (hF : FX3_areFlat_b2 N k2 x1 s = some (r, s1)) : kV g X 2 (wM g o s u) 2 [some (.ref o), some (.int x1)] [] := by
  unfold FX3_areFlat_b2 at hF
  refine v_iload_n C dX3_areFlat_2 rfl rfl ?_
  refine v_aload_n C dX3_areFlat_3 rfl rfl ?_
  refine m_get C 1 (Nat.le_of_ble_eq_true rfl) q2303 (v := .ref (o + 1)) rfl dX3_areFlat_4 ?_
  refine v_iconst C (v := (0 : Int32)) dX3_areFlat_7 (by decide) ?_
  refine m_ald C (Nat.le_of_ble_eq_true rfl) (Nat.le_of_ble_eq_true rfl) (by decide) (n := 2) rfl rfl (ix := 0) (by decide) dX3_areFlat_8 ?_
  refine v_icmp_ge C (tgt := 29) dX3_areFlat_9 (by decide) hF (fun c1 hF => ?_) (fun c1 hF => ?_)
  · refine v_iconst C (v := (1 : Int32)) dX3_areFlat_29 (by decide) ?_
    exact m_zret C rfl dX3_areFlat_30 hF
  · refine v_aload_n C dX3_areFlat_12 rfl rfl ?_
    refine m_get C 31 (Nat.le_of_ble_eq_true rfl) q2333 (v := .ref (o + 24)) rfl dX3_areFlat_13 ?_
    refine v_iload_n C dX3_areFlat_16 rfl rfl ?_
    obtain ⟨h2, hF⟩ := k_ite hF
    refine m_ald C (Nat.le_of_ble_eq_true rfl) (Nat.le_of_ble_eq_true rfl) (by decide) (n := 10) rfl h2 (ix := (x1.toNatClampNeg)) rfl dX3_areFlat_17 ?_
    refine v_if_eq C (tgt := 23) dX3_areFlat_18 (by decide) hF (fun c3 hF => ?_) (fun c3 hF => ?_)
    · refine v_iinc C dX3_areFlat_23 rfl (v := (x1 + (1 : Int32))) rfl (Nat.le_of_ble_eq_true rfl) rfl (lv' := [some (.ref o), some (.int (x1 + (1 : Int32)))]) rfl ?_
      refine v_goto C (tgt := 2) dX3_areFlat_26 (by decide) ?_
      refine v_mask [true, true] (lv' := [some (.ref o), some (.int (x1 + (1 : Int32)))]) rfl ?_
      exact hk2 ((x1 + (1 : Int32)), s) hF
    · refine v_iconst C (v := (0 : Int32)) dX3_areFlat_21 (by decide) ?_
      exact m_zret C rfl dX3_areFlat_22 hF
set_option maxHeartbeats 4000000 in
theorem wX3_areFlat (l : Launch) (g : GT) {o : Nat} (ho : gB g ≤ o) (u : Wd) (N : Nat)   (s : M) (r : Int32) (s1 : M) (hF : FX3_areFlat N  s = some (r, s1)) : kMt l g yX3_areFlat (ws_ yX3_areFlat cX3_areFlat 2 (some .boolean)) (1) (100) (wM g o s u) [.ref o] (some (.int r)) (wM g o s1 u) := by
  refine kMt.ofV (lv := [some (.ref o), none]) (by decide) rfl (Nat.le_of_ble_eq_true rfl) rfl ?_
  intro X hl hin C
  unfold FX3_areFlat at hF
  refine v_iconst C (v := (0 : Int32)) dX3_areFlat_0 (by decide) ?_
  refine v_istore_n C dX3_areFlat_1 rfl (Nat.le_of_ble_eq_true rfl) rfl (lv' := [some (.ref o), some (.int (0 : Int32))]) rfl ?_
  refine v_mask [true, true] (lv' := [some (.ref o), some (.int (0 : Int32))]) rfl ?_
  exact kloop_ok (P := fun a => kV g X 2 (wM g o a.2 u) 2 [some (.ref o), some (.int a.1)] []) (fun self hs a hF => wX3_areFlat_b2 C ho hl N  self hs a.1 a.2 hF) N ((0 : Int32), s) hF
set_option maxHeartbeats 4000000 in
theorem wX3_flat_b40 {l : Launch} {g : GT} {X : CxT} {o : Nat} {u : Wd} {r : Int32} {s1 : M} (C : kOk g X cX3_flat 2 RX3 (some .int) 14 1400 (some (.int r)) (wM g o s1 u)) (ho : gB g ≤ o) (hl : xl X = l) (N : Nat) (k18 : Int32 × M → Option (Int32 × M)) (hk18 : ∀ a, k18 a = some (r, s1) → kV g X 2 (wM g o a.2 u) 18 [some (.ref o), some (.int a.1)] []) (x1 : Int32) (s : M) (hF : FX3_flat_b40 N k18 x1 s = some (r, s1)) : kV g X 2 (wM g o s u) 40 [some (.ref o), some (.int x1)] [] := by
  unfold FX3_flat_b40 at hF
  refine v_aload_n C dX3_flat_40 rfl rfl ?_
  refine m_callVi C lk_X3_209 rfl (fr2 := 1) (lo2 := 100) (As := []) (st := []) (fun r s1 h => by rw [hl]; exact wX3_areFlat l g ho u N  s r s1 h) (by decide) rfl rfl (Nat.le_of_ble_eq_true rfl) dX3_flat_41 hF (fun r6 s7 hF => ?_)
  refine v_if_eq C (tgt := 49) dX3_flat_44 (by decide) hF (fun c8 hF => ?_) (fun c8 hF => ?_)
  · refine v_iinc C dX3_flat_49 rfl (v := (x1 + (1 : Int32))) rfl (Nat.le_of_ble_eq_true rfl) rfl (lv' := [some (.ref o), some (.int (x1 + (1 : Int32)))]) rfl ?_
    refine v_goto C (tgt := 18) dX3_flat_52 (by decide) ?_
    refine v_mask [true, true] (lv' := [some (.ref o), some (.int (x1 + (1 : Int32)))]) rfl ?_
    exact hk18 ((x1 + (1 : Int32)), s7) hF
  · refine v_iload_n C dX3_flat_47 rfl rfl ?_
    exact m_iret C dX3_flat_48 hF
set_option maxHeartbeats 4000000 in
theorem wX3_flat_b18 {l : Launch} {g : GT} {X : CxT} {o : Nat} {u : Wd} {r : Int32} {s1 : M} (C : kOk g X cX3_flat 2 RX3 (some .int) 14 1400 (some (.int r)) (wM g o s1 u)) (ho : gB g ≤ o) (hl : xl X = l) (N : Nat) (k18 : Int32 × M → Option (Int32 × M)) (hk18 : ∀ a, k18 a = some (r, s1) → kV g X 2 (wM g o a.2 u) 18 [some (.ref o), some (.int a.1)] []) (x1 : Int32) (s : M) (hF : FX3_flat_b18 N k18 x1 s = some (r, s1)) : kV g X 2 (wM g o s u) 18 [some (.ref o), some (.int x1)] [] := by
  unfold FX3_flat_b18 at hF
  refine v_iload_n C dX3_flat_18 rfl rfl ?_
  refine v_sipush C (v := (200 : Int32)) dX3_flat_19 (by decide) ?_
  refine v_icmp_gt C (tgt := 55) dX3_flat_22 (by decide) hF (fun c4 hF => ?_) (fun c4 hF => ?_)
  · refine v_bipush C (v := (-5 : Int32)) dX3_flat_55 (by decide) ?_
    exact m_iret C dX3_flat_57 hF
  · refine v_iload_n C dX3_flat_25 rfl rfl ?_
    refine v_if_le C (tgt := 40) dX3_flat_26 (by decide) hF (fun c5 hF => ?_) (fun c5 hF => ?_)
    · refine v_mask [true, true] (lv' := [some (.ref o), some (.int x1)]) rfl ?_
      exact wX3_flat_b40 C ho hl N k18 hk18 (x1) (s) hF
    · refine v_aload_n C dX3_flat_29 rfl rfl ?_
      refine v_iload_n C dX3_flat_30 rfl rfl ?_
      refine m_callVi C lk_X3_203 rfl (fr2 := 13) (lo2 := 1300) (As := [.int x1]) (st := []) (fun r s1 h => by rw [hl]; exact wX3_mind l g ho u N x1 s r s1 h) (by decide) rfl rfl (Nat.le_of_ble_eq_true rfl) dX3_flat_31 hF (fun r9 s10 hF => ?_)
      refine v_if_ne C (tgt := 40) dX3_flat_34 (by decide) hF (fun c11 hF => ?_) (fun c11 hF => ?_)
      · refine v_bipush C (v := (-5 : Int32)) dX3_flat_37 (by decide) ?_
        exact m_iret C dX3_flat_39 hF
      · refine v_mask [true, true] (lv' := [some (.ref o), some (.int x1)]) rfl ?_
        exact wX3_flat_b40 C ho hl N k18 hk18 (x1) (s10) hF
set_option maxHeartbeats 4000000 in
theorem wX3_flat (l : Launch) (g : GT) {o : Nat} (ho : gB g ≤ o) (u : Wd) (N : Nat)   (s : M) (r : Int32) (s1 : M) (hF : FX3_flat N  s = some (r, s1)) : kMt l g yX3_flat (ws_ yX3_flat cX3_flat 2 (some .int)) (14) (1400) (wM g o s u) [.ref o] (some (.int r)) (wM g o s1 u) := by
  refine kMt.ofV (lv := [some (.ref o), none]) (by decide) rfl (Nat.le_of_ble_eq_true rfl) rfl ?_
  intro X hl hin C
  unfold FX3_flat at hF
  refine v_aload_n C dX3_flat_0 rfl rfl ?_
  refine m_get C 1 (Nat.le_of_ble_eq_true rfl) q2303 (v := .ref (o + 1)) rfl dX3_flat_1 ?_
  refine v_iconst C (v := (0 : Int32)) dX3_flat_4 (by decide) ?_
  refine m_ald C (Nat.le_of_ble_eq_true rfl) (Nat.le_of_ble_eq_true rfl) (by decide) (n := 2) rfl rfl (ix := 0) (by decide) dX3_flat_5 ?_
  refine v_if_ne C (tgt := 12) dX3_flat_6 (by decide) hF (fun c1 hF => ?_) (fun c1 hF => ?_)
  · refine v_bipush C (v := (-3 : Int32)) dX3_flat_9 (by decide) ?_
    exact m_iret C dX3_flat_11 hF
  · refine v_aload_n C dX3_flat_12 rfl rfl ?_
    refine m_callVv C lk_X3_200 rfl (fr2 := 1) (lo2 := 100) (As := []) (st := []) (fun r s1 h => by rw [hl]; exact wX3_begins l g ho u N  s r s1 h) (by decide) rfl rfl (Nat.le_of_ble_eq_true rfl) dX3_flat_13 hF (fun r2 s3 hF => ?_)
    refine v_iconst C (v := (0 : Int32)) dX3_flat_16 (by decide) ?_
    refine v_istore_n C dX3_flat_17 rfl (Nat.le_of_ble_eq_true rfl) rfl (lv' := [some (.ref o), some (.int (0 : Int32))]) rfl ?_
    refine v_mask [true, true] (lv' := [some (.ref o), some (.int (0 : Int32))]) rfl ?_
    exact kloop_ok (P := fun a => kV g X 2 (wM g o a.2 u) 18 [some (.ref o), some (.int a.1)] []) (fun self hs a hF => wX3_flat_b18 C ho hl N  self hs a.1 a.2 hF) N ((0 : Int32), s3) hF
set_option maxHeartbeats 4000000 in
theorem wX3_jam_b18 {l : Launch} {g : GT} {X : CxT} {o : Nat} {u : Wd} {r : Int32} {s1 : M} (C : kOk g X cX3_jam 2 RX3 (some .int) 14 1400 (some (.int r)) (wM g o s1 u)) (ho : gB g ≤ o) (hl : xl X = l) (N : Nat) (k18 : Int32 × M → Option (Int32 × M)) (hk18 : ∀ a, k18 a = some (r, s1) → kV g X 2 (wM g o a.2 u) 18 [some (.ref o), some (.int a.1)] []) (x1 : Int32) (s : M) (hF : FX3_jam_b18 N k18 x1 s = some (r, s1)) : kV g X 2 (wM g o s u) 18 [some (.ref o), some (.int x1)] [] := by
  unfold FX3_jam_b18 at hF
  refine v_iload_n C dX3_jam_18 rfl rfl ?_
  refine v_sipush C (v := (200 : Int32)) dX3_jam_19 (by decide) ?_
  refine v_icmp_gt C (tgt := 41) dX3_jam_22 (by decide) hF (fun c4 hF => ?_) (fun c4 hF => ?_)
  · refine v_bipush C (v := (-5 : Int32)) dX3_jam_41 (by decide) ?_
    exact m_iret C dX3_jam_43 hF
  · refine v_aload_n C dX3_jam_25 rfl rfl ?_
    refine v_iload_n C dX3_jam_26 rfl rfl ?_
    refine m_callVi C lk_X3_203 rfl (fr2 := 13) (lo2 := 1300) (As := [.int x1]) (st := []) (fun r s1 h => by rw [hl]; exact wX3_mind l g ho u N x1 s r s1 h) (by decide) rfl rfl (Nat.le_of_ble_eq_true rfl) dX3_jam_27 hF (fun r5 s6 hF => ?_)
    refine v_if_ne C (tgt := 35) dX3_jam_30 (by decide) hF (fun c7 hF => ?_) (fun c7 hF => ?_)
    · refine v_iload_n C dX3_jam_33 rfl rfl ?_
      exact m_iret C dX3_jam_34 hF
    · refine v_iinc C dX3_jam_35 rfl (v := (x1 + (1 : Int32))) rfl (Nat.le_of_ble_eq_true rfl) rfl (lv' := [some (.ref o), some (.int (x1 + (1 : Int32)))]) rfl ?_
      refine v_goto C (tgt := 18) dX3_jam_38 (by decide) ?_
      refine v_mask [true, true] (lv' := [some (.ref o), some (.int (x1 + (1 : Int32)))]) rfl ?_
      exact hk18 ((x1 + (1 : Int32)), s6) hF
set_option maxHeartbeats 4000000 in
theorem wX3_jam (l : Launch) (g : GT) {o : Nat} (ho : gB g ≤ o) (u : Wd) (N : Nat)   (s : M) (r : Int32) (s1 : M) (hF : FX3_jam N  s = some (r, s1)) : kMt l g yX3_jam (ws_ yX3_jam cX3_jam 2 (some .int)) (14) (1400) (wM g o s u) [.ref o] (some (.int r)) (wM g o s1 u) := by
  refine kMt.ofV (lv := [some (.ref o), none]) (by decide) rfl (Nat.le_of_ble_eq_true rfl) rfl ?_
  intro X hl hin C
  unfold FX3_jam at hF
  refine v_aload_n C dX3_jam_0 rfl rfl ?_
  refine m_get C 1 (Nat.le_of_ble_eq_true rfl) q2303 (v := .ref (o + 1)) rfl dX3_jam_1 ?_
  refine v_iconst C (v := (0 : Int32)) dX3_jam_4 (by decide) ?_
  refine m_ald C (Nat.le_of_ble_eq_true rfl) (Nat.le_of_ble_eq_true rfl) (by decide) (n := 2) rfl rfl (ix := 0) (by decide) dX3_jam_5 ?_
  refine v_if_ne C (tgt := 12) dX3_jam_6 (by decide) hF (fun c1 hF => ?_) (fun c1 hF => ?_)
  · refine v_bipush C (v := (-3 : Int32)) dX3_jam_9 (by decide) ?_
    exact m_iret C dX3_jam_11 hF
  · refine v_aload_n C dX3_jam_12 rfl rfl ?_
    refine m_callVv C lk_X3_200 rfl (fr2 := 1) (lo2 := 100) (As := []) (st := []) (fun r s1 h => by rw [hl]; exact wX3_begins l g ho u N  s r s1 h) (by decide) rfl rfl (Nat.le_of_ble_eq_true rfl) dX3_jam_13 hF (fun r2 s3 hF => ?_)
    refine v_iconst C (v := (1 : Int32)) dX3_jam_16 (by decide) ?_
    refine v_istore_n C dX3_jam_17 rfl (Nat.le_of_ble_eq_true rfl) rfl (lv' := [some (.ref o), some (.int (1 : Int32))]) rfl ?_
    refine v_mask [true, true] (lv' := [some (.ref o), some (.int (1 : Int32))]) rfl ?_
    exact kloop_ok (P := fun a => kV g X 2 (wM g o a.2 u) 18 [some (.ref o), some (.int a.1)] []) (fun self hs a hF => wX3_jam_b18 C ho hl N  self hs a.1 a.2 hF) N ((1 : Int32), s3) hF
set_option maxHeartbeats 4000000 in
theorem wX3_greatest_b4 {l : Launch} {g : GT} {X : CxT} {o : Nat} {u : Wd} {r : Int32} {s1 : M} (C : kOk g X cX3_greatest 4 RX3 (some .int) 1 100 (some (.int r)) (wM g o s1 u)) (ho : gB g ≤ o) (hl : xl X = l) (N : Nat) (k4 : Int32 × Int32 × Int32 × M → Option (Int32 × M)) (hk4 : ∀ a, k4 a = some (r, s1) → kV g X 4 (wM g o a.2.2.2 u) 4 [some (.ref o), some (.int a.1), some (.int a.2.1), some (.int a.2.2.1)] []) (x1 : Int32) (x2 : Int32) (x3 : Int32) (s : M) (hF : FX3_greatest_b4 N k4 x1 x2 x3 s = some (r, s1)) : kV g X 4 (wM g o s u) 4 [some (.ref o), some (.int x1), some (.int x2), some (.int x3)] [] := by
  unfold FX3_greatest_b4 at hF
  refine v_iload_n C dX3_greatest_4 rfl rfl ?_
  refine v_aload_n C dX3_greatest_5 rfl rfl ?_
  refine m_get C 1 (Nat.le_of_ble_eq_true rfl) q2303 (v := .ref (o + 1)) rfl dX3_greatest_6 ?_
  refine v_iconst C (v := (0 : Int32)) dX3_greatest_9 (by decide) ?_
  refine m_ald C (Nat.le_of_ble_eq_true rfl) (Nat.le_of_ble_eq_true rfl) (by decide) (n := 2) rfl rfl (ix := 0) (by decide) dX3_greatest_10 ?_
  refine v_icmp_ge C (tgt := 33) dX3_greatest_11 (by decide) hF (fun c1 hF => ?_) (fun c1 hF => ?_)
  · refine v_iload_n C dX3_greatest_33 rfl rfl ?_
    exact m_iret C dX3_greatest_34 hF
  · refine v_iload_n C dX3_greatest_14 rfl rfl ?_
    refine v_iload_n C dX3_greatest_15 rfl rfl ?_
    refine v_aload_n C dX3_greatest_16 rfl rfl ?_
    refine m_get C 6 (Nat.le_of_ble_eq_true rfl) q2308 (v := .ref (o + 6)) rfl dX3_greatest_17 ?_
    refine v_iload_n C dX3_greatest_20 rfl rfl ?_
    obtain ⟨h2, hF⟩ := k_ite hF
    refine m_ald C (Nat.le_of_ble_eq_true rfl) (Nat.le_of_ble_eq_true rfl) (by decide) (n := 20) rfl h2 (ix := (x3.toNatClampNeg)) rfl dX3_greatest_21 ?_
    refine v_imul C dX3_greatest_22 ?_
    refine v_mmax C q2482 (by decide) (Nat.le_of_ble_eq_true rfl) dX3_greatest_23 ?_
    refine v_istore_n C dX3_greatest_26 rfl (Nat.le_of_ble_eq_true rfl) rfl (lv' := [some (.ref o), some (.int x1), some (.int (kmax x2 (x1 * (s.2 6 (x3.toNatClampNeg))))), some (.int x3)]) rfl ?_
    refine v_iinc C dX3_greatest_27 rfl (v := (x3 + (1 : Int32))) rfl (Nat.le_of_ble_eq_true rfl) rfl (lv' := [some (.ref o), some (.int x1), some (.int (kmax x2 (x1 * (s.2 6 (x3.toNatClampNeg))))), some (.int (x3 + (1 : Int32)))]) rfl ?_
    refine v_goto C (tgt := 4) dX3_greatest_30 (by decide) ?_
    refine v_mask [true, true, true, true] (lv' := [some (.ref o), some (.int x1), some (.int (kmax x2 (x1 * (s.2 6 (x3.toNatClampNeg))))), some (.int (x3 + (1 : Int32)))]) rfl ?_
    exact hk4 (x1, (kmax x2 (x1 * (s.2 6 (x3.toNatClampNeg)))), (x3 + (1 : Int32)), s) hF
set_option maxHeartbeats 4000000 in
theorem wX3_greatest (l : Launch) (g : GT) {o : Nat} (ho : gB g ≤ o) (u : Wd) (N : Nat) (x1 : Int32)  (s : M) (r : Int32) (s1 : M) (hF : FX3_greatest N x1 s = some (r, s1)) : kMt l g yX3_greatest (ws_ yX3_greatest cX3_greatest 4 (some .int)) (1) (100) (wM g o s u) [.ref o, .int x1] (some (.int r)) (wM g o s1 u) := by
  refine kMt.ofV (lv := [some (.ref o), some (.int x1), none, none]) (by decide) rfl (Nat.le_of_ble_eq_true rfl) rfl ?_
  intro X hl hin C
  unfold FX3_greatest at hF
  refine v_iconst C (v := (0 : Int32)) dX3_greatest_0 (by decide) ?_
  refine v_istore_n C dX3_greatest_1 rfl (Nat.le_of_ble_eq_true rfl) rfl (lv' := [some (.ref o), some (.int x1), some (.int (0 : Int32)), none]) rfl ?_
  refine v_iconst C (v := (0 : Int32)) dX3_greatest_2 (by decide) ?_
  refine v_istore_n C dX3_greatest_3 rfl (Nat.le_of_ble_eq_true rfl) rfl (lv' := [some (.ref o), some (.int x1), some (.int (0 : Int32)), some (.int (0 : Int32))]) rfl ?_
  refine v_mask [true, true, true, true] (lv' := [some (.ref o), some (.int x1), some (.int (0 : Int32)), some (.int (0 : Int32))]) rfl ?_
  exact kloop_ok (P := fun a => kV g X 4 (wM g o a.2.2.2 u) 4 [some (.ref o), some (.int a.1), some (.int a.2.1), some (.int a.2.2.1)] []) (fun self hs a hF => wX3_greatest_b4 C ho hl N  self hs a.1 a.2.1 a.2.2.1 a.2.2.2 hF) N (x1, (0 : Int32), (0 : Int32), s) hF
set_option maxHeartbeats 4000000 in
theorem wX3_undoing_b123 {l : Launch} {g : GT} {X : CxT} {o : Nat} {u : Wd} {r : Int32} {s1 : M} (C : kOk g X cX3_undoing 7 RX3 (some .int) 2 200 (some (.int r)) (wM g o s1 u)) (ho : gB g ≤ o) (hl : xl X = l) (N : Nat) (k70 : Int32 × Int32 × Int32 × Int32 × M → Option (Int32 × M)) (hk70 : ∀ a, k70 a = some (r, s1) → kV g X 7 (wM g o a.2.2.2.2 u) 70 [some (.ref o), some (.int a.1), none, some (.int a.2.1), none, some (.int a.2.2.1), some (.int a.2.2.2.1)] []) (x1 : Int32) (x3 : Int32) (x5 : Int32) (x6 : Int32) (s : M) (hF : FX3_undoing_b123 N k70 x1 x3 x5 x6 s = some (r, s1)) : kV g X 7 (wM g o s u) 123 [some (.ref o), some (.int x1), none, some (.int x3), none, some (.int x5), some (.int x6)] [] := by
  unfold FX3_undoing_b123 at hF
  refine v_iinc C dX3_undoing_123 rfl (v := (x6 + (1 : Int32))) rfl (Nat.le_of_ble_eq_true rfl) rfl (lv' := [some (.ref o), some (.int x1), none, some (.int x3), none, some (.int x5), some (.int (x6 + (1 : Int32)))]) rfl ?_
  refine v_goto C (tgt := 70) dX3_undoing_126 (by decide) ?_
  refine v_mask [true, true, false, true, false, true, true] (lv' := [some (.ref o), some (.int x1), none, some (.int x3), none, some (.int x5), some (.int (x6 + (1 : Int32)))]) rfl ?_
  exact hk70 (x1, x3, x5, (x6 + (1 : Int32)), s) hF
set_option maxHeartbeats 4000000 in
theorem wX3_undoing_b114 {l : Launch} {g : GT} {X : CxT} {o : Nat} {u : Wd} {r : Int32} {s1 : M} (C : kOk g X cX3_undoing 7 RX3 (some .int) 2 200 (some (.int r)) (wM g o s1 u)) (ho : gB g ≤ o) (hl : xl X = l) (N : Nat) (k70 : Int32 × Int32 × Int32 × Int32 × M → Option (Int32 × M)) (hk70 : ∀ a, k70 a = some (r, s1) → kV g X 7 (wM g o a.2.2.2.2 u) 70 [some (.ref o), some (.int a.1), none, some (.int a.2.1), none, some (.int a.2.2.1), some (.int a.2.2.2.1)] []) (x1 : Int32) (x3 : Int32) (x5 : Int32) (x6 : Int32) (s : M) (hF : FX3_undoing_b114 N k70 x1 x3 x5 x6 s = some (r, s1)) : kV g X 7 (wM g o s u) 114 [some (.ref o), some (.int x1), none, some (.int x3), none, some (.int x5), some (.int x6)] [] := by
  unfold FX3_undoing_b114 at hF
  refine v_iload C dX3_undoing_114 rfl ?_
  refine v_iconst C (v := (1 : Int32)) dX3_undoing_116 (by decide) ?_
  refine v_iload C dX3_undoing_117 rfl ?_
  refine v_ishl C dX3_undoing_119 ?_
  refine v_ior C dX3_undoing_120 ?_
  refine v_istore C dX3_undoing_121 (Nat.le_of_ble_eq_true rfl) rfl (lv' := [some (.ref o), some (.int x1), none, some (.int x3), none, some (.int (x5 ||| ((1 : Int32) <<< (x6 &&& 31)))), some (.int x6)]) rfl ?_
  refine v_mask [true, true, false, true, false, true, true] (lv' := [some (.ref o), some (.int x1), none, some (.int x3), none, some (.int (x5 ||| ((1 : Int32) <<< (x6 &&& 31)))), some (.int x6)]) rfl ?_
  exact wX3_undoing_b123 C ho hl N k70 hk70 (x1) (x3) ((x5 ||| ((1 : Int32) <<< (x6 &&& 31)))) (x6) (s) hF
set_option maxHeartbeats 4000000 in
theorem wX3_undoing_b70 {l : Launch} {g : GT} {X : CxT} {o : Nat} {u : Wd} {r : Int32} {s1 : M} (C : kOk g X cX3_undoing 7 RX3 (some .int) 2 200 (some (.int r)) (wM g o s1 u)) (ho : gB g ≤ o) (hl : xl X = l) (N : Nat) (k70 : Int32 × Int32 × Int32 × Int32 × M → Option (Int32 × M)) (hk70 : ∀ a, k70 a = some (r, s1) → kV g X 7 (wM g o a.2.2.2.2 u) 70 [some (.ref o), some (.int a.1), none, some (.int a.2.1), none, some (.int a.2.2.1), some (.int a.2.2.2.1)] []) (x1 : Int32) (x3 : Int32) (x5 : Int32) (x6 : Int32) (s : M) (hF : FX3_undoing_b70 N k70 x1 x3 x5 x6 s = some (r, s1)) : kV g X 7 (wM g o s u) 70 [some (.ref o), some (.int x1), none, some (.int x3), none, some (.int x5), some (.int x6)] [] := by
  unfold FX3_undoing_b70 at hF
  refine v_iload C dX3_undoing_70 rfl ?_
  refine v_aload_n C dX3_undoing_72 rfl rfl ?_
  refine m_get C 1 (Nat.le_of_ble_eq_true rfl) q2303 (v := .ref (o + 1)) rfl dX3_undoing_73 ?_
  refine v_iconst C (v := (0 : Int32)) dX3_undoing_76 (by decide) ?_
  refine m_ald C (Nat.le_of_ble_eq_true rfl) (Nat.le_of_ble_eq_true rfl) (by decide) (n := 2) rfl rfl (ix := 0) (by decide) dX3_undoing_77 ?_
  refine v_icmp_ge C (tgt := 129) dX3_undoing_78 (by decide) hF (fun c14 hF => ?_) (fun c14 hF => ?_)
  · refine v_iload C dX3_undoing_129 rfl ?_
    exact m_iret C dX3_undoing_131 hF
  · refine v_iload_n C dX3_undoing_81 rfl rfl ?_
    refine v_iload_n C dX3_undoing_82 rfl rfl ?_
    refine v_icmp_ge C (tgt := 100) dX3_undoing_83 (by decide) hF (fun c15 hF => ?_) (fun c15 hF => ?_)
    · refine v_aload_n C dX3_undoing_100 rfl rfl ?_
      refine m_get C 6 (Nat.le_of_ble_eq_true rfl) q2308 (v := .ref (o + 6)) rfl dX3_undoing_101 ?_
      refine v_iload C dX3_undoing_104 rfl ?_
      obtain ⟨h16, hF⟩ := k_ite hF
      refine m_ald C (Nat.le_of_ble_eq_true rfl) (Nat.le_of_ble_eq_true rfl) (by decide) (n := 20) rfl h16 (ix := (x6.toNatClampNeg)) rfl dX3_undoing_106 ?_
      refine v_ineg C dX3_undoing_107 ?_
      refine v_iload_n C dX3_undoing_108 rfl rfl ?_
      refine v_iload_n C dX3_undoing_109 rfl rfl ?_
      refine v_isub C dX3_undoing_110 ?_
      refine v_icmp_le C (tgt := 123) dX3_undoing_111 (by decide) hF (fun c17 hF => ?_) (fun c17 hF => ?_)
      · refine v_mask [true, true, false, true, false, true, true] (lv' := [some (.ref o), some (.int x1), none, some (.int x3), none, some (.int x5), some (.int x6)]) rfl ?_
        exact wX3_undoing_b123 C ho hl N k70 hk70 (x1) (x3) (x5) (x6) (s) hF
      · refine v_mask [true, true, false, true, false, true, true] (lv' := [some (.ref o), some (.int x1), none, some (.int x3), none, some (.int x5), some (.int x6)]) rfl ?_
        exact wX3_undoing_b114 C ho hl N k70 hk70 (x1) (x3) (x5) (x6) (s) hF
    · refine v_aload_n C dX3_undoing_86 rfl rfl ?_
      refine m_get C 6 (Nat.le_of_ble_eq_true rfl) q2308 (v := .ref (o + 6)) rfl dX3_undoing_87 ?_
      refine v_iload C dX3_undoing_90 rfl ?_
      obtain ⟨h18, hF⟩ := k_ite hF
      refine m_ald C (Nat.le_of_ble_eq_true rfl) (Nat.le_of_ble_eq_true rfl) (by decide) (n := 20) rfl h18 (ix := (x6.toNatClampNeg)) rfl dX3_undoing_92 ?_
      refine v_iload_n C dX3_undoing_93 rfl rfl ?_
      refine v_icmp_le C (tgt := 123) dX3_undoing_94 (by decide) hF (fun c19 hF => ?_) (fun c19 hF => ?_)
      · refine v_mask [true, true, false, true, false, true, true] (lv' := [some (.ref o), some (.int x1), none, some (.int x3), none, some (.int x5), some (.int x6)]) rfl ?_
        exact wX3_undoing_b123 C ho hl N k70 hk70 (x1) (x3) (x5) (x6) (s) hF
      · refine v_goto C (tgt := 114) dX3_undoing_97 (by decide) ?_
        refine v_mask [true, true, false, true, false, true, true] (lv' := [some (.ref o), some (.int x1), none, some (.int x3), none, some (.int x5), some (.int x6)]) rfl ?_
        exact wX3_undoing_b114 C ho hl N k70 hk70 (x1) (x3) (x5) (x6) (s) hF
set_option maxHeartbeats 4000000 in
theorem wX3_undoing (l : Launch) (g : GT) {o : Nat} (ho : gB g ≤ o) (u : Wd) (N : Nat) (x1 : Int32) (x2 : Int32)  (s : M) (r : Int32) (s1 : M) (hF : FX3_undoing N x1 x2 s = some (r, s1)) : kMt l g yX3_undoing (ws_ yX3_undoing cX3_undoing 7 (some .int)) (2) (200) (wM g o s u) [.ref o, .int x1, .int x2] (some (.int r)) (wM g o s1 u) := by
  refine kMt.ofV (lv := [some (.ref o), some (.int x1), some (.int x2), none, none, none, none]) (by decide) rfl (Nat.le_of_ble_eq_true rfl) rfl ?_
  intro X hl hin C
  unfold FX3_undoing at hF
  refine v_iload_n C dX3_undoing_0 rfl rfl ?_
  refine v_iconst C (v := (0 : Int32)) dX3_undoing_1 (by decide) ?_
  refine v_iconst C (v := (1 : Int32)) dX3_undoing_2 (by decide) ?_
  refine m_callSi C lk_X3_108 (fr2 := 1) (lo2 := 100) (As := [.int x2, .int (0 : Int32), .int (1 : Int32)]) (st := []) (fun r s1 h => by rw [hl]; exact wX3_in l g ho u N x2 (0 : Int32) (1 : Int32) s r s1 h) (by decide) rfl rfl (Nat.le_of_ble_eq_true rfl) dX3_undoing_3 hF (fun r1 s2 hF => ?_)
  refine v_if_ne C (tgt := 11) dX3_undoing_6 (by decide) hF (fun c3 hF => ?_) (fun c3 hF => ?_)
  · refine v_iconst C (v := (-1 : Int32)) dX3_undoing_9 (by decide) ?_
    exact m_iret C dX3_undoing_10 hF
  · refine v_aload_n C dX3_undoing_11 rfl rfl ?_
    refine v_iconst C (v := (1 : Int32)) dX3_undoing_12 (by decide) ?_
    refine m_callVi C lk_X3_212 rfl (fr2 := 1) (lo2 := 100) (As := [.int (1 : Int32)]) (st := []) (fun r s1 h => by rw [hl]; exact wX3_greatest l g ho u N (1 : Int32) s2 r s1 h) (by decide) rfl rfl (Nat.le_of_ble_eq_true rfl) dX3_undoing_13 hF (fun r4 s5 hF => ?_)
    refine v_istore_n C dX3_undoing_16 rfl (Nat.le_of_ble_eq_true rfl) rfl (lv' := [some (.ref o), some (.int x1), some (.int x2), some (.int r4), none, none, none]) rfl ?_
    refine v_iload_n C dX3_undoing_17 rfl rfl ?_
    refine v_aload_n C dX3_undoing_18 rfl rfl ?_
    refine v_iconst C (v := (-1 : Int32)) dX3_undoing_19 (by decide) ?_
    refine m_callVi C lk_X3_212 rfl (fr2 := 1) (lo2 := 100) (As := [.int (-1 : Int32)]) (st := [.int r4]) (fun r s1 h => by rw [hl]; exact wX3_greatest l g ho u N (-1 : Int32) s5 r s1 h) (by decide) rfl rfl (Nat.le_of_ble_eq_true rfl) dX3_undoing_20 hF (fun r6 s7 hF => ?_)
    refine v_iadd C dX3_undoing_23 ?_
    refine v_istore C dX3_undoing_24 (Nat.le_of_ble_eq_true rfl) rfl (lv' := [some (.ref o), some (.int x1), some (.int x2), some (.int r4), some (.int (r4 + r6)), none, none]) rfl ?_
    refine v_iload_n C dX3_undoing_26 rfl rfl ?_
    refine v_iconst C (v := (-1 : Int32)) dX3_undoing_27 (by decide) ?_
    refine v_icmp_ne C (tgt := 34) dX3_undoing_28 (by decide) hF (fun c8 hF => ?_) (fun c8 hF => ?_)
    · refine v_iload C dX3_undoing_31 rfl ?_
      exact m_iret C dX3_undoing_33 hF
    · refine v_iload_n C dX3_undoing_34 rfl rfl ?_
      refine v_iconst C (v := (0 : Int32)) dX3_undoing_35 (by decide) ?_
      refine v_iload C dX3_undoing_36 rfl ?_
      refine v_iconst C (v := (1 : Int32)) dX3_undoing_38 (by decide) ?_
      refine v_isub C dX3_undoing_39 ?_
      refine m_callSi C lk_X3_108 (fr2 := 1) (lo2 := 100) (As := [.int x1, .int (0 : Int32), .int ((r4 + r6) - (1 : Int32))]) (st := []) (fun r s1 h => by rw [hl]; exact wX3_in l g ho u N x1 (0 : Int32) ((r4 + r6) - (1 : Int32)) s7 r s1 h) (by decide) rfl rfl (Nat.le_of_ble_eq_true rfl) dX3_undoing_40 hF (fun r9 s10 hF => ?_)
      refine v_if_ne C (tgt := 48) dX3_undoing_43 (by decide) hF (fun c11 hF => ?_) (fun c11 hF => ?_)
      · refine v_iconst C (v := (-1 : Int32)) dX3_undoing_46 (by decide) ?_
        exact m_iret C dX3_undoing_47 hF
      · refine v_iload_n C dX3_undoing_48 rfl rfl ?_
        refine v_iconst C (v := (1 : Int32)) dX3_undoing_49 (by decide) ?_
        refine v_icmp_ne C (tgt := 64) dX3_undoing_50 (by decide) hF (fun c12 hF => ?_) (fun c12 hF => ?_)
        · refine v_iload_n C dX3_undoing_53 rfl rfl ?_
          refine v_iload_n C dX3_undoing_54 rfl rfl ?_
          refine v_icmp_ge C (tgt := 62) dX3_undoing_55 (by decide) hF (fun c13 hF => ?_) (fun c13 hF => ?_)
          · refine v_iconst C (v := (1 : Int32)) dX3_undoing_62 (by decide) ?_
            exact m_iret C dX3_undoing_63 hF
          · refine v_iconst C (v := (2 : Int32)) dX3_undoing_58 (by decide) ?_
            refine v_goto C (tgt := 63) dX3_undoing_59 (by decide) ?_
            exact m_iret C dX3_undoing_63 hF
        · refine v_iconst C (v := (0 : Int32)) dX3_undoing_64 (by decide) ?_
          refine v_istore C dX3_undoing_65 (Nat.le_of_ble_eq_true rfl) rfl (lv' := [some (.ref o), some (.int x1), some (.int x2), some (.int r4), some (.int (r4 + r6)), some (.int (0 : Int32)), none]) rfl ?_
          refine v_iconst C (v := (0 : Int32)) dX3_undoing_67 (by decide) ?_
          refine v_istore C dX3_undoing_68 (Nat.le_of_ble_eq_true rfl) rfl (lv' := [some (.ref o), some (.int x1), some (.int x2), some (.int r4), some (.int (r4 + r6)), some (.int (0 : Int32)), some (.int (0 : Int32))]) rfl ?_
          refine v_mask [true, true, false, true, false, true, true] (lv' := [some (.ref o), some (.int x1), none, some (.int r4), none, some (.int (0 : Int32)), some (.int (0 : Int32))]) rfl ?_
          exact kloop_ok (P := fun a => kV g X 7 (wM g o a.2.2.2.2 u) 70 [some (.ref o), some (.int a.1), none, some (.int a.2.1), none, some (.int a.2.2.1), some (.int a.2.2.2.1)] []) (fun self hs a hF => wX3_undoing_b70 C ho hl N  self hs a.1 a.2.1 a.2.2.1 a.2.2.2.1 a.2.2.2.2 hF) N (x1, r4, (0 : Int32), (0 : Int32), s10) hF
set_option maxHeartbeats 4000000 in
theorem wX3_paint (l : Launch) (g : GT) {o : Nat} (ho : gB g ≤ o) (u : Wd) (N : Nat) (x1 : Int32) (x2 : Int32) (x3 : Int32)  (s : M) (r : Int32) (s1 : M) (hF : FX3_paint N x1 x2 x3 s = some (r, s1)) : kMt l g yX3_paint (ws_ yX3_paint cX3_paint 5 (some .int)) (3) (300) (wM g o s u) [.ref o, .int x1, .int x2, .int x3] (some (.int r)) (wM g o s1 u) := by
  refine kMt.ofV (lv := [some (.ref o), some (.int x1), some (.int x2), some (.int x3), none]) (by decide) rfl (Nat.le_of_ble_eq_true rfl) rfl ?_
  intro X hl hin C
  unfold FX3_paint at hF
  refine v_iload_n C dX3_paint_0 rfl rfl ?_
  refine v_iconst C (v := (0 : Int32)) dX3_paint_1 (by decide) ?_
  refine v_aload_n C dX3_paint_2 rfl rfl ?_
  refine m_get C 32 (Nat.le_of_ble_eq_true rfl) q2334 (v := .int (s.1 32)) rfl dX3_paint_3 ?_
  refine v_iconst C (v := (1 : Int32)) dX3_paint_6 (by decide) ?_
  refine v_isub C dX3_paint_7 ?_
  refine m_callSi C lk_X3_108 (fr2 := 1) (lo2 := 100) (As := [.int x1, .int (0 : Int32), .int ((s.1 32) - (1 : Int32))]) (st := []) (fun r s1 h => by rw [hl]; exact wX3_in l g ho u N x1 (0 : Int32) ((s.1 32) - (1 : Int32)) s r s1 h) (by decide) rfl rfl (Nat.le_of_ble_eq_true rfl) dX3_paint_8 hF (fun r1 s2 hF => ?_)
  refine v_if_eq C (tgt := 24) dX3_paint_11 (by decide) hF (fun c3 hF => ?_) (fun c3 hF => ?_)
  · refine v_iconst C (v := (-1 : Int32)) dX3_paint_24 (by decide) ?_
    exact m_iret C dX3_paint_25 hF
  · refine v_iload_n C dX3_paint_14 rfl rfl ?_
    refine v_iconst C (v := (0 : Int32)) dX3_paint_15 (by decide) ?_
    refine v_bipush C (v := (9 : Int32)) dX3_paint_16 (by decide) ?_
    refine m_callSi C lk_X3_108 (fr2 := 1) (lo2 := 100) (As := [.int x2, .int (0 : Int32), .int (9 : Int32)]) (st := []) (fun r s1 h => by rw [hl]; exact wX3_in l g ho u N x2 (0 : Int32) (9 : Int32) s2 r s1 h) (by decide) rfl rfl (Nat.le_of_ble_eq_true rfl) dX3_paint_18 hF (fun r4 s5 hF => ?_)
    refine v_if_ne C (tgt := 26) dX3_paint_21 (by decide) hF (fun c6 hF => ?_) (fun c6 hF => ?_)
    · refine v_iconst C (v := (-1 : Int32)) dX3_paint_24 (by decide) ?_
      exact m_iret C dX3_paint_25 hF
    · refine v_iload_n C dX3_paint_26 rfl rfl ?_
      refine m_callSi C lk_X3_168 (fr2 := 2) (lo2 := 200) (As := [.int x3]) (st := []) (fun r s1 h => by rw [hl]; exact wX3_isColour l g ho u N x3 s5 r s1 h) (by decide) rfl rfl (Nat.le_of_ble_eq_true rfl) dX3_paint_27 hF (fun r7 s8 hF => ?_)
      refine v_if_ne C (tgt := 36) dX3_paint_30 (by decide) hF (fun c9 hF => ?_) (fun c9 hF => ?_)
      · refine v_bipush C (v := (-2 : Int32)) dX3_paint_33 (by decide) ?_
        exact m_iret C dX3_paint_35 hF
      · refine v_aload_n C dX3_paint_36 rfl rfl ?_
        refine m_get C 33 (Nat.le_of_ble_eq_true rfl) q2335 (v := .ref (o + 25)) rfl dX3_paint_37 ?_
        refine v_bipush C (v := (10 : Int32)) dX3_paint_40 (by decide) ?_
        refine v_iload_n C dX3_paint_42 rfl rfl ?_
        refine v_imul C dX3_paint_43 ?_
        refine v_iload_n C dX3_paint_44 rfl rfl ?_
        refine v_iadd C dX3_paint_45 ?_
        obtain ⟨h10, hF⟩ := k_ite hF
        refine m_ald C (Nat.le_of_ble_eq_true rfl) (Nat.le_of_ble_eq_true rfl) (by decide) (n := 80) rfl h10 (ix := ((((10 : Int32) * x1) + x2).toNatClampNeg)) rfl dX3_paint_46 ?_
        refine v_istore C dX3_paint_47 (Nat.le_of_ble_eq_true rfl) rfl (lv' := [some (.ref o), some (.int x1), some (.int x2), some (.int x3), some (.int (s8.2 25 ((((10 : Int32) * x1) + x2).toNatClampNeg)))]) rfl ?_
        refine v_aload_n C dX3_paint_49 rfl rfl ?_
        refine m_get C 33 (Nat.le_of_ble_eq_true rfl) q2335 (v := .ref (o + 25)) rfl dX3_paint_50 ?_
        refine v_bipush C (v := (10 : Int32)) dX3_paint_53 (by decide) ?_
        refine v_iload_n C dX3_paint_55 rfl rfl ?_
        refine v_imul C dX3_paint_56 ?_
        refine v_iload_n C dX3_paint_57 rfl rfl ?_
        refine v_iadd C dX3_paint_58 ?_
        refine v_iload_n C dX3_paint_59 rfl rfl ?_
        obtain ⟨h11, hF⟩ := k_ite hF
        refine m_ast C ho (Nat.le_of_ble_eq_true rfl) (Nat.le_of_ble_eq_true rfl) (by decide) (n := 80) rfl h11 (ix := ((((10 : Int32) * x1) + x2).toNatClampNeg)) rfl dX3_paint_60 ?_
        refine v_iload C dX3_paint_61 rfl ?_
        exact m_iret C dX3_paint_63 hF
set_option maxHeartbeats 4000000 in
theorem wX3_lines_b28 {l : Launch} {g : GT} {X : CxT} {o : Nat} {u : Wd} {r : Int32} {s1 : M} (C : kOk g X cX3_lines 4 RX3 (some .int) 2 200 (some (.int r)) (wM g o s1 u)) (ho : gB g ≤ o) (hl : xl X = l) (N : Nat) (k28 : Int32 × Int32 × M → Option (Int32 × M)) (hk28 : ∀ a, k28 a = some (r, s1) → kV g X 4 (wM g o a.2.2 u) 28 [some (.ref o), none, some (.int a.1), some (.int a.2.1)] []) (x2 : Int32) (x3 : Int32) (s : M) (hF : FX3_lines_b28 N k28 x2 x3 s = some (r, s1)) : kV g X 4 (wM g o s u) 28 [some (.ref o), none, some (.int x2), some (.int x3)] [] := by
  unfold FX3_lines_b28 at hF
  refine v_iload_n C dX3_lines_28 rfl rfl ?_
  refine v_bipush C (v := (80 : Int32)) dX3_lines_29 (by decide) ?_
  refine v_icmp_ge C (tgt := 47) dX3_lines_31 (by decide) hF (fun c4 hF => ?_) (fun c4 hF => ?_)
  · refine v_iload_n C dX3_lines_47 rfl rfl ?_
    exact m_iret C dX3_lines_48 hF
  · refine v_aload_n C dX3_lines_34 rfl rfl ?_
    refine m_get C 33 (Nat.le_of_ble_eq_true rfl) q2335 (v := .ref (o + 25)) rfl dX3_lines_35 ?_
    refine v_iload_n C dX3_lines_38 rfl rfl ?_
    refine v_iconst C (v := (0 : Int32)) dX3_lines_39 (by decide) ?_
    obtain ⟨h5, hF⟩ := k_ite hF
    refine m_ast C ho (Nat.le_of_ble_eq_true rfl) (Nat.le_of_ble_eq_true rfl) (by decide) (n := 80) rfl h5 (ix := (x3.toNatClampNeg)) rfl dX3_lines_40 ?_
    refine v_iinc C dX3_lines_41 rfl (v := (x3 + (1 : Int32))) rfl (Nat.le_of_ble_eq_true rfl) rfl (lv' := [some (.ref o), none, some (.int x2), some (.int (x3 + (1 : Int32)))]) rfl ?_
    refine v_goto C (tgt := 28) dX3_lines_44 (by decide) ?_
    refine v_mask [true, false, true, true] (lv' := [some (.ref o), none, some (.int x2), some (.int (x3 + (1 : Int32)))]) rfl ?_
    exact hk28 (x2, (x3 + (1 : Int32)), (sA s 25 (x3.toNatClampNeg) (0 : Int32))) hF
set_option maxHeartbeats 4000000 in
theorem wX3_lines (l : Launch) (g : GT) {o : Nat} (ho : gB g ≤ o) (u : Wd) (N : Nat) (x1 : Int32)  (s : M) (r : Int32) (s1 : M) (hF : FX3_lines N x1 s = some (r, s1)) : kMt l g yX3_lines (ws_ yX3_lines cX3_lines 4 (some .int)) (2) (200) (wM g o s u) [.ref o, .int x1] (some (.int r)) (wM g o s1 u) := by
  refine kMt.ofV (lv := [some (.ref o), some (.int x1), none, none]) (by decide) rfl (Nat.le_of_ble_eq_true rfl) rfl ?_
  intro X hl hin C
  unfold FX3_lines at hF
  refine v_iload_n C dX3_lines_0 rfl rfl ?_
  refine v_iconst C (v := (0 : Int32)) dX3_lines_1 (by decide) ?_
  refine v_bipush C (v := (8 : Int32)) dX3_lines_2 (by decide) ?_
  refine m_callSi C lk_X3_108 (fr2 := 1) (lo2 := 100) (As := [.int x1, .int (0 : Int32), .int (8 : Int32)]) (st := []) (fun r s1 h => by rw [hl]; exact wX3_in l g ho u N x1 (0 : Int32) (8 : Int32) s r s1 h) (by decide) rfl rfl (Nat.le_of_ble_eq_true rfl) dX3_lines_4 hF (fun r1 s2 hF => ?_)
  refine v_if_ne C (tgt := 13) dX3_lines_7 (by decide) hF (fun c3 hF => ?_) (fun c3 hF => ?_)
  · refine v_bipush C (v := (-2 : Int32)) dX3_lines_10 (by decide) ?_
    exact m_iret C dX3_lines_12 hF
  · refine v_aload_n C dX3_lines_13 rfl rfl ?_
    refine m_get C 32 (Nat.le_of_ble_eq_true rfl) q2334 (v := .int (s2.1 32)) rfl dX3_lines_14 ?_
    refine v_istore_n C dX3_lines_17 rfl (Nat.le_of_ble_eq_true rfl) rfl (lv' := [some (.ref o), some (.int x1), some (.int (s2.1 32)), none]) rfl ?_
    refine v_aload_n C dX3_lines_18 rfl rfl ?_
    refine v_iload_n C dX3_lines_19 rfl rfl ?_
    refine m_put C ho 32 (Nat.le_of_ble_eq_true rfl) q2334 rfl rfl rfl rfl dX3_lines_20 ?_
    refine v_bipush C (v := (10 : Int32)) dX3_lines_23 (by decide) ?_
    refine v_iload_n C dX3_lines_25 rfl rfl ?_
    refine v_imul C dX3_lines_26 ?_
    refine v_istore_n C dX3_lines_27 rfl (Nat.le_of_ble_eq_true rfl) rfl (lv' := [some (.ref o), some (.int x1), some (.int (s2.1 32)), some (.int ((10 : Int32) * x1))]) rfl ?_
    refine v_mask [true, false, true, true] (lv' := [some (.ref o), none, some (.int (s2.1 32)), some (.int ((10 : Int32) * x1))]) rfl ?_
    exact kloop_ok (P := fun a => kV g X 4 (wM g o a.2.2 u) 28 [some (.ref o), none, some (.int a.1), some (.int a.2.1)] []) (fun self hs a hF => wX3_lines_b28 C ho hl N  self hs a.1 a.2.1 a.2.2 hF) N ((s2.1 32), ((10 : Int32) * x1), (sS s2 32 x1)) hF
set_option maxHeartbeats 4000000 in
theorem wX3_fewestFrom_b137 {l : Launch} {g : GT} {X : CxT} {o : Nat} {u : Wd} {r : Int32} {s1 : M} (C : kOk g X cX3_fewestFrom 9 RX3 (some .int) 2 200 (some (.int r)) (wM g o s1 u)) (ho : gB g ≤ o) (hl : xl X = l) (N : Nat) (k38 : Int32 × Int32 × Int32 × Int32 × M → Option (Int32 × M)) (hk38 : ∀ a, k38 a = some (r, s1) → kV g X 9 (wM g o a.2.2.2.2 u) 38 [some (.ref o), some (.int a.1), some (.int a.2.1), some (.int a.2.2.1), some (.int a.2.2.2.1), none, none, none, none] []) (k47 : Int32 × Int32 × Int32 × Int32 × Int32 × M → Option (Int32 × M)) (hk47 : ∀ a, k47 a = some (r, s1) → kV g X 9 (wM g o a.2.2.2.2.2 u) 47 [some (.ref o), some (.int a.1), some (.int a.2.1), some (.int a.2.2.1), some (.int a.2.2.2.1), some (.int a.2.2.2.2.1), none, none, none] []) (k61 : Int32 × Int32 × Int32 × Int32 × Int32 × Int32 × Int32 × M → Option (Int32 × M)) (hk61 : ∀ a, k61 a = some (r, s1) → kV g X 9 (wM g o a.2.2.2.2.2.2.2 u) 61 [some (.ref o), some (.int a.1), some (.int a.2.1), some (.int a.2.2.1), some (.int a.2.2.2.1), some (.int a.2.2.2.2.1), some (.int a.2.2.2.2.2.1), some (.int a.2.2.2.2.2.2.1), none] []) (x1 : Int32) (x2 : Int32) (x3 : Int32) (x4 : Int32) (x5 : Int32) (x6 : Int32) (x7 : Int32) (s : M) (hF : FX3_fewestFrom_b137 N k38 k47 k61 x1 x2 x3 x4 x5 x6 x7 s = some (r, s1)) : kV g X 9 (wM g o s u) 137 [some (.ref o), some (.int x1), some (.int x2), some (.int x3), some (.int x4), some (.int x5), some (.int x6), some (.int x7), none] [] := by
  unfold FX3_fewestFrom_b137 at hF
  refine v_iinc C dX3_fewestFrom_137 rfl (v := (x7 + (1 : Int32))) rfl (Nat.le_of_ble_eq_true rfl) rfl (lv' := [some (.ref o), some (.int x1), some (.int x2), some (.int x3), some (.int x4), some (.int x5), some (.int x6), some (.int (x7 + (1 : Int32))), none]) rfl ?_
  refine v_goto C (tgt := 61) dX3_fewestFrom_140 (by decide) ?_
  refine v_mask [true, true, true, true, true, true, true, true, false] (lv' := [some (.ref o), some (.int x1), some (.int x2), some (.int x3), some (.int x4), some (.int x5), some (.int x6), some (.int (x7 + (1 : Int32))), none]) rfl ?_
  exact hk61 (x1, x2, x3, x4, x5, x6, (x7 + (1 : Int32)), s) hF
set_option maxHeartbeats 4000000 in
theorem wX3_fewestFrom_b117 {l : Launch} {g : GT} {X : CxT} {o : Nat} {u : Wd} {r : Int32} {s1 : M} (C : kOk g X cX3_fewestFrom 9 RX3 (some .int) 2 200 (some (.int r)) (wM g o s1 u)) (ho : gB g ≤ o) (hl : xl X = l) (N : Nat) (k38 : Int32 × Int32 × Int32 × Int32 × M → Option (Int32 × M)) (hk38 : ∀ a, k38 a = some (r, s1) → kV g X 9 (wM g o a.2.2.2.2 u) 38 [some (.ref o), some (.int a.1), some (.int a.2.1), some (.int a.2.2.1), some (.int a.2.2.2.1), none, none, none, none] []) (k47 : Int32 × Int32 × Int32 × Int32 × Int32 × M → Option (Int32 × M)) (hk47 : ∀ a, k47 a = some (r, s1) → kV g X 9 (wM g o a.2.2.2.2.2 u) 47 [some (.ref o), some (.int a.1), some (.int a.2.1), some (.int a.2.2.1), some (.int a.2.2.2.1), some (.int a.2.2.2.2.1), none, none, none] []) (k61 : Int32 × Int32 × Int32 × Int32 × Int32 × Int32 × Int32 × M → Option (Int32 × M)) (hk61 : ∀ a, k61 a = some (r, s1) → kV g X 9 (wM g o a.2.2.2.2.2.2.2 u) 61 [some (.ref o), some (.int a.1), some (.int a.2.1), some (.int a.2.2.1), some (.int a.2.2.2.1), some (.int a.2.2.2.2.1), some (.int a.2.2.2.2.2.1), some (.int a.2.2.2.2.2.2.1), none] []) (x1 : Int32) (x2 : Int32) (x3 : Int32) (x4 : Int32) (x5 : Int32) (x7 : Int32) (x8 : Int32) (t0 : Int32) (t1 : Int32) (s : M) (hF : FX3_fewestFrom_b117 N k38 k47 k61 x1 x2 x3 x4 x5 x7 x8 t0 t1 s = some (r, s1)) : kV g X 9 (wM g o s u) 117 [some (.ref o), some (.int x1), some (.int x2), some (.int x3), some (.int x4), some (.int x5), none, some (.int x7), some (.int x8)] [.int t0, .int t1] := by
  unfold FX3_fewestFrom_b117 at hF
  refine v_aload_n C dX3_fewestFrom_117 rfl rfl ?_
  refine m_get C 34 (Nat.le_of_ble_eq_true rfl) q2336 (v := .ref (o + 26)) rfl dX3_fewestFrom_118 ?_
  refine v_iconst C (v := (4 : Int32)) dX3_fewestFrom_121 (by decide) ?_
  refine v_iload C dX3_fewestFrom_122 rfl ?_
  refine v_iconst C (v := (1 : Int32)) dX3_fewestFrom_124 (by decide) ?_
  refine v_iadd C dX3_fewestFrom_125 ?_
  refine v_imul C dX3_fewestFrom_126 ?_
  refine v_iload C dX3_fewestFrom_127 rfl ?_
  refine v_iadd C dX3_fewestFrom_129 ?_
  obtain ⟨h13, hF⟩ := k_ite hF
  refine m_ald C (Nat.le_of_ble_eq_true rfl) (Nat.le_of_ble_eq_true rfl) (by decide) (n := 36) rfl h13 (ix := ((((4 : Int32) * (x4 + (1 : Int32))) + x8).toNatClampNeg)) rfl dX3_fewestFrom_130 ?_
  refine v_iadd C dX3_fewestFrom_131 ?_
  refine v_mmin C q2624 (by decide) (Nat.le_of_ble_eq_true rfl) dX3_fewestFrom_132 ?_
  refine v_istore C dX3_fewestFrom_135 (Nat.le_of_ble_eq_true rfl) rfl (lv' := [some (.ref o), some (.int x1), some (.int x2), some (.int x3), some (.int x4), some (.int x5), some (.int (kmin t1 (t0 + (s.2 26 ((((4 : Int32) * (x4 + (1 : Int32))) + x8).toNatClampNeg))))), some (.int x7), some (.int x8)]) rfl ?_
  refine v_mask [true, true, true, true, true, true, true, true, false] (lv' := [some (.ref o), some (.int x1), some (.int x2), some (.int x3), some (.int x4), some (.int x5), some (.int (kmin t1 (t0 + (s.2 26 ((((4 : Int32) * (x4 + (1 : Int32))) + x8).toNatClampNeg))))), some (.int x7), none]) rfl ?_
  exact wX3_fewestFrom_b137 C ho hl N k38 hk38 k47 hk47 k61 hk61 (x1) (x2) (x3) (x4) (x5) ((kmin t1 (t0 + (s.2 26 ((((4 : Int32) * (x4 + (1 : Int32))) + x8).toNatClampNeg))))) (x7) (s) hF
set_option maxHeartbeats 4000000 in
theorem wX3_fewestFrom_b61 {l : Launch} {g : GT} {X : CxT} {o : Nat} {u : Wd} {r : Int32} {s1 : M} (C : kOk g X cX3_fewestFrom 9 RX3 (some .int) 2 200 (some (.int r)) (wM g o s1 u)) (ho : gB g ≤ o) (hl : xl X = l) (N : Nat) (k38 : Int32 × Int32 × Int32 × Int32 × M → Option (Int32 × M)) (hk38 : ∀ a, k38 a = some (r, s1) → kV g X 9 (wM g o a.2.2.2.2 u) 38 [some (.ref o), some (.int a.1), some (.int a.2.1), some (.int a.2.2.1), some (.int a.2.2.2.1), none, none, none, none] []) (k47 : Int32 × Int32 × Int32 × Int32 × Int32 × M → Option (Int32 × M)) (hk47 : ∀ a, k47 a = some (r, s1) → kV g X 9 (wM g o a.2.2.2.2.2 u) 47 [some (.ref o), some (.int a.1), some (.int a.2.1), some (.int a.2.2.1), some (.int a.2.2.2.1), some (.int a.2.2.2.2.1), none, none, none] []) (k61 : Int32 × Int32 × Int32 × Int32 × Int32 × Int32 × Int32 × M → Option (Int32 × M)) (hk61 : ∀ a, k61 a = some (r, s1) → kV g X 9 (wM g o a.2.2.2.2.2.2.2 u) 61 [some (.ref o), some (.int a.1), some (.int a.2.1), some (.int a.2.2.1), some (.int a.2.2.2.1), some (.int a.2.2.2.2.1), some (.int a.2.2.2.2.2.1), some (.int a.2.2.2.2.2.2.1), none] []) (x1 : Int32) (x2 : Int32) (x3 : Int32) (x4 : Int32) (x5 : Int32) (x6 : Int32) (x7 : Int32) (s : M) (hF : FX3_fewestFrom_b61 N k38 k47 k61 x1 x2 x3 x4 x5 x6 x7 s = some (r, s1)) : kV g X 9 (wM g o s u) 61 [some (.ref o), some (.int x1), some (.int x2), some (.int x3), some (.int x4), some (.int x5), some (.int x6), some (.int x7), none] [] := by
  unfold FX3_fewestFrom_b61 at hF
  refine v_iload C dX3_fewestFrom_61 rfl ?_
  refine v_iconst C (v := (3 : Int32)) dX3_fewestFrom_63 (by decide) ?_
  refine v_icmp_ge C (tgt := 143) dX3_fewestFrom_64 (by decide) hF (fun c5 hF => ?_) (fun c5 hF => ?_)
  · refine v_aload_n C dX3_fewestFrom_143 rfl rfl ?_
    refine m_get C 34 (Nat.le_of_ble_eq_true rfl) q2336 (v := .ref (o + 26)) rfl dX3_fewestFrom_144 ?_
    refine v_iconst C (v := (4 : Int32)) dX3_fewestFrom_147 (by decide) ?_
    refine v_iload C dX3_fewestFrom_148 rfl ?_
    refine v_imul C dX3_fewestFrom_150 ?_
    refine v_iload C dX3_fewestFrom_151 rfl ?_
    refine v_iadd C dX3_fewestFrom_153 ?_
    refine v_sipush C (v := (1000 : Int32)) dX3_fewestFrom_154 (by decide) ?_
    refine v_iload C dX3_fewestFrom_157 rfl ?_
    refine v_mmin C q2624 (by decide) (Nat.le_of_ble_eq_true rfl) dX3_fewestFrom_159 ?_
    obtain ⟨h6, hF⟩ := k_ite hF
    refine m_ast C ho (Nat.le_of_ble_eq_true rfl) (Nat.le_of_ble_eq_true rfl) (by decide) (n := 36) rfl h6 (ix := ((((4 : Int32) * x4) + x5).toNatClampNeg)) rfl dX3_fewestFrom_162 ?_
    refine v_iinc C dX3_fewestFrom_163 rfl (v := (x5 + (1 : Int32))) rfl (Nat.le_of_ble_eq_true rfl) rfl (lv' := [some (.ref o), some (.int x1), some (.int x2), some (.int x3), some (.int x4), some (.int (x5 + (1 : Int32))), some (.int x6), some (.int x7), none]) rfl ?_
    refine v_goto C (tgt := 47) dX3_fewestFrom_166 (by decide) ?_
    refine v_mask [true, true, true, true, true, true, false, false, false] (lv' := [some (.ref o), some (.int x1), some (.int x2), some (.int x3), some (.int x4), some (.int (x5 + (1 : Int32))), none, none, none]) rfl ?_
    exact hk47 (x1, x2, x3, x4, (x5 + (1 : Int32)), (sA s 26 ((((4 : Int32) * x4) + x5).toNatClampNeg) (kmin (1000 : Int32) x6))) hF
  · refine v_iload C dX3_fewestFrom_67 rfl ?_
    refine v_iload C dX3_fewestFrom_69 rfl ?_
    refine m_callSi C lk_X3_174 (fr2 := 1) (lo2 := 100) (As := [.int x7]) (st := [.int x5]) (fun r s1 h => by rw [hl]; exact wX3_moved l g ho u N x7 s r s1 h) (by decide) rfl rfl (Nat.le_of_ble_eq_true rfl) dX3_fewestFrom_71 hF (fun r7 s8 hF => ?_)
    refine v_iadd C dX3_fewestFrom_74 ?_
    refine v_iconst C (v := (4 : Int32)) dX3_fewestFrom_75 (by decide) ?_
    refine v_irem C dX3_fewestFrom_76 (by decide) ?_
    refine v_istore C dX3_fewestFrom_77 (Nat.le_of_ble_eq_true rfl) rfl (lv' := [some (.ref o), some (.int x1), some (.int x2), some (.int x3), some (.int x4), some (.int x5), some (.int x6), some (.int x7), some (.int ((x5 + r7) - (x5 + r7) / (4 : Int32) * (4 : Int32)))]) rfl ?_
    refine v_aload_n C dX3_fewestFrom_79 rfl rfl ?_
    refine m_get C 3 (Nat.le_of_ble_eq_true rfl) q2305 (v := .ref (o + 3)) rfl dX3_fewestFrom_80 ?_
    refine v_iconst C (v := (4 : Int32)) dX3_fewestFrom_83 (by decide) ?_
    refine v_iload_n C dX3_fewestFrom_84 rfl rfl ?_
    refine v_imul C dX3_fewestFrom_85 ?_
    refine v_iload C dX3_fewestFrom_86 rfl ?_
    refine v_iadd C dX3_fewestFrom_88 ?_
    obtain ⟨h9, hF⟩ := k_ite hF
    refine m_ald C (Nat.le_of_ble_eq_true rfl) (Nat.le_of_ble_eq_true rfl) (by decide) (n := 80) rfl h9 (ix := ((((4 : Int32) * x1) + ((x5 + r7) - (x5 + r7) / (4 : Int32) * (4 : Int32))).toNatClampNeg)) rfl dX3_fewestFrom_89 ?_
    refine v_aload_n C dX3_fewestFrom_90 rfl rfl ?_
    refine m_get C 33 (Nat.le_of_ble_eq_true rfl) q2335 (v := .ref (o + 25)) rfl dX3_fewestFrom_91 ?_
    refine v_bipush C (v := (10 : Int32)) dX3_fewestFrom_94 (by decide) ?_
    refine v_iload C dX3_fewestFrom_96 rfl ?_
    refine v_imul C dX3_fewestFrom_98 ?_
    refine v_iload_n C dX3_fewestFrom_99 rfl rfl ?_
    refine v_iadd C dX3_fewestFrom_100 ?_
    obtain ⟨h10, hF⟩ := k_ite hF
    refine m_ald C (Nat.le_of_ble_eq_true rfl) (Nat.le_of_ble_eq_true rfl) (by decide) (n := 80) rfl h10 (ix := ((((10 : Int32) * x4) + x1).toNatClampNeg)) rfl dX3_fewestFrom_101 ?_
    refine v_icmp_ne C (tgt := 137) dX3_fewestFrom_102 (by decide) hF (fun c11 hF => ?_) (fun c11 hF => ?_)
    · refine v_iload C dX3_fewestFrom_105 rfl ?_
      refine v_iload C dX3_fewestFrom_107 rfl ?_
      refine v_if_ne C (tgt := 116) dX3_fewestFrom_109 (by decide) hF (fun c12 hF => ?_) (fun c12 hF => ?_)
      · refine v_iconst C (v := (0 : Int32)) dX3_fewestFrom_112 (by decide) ?_
        refine v_goto C (tgt := 117) dX3_fewestFrom_113 (by decide) ?_
        refine v_mask [true, true, true, true, true, true, false, true, true] (lv' := [some (.ref o), some (.int x1), some (.int x2), some (.int x3), some (.int x4), some (.int x5), none, some (.int x7), some (.int ((x5 + r7) - (x5 + r7) / (4 : Int32) * (4 : Int32)))]) rfl ?_
        exact wX3_fewestFrom_b117 C ho hl N k38 hk38 k47 hk47 k61 hk61 (x1) (x2) (x3) (x4) (x5) (x7) (((x5 + r7) - (x5 + r7) / (4 : Int32) * (4 : Int32))) ((0 : Int32)) (x6) (s8) hF
      · refine v_iconst C (v := (1 : Int32)) dX3_fewestFrom_116 (by decide) ?_
        refine v_mask [true, true, true, true, true, true, false, true, true] (lv' := [some (.ref o), some (.int x1), some (.int x2), some (.int x3), some (.int x4), some (.int x5), none, some (.int x7), some (.int ((x5 + r7) - (x5 + r7) / (4 : Int32) * (4 : Int32)))]) rfl ?_
        exact wX3_fewestFrom_b117 C ho hl N k38 hk38 k47 hk47 k61 hk61 (x1) (x2) (x3) (x4) (x5) (x7) (((x5 + r7) - (x5 + r7) / (4 : Int32) * (4 : Int32))) ((1 : Int32)) (x6) (s8) hF
    · refine v_mask [true, true, true, true, true, true, true, true, false] (lv' := [some (.ref o), some (.int x1), some (.int x2), some (.int x3), some (.int x4), some (.int x5), some (.int x6), some (.int x7), none]) rfl ?_
      exact wX3_fewestFrom_b137 C ho hl N k38 hk38 k47 hk47 k61 hk61 (x1) (x2) (x3) (x4) (x5) (x6) (x7) (s8) hF
set_option maxHeartbeats 4000000 in
theorem wX3_fewestFrom_b47 {l : Launch} {g : GT} {X : CxT} {o : Nat} {u : Wd} {r : Int32} {s1 : M} (C : kOk g X cX3_fewestFrom 9 RX3 (some .int) 2 200 (some (.int r)) (wM g o s1 u)) (ho : gB g ≤ o) (hl : xl X = l) (N : Nat) (k38 : Int32 × Int32 × Int32 × Int32 × M → Option (Int32 × M)) (hk38 : ∀ a, k38 a = some (r, s1) → kV g X 9 (wM g o a.2.2.2.2 u) 38 [some (.ref o), some (.int a.1), some (.int a.2.1), some (.int a.2.2.1), some (.int a.2.2.2.1), none, none, none, none] []) (k47 : Int32 × Int32 × Int32 × Int32 × Int32 × M → Option (Int32 × M)) (hk47 : ∀ a, k47 a = some (r, s1) → kV g X 9 (wM g o a.2.2.2.2.2 u) 47 [some (.ref o), some (.int a.1), some (.int a.2.1), some (.int a.2.2.1), some (.int a.2.2.2.1), some (.int a.2.2.2.2.1), none, none, none] []) (x1 : Int32) (x2 : Int32) (x3 : Int32) (x4 : Int32) (x5 : Int32) (s : M) (hF : FX3_fewestFrom_b47 N k38 k47 x1 x2 x3 x4 x5 s = some (r, s1)) : kV g X 9 (wM g o s u) 47 [some (.ref o), some (.int x1), some (.int x2), some (.int x3), some (.int x4), some (.int x5), none, none, none] [] := by
  unfold FX3_fewestFrom_b47 at hF
  refine v_iload C dX3_fewestFrom_47 rfl ?_
  refine v_iconst C (v := (4 : Int32)) dX3_fewestFrom_49 (by decide) ?_
  refine v_icmp_ge C (tgt := 169) dX3_fewestFrom_50 (by decide) hF (fun c4 hF => ?_) (fun c4 hF => ?_)
  · refine v_iinc C dX3_fewestFrom_169 rfl (v := (x4 + (-1 : Int32))) rfl (Nat.le_of_ble_eq_true rfl) rfl (lv' := [some (.ref o), some (.int x1), some (.int x2), some (.int x3), some (.int (x4 + (-1 : Int32))), some (.int x5), none, none, none]) rfl ?_
    refine v_goto C (tgt := 38) dX3_fewestFrom_172 (by decide) ?_
    refine v_mask [true, true, true, true, true, false, false, false, false] (lv' := [some (.ref o), some (.int x1), some (.int x2), some (.int x3), some (.int (x4 + (-1 : Int32))), none, none, none, none]) rfl ?_
    exact hk38 (x1, x2, x3, (x4 + (-1 : Int32)), s) hF
  · refine v_sipush C (v := (1000 : Int32)) dX3_fewestFrom_53 (by decide) ?_
    refine v_istore C dX3_fewestFrom_56 (Nat.le_of_ble_eq_true rfl) rfl (lv' := [some (.ref o), some (.int x1), some (.int x2), some (.int x3), some (.int x4), some (.int x5), some (.int (1000 : Int32)), none, none]) rfl ?_
    refine v_iconst C (v := (0 : Int32)) dX3_fewestFrom_58 (by decide) ?_
    refine v_istore C dX3_fewestFrom_59 (Nat.le_of_ble_eq_true rfl) rfl (lv' := [some (.ref o), some (.int x1), some (.int x2), some (.int x3), some (.int x4), some (.int x5), some (.int (1000 : Int32)), some (.int (0 : Int32)), none]) rfl ?_
    refine v_mask [true, true, true, true, true, true, true, true, false] (lv' := [some (.ref o), some (.int x1), some (.int x2), some (.int x3), some (.int x4), some (.int x5), some (.int (1000 : Int32)), some (.int (0 : Int32)), none]) rfl ?_
    exact kloop_ok (P := fun a => kV g X 9 (wM g o a.2.2.2.2.2.2.2 u) 61 [some (.ref o), some (.int a.1), some (.int a.2.1), some (.int a.2.2.1), some (.int a.2.2.2.1), some (.int a.2.2.2.2.1), some (.int a.2.2.2.2.2.1), some (.int a.2.2.2.2.2.2.1), none] []) (fun self hs a hF => wX3_fewestFrom_b61 C ho hl N k38 hk38 k47 hk47 self hs a.1 a.2.1 a.2.2.1 a.2.2.2.1 a.2.2.2.2.1 a.2.2.2.2.2.1 a.2.2.2.2.2.2.1 a.2.2.2.2.2.2.2 hF) N (x1, x2, x3, x4, x5, (1000 : Int32), (0 : Int32), s) hF
set_option maxHeartbeats 4000000 in
theorem wX3_fewestFrom_b38 {l : Launch} {g : GT} {X : CxT} {o : Nat} {u : Wd} {r : Int32} {s1 : M} (C : kOk g X cX3_fewestFrom 9 RX3 (some .int) 2 200 (some (.int r)) (wM g o s1 u)) (ho : gB g ≤ o) (hl : xl X = l) (N : Nat) (k38 : Int32 × Int32 × Int32 × Int32 × M → Option (Int32 × M)) (hk38 : ∀ a, k38 a = some (r, s1) → kV g X 9 (wM g o a.2.2.2.2 u) 38 [some (.ref o), some (.int a.1), some (.int a.2.1), some (.int a.2.2.1), some (.int a.2.2.2.1), none, none, none, none] []) (x1 : Int32) (x2 : Int32) (x3 : Int32) (x4 : Int32) (s : M) (hF : FX3_fewestFrom_b38 N k38 x1 x2 x3 x4 s = some (r, s1)) : kV g X 9 (wM g o s u) 38 [some (.ref o), some (.int x1), some (.int x2), some (.int x3), some (.int x4), none, none, none, none] [] := by
  unfold FX3_fewestFrom_b38 at hF
  refine v_iload C dX3_fewestFrom_38 rfl ?_
  refine v_iload_n C dX3_fewestFrom_40 rfl rfl ?_
  refine v_icmp_lt C (tgt := 175) dX3_fewestFrom_41 (by decide) hF (fun c2 hF => ?_) (fun c2 hF => ?_)
  · refine v_aload_n C dX3_fewestFrom_175 rfl rfl ?_
    refine m_get C 34 (Nat.le_of_ble_eq_true rfl) q2336 (v := .ref (o + 26)) rfl dX3_fewestFrom_176 ?_
    refine v_iconst C (v := (4 : Int32)) dX3_fewestFrom_179 (by decide) ?_
    refine v_iload_n C dX3_fewestFrom_180 rfl rfl ?_
    refine v_imul C dX3_fewestFrom_181 ?_
    refine v_iload_n C dX3_fewestFrom_182 rfl rfl ?_
    refine v_iadd C dX3_fewestFrom_183 ?_
    obtain ⟨h3, hF⟩ := k_ite hF
    refine m_ald C (Nat.le_of_ble_eq_true rfl) (Nat.le_of_ble_eq_true rfl) (by decide) (n := 36) rfl h3 (ix := ((((4 : Int32) * x2) + x3).toNatClampNeg)) rfl dX3_fewestFrom_184 ?_
    exact m_iret C dX3_fewestFrom_185 hF
  · refine v_iconst C (v := (0 : Int32)) dX3_fewestFrom_44 (by decide) ?_
    refine v_istore C dX3_fewestFrom_45 (Nat.le_of_ble_eq_true rfl) rfl (lv' := [some (.ref o), some (.int x1), some (.int x2), some (.int x3), some (.int x4), some (.int (0 : Int32)), none, none, none]) rfl ?_
    refine v_mask [true, true, true, true, true, true, false, false, false] (lv' := [some (.ref o), some (.int x1), some (.int x2), some (.int x3), some (.int x4), some (.int (0 : Int32)), none, none, none]) rfl ?_
    exact kloop_ok (P := fun a => kV g X 9 (wM g o a.2.2.2.2.2 u) 47 [some (.ref o), some (.int a.1), some (.int a.2.1), some (.int a.2.2.1), some (.int a.2.2.2.1), some (.int a.2.2.2.2.1), none, none, none] []) (fun self hs a hF => wX3_fewestFrom_b47 C ho hl N k38 hk38 self hs a.1 a.2.1 a.2.2.1 a.2.2.2.1 a.2.2.2.2.1 a.2.2.2.2.2 hF) N (x1, x2, x3, x4, (0 : Int32), s) hF
set_option maxHeartbeats 4000000 in
theorem wX3_fewestFrom_b3 {l : Launch} {g : GT} {X : CxT} {o : Nat} {u : Wd} {r : Int32} {s1 : M} (C : kOk g X cX3_fewestFrom 9 RX3 (some .int) 2 200 (some (.int r)) (wM g o s1 u)) (ho : gB g ≤ o) (hl : xl X = l) (N : Nat) (k3 : Int32 × Int32 × Int32 × Int32 × M → Option (Int32 × M)) (hk3 : ∀ a, k3 a = some (r, s1) → kV g X 9 (wM g o a.2.2.2.2 u) 3 [some (.ref o), some (.int a.1), some (.int a.2.1), some (.int a.2.2.1), some (.int a.2.2.2.1), none, none, none, none] []) (x1 : Int32) (x2 : Int32) (x3 : Int32) (x4 : Int32) (s : M) (hF : FX3_fewestFrom_b3 N k3 x1 x2 x3 x4 s = some (r, s1)) : kV g X 9 (wM g o s u) 3 [some (.ref o), some (.int x1), some (.int x2), some (.int x3), some (.int x4), none, none, none, none] [] := by
  unfold FX3_fewestFrom_b3 at hF
  refine v_iload C dX3_fewestFrom_3 rfl ?_
  refine v_iconst C (v := (4 : Int32)) dX3_fewestFrom_5 (by decide) ?_
  refine v_icmp_ge C (tgt := 30) dX3_fewestFrom_6 (by decide) hF (fun c1 hF => ?_) (fun c1 hF => ?_)
  · refine v_aload_n C dX3_fewestFrom_30 rfl rfl ?_
    refine m_get C 32 (Nat.le_of_ble_eq_true rfl) q2334 (v := .int (s.1 32)) rfl dX3_fewestFrom_31 ?_
    refine v_iconst C (v := (1 : Int32)) dX3_fewestFrom_34 (by decide) ?_
    refine v_isub C dX3_fewestFrom_35 ?_
    refine v_istore C dX3_fewestFrom_36 (Nat.le_of_ble_eq_true rfl) rfl (lv' := [some (.ref o), some (.int x1), some (.int x2), some (.int x3), some (.int ((s.1 32) - (1 : Int32))), none, none, none, none]) rfl ?_
    refine v_mask [true, true, true, true, true, false, false, false, false] (lv' := [some (.ref o), some (.int x1), some (.int x2), some (.int x3), some (.int ((s.1 32) - (1 : Int32))), none, none, none, none]) rfl ?_
    exact kloop_ok (P := fun a => kV g X 9 (wM g o a.2.2.2.2 u) 38 [some (.ref o), some (.int a.1), some (.int a.2.1), some (.int a.2.2.1), some (.int a.2.2.2.1), none, none, none, none] []) (fun self hs a hF => wX3_fewestFrom_b38 C ho hl N  self hs a.1 a.2.1 a.2.2.1 a.2.2.2.1 a.2.2.2.2 hF) N (x1, x2, x3, ((s.1 32) - (1 : Int32)), s) hF
  · refine v_aload_n C dX3_fewestFrom_9 rfl rfl ?_
    refine m_get C 34 (Nat.le_of_ble_eq_true rfl) q2336 (v := .ref (o + 26)) rfl dX3_fewestFrom_10 ?_
    refine v_iconst C (v := (4 : Int32)) dX3_fewestFrom_13 (by decide) ?_
    refine v_aload_n C dX3_fewestFrom_14 rfl rfl ?_
    refine m_get C 32 (Nat.le_of_ble_eq_true rfl) q2334 (v := .int (s.1 32)) rfl dX3_fewestFrom_15 ?_
    refine v_imul C dX3_fewestFrom_18 ?_
    refine v_iload C dX3_fewestFrom_19 rfl ?_
    refine v_iadd C dX3_fewestFrom_21 ?_
    refine v_iconst C (v := (0 : Int32)) dX3_fewestFrom_22 (by decide) ?_
    obtain ⟨h14, hF⟩ := k_ite hF
    refine m_ast C ho (Nat.le_of_ble_eq_true rfl) (Nat.le_of_ble_eq_true rfl) (by decide) (n := 36) rfl h14 (ix := ((((4 : Int32) * (s.1 32)) + x4).toNatClampNeg)) rfl dX3_fewestFrom_23 ?_
    refine v_iinc C dX3_fewestFrom_24 rfl (v := (x4 + (1 : Int32))) rfl (Nat.le_of_ble_eq_true rfl) rfl (lv' := [some (.ref o), some (.int x1), some (.int x2), some (.int x3), some (.int (x4 + (1 : Int32))), none, none, none, none]) rfl ?_
    refine v_goto C (tgt := 3) dX3_fewestFrom_27 (by decide) ?_
    refine v_mask [true, true, true, true, true, false, false, false, false] (lv' := [some (.ref o), some (.int x1), some (.int x2), some (.int x3), some (.int (x4 + (1 : Int32))), none, none, none, none]) rfl ?_
    exact hk3 (x1, x2, x3, (x4 + (1 : Int32)), (sA s 26 ((((4 : Int32) * (s.1 32)) + x4).toNatClampNeg) (0 : Int32))) hF
set_option maxHeartbeats 4000000 in
theorem wX3_fewestFrom (l : Launch) (g : GT) {o : Nat} (ho : gB g ≤ o) (u : Wd) (N : Nat) (x1 : Int32) (x2 : Int32) (x3 : Int32)  (s : M) (r : Int32) (s1 : M) (hF : FX3_fewestFrom N x1 x2 x3 s = some (r, s1)) : kMt l g yX3_fewestFrom (ws_ yX3_fewestFrom cX3_fewestFrom 9 (some .int)) (2) (200) (wM g o s u) [.ref o, .int x1, .int x2, .int x3] (some (.int r)) (wM g o s1 u) := by
  refine kMt.ofV (lv := [some (.ref o), some (.int x1), some (.int x2), some (.int x3), none, none, none, none, none]) (by decide) rfl (Nat.le_of_ble_eq_true rfl) rfl ?_
  intro X hl hin C
  unfold FX3_fewestFrom at hF
  refine v_iconst C (v := (0 : Int32)) dX3_fewestFrom_0 (by decide) ?_
  refine v_istore C dX3_fewestFrom_1 (Nat.le_of_ble_eq_true rfl) rfl (lv' := [some (.ref o), some (.int x1), some (.int x2), some (.int x3), some (.int (0 : Int32)), none, none, none, none]) rfl ?_
  refine v_mask [true, true, true, true, true, false, false, false, false] (lv' := [some (.ref o), some (.int x1), some (.int x2), some (.int x3), some (.int (0 : Int32)), none, none, none, none]) rfl ?_
  exact kloop_ok (P := fun a => kV g X 9 (wM g o a.2.2.2.2 u) 3 [some (.ref o), some (.int a.1), some (.int a.2.1), some (.int a.2.2.1), some (.int a.2.2.2.1), none, none, none, none] []) (fun self hs a hF => wX3_fewestFrom_b3 C ho hl N  self hs a.1 a.2.1 a.2.2.1 a.2.2.2.1 a.2.2.2.2 hF) N (x1, x2, x3, (0 : Int32), s) hF
set_option maxHeartbeats 4000000 in
theorem wX3_mayBe (l : Launch) (g : GT) {o : Nat} (ho : gB g ≤ o) (u : Wd) (N : Nat) (x1 : Int32) (x2 : Int32) (x3 : Int32) (x4 : Int32) (x5 : Int32)  (s : M) (r : Int32) (s1 : M) (hF : FX3_mayBe N x1 x2 x3 x4 x5 s = some (r, s1)) : kMt l g yX3_mayBe (ws_ yX3_mayBe cX3_mayBe 7 (some .boolean)) (3) (300) (wM g o s u) [.ref o, .int x1, .int x2, .int x3, .int x4, .int x5] (some (.int r)) (wM g o s1 u) := by
  refine kMt.ofV (lv := [some (.ref o), some (.int x1), some (.int x2), some (.int x3), some (.int x4), some (.int x5), none]) (by decide) rfl (Nat.le_of_ble_eq_true rfl) rfl ?_
  intro X hl hin C
  unfold FX3_mayBe at hF
  refine v_iload_n C dX3_mayBe_0 rfl rfl ?_
  refine v_iload C dX3_mayBe_1 rfl ?_
  refine m_callSi C lk_X3_174 (fr2 := 1) (lo2 := 100) (As := [.int x4]) (st := [.int x3]) (fun r s1 h => by rw [hl]; exact wX3_moved l g ho u N x4 s r s1 h) (by decide) rfl rfl (Nat.le_of_ble_eq_true rfl) dX3_mayBe_3 hF (fun r1 s2 hF => ?_)
  refine v_iadd C dX3_mayBe_6 ?_
  refine v_iconst C (v := (4 : Int32)) dX3_mayBe_7 (by decide) ?_
  refine v_irem C dX3_mayBe_8 (by decide) ?_
  refine v_istore C dX3_mayBe_9 (Nat.le_of_ble_eq_true rfl) rfl (lv' := [some (.ref o), some (.int x1), some (.int x2), some (.int x3), some (.int x4), some (.int x5), some (.int ((x3 + r1) - (x3 + r1) / (4 : Int32) * (4 : Int32)))]) rfl ?_
  refine v_aload_n C dX3_mayBe_11 rfl rfl ?_
  refine m_get C 3 (Nat.le_of_ble_eq_true rfl) q2305 (v := .ref (o + 3)) rfl dX3_mayBe_12 ?_
  refine v_iconst C (v := (4 : Int32)) dX3_mayBe_15 (by decide) ?_
  refine v_iload_n C dX3_mayBe_16 rfl rfl ?_
  refine v_imul C dX3_mayBe_17 ?_
  refine v_iload C dX3_mayBe_18 rfl ?_
  refine v_iadd C dX3_mayBe_20 ?_
  obtain ⟨h3, hF⟩ := k_ite hF
  refine m_ald C (Nat.le_of_ble_eq_true rfl) (Nat.le_of_ble_eq_true rfl) (by decide) (n := 80) rfl h3 (ix := ((((4 : Int32) * x1) + ((x3 + r1) - (x3 + r1) / (4 : Int32) * (4 : Int32))).toNatClampNeg)) rfl dX3_mayBe_21 ?_
  refine v_aload_n C dX3_mayBe_22 rfl rfl ?_
  refine m_get C 33 (Nat.le_of_ble_eq_true rfl) q2335 (v := .ref (o + 25)) rfl dX3_mayBe_23 ?_
  refine v_bipush C (v := (10 : Int32)) dX3_mayBe_26 (by decide) ?_
  refine v_iload_n C dX3_mayBe_28 rfl rfl ?_
  refine v_imul C dX3_mayBe_29 ?_
  refine v_iload_n C dX3_mayBe_30 rfl rfl ?_
  refine v_iadd C dX3_mayBe_31 ?_
  obtain ⟨h4, hF⟩ := k_ite hF
  refine m_ald C (Nat.le_of_ble_eq_true rfl) (Nat.le_of_ble_eq_true rfl) (by decide) (n := 80) rfl h4 (ix := ((((10 : Int32) * x2) + x1).toNatClampNeg)) rfl dX3_mayBe_32 ?_
  refine v_icmp_ne C (tgt := 57) dX3_mayBe_33 (by decide) hF (fun c5 hF => ?_) (fun c5 hF => ?_)
  · refine v_iconst C (v := (1 : Int32)) dX3_mayBe_36 (by decide) ?_
    refine v_aload_n C dX3_mayBe_37 rfl rfl ?_
    refine v_iload_n C dX3_mayBe_38 rfl rfl ?_
    refine v_iload_n C dX3_mayBe_39 rfl rfl ?_
    refine v_iconst C (v := (1 : Int32)) dX3_mayBe_40 (by decide) ?_
    refine v_iadd C dX3_mayBe_41 ?_
    refine v_iload C dX3_mayBe_42 rfl ?_
    refine m_callVi C lk_X3_221 rfl (fr2 := 2) (lo2 := 200) (As := [.int x1, .int (x2 + (1 : Int32)), .int ((x3 + r1) - (x3 + r1) / (4 : Int32) * (4 : Int32))]) (st := [.int (1 : Int32)]) (fun r s1 h => by rw [hl]; exact wX3_fewestFrom l g ho u N x1 (x2 + (1 : Int32)) ((x3 + r1) - (x3 + r1) / (4 : Int32) * (4 : Int32)) s2 r s1 h) (by decide) rfl rfl (Nat.le_of_ble_eq_true rfl) dX3_mayBe_44 hF (fun r6 s7 hF => ?_)
    refine v_iadd C dX3_mayBe_47 ?_
    refine v_iload C dX3_mayBe_48 rfl ?_
    refine v_icmp_ne C (tgt := 57) dX3_mayBe_50 (by decide) hF (fun c8 hF => ?_) (fun c8 hF => ?_)
    · refine v_iconst C (v := (1 : Int32)) dX3_mayBe_53 (by decide) ?_
      refine v_goto C (tgt := 58) dX3_mayBe_54 (by decide) ?_
      exact m_zret C rfl dX3_mayBe_58 hF
    · refine v_iconst C (v := (0 : Int32)) dX3_mayBe_57 (by decide) ?_
      exact m_zret C rfl dX3_mayBe_58 hF
  · refine v_iconst C (v := (0 : Int32)) dX3_mayBe_57 (by decide) ?_
    exact m_zret C rfl dX3_mayBe_58 hF
set_option maxHeartbeats 4000000 in
theorem wX3_draftOf_b76 {l : Launch} {g : GT} {X : CxT} {o : Nat} {u : Wd} {r : Int32} {s1 : M} (C : kOk g X cX3_draftOf 8 RX3 (some .int) 4 400 (some (.int r)) (wM g o s1 u)) (ho : gB g ≤ o) (hl : xl X = l) (N : Nat) (k29 : Int32 × Int32 × Int32 × Int32 × Int32 × M → Option (Int32 × M)) (hk29 : ∀ a, k29 a = some (r, s1) → kV g X 8 (wM g o a.2.2.2.2.2 u) 29 [some (.ref o), some (.int a.1), some (.int a.2.1), some (.int a.2.2.1), some (.int a.2.2.2.1), some (.int a.2.2.2.2.1), none, none] []) (k51 : Int32 × Int32 × Int32 × Int32 × Int32 × Int32 × Int32 × M → Option (Int32 × M)) (hk51 : ∀ a, k51 a = some (r, s1) → kV g X 8 (wM g o a.2.2.2.2.2.2.2 u) 51 [some (.ref o), some (.int a.1), some (.int a.2.1), some (.int a.2.2.1), some (.int a.2.2.2.1), some (.int a.2.2.2.2.1), some (.int a.2.2.2.2.2.1), some (.int a.2.2.2.2.2.2.1)] []) (x1 : Int32) (x2 : Int32) (x3 : Int32) (x4 : Int32) (x5 : Int32) (x6 : Int32) (x7 : Int32) (s : M) (hF : FX3_draftOf_b76 N k29 k51 x1 x2 x3 x4 x5 x6 x7 s = some (r, s1)) : kV g X 8 (wM g o s u) 76 [some (.ref o), some (.int x1), some (.int x2), some (.int x3), some (.int x4), some (.int x5), some (.int x6), some (.int x7)] [] := by
  unfold FX3_draftOf_b76 at hF
  refine v_iinc C dX3_draftOf_76 rfl (v := (x7 + (-1 : Int32))) rfl (Nat.le_of_ble_eq_true rfl) rfl (lv' := [some (.ref o), some (.int x1), some (.int x2), some (.int x3), some (.int x4), some (.int x5), some (.int x6), some (.int (x7 + (-1 : Int32)))]) rfl ?_
  refine v_goto C (tgt := 51) dX3_draftOf_79 (by decide) ?_
  refine v_mask [true, true, true, true, true, true, true, true] (lv' := [some (.ref o), some (.int x1), some (.int x2), some (.int x3), some (.int x4), some (.int x5), some (.int x6), some (.int (x7 + (-1 : Int32)))]) rfl ?_
  exact hk51 (x1, x2, x3, x4, x5, x6, (x7 + (-1 : Int32)), s) hF
set_option maxHeartbeats 4000000 in
theorem wX3_draftOf_b51 {l : Launch} {g : GT} {X : CxT} {o : Nat} {u : Wd} {r : Int32} {s1 : M} (C : kOk g X cX3_draftOf 8 RX3 (some .int) 4 400 (some (.int r)) (wM g o s1 u)) (ho : gB g ≤ o) (hl : xl X = l) (N : Nat) (k29 : Int32 × Int32 × Int32 × Int32 × Int32 × M → Option (Int32 × M)) (hk29 : ∀ a, k29 a = some (r, s1) → kV g X 8 (wM g o a.2.2.2.2.2 u) 29 [some (.ref o), some (.int a.1), some (.int a.2.1), some (.int a.2.2.1), some (.int a.2.2.2.1), some (.int a.2.2.2.2.1), none, none] []) (k51 : Int32 × Int32 × Int32 × Int32 × Int32 × Int32 × Int32 × M → Option (Int32 × M)) (hk51 : ∀ a, k51 a = some (r, s1) → kV g X 8 (wM g o a.2.2.2.2.2.2.2 u) 51 [some (.ref o), some (.int a.1), some (.int a.2.1), some (.int a.2.2.1), some (.int a.2.2.2.1), some (.int a.2.2.2.2.1), some (.int a.2.2.2.2.2.1), some (.int a.2.2.2.2.2.2.1)] []) (x1 : Int32) (x2 : Int32) (x3 : Int32) (x4 : Int32) (x5 : Int32) (x6 : Int32) (x7 : Int32) (s : M) (hF : FX3_draftOf_b51 N k29 k51 x1 x2 x3 x4 x5 x6 x7 s = some (r, s1)) : kV g X 8 (wM g o s u) 51 [some (.ref o), some (.int x1), some (.int x2), some (.int x3), some (.int x4), some (.int x5), some (.int x6), some (.int x7)] [] := by
  unfold FX3_draftOf_b51 at hF
  refine v_iload C dX3_draftOf_51 rfl ?_
  refine v_iconst C (v := (1 : Int32)) dX3_draftOf_53 (by decide) ?_
  refine v_icmp_lt C (tgt := 82) dX3_draftOf_54 (by decide) hF (fun c8 hF => ?_) (fun c8 hF => ?_)
  · refine v_iload_n C dX3_draftOf_82 rfl rfl ?_
    refine v_iload C dX3_draftOf_83 rfl ?_
    refine m_callSi C lk_X3_174 (fr2 := 1) (lo2 := 100) (As := [.int x4]) (st := [.int x3]) (fun r s1 h => by rw [hl]; exact wX3_moved l g ho u N x4 s r s1 h) (by decide) rfl rfl (Nat.le_of_ble_eq_true rfl) dX3_draftOf_85 hF (fun r9 s10 hF => ?_)
    refine v_iadd C dX3_draftOf_88 ?_
    refine v_iconst C (v := (4 : Int32)) dX3_draftOf_89 (by decide) ?_
    refine v_irem C dX3_draftOf_90 (by decide) ?_
    refine v_istore_n C dX3_draftOf_91 rfl (Nat.le_of_ble_eq_true rfl) rfl (lv' := [some (.ref o), some (.int x1), some (.int x2), some (.int ((x3 + r9) - (x3 + r9) / (4 : Int32) * (4 : Int32))), some (.int x4), some (.int x5), some (.int x6), some (.int x7)]) rfl ?_
    refine v_iinc C dX3_draftOf_92 rfl (v := (x5 + (1 : Int32))) rfl (Nat.le_of_ble_eq_true rfl) rfl (lv' := [some (.ref o), some (.int x1), some (.int x2), some (.int ((x3 + r9) - (x3 + r9) / (4 : Int32) * (4 : Int32))), some (.int x4), some (.int (x5 + (1 : Int32))), some (.int x6), some (.int x7)]) rfl ?_
    refine v_goto C (tgt := 29) dX3_draftOf_95 (by decide) ?_
    refine v_mask [true, true, true, true, true, true, false, false] (lv' := [some (.ref o), some (.int x1), some (.int x2), some (.int ((x3 + r9) - (x3 + r9) / (4 : Int32) * (4 : Int32))), some (.int x4), some (.int (x5 + (1 : Int32))), none, none]) rfl ?_
    exact hk29 (x1, x2, ((x3 + r9) - (x3 + r9) / (4 : Int32) * (4 : Int32)), x4, (x5 + (1 : Int32)), s10) hF
  · refine v_aload_n C dX3_draftOf_57 rfl rfl ?_
    refine v_iload_n C dX3_draftOf_58 rfl rfl ?_
    refine v_iload C dX3_draftOf_59 rfl ?_
    refine v_iload_n C dX3_draftOf_61 rfl rfl ?_
    refine v_iload C dX3_draftOf_62 rfl ?_
    refine v_iload C dX3_draftOf_64 rfl ?_
    refine m_callVi C lk_X3_224 rfl (fr2 := 3) (lo2 := 300) (As := [.int x2, .int x5, .int x3, .int x7, .int x6]) (st := []) (fun r s1 h => by rw [hl]; exact wX3_mayBe l g ho u N x2 x5 x3 x7 x6 s r s1 h) (by decide) rfl rfl (Nat.le_of_ble_eq_true rfl) dX3_draftOf_66 hF (fun r11 s12 hF => ?_)
    refine v_if_eq C (tgt := 76) dX3_draftOf_69 (by decide) hF (fun c13 hF => ?_) (fun c13 hF => ?_)
    · refine v_mask [true, true, true, true, true, true, true, true] (lv' := [some (.ref o), some (.int x1), some (.int x2), some (.int x3), some (.int x4), some (.int x5), some (.int x6), some (.int x7)]) rfl ?_
      exact wX3_draftOf_b76 C ho hl N k29 hk29 k51 hk51 (x1) (x2) (x3) (x4) (x5) (x6) (x7) (s12) hF
    · refine v_iload C dX3_draftOf_72 rfl ?_
      refine v_istore C dX3_draftOf_74 (Nat.le_of_ble_eq_true rfl) rfl (lv' := [some (.ref o), some (.int x1), some (.int x2), some (.int x3), some (.int x7), some (.int x5), some (.int x6), some (.int x7)]) rfl ?_
      refine v_mask [true, true, true, true, true, true, true, true] (lv' := [some (.ref o), some (.int x1), some (.int x2), some (.int x3), some (.int x7), some (.int x5), some (.int x6), some (.int x7)]) rfl ?_
      exact wX3_draftOf_b76 C ho hl N k29 hk29 k51 hk51 (x1) (x2) (x3) (x7) (x5) (x6) (x7) (s12) hF
set_option maxHeartbeats 4000000 in
theorem wX3_draftOf_b29 {l : Launch} {g : GT} {X : CxT} {o : Nat} {u : Wd} {r : Int32} {s1 : M} (C : kOk g X cX3_draftOf 8 RX3 (some .int) 4 400 (some (.int r)) (wM g o s1 u)) (ho : gB g ≤ o) (hl : xl X = l) (N : Nat) (k29 : Int32 × Int32 × Int32 × Int32 × Int32 × M → Option (Int32 × M)) (hk29 : ∀ a, k29 a = some (r, s1) → kV g X 8 (wM g o a.2.2.2.2.2 u) 29 [some (.ref o), some (.int a.1), some (.int a.2.1), some (.int a.2.2.1), some (.int a.2.2.2.1), some (.int a.2.2.2.2.1), none, none] []) (x1 : Int32) (x2 : Int32) (x3 : Int32) (x4 : Int32) (x5 : Int32) (s : M) (hF : FX3_draftOf_b29 N k29 x1 x2 x3 x4 x5 s = some (r, s1)) : kV g X 8 (wM g o s u) 29 [some (.ref o), some (.int x1), some (.int x2), some (.int x3), some (.int x4), some (.int x5), none, none] [] := by
  unfold FX3_draftOf_b29 at hF
  refine v_iload C dX3_draftOf_29 rfl ?_
  refine v_iload_n C dX3_draftOf_31 rfl rfl ?_
  refine v_icmp_gt C (tgt := 98) dX3_draftOf_32 (by decide) hF (fun c5 hF => ?_) (fun c5 hF => ?_)
  · refine v_iload C dX3_draftOf_98 rfl ?_
    exact m_iret C dX3_draftOf_100 hF
  · refine v_aload_n C dX3_draftOf_35 rfl rfl ?_
    refine v_iload_n C dX3_draftOf_36 rfl rfl ?_
    refine v_iload C dX3_draftOf_37 rfl ?_
    refine v_iload_n C dX3_draftOf_39 rfl rfl ?_
    refine m_callVi C lk_X3_221 rfl (fr2 := 2) (lo2 := 200) (As := [.int x2, .int x5, .int x3]) (st := []) (fun r s1 h => by rw [hl]; exact wX3_fewestFrom l g ho u N x2 x5 x3 s r s1 h) (by decide) rfl rfl (Nat.le_of_ble_eq_true rfl) dX3_draftOf_40 hF (fun r6 s7 hF => ?_)
    refine v_istore C dX3_draftOf_43 (Nat.le_of_ble_eq_true rfl) rfl (lv' := [some (.ref o), some (.int x1), some (.int x2), some (.int x3), some (.int x4), some (.int x5), some (.int r6), none]) rfl ?_
    refine v_iconst C (v := (0 : Int32)) dX3_draftOf_45 (by decide) ?_
    refine v_istore C dX3_draftOf_46 (Nat.le_of_ble_eq_true rfl) rfl (lv' := [some (.ref o), some (.int x1), some (.int x2), some (.int x3), some (.int (0 : Int32)), some (.int x5), some (.int r6), none]) rfl ?_
    refine v_iconst C (v := (2 : Int32)) dX3_draftOf_48 (by decide) ?_
    refine v_istore C dX3_draftOf_49 (Nat.le_of_ble_eq_true rfl) rfl (lv' := [some (.ref o), some (.int x1), some (.int x2), some (.int x3), some (.int (0 : Int32)), some (.int x5), some (.int r6), some (.int (2 : Int32))]) rfl ?_
    refine v_mask [true, true, true, true, true, true, true, true] (lv' := [some (.ref o), some (.int x1), some (.int x2), some (.int x3), some (.int (0 : Int32)), some (.int x5), some (.int r6), some (.int (2 : Int32))]) rfl ?_
    exact kloop_ok (P := fun a => kV g X 8 (wM g o a.2.2.2.2.2.2.2 u) 51 [some (.ref o), some (.int a.1), some (.int a.2.1), some (.int a.2.2.1), some (.int a.2.2.2.1), some (.int a.2.2.2.2.1), some (.int a.2.2.2.2.2.1), some (.int a.2.2.2.2.2.2.1)] []) (fun self hs a hF => wX3_draftOf_b51 C ho hl N k29 hk29 self hs a.1 a.2.1 a.2.2.1 a.2.2.2.1 a.2.2.2.2.1 a.2.2.2.2.2.1 a.2.2.2.2.2.2.1 a.2.2.2.2.2.2.2 hF) N (x1, x2, x3, (0 : Int32), x5, r6, (2 : Int32), s7) hF
set_option maxHeartbeats 4000000 in
theorem wX3_draftOf (l : Launch) (g : GT) {o : Nat} (ho : gB g ≤ o) (u : Wd) (N : Nat) (x1 : Int32) (x2 : Int32)  (s : M) (r : Int32) (s1 : M) (hF : FX3_draftOf N x1 x2 s = some (r, s1)) : kMt l g yX3_draftOf (ws_ yX3_draftOf cX3_draftOf 8 (some .int)) (4) (400) (wM g o s u) [.ref o, .int x1, .int x2] (some (.int r)) (wM g o s1 u) := by
  refine kMt.ofV (lv := [some (.ref o), some (.int x1), some (.int x2), none, none, none, none, none]) (by decide) rfl (Nat.le_of_ble_eq_true rfl) rfl ?_
  intro X hl hin C
  unfold FX3_draftOf at hF
  refine v_aload_n C dX3_draftOf_0 rfl rfl ?_
  refine m_get C 5 (Nat.le_of_ble_eq_true rfl) q2307 (v := .ref (o + 5)) rfl dX3_draftOf_1 ?_
  refine v_iload_n C dX3_draftOf_4 rfl rfl ?_
  obtain ⟨h1, hF⟩ := k_ite hF
  refine m_ald C (Nat.le_of_ble_eq_true rfl) (Nat.le_of_ble_eq_true rfl) (by decide) (n := 20) rfl h1 (ix := (x2.toNatClampNeg)) rfl dX3_draftOf_5 ?_
  refine v_istore_n C dX3_draftOf_6 rfl (Nat.le_of_ble_eq_true rfl) rfl (lv' := [some (.ref o), some (.int x1), some (.int x2), some (.int (s.2 5 (x2.toNatClampNeg))), none, none, none, none]) rfl ?_
  refine v_iconst C (v := (0 : Int32)) dX3_draftOf_7 (by decide) ?_
  refine v_istore C dX3_draftOf_8 (Nat.le_of_ble_eq_true rfl) rfl (lv' := [some (.ref o), some (.int x1), some (.int x2), some (.int (s.2 5 (x2.toNatClampNeg))), some (.int (0 : Int32)), none, none, none]) rfl ?_
  refine v_aload_n C dX3_draftOf_10 rfl rfl ?_
  refine v_iload_n C dX3_draftOf_11 rfl rfl ?_
  refine v_iconst C (v := (0 : Int32)) dX3_draftOf_12 (by decide) ?_
  refine v_iload_n C dX3_draftOf_13 rfl rfl ?_
  refine m_callVi C lk_X3_221 rfl (fr2 := 2) (lo2 := 200) (As := [.int x2, .int (0 : Int32), .int (s.2 5 (x2.toNatClampNeg))]) (st := []) (fun r s1 h => by rw [hl]; exact wX3_fewestFrom l g ho u N x2 (0 : Int32) (s.2 5 (x2.toNatClampNeg)) s r s1 h) (by decide) rfl rfl (Nat.le_of_ble_eq_true rfl) dX3_draftOf_14 hF (fun r2 s3 hF => ?_)
  refine v_sipush C (v := (1000 : Int32)) dX3_draftOf_17 (by decide) ?_
  refine v_icmp_ne C (tgt := 26) dX3_draftOf_20 (by decide) hF (fun c4 hF => ?_) (fun c4 hF => ?_)
  · refine v_bipush C (v := (-5 : Int32)) dX3_draftOf_23 (by decide) ?_
    exact m_iret C dX3_draftOf_25 hF
  · refine v_iconst C (v := (0 : Int32)) dX3_draftOf_26 (by decide) ?_
    refine v_istore C dX3_draftOf_27 (Nat.le_of_ble_eq_true rfl) rfl (lv' := [some (.ref o), some (.int x1), some (.int x2), some (.int (s.2 5 (x2.toNatClampNeg))), some (.int (0 : Int32)), some (.int (0 : Int32)), none, none]) rfl ?_
    refine v_mask [true, true, true, true, true, true, false, false] (lv' := [some (.ref o), some (.int x1), some (.int x2), some (.int (s.2 5 (x2.toNatClampNeg))), some (.int (0 : Int32)), some (.int (0 : Int32)), none, none]) rfl ?_
    exact kloop_ok (P := fun a => kV g X 8 (wM g o a.2.2.2.2.2 u) 29 [some (.ref o), some (.int a.1), some (.int a.2.1), some (.int a.2.2.1), some (.int a.2.2.2.1), some (.int a.2.2.2.2.1), none, none] []) (fun self hs a hF => wX3_draftOf_b29 C ho hl N  self hs a.1 a.2.1 a.2.2.1 a.2.2.2.1 a.2.2.2.2.1 a.2.2.2.2.2 hF) N (x1, x2, (s.2 5 (x2.toNatClampNeg)), (0 : Int32), (0 : Int32), s3) hF
set_option maxHeartbeats 4000000 in
theorem wX3_draft (l : Launch) (g : GT) {o : Nat} (ho : gB g ≤ o) (u : Wd) (N : Nat) (x1 : Int32) (x2 : Int32)  (s : M) (r : Int32) (s1 : M) (hF : FX3_draft N x1 x2 s = some (r, s1)) : kMt l g yX3_draft (ws_ yX3_draft cX3_draft 3 (some .int)) (5) (500) (wM g o s u) [.ref o, .int x1, .int x2] (some (.int r)) (wM g o s1 u) := by
  refine kMt.ofV (lv := [some (.ref o), some (.int x1), some (.int x2)]) (by decide) rfl (Nat.le_of_ble_eq_true rfl) rfl ?_
  intro X hl hin C
  unfold FX3_draft at hF
  refine v_iload_n C dX3_draft_0 rfl rfl ?_
  refine v_iconst C (v := (0 : Int32)) dX3_draft_1 (by decide) ?_
  refine v_aload_n C dX3_draft_2 rfl rfl ?_
  refine m_get C 32 (Nat.le_of_ble_eq_true rfl) q2334 (v := .int (s.1 32)) rfl dX3_draft_3 ?_
  refine v_iconst C (v := (1 : Int32)) dX3_draft_6 (by decide) ?_
  refine v_isub C dX3_draft_7 ?_
  refine m_callSi C lk_X3_108 (fr2 := 1) (lo2 := 100) (As := [.int x1, .int (0 : Int32), .int ((s.1 32) - (1 : Int32))]) (st := []) (fun r s1 h => by rw [hl]; exact wX3_in l g ho u N x1 (0 : Int32) ((s.1 32) - (1 : Int32)) s r s1 h) (by decide) rfl rfl (Nat.le_of_ble_eq_true rfl) dX3_draft_8 hF (fun r1 s2 hF => ?_)
  refine v_if_eq C (tgt := 22) dX3_draft_11 (by decide) hF (fun c3 hF => ?_) (fun c3 hF => ?_)
  · refine v_iconst C (v := (-1 : Int32)) dX3_draft_22 (by decide) ?_
    exact m_iret C dX3_draft_23 hF
  · refine v_aload_n C dX3_draft_14 rfl rfl ?_
    refine v_iload_n C dX3_draft_15 rfl rfl ?_
    refine m_callVi C lk_X3_161 rfl (fr2 := 2) (lo2 := 200) (As := [.int x2]) (st := []) (fun r s1 h => by rw [hl]; exact wX3_isCard l g ho u N x2 s2 r s1 h) (by decide) rfl rfl (Nat.le_of_ble_eq_true rfl) dX3_draft_16 hF (fun r4 s5 hF => ?_)
    refine v_if_ne C (tgt := 24) dX3_draft_19 (by decide) hF (fun c6 hF => ?_) (fun c6 hF => ?_)
    · refine v_iconst C (v := (-1 : Int32)) dX3_draft_22 (by decide) ?_
      exact m_iret C dX3_draft_23 hF
    · refine v_aload_n C dX3_draft_24 rfl rfl ?_
      refine v_iload_n C dX3_draft_25 rfl rfl ?_
      refine v_iload_n C dX3_draft_26 rfl rfl ?_
      refine m_callVi C lk_X3_228 rfl (fr2 := 4) (lo2 := 400) (As := [.int x1, .int x2]) (st := []) (fun r s1 h => by rw [hl]; exact wX3_draftOf l g ho u N x1 x2 s5 r s1 h) (by decide) rfl rfl (Nat.le_of_ble_eq_true rfl) dX3_draft_27 hF (fun r7 s8 hF => ?_)
      exact m_iret C dX3_draft_30 hF
set_option maxHeartbeats 4000000 in
theorem wX3_fewest_b71 {l : Launch} {g : GT} {X : CxT} {o : Nat} {u : Wd} {r : Int32} {s1 : M} (C : kOk g X cX3_fewest 5 RX3 (some .int) 3 300 (some (.int r)) (wM g o s1 u)) (ho : gB g ≤ o) (hl : xl X = l) (N : Nat) (k19 : Int32 × Int32 × Int32 × M → Option (Int32 × M)) (hk19 : ∀ a, k19 a = some (r, s1) → kV g X 5 (wM g o a.2.2.2 u) 19 [some (.ref o), some (.int a.1), some (.int a.2.1), some (.int a.2.2.1), none] []) (x1 : Int32) (x2 : Int32) (x3 : Int32) (s : M) (hF : FX3_fewest_b71 N k19 x1 x2 x3 s = some (r, s1)) : kV g X 5 (wM g o s u) 71 [some (.ref o), some (.int x1), some (.int x2), some (.int x3), none] [] := by
  unfold FX3_fewest_b71 at hF
  refine v_iinc C dX3_fewest_71 rfl (v := (x3 + (1 : Int32))) rfl (Nat.le_of_ble_eq_true rfl) rfl (lv' := [some (.ref o), some (.int x1), some (.int x2), some (.int (x3 + (1 : Int32))), none]) rfl ?_
  refine v_goto C (tgt := 19) dX3_fewest_74 (by decide) ?_
  refine v_mask [true, true, true, true, false] (lv' := [some (.ref o), some (.int x1), some (.int x2), some (.int (x3 + (1 : Int32))), none]) rfl ?_
  exact hk19 (x1, x2, (x3 + (1 : Int32)), s) hF
set_option maxHeartbeats 4000000 in
theorem wX3_fewest_b41 {l : Launch} {g : GT} {X : CxT} {o : Nat} {u : Wd} {r : Int32} {s1 : M} (C : kOk g X cX3_fewest 5 RX3 (some .int) 3 300 (some (.int r)) (wM g o s1 u)) (ho : gB g ≤ o) (hl : xl X = l) (N : Nat) (k19 : Int32 × Int32 × Int32 × M → Option (Int32 × M)) (hk19 : ∀ a, k19 a = some (r, s1) → kV g X 5 (wM g o a.2.2.2 u) 19 [some (.ref o), some (.int a.1), some (.int a.2.1), some (.int a.2.2.1), none] []) (x1 : Int32) (x2 : Int32) (x3 : Int32) (s : M) (hF : FX3_fewest_b41 N k19 x1 x2 x3 s = some (r, s1)) : kV g X 5 (wM g o s u) 41 [some (.ref o), some (.int x1), some (.int x2), some (.int x3), none] [] := by
  unfold FX3_fewest_b41 at hF
  refine v_aload_n C dX3_fewest_41 rfl rfl ?_
  refine v_iload_n C dX3_fewest_42 rfl rfl ?_
  refine v_iconst C (v := (0 : Int32)) dX3_fewest_43 (by decide) ?_
  refine v_aload_n C dX3_fewest_44 rfl rfl ?_
  refine m_get C 5 (Nat.le_of_ble_eq_true rfl) q2307 (v := .ref (o + 5)) rfl dX3_fewest_45 ?_
  refine v_iload_n C dX3_fewest_48 rfl rfl ?_
  obtain ⟨h4, hF⟩ := k_ite hF
  refine m_ald C (Nat.le_of_ble_eq_true rfl) (Nat.le_of_ble_eq_true rfl) (by decide) (n := 20) rfl h4 (ix := (x3.toNatClampNeg)) rfl dX3_fewest_49 ?_
  refine m_callVi C lk_X3_221 rfl (fr2 := 2) (lo2 := 200) (As := [.int x3, .int (0 : Int32), .int (s.2 5 (x3.toNatClampNeg))]) (st := []) (fun r s1 h => by rw [hl]; exact wX3_fewestFrom l g ho u N x3 (0 : Int32) (s.2 5 (x3.toNatClampNeg)) s r s1 h) (by decide) rfl rfl (Nat.le_of_ble_eq_true rfl) dX3_fewest_50 hF (fun r5 s6 hF => ?_)
  refine v_istore C dX3_fewest_53 (Nat.le_of_ble_eq_true rfl) rfl (lv' := [some (.ref o), some (.int x1), some (.int x2), some (.int x3), some (.int r5)]) rfl ?_
  refine v_iload C dX3_fewest_55 rfl ?_
  refine v_sipush C (v := (1000 : Int32)) dX3_fewest_57 (by decide) ?_
  refine v_icmp_ne C (tgt := 66) dX3_fewest_60 (by decide) hF (fun c7 hF => ?_) (fun c7 hF => ?_)
  · refine v_bipush C (v := (-5 : Int32)) dX3_fewest_63 (by decide) ?_
    exact m_iret C dX3_fewest_65 hF
  · refine v_iload_n C dX3_fewest_66 rfl rfl ?_
    refine v_iload C dX3_fewest_67 rfl ?_
    refine v_iadd C dX3_fewest_69 ?_
    refine v_istore_n C dX3_fewest_70 rfl (Nat.le_of_ble_eq_true rfl) rfl (lv' := [some (.ref o), some (.int x1), some (.int (x2 + r5)), some (.int x3), some (.int r5)]) rfl ?_
    refine v_mask [true, true, true, true, false] (lv' := [some (.ref o), some (.int x1), some (.int (x2 + r5)), some (.int x3), none]) rfl ?_
    exact wX3_fewest_b71 C ho hl N k19 hk19 (x1) ((x2 + r5)) (x3) (s6) hF
set_option maxHeartbeats 4000000 in
theorem wX3_fewest_b19 {l : Launch} {g : GT} {X : CxT} {o : Nat} {u : Wd} {r : Int32} {s1 : M} (C : kOk g X cX3_fewest 5 RX3 (some .int) 3 300 (some (.int r)) (wM g o s1 u)) (ho : gB g ≤ o) (hl : xl X = l) (N : Nat) (k19 : Int32 × Int32 × Int32 × M → Option (Int32 × M)) (hk19 : ∀ a, k19 a = some (r, s1) → kV g X 5 (wM g o a.2.2.2 u) 19 [some (.ref o), some (.int a.1), some (.int a.2.1), some (.int a.2.2.1), none] []) (x1 : Int32) (x2 : Int32) (x3 : Int32) (s : M) (hF : FX3_fewest_b19 N k19 x1 x2 x3 s = some (r, s1)) : kV g X 5 (wM g o s u) 19 [some (.ref o), some (.int x1), some (.int x2), some (.int x3), none] [] := by
  unfold FX3_fewest_b19 at hF
  refine v_iload_n C dX3_fewest_19 rfl rfl ?_
  refine v_aload_n C dX3_fewest_20 rfl rfl ?_
  refine m_get C 1 (Nat.le_of_ble_eq_true rfl) q2303 (v := .ref (o + 1)) rfl dX3_fewest_21 ?_
  refine v_iconst C (v := (0 : Int32)) dX3_fewest_24 (by decide) ?_
  refine m_ald C (Nat.le_of_ble_eq_true rfl) (Nat.le_of_ble_eq_true rfl) (by decide) (n := 2) rfl rfl (ix := 0) (by decide) dX3_fewest_25 ?_
  refine v_icmp_ge C (tgt := 77) dX3_fewest_26 (by decide) hF (fun c2 hF => ?_) (fun c2 hF => ?_)
  · refine v_iload_n C dX3_fewest_77 rfl rfl ?_
    exact m_iret C dX3_fewest_78 hF
  · refine v_iload_n C dX3_fewest_29 rfl rfl ?_
    refine v_if_lt C (tgt := 41) dX3_fewest_30 (by decide) hF (fun c3 hF => ?_) (fun c3 hF => ?_)
    · refine v_mask [true, true, true, true, false] (lv' := [some (.ref o), some (.int x1), some (.int x2), some (.int x3), none]) rfl ?_
      exact wX3_fewest_b41 C ho hl N k19 hk19 (x1) (x2) (x3) (s) hF
    · refine v_iload_n C dX3_fewest_33 rfl rfl ?_
      refine v_iload_n C dX3_fewest_34 rfl rfl ?_
      refine v_icmp_eq C (tgt := 41) dX3_fewest_35 (by decide) hF (fun c8 hF => ?_) (fun c8 hF => ?_)
      · refine v_mask [true, true, true, true, false] (lv' := [some (.ref o), some (.int x1), some (.int x2), some (.int x3), none]) rfl ?_
        exact wX3_fewest_b41 C ho hl N k19 hk19 (x1) (x2) (x3) (s) hF
      · refine v_goto C (tgt := 71) dX3_fewest_38 (by decide) ?_
        refine v_mask [true, true, true, true, false] (lv' := [some (.ref o), some (.int x1), some (.int x2), some (.int x3), none]) rfl ?_
        exact wX3_fewest_b71 C ho hl N k19 hk19 (x1) (x2) (x3) (s) hF
set_option maxHeartbeats 4000000 in
theorem wX3_fewest_b15 {l : Launch} {g : GT} {X : CxT} {o : Nat} {u : Wd} {r : Int32} {s1 : M} (C : kOk g X cX3_fewest 5 RX3 (some .int) 3 300 (some (.int r)) (wM g o s1 u)) (ho : gB g ≤ o) (hl : xl X = l) (N : Nat)  (x1 : Int32) (s : M) (hF : FX3_fewest_b15 N  x1 s = some (r, s1)) : kV g X 5 (wM g o s u) 15 [some (.ref o), some (.int x1), none, none, none] [] := by
  unfold FX3_fewest_b15 at hF
  refine v_iconst C (v := (0 : Int32)) dX3_fewest_15 (by decide) ?_
  refine v_istore_n C dX3_fewest_16 rfl (Nat.le_of_ble_eq_true rfl) rfl (lv' := [some (.ref o), some (.int x1), some (.int (0 : Int32)), none, none]) rfl ?_
  refine v_iconst C (v := (0 : Int32)) dX3_fewest_17 (by decide) ?_
  refine v_istore_n C dX3_fewest_18 rfl (Nat.le_of_ble_eq_true rfl) rfl (lv' := [some (.ref o), some (.int x1), some (.int (0 : Int32)), some (.int (0 : Int32)), none]) rfl ?_
  refine v_mask [true, true, true, true, false] (lv' := [some (.ref o), some (.int x1), some (.int (0 : Int32)), some (.int (0 : Int32)), none]) rfl ?_
  exact kloop_ok (P := fun a => kV g X 5 (wM g o a.2.2.2 u) 19 [some (.ref o), some (.int a.1), some (.int a.2.1), some (.int a.2.2.1), none] []) (fun self hs a hF => wX3_fewest_b19 C ho hl N  self hs a.1 a.2.1 a.2.2.1 a.2.2.2 hF) N (x1, (0 : Int32), (0 : Int32), s) hF
set_option maxHeartbeats 4000000 in
theorem wX3_fewest (l : Launch) (g : GT) {o : Nat} (ho : gB g ≤ o) (u : Wd) (N : Nat) (x1 : Int32)  (s : M) (r : Int32) (s1 : M) (hF : FX3_fewest N x1 s = some (r, s1)) : kMt l g yX3_fewest (ws_ yX3_fewest cX3_fewest 5 (some .int)) (3) (300) (wM g o s u) [.ref o, .int x1] (some (.int r)) (wM g o s1 u) := by
  refine kMt.ofV (lv := [some (.ref o), some (.int x1), none, none, none]) (by decide) rfl (Nat.le_of_ble_eq_true rfl) rfl ?_
  intro X hl hin C
  unfold FX3_fewest at hF
  refine v_iload_n C dX3_fewest_0 rfl rfl ?_
  refine v_iconst C (v := (-1 : Int32)) dX3_fewest_1 (by decide) ?_
  refine v_icmp_eq C (tgt := 15) dX3_fewest_2 (by decide) hF (fun c1 hF => ?_) (fun c1 hF => ?_)
  · refine v_mask [true, true, false, false, false] (lv' := [some (.ref o), some (.int x1), none, none, none]) rfl ?_
    exact wX3_fewest_b15 C ho hl N  (x1) (s) hF
  · refine v_aload_n C dX3_fewest_5 rfl rfl ?_
    refine v_iload_n C dX3_fewest_6 rfl rfl ?_
    refine m_callVi C lk_X3_161 rfl (fr2 := 2) (lo2 := 200) (As := [.int x1]) (st := []) (fun r s1 h => by rw [hl]; exact wX3_isCard l g ho u N x1 s r s1 h) (by decide) rfl rfl (Nat.le_of_ble_eq_true rfl) dX3_fewest_7 hF (fun r9 s10 hF => ?_)
    refine v_if_ne C (tgt := 15) dX3_fewest_10 (by decide) hF (fun c11 hF => ?_) (fun c11 hF => ?_)
    · refine v_iconst C (v := (-1 : Int32)) dX3_fewest_13 (by decide) ?_
      exact m_iret C dX3_fewest_14 hF
    · refine v_mask [true, true, false, false, false] (lv' := [some (.ref o), some (.int x1), none, none, none]) rfl ?_
      exact wX3_fewest_b15 C ho hl N  (x1) (s10) hF
set_option maxHeartbeats 4000000 in
theorem wX3_weaveDraft_b109 {l : Launch} {g : GT} {X : CxT} {o : Nat} {u : Wd} {r : Int32} {s1 : M} (C : kOk g X cX3_weaveDraft 3 RX3 (some .int) 5 500 (some (.int r)) (wM g o s1 u)) (ho : gB g ≤ o) (hl : xl X = l) (N : Nat) (k99 : Int32 × M → Option (Int32 × M)) (hk99 : ∀ a, k99 a = some (r, s1) → kV g X 3 (wM g o a.2 u) 99 [some (.ref o), some (.int a.1), none] []) (k109 : Int32 × Int32 × M → Option (Int32 × M)) (hk109 : ∀ a, k109 a = some (r, s1) → kV g X 3 (wM g o a.2.2 u) 109 [some (.ref o), some (.int a.1), some (.int a.2.1)] []) (x1 : Int32) (x2 : Int32) (s : M) (hF : FX3_weaveDraft_b109 N k99 k109 x1 x2 s = some (r, s1)) : kV g X 3 (wM g o s u) 109 [some (.ref o), some (.int x1), some (.int x2)] [] := by
  unfold FX3_weaveDraft_b109 at hF
  refine v_iload_n C dX3_weaveDraft_109 rfl rfl ?_
  refine v_aload_n C dX3_weaveDraft_110 rfl rfl ?_
  refine m_get C 1 (Nat.le_of_ble_eq_true rfl) q2303 (v := .ref (o + 1)) rfl dX3_weaveDraft_111 ?_
  refine v_iconst C (v := (0 : Int32)) dX3_weaveDraft_114 (by decide) ?_
  refine m_ald C (Nat.le_of_ble_eq_true rfl) (Nat.le_of_ble_eq_true rfl) (by decide) (n := 2) rfl rfl (ix := 0) (by decide) dX3_weaveDraft_115 ?_
  refine v_icmp_ge C (tgt := 142) dX3_weaveDraft_116 (by decide) hF (fun c9 hF => ?_) (fun c9 hF => ?_)
  · refine v_aload_n C dX3_weaveDraft_142 rfl rfl ?_
    refine m_callVi C lk_X3_184 rfl (fr2 := 3) (lo2 := 300) (As := []) (st := []) (fun r s1 h => by rw [hl]; exact wX3_pick l g ho u N  s r s1 h) (by decide) rfl rfl (Nat.le_of_ble_eq_true rfl) dX3_weaveDraft_143 hF (fun r10 s11 hF => ?_)
    refine v_if_lt C (tgt := 152) dX3_weaveDraft_146 (by decide) hF (fun c12 hF => ?_) (fun c12 hF => ?_)
    · refine v_iload_n C dX3_weaveDraft_152 rfl rfl ?_
      refine v_if_le C (tgt := 162) dX3_weaveDraft_153 (by decide) hF (fun c13 hF => ?_) (fun c13 hF => ?_)
      · refine v_bipush C (v := (-6 : Int32)) dX3_weaveDraft_162 (by decide) ?_
        exact m_iret C dX3_weaveDraft_164 hF
      · refine v_aload_n C dX3_weaveDraft_156 rfl rfl ?_
        refine v_iload_n C dX3_weaveDraft_157 rfl rfl ?_
        refine m_callVi C lk_X3_234 rfl (fr2 := 2) (lo2 := 200) (As := [.int x1]) (st := []) (fun r s1 h => by rw [hl]; exact wX3_unweave l g ho u N x1 s11 r s1 h) (by decide) rfl rfl (Nat.le_of_ble_eq_true rfl) dX3_weaveDraft_158 hF (fun r14 s15 hF => ?_)
        refine v_pop C dX3_weaveDraft_161 rfl ?_
        refine v_bipush C (v := (-6 : Int32)) dX3_weaveDraft_162 (by decide) ?_
        exact m_iret C dX3_weaveDraft_164 hF
    · refine v_goto C (tgt := 165) dX3_weaveDraft_149 (by decide) ?_
      refine v_iinc C dX3_weaveDraft_165 rfl (v := (x1 + (1 : Int32))) rfl (Nat.le_of_ble_eq_true rfl) rfl (lv' := [some (.ref o), some (.int (x1 + (1 : Int32))), some (.int x2)]) rfl ?_
      refine v_goto C (tgt := 99) dX3_weaveDraft_168 (by decide) ?_
      refine v_mask [true, true, false] (lv' := [some (.ref o), some (.int (x1 + (1 : Int32))), none]) rfl ?_
      exact hk99 ((x1 + (1 : Int32)), s11) hF
  · refine v_aload_n C dX3_weaveDraft_119 rfl rfl ?_
    refine m_get C 29 (Nat.le_of_ble_eq_true rfl) q2331 (v := .ref (o + 22)) rfl dX3_weaveDraft_120 ?_
    refine v_iload_n C dX3_weaveDraft_123 rfl rfl ?_
    refine v_aload_n C dX3_weaveDraft_124 rfl rfl ?_
    refine m_get C 35 (Nat.le_of_ble_eq_true rfl) q2337 (v := .ref (o + 27)) rfl dX3_weaveDraft_125 ?_
    refine v_bipush C (v := (10 : Int32)) dX3_weaveDraft_128 (by decide) ?_
    refine v_iload_n C dX3_weaveDraft_130 rfl rfl ?_
    refine v_imul C dX3_weaveDraft_131 ?_
    refine v_iload_n C dX3_weaveDraft_132 rfl rfl ?_
    refine v_iadd C dX3_weaveDraft_133 ?_
    obtain ⟨h16, hF⟩ := k_ite hF
    refine m_ald C (Nat.le_of_ble_eq_true rfl) (Nat.le_of_ble_eq_true rfl) (by decide) (n := 80) rfl h16 (ix := ((((10 : Int32) * x1) + x2).toNatClampNeg)) rfl dX3_weaveDraft_134 ?_
    obtain ⟨h17, hF⟩ := k_ite hF
    refine m_ast C ho (Nat.le_of_ble_eq_true rfl) (Nat.le_of_ble_eq_true rfl) (by decide) (n := 10) rfl h17 (ix := (x2.toNatClampNeg)) rfl dX3_weaveDraft_135 ?_
    refine v_iinc C dX3_weaveDraft_136 rfl (v := (x2 + (1 : Int32))) rfl (Nat.le_of_ble_eq_true rfl) rfl (lv' := [some (.ref o), some (.int x1), some (.int (x2 + (1 : Int32)))]) rfl ?_
    refine v_goto C (tgt := 109) dX3_weaveDraft_139 (by decide) ?_
    refine v_mask [true, true, true] (lv' := [some (.ref o), some (.int x1), some (.int (x2 + (1 : Int32)))]) rfl ?_
    exact hk109 (x1, (x2 + (1 : Int32)), (sA s 22 (x2.toNatClampNeg) (s.2 27 ((((10 : Int32) * x1) + x2).toNatClampNeg)))) hF
