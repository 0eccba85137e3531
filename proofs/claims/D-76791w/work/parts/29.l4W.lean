set_option maxRecDepth 100000
set_option maxHeartbeats 4000000 in
theorem wJ8_copyOf_4 (l : Launch) (g : GT) (hX : ∀ U, gX g U → SX g U) (N : Nat) (x0 : Nat) (x1 : Int32) (w : Wd) (r : Nat) (w1 : Wd) (hF : FJ8_copyOf_4 N g x0 x1 w = some (r, w1)) : kMt l g yJ8_copyOf_4 (ws_ yJ8_copyOf_4 cJ8_copyOf_4 3 (some (.array .byte))) 1 100 w [.ref x0, .int x1] (some (.ref r)) w1 := by
  refine kMt.ofV (lv := [some (.ref x0), some (.int x1), none]) (by decide) rfl (Nat.le_of_ble_eq_true rfl) rfl ?_
  intro X hl hin C
  unfold FJ8_copyOf_4 at hF
  refine v_iload_n C dJ8_copyOf_4_0 rfl rfl ?_
  refine v_aload_n C dJ8_copyOf_4_1 rfl rfl ?_
  refine v_aL C (t := 2) rfl dJ8_copyOf_4_2 hF (fun v1 hF => ?_)
  refine v_icmp_ne C (tgt := 14) dJ8_copyOf_4_3 (by decide) hF (fun c2 hF => ?_) (fun c2 hF => ?_)
  · cases hF
  · refine v_iload_n C dJ8_copyOf_4_14 rfl rfl ?_
    refine v_newaW C (atype := .byte) q194 rfl (t := 2) rfl rfl (fun cA N => rfl) (Nat.le_of_ble_eq_true rfl) dJ8_copyOf_4_15 hF (fun a3 u4 hF => ?_)
    refine v_astore_n C dJ8_copyOf_4_17 rfl (Nat.le_of_ble_eq_true rfl) rfl (lv' := [some (.ref x0), some (.int x1), some (.ref a3)]) rfl ?_
    refine v_aload_n C dJ8_copyOf_4_18 rfl rfl ?_
    refine v_iconst C (v := (0 : Int32)) dJ8_copyOf_4_19 (by decide) ?_
    refine v_aload_n C dJ8_copyOf_4_20 rfl rfl ?_
    refine v_iconst C (v := (0 : Int32)) dJ8_copyOf_4_21 (by decide) ?_
    refine v_aload_n C dJ8_copyOf_4_22 rfl rfl ?_
    refine v_aL C (t := 2) rfl dJ8_copyOf_4_23 hF (fun v5 hF => ?_)
    refine v_iload_n C dJ8_copyOf_4_24 rfl rfl ?_
    refine v_mmin C q471 (by decide) (Nat.le_of_ble_eq_true rfl) dJ8_copyOf_4_25 ?_
    refine v_cpB C hX q474 (by decide) (Nat.le_of_ble_eq_true rfl) dJ8_copyOf_4_28 hF (fun u6 hF => ?_)
    refine v_aload_n C dJ8_copyOf_4_31 rfl rfl ?_
    exact c_aret C (Or.inr ⟨_, rfl⟩) dJ8_copyOf_4_32 hF
set_option maxHeartbeats 4000000 in
theorem wJ8_checkLength (l : Launch) (g : GT) (hX : ∀ U, gX g U → SX g U) (N : Nat) (x0 : Int32) (x1 : Int32) (w : Wd) (r : Unit) (w1 : Wd) (hF : FJ8_checkLength N g x0 x1 w = some (r, w1)) : kMt l g yJ8_checkLength (ws_ yJ8_checkLength cJ8_checkLength 2 none) 1 100 w [.int x0, .int x1] none w1 := by
  refine kMt.ofV (lv := [some (.int x0), some (.int x1)]) (by decide) rfl (Nat.le_of_ble_eq_true rfl) rfl ?_
  intro X hl hin C
  unfold FJ8_checkLength at hF
  refine v_iload_n C dJ8_checkLength_0 rfl rfl ?_
  refine v_iload_n C dJ8_checkLength_1 rfl rfl ?_
  refine v_icmp_ge C (tgt := 37) dJ8_checkLength_2 (by decide) hF (fun c1 hF => ?_) (fun c1 hF => ?_)
  · exact c_vret C dJ8_checkLength_37 hF
  · cases hF
set_option maxHeartbeats 4000000 in
theorem wJ8_copyOfRangeByte (l : Launch) (g : GT) (hX : ∀ U, gX g U → SX g U) (N : Nat) (x0 : Nat) (x1 : Int32) (x2 : Int32) (w : Wd) (r : Nat) (w1 : Wd) (hF : FJ8_copyOfRangeByte N g x0 x1 x2 w = some (r, w1)) : kMt l g yJ8_copyOfRangeByte (ws_ yJ8_copyOfRangeByte cJ8_copyOfRangeByte 5 (some (.array .byte))) 2 200 w [.ref x0, .int x1, .int x2] (some (.ref r)) w1 := by
  refine kMt.ofV (lv := [some (.ref x0), some (.int x1), some (.int x2), none, none]) (by decide) rfl (Nat.le_of_ble_eq_true rfl) rfl ?_
  intro X hl hin C
  unfold FJ8_copyOfRangeByte at hF
  refine v_iload_n C dJ8_copyOfRangeByte_0 rfl rfl ?_
  refine v_iload_n C dJ8_copyOfRangeByte_1 rfl rfl ?_
  refine c_callSv C lk_J8_343 (fr2 := 1) (lo2 := 100) (As := [.int x1, .int x2]) (st := []) (fun r9_ w9_ h9_ => by rw [hl]; exact wJ8_checkLength l g hX N x1 x2 w r9_ w9_ h9_) (by decide) rfl rfl (Nat.le_of_ble_eq_true rfl) dJ8_copyOfRangeByte_2 hF (fun r1 u2 hF => ?_)
  refine v_iload_n C dJ8_copyOfRangeByte_5 rfl rfl ?_
  refine v_iload_n C dJ8_copyOfRangeByte_6 rfl rfl ?_
  refine v_isub C dJ8_copyOfRangeByte_7 ?_
  refine v_istore_n C dJ8_copyOfRangeByte_8 rfl (Nat.le_of_ble_eq_true rfl) rfl (lv' := [some (.ref x0), some (.int x1), some (.int x2), some (.int (x2 - x1)), none]) rfl ?_
  refine v_iload_n C dJ8_copyOfRangeByte_9 rfl rfl ?_
  refine v_newaW C (atype := .byte) q194 rfl (t := 2) rfl rfl (fun cA N => rfl) (Nat.le_of_ble_eq_true rfl) dJ8_copyOfRangeByte_10 hF (fun a3 u4 hF => ?_)
  refine v_astore C dJ8_copyOfRangeByte_12 (Nat.le_of_ble_eq_true rfl) rfl (lv' := [some (.ref x0), some (.int x1), some (.int x2), some (.int (x2 - x1)), some (.ref a3)]) rfl ?_
  refine v_aload_n C dJ8_copyOfRangeByte_14 rfl rfl ?_
  refine v_iload_n C dJ8_copyOfRangeByte_15 rfl rfl ?_
  refine v_aload C dJ8_copyOfRangeByte_16 rfl ?_
  refine v_iconst C (v := (0 : Int32)) dJ8_copyOfRangeByte_18 (by decide) ?_
  refine v_aload_n C dJ8_copyOfRangeByte_19 rfl rfl ?_
  refine v_aL C (t := 2) rfl dJ8_copyOfRangeByte_20 hF (fun v5 hF => ?_)
  refine v_iload_n C dJ8_copyOfRangeByte_21 rfl rfl ?_
  refine v_isub C dJ8_copyOfRangeByte_22 ?_
  refine v_iload_n C dJ8_copyOfRangeByte_23 rfl rfl ?_
  refine v_mmin C q471 (by decide) (Nat.le_of_ble_eq_true rfl) dJ8_copyOfRangeByte_24 ?_
  refine v_cpB C hX q474 (by decide) (Nat.le_of_ble_eq_true rfl) dJ8_copyOfRangeByte_27 hF (fun u6 hF => ?_)
  refine v_aload C dJ8_copyOfRangeByte_30 rfl ?_
  exact c_aret C (Or.inr ⟨_, rfl⟩) dJ8_copyOfRangeByte_32 hF
set_option maxHeartbeats 4000000 in
theorem wJ8_copyOfRange (l : Launch) (g : GT) (hX : ∀ U, gX g U → SX g U) (N : Nat) (x0 : Nat) (x1 : Int32) (x2 : Int32) (w : Wd) (r : Nat) (w1 : Wd) (hF : FJ8_copyOfRange N g x0 x1 x2 w = some (r, w1)) : kMt l g yJ8_copyOfRange (ws_ yJ8_copyOfRange cJ8_copyOfRange 3 (some (.array .byte))) 3 300 w [.ref x0, .int x1, .int x2] (some (.ref r)) w1 := by
  refine kMt.ofV (lv := [some (.ref x0), some (.int x1), some (.int x2)]) (by decide) rfl (Nat.le_of_ble_eq_true rfl) rfl ?_
  intro X hl hin C
  unfold FJ8_copyOfRange at hF
  refine v_iload_n C dJ8_copyOfRange_0 rfl rfl ?_
  refine v_if_ne C (tgt := 10) dJ8_copyOfRange_1 (by decide) hF (fun c1 hF => ?_) (fun c1 hF => ?_)
  · refine v_iload_n C dJ8_copyOfRange_4 rfl rfl ?_
    refine v_aload_n C dJ8_copyOfRange_5 rfl rfl ?_
    refine v_aL C (t := 2) rfl dJ8_copyOfRange_6 hF (fun v2 hF => ?_)
    refine v_icmp_eq C (tgt := 17) dJ8_copyOfRange_7 (by decide) hF (fun c3 hF => ?_) (fun c3 hF => ?_)
    · cases hF
    · refine v_aload_n C dJ8_copyOfRange_10 rfl rfl ?_
      refine v_iload_n C dJ8_copyOfRange_11 rfl rfl ?_
      refine v_iload_n C dJ8_copyOfRange_12 rfl rfl ?_
      refine c_callSr C lk_J8_339 (fr2 := 2) (lo2 := 200) (As := [.ref x0, .int x1, .int x2]) (st := []) (fun r9_ w9_ h9_ => by rw [hl]; exact wJ8_copyOfRangeByte l g hX N x0 x1 x2 w r9_ w9_ h9_) (by decide) rfl rfl (Nat.le_of_ble_eq_true rfl) dJ8_copyOfRange_13 hF (fun r4 u5 hF => ?_)
      exact c_aret C (Or.inr ⟨_, rfl⟩) dJ8_copyOfRange_16 hF
  · cases hF
set_option maxHeartbeats 4000000 in
theorem wJ9_coder (l : Launch) (g : GT) (hX : ∀ U, gX g U → SX g U) (N : Nat) (x0 : Nat) (w : Wd) (r : Int32) (w1 : Wd) (hF : FJ9_coder N g x0 w = some (r, w1)) : kMt l g yJ9_coder (ws_ yJ9_coder cJ9_coder 1 (some .byte)) 1 100 w [.ref x0] (some (.int r)) w1 := by
  refine kMt.ofV (lv := [some (.ref x0)]) (by decide) rfl (Nat.le_of_ble_eq_true rfl) rfl ?_
  intro X hl hin C
  unfold FJ9_coder at hF
  refine v_gets C ((hX _ C.2.2.2.2.2.1.2.2.1).1 _ (List.mem_of_getElem? (i := 6) rfl)) q513 (Or.inl rfl) dJ9_coder_0 ?_
  refine v_if_eq C (tgt := 13) dJ9_coder_3 (by decide) hF (fun c1 hF => ?_) (fun c1 hF => ?_)
  · cases hF
  · refine v_aload_n C dJ9_coder_6 rfl rfl ?_
    refine v_zC C hX kc_J9 q2157 dJ9_coder_7 hF (fun v2 hF => ?_)
    refine v_goto C (tgt := 14) dJ9_coder_10 (by decide) ?_
    obtain ⟨h3, hF⟩ := k_ite hF
    exact c_zret C (kb8_nar h3) dJ9_coder_14 hF
set_option maxHeartbeats 4000000 in
theorem wJ9_isLatin1 (l : Launch) (g : GT) (hX : ∀ U, gX g U → SX g U) (N : Nat) (x0 : Nat) (w : Wd) (r : Int32) (w1 : Wd) (hF : FJ9_isLatin1 N g x0 w = some (r, w1)) : kMt l g yJ9_isLatin1 (ws_ yJ9_isLatin1 cJ9_isLatin1 1 (some .boolean)) 1 100 w [.ref x0] (some (.int r)) w1 := by
  refine kMt.ofV (lv := [some (.ref x0)]) (by decide) rfl (Nat.le_of_ble_eq_true rfl) rfl ?_
  intro X hl hin C
  unfold FJ9_isLatin1 at hF
  refine v_gets C ((hX _ C.2.2.2.2.2.1.2.2.1).1 _ (List.mem_of_getElem? (i := 6) rfl)) q513 (Or.inl rfl) dJ9_isLatin1_0 ?_
  refine v_if_eq C (tgt := 17) dJ9_isLatin1_3 (by decide) hF (fun c1 hF => ?_) (fun c1 hF => ?_)
  · cases hF
  · refine v_aload_n C dJ9_isLatin1_6 rfl rfl ?_
    refine v_zC C hX kc_J9 q2157 dJ9_isLatin1_7 hF (fun v2 hF => ?_)
    refine v_if_ne C (tgt := 17) dJ9_isLatin1_10 (by decide) hF (fun c3 hF => ?_) (fun c3 hF => ?_)
    · refine v_iconst C (v := (1 : Int32)) dJ9_isLatin1_13 (by decide) ?_
      refine v_goto C (tgt := 18) dJ9_isLatin1_14 (by decide) ?_
      exact c_zret C rfl dJ9_isLatin1_18 hF
    · refine v_iconst C (v := (0 : Int32)) dJ9_isLatin1_17 (by decide) ?_
      exact c_zret C rfl dJ9_isLatin1_18 hF
set_option maxHeartbeats 4000000 in
theorem wJ9_length (l : Launch) (g : GT) (hX : ∀ U, gX g U → SX g U) (N : Nat) (x0 : Nat) (w : Wd) (r : Int32) (w1 : Wd) (hF : FJ9_length N g x0 w = some (r, w1)) : kMt l g yJ9_length (ws_ yJ9_length cJ9_length 1 (some .int)) 2 200 w [.ref x0] (some (.int r)) w1 := by
  refine kMt.ofV (lv := [some (.ref x0)]) (by decide) rfl (Nat.le_of_ble_eq_true rfl) rfl ?_
  intro X hl hin C
  unfold FJ9_length at hF
  refine v_aload_n C dJ9_length_0 rfl rfl ?_
  refine v_zV C hX kc_J9 q2156 dJ9_length_1 hF (fun v1 hF => ?_)
  refine v_zL C hX dJ9_length_4 hF (fun v2 hF => ?_)
  refine v_aload_n C dJ9_length_5 rfl rfl ?_
  obtain ⟨h5, hF⟩ := k_ite hF
  refine c_callVRi C lk_J9_335 (kRcZ C hX h5) (fr2 := 1) (lo2 := 100) (As := []) (st := [.int v2]) (fun r9_ w9_ h9_ => by rw [hl]; exact wJ9_coder l g hX N x0 w r9_ w9_ h9_) (by decide) rfl rfl (Nat.le_of_ble_eq_true rfl) dJ9_length_6 hF (fun r3 u4 hF => ?_)
  refine v_ishr C dJ9_length_9 ?_
  exact c_iret C dJ9_length_10 hF
set_option maxHeartbeats 4000000 in
theorem wJ10_canEncode (l : Launch) (g : GT) (hX : ∀ U, gX g U → SX g U) (N : Nat) (x0 : Int32) (w : Wd) (r : Int32) (w1 : Wd) (hF : FJ10_canEncode N g x0 w = some (r, w1)) : kMt l g yJ10_canEncode (ws_ yJ10_canEncode cJ10_canEncode 1 (some .boolean)) 1 100 w [.int x0] (some (.int r)) w1 := by
  refine kMt.ofV (lv := [some (.int x0)]) (by decide) rfl (Nat.le_of_ble_eq_true rfl) rfl ?_
  intro X hl hin C
  unfold FJ10_canEncode at hF
  refine v_iload_n C dJ10_canEncode_0 rfl rfl ?_
  refine v_if_lt C (tgt := 15) dJ10_canEncode_1 (by decide) hF (fun c1 hF => ?_) (fun c1 hF => ?_)
  · refine v_iconst C (v := (0 : Int32)) dJ10_canEncode_15 (by decide) ?_
    exact c_zret C rfl dJ10_canEncode_16 hF
  · refine v_iload_n C dJ10_canEncode_4 rfl rfl ?_
    refine v_sipush C (v := (255 : Int32)) dJ10_canEncode_5 (by decide) ?_
    refine v_icmp_gt C (tgt := 15) dJ10_canEncode_8 (by decide) hF (fun c2 hF => ?_) (fun c2 hF => ?_)
    · refine v_iconst C (v := (0 : Int32)) dJ10_canEncode_15 (by decide) ?_
      exact c_zret C rfl dJ10_canEncode_16 hF
    · refine v_iconst C (v := (1 : Int32)) dJ10_canEncode_11 (by decide) ?_
      refine v_goto C (tgt := 16) dJ10_canEncode_12 (by decide) ?_
      exact c_zret C rfl dJ10_canEncode_16 hF
set_option maxHeartbeats 4000000 in
theorem wJ10_canEncode_2 (l : Launch) (g : GT) (hX : ∀ U, gX g U → SX g U) (N : Nat) (x0 : Int32) (w : Wd) (r : Int32) (w1 : Wd) (hF : FJ10_canEncode_2 N g x0 w = some (r, w1)) : kMt l g yJ10_canEncode_2 (ws_ yJ10_canEncode_2 cJ10_canEncode_2 1 (some .boolean)) 1 100 w [.int x0] (some (.int r)) w1 := by
  refine kMt.ofV (lv := [some (.int x0)]) (by decide) rfl (Nat.le_of_ble_eq_true rfl) rfl ?_
  intro X hl hin C
  unfold FJ10_canEncode_2 at hF
  refine v_iload_n C dJ10_canEncode_2_0 rfl rfl ?_
  refine v_sipush C (v := (255 : Int32)) dJ10_canEncode_2_1 (by decide) ?_
  refine v_icmp_gt C (tgt := 11) dJ10_canEncode_2_4 (by decide) hF (fun c1 hF => ?_) (fun c1 hF => ?_)
  · refine v_iconst C (v := (0 : Int32)) dJ10_canEncode_2_11 (by decide) ?_
    exact c_zret C rfl dJ10_canEncode_2_12 hF
  · refine v_iconst C (v := (1 : Int32)) dJ10_canEncode_2_7 (by decide) ?_
    refine v_goto C (tgt := 12) dJ10_canEncode_2_8 (by decide) ?_
    exact c_zret C rfl dJ10_canEncode_2_12 hF
set_option maxHeartbeats 4000000 in
theorem wJ9_checkIndex (l : Launch) (g : GT) (hX : ∀ U, gX g U → SX g U) (N : Nat) (x0 : Int32) (x1 : Int32) (w : Wd) (r : Unit) (w1 : Wd) (hF : FJ9_checkIndex N g x0 x1 w = some (r, w1)) : kMt l g yJ9_checkIndex (ws_ yJ9_checkIndex cJ9_checkIndex 2 none) 2 200 w [.int x0, .int x1] none w1 := by
  refine kMt.ofV (lv := [some (.int x0), some (.int x1)]) (by decide) rfl (Nat.le_of_ble_eq_true rfl) rfl ?_
  intro X hl hin C
  unfold FJ9_checkIndex at hF
  refine v_iload_n C dJ9_checkIndex_0 rfl rfl ?_
  refine v_iload_n C dJ9_checkIndex_1 rfl rfl ?_
  refine v_gets C ((hX _ C.2.2.2.2.2.1.2.2.1).1 _ (List.mem_of_getElem? (i := 8) rfl)) q552 (Or.inl rfl) dJ9_checkIndex_2 ?_
  refine c_callSi C lk_J9_1059 (fr2 := 1) (lo2 := 100) (As := [.int x0, .int x1, va_rf (gO g 14)]) (st := []) (fun r9_ w9_ h9_ => by rw [hl]; exact wJ12_checkIndex l g hX N x0 x1 (gO g 14) w r9_ w9_ h9_) (by decide) rfl rfl (Nat.le_of_ble_eq_true rfl) dJ9_checkIndex_5 hF (fun r1 u2 hF => ?_)
  refine v_pop C dJ9_checkIndex_8 rfl ?_
  exact c_vret C dJ9_checkIndex_9 hF
set_option maxHeartbeats 4000000 in
theorem wJ10_charAt (l : Launch) (g : GT) (hX : ∀ U, gX g U → SX g U) (N : Nat) (x0 : Nat) (x1 : Int32) (w : Wd) (r : Int32) (w1 : Wd) (hF : FJ10_charAt N g x0 x1 w = some (r, w1)) : kMt l g yJ10_charAt (ws_ yJ10_charAt cJ10_charAt 2 (some .char)) 3 300 w [.ref x0, .int x1] (some (.int r)) w1 := by
  refine kMt.ofV (lv := [some (.ref x0), some (.int x1)]) (by decide) rfl (Nat.le_of_ble_eq_true rfl) rfl ?_
  intro X hl hin C
  unfold FJ10_charAt at hF
  refine v_iload_n C dJ10_charAt_0 rfl rfl ?_
  refine v_aload_n C dJ10_charAt_1 rfl rfl ?_
  refine v_zL C hX dJ10_charAt_2 hF (fun v1 hF => ?_)
  refine c_callSv C lk_J10_9 (fr2 := 2) (lo2 := 200) (As := [.int x1, .int v1]) (st := []) (fun r9_ w9_ h9_ => by rw [hl]; exact wJ9_checkIndex l g hX N x1 v1 w r9_ w9_ h9_) (by decide) rfl rfl (Nat.le_of_ble_eq_true rfl) dJ10_charAt_3 hF (fun r2 u3 hF => ?_)
  refine v_aload_n C dJ10_charAt_6 rfl rfl ?_
  refine v_iload_n C dJ10_charAt_7 rfl rfl ?_
  refine v_zI C hX dJ10_charAt_8 hF (fun v4 hF => ?_)
  refine v_sipush C (v := (255 : Int32)) dJ10_charAt_9 (by decide) ?_
  refine v_iand C dJ10_charAt_12 ?_
  refine v_i2c C dJ10_charAt_13 rfl ?_
  obtain ⟨h5, hF⟩ := k_ite hF
  exact c_zret C (kc16_nar h5) dJ10_charAt_14 hF
set_option maxHeartbeats 4000000 in
theorem wJ9_charAt (l : Launch) (g : GT) (hX : ∀ U, gX g U → SX g U) (N : Nat) (x0 : Nat) (x1 : Int32) (w : Wd) (r : Int32) (w1 : Wd) (hF : FJ9_charAt N g x0 x1 w = some (r, w1)) : kMt l g yJ9_charAt (ws_ yJ9_charAt cJ9_charAt 2 (some .char)) 4 400 w [.ref x0, .int x1] (some (.int r)) w1 := by
  refine kMt.ofV (lv := [some (.ref x0), some (.int x1)]) (by decide) rfl (Nat.le_of_ble_eq_true rfl) rfl ?_
  intro X hl hin C
  unfold FJ9_charAt at hF
  refine v_aload_n C dJ9_charAt_0 rfl rfl ?_
  obtain ⟨h3, hF⟩ := k_ite hF
  refine c_callVRi C lk_J9_492 (kRcZ C hX h3) (fr2 := 1) (lo2 := 100) (As := []) (st := []) (fun r9_ w9_ h9_ => by rw [hl]; exact wJ9_isLatin1 l g hX N x0 w r9_ w9_ h9_) (by decide) rfl rfl (Nat.le_of_ble_eq_true rfl) dJ9_charAt_1 hF (fun r1 u2 hF => ?_)
  refine v_if_eq C (tgt := 16) dJ9_charAt_4 (by decide) hF (fun c4 hF => ?_) (fun c4 hF => ?_)
  · cases hF
  · refine v_aload_n C dJ9_charAt_7 rfl rfl ?_
    refine v_zV C hX kc_J9 q2156 dJ9_charAt_8 hF (fun v5 hF => ?_)
    refine v_iload_n C dJ9_charAt_11 rfl rfl ?_
    refine c_callSi C lk_J9_495 (fr2 := 3) (lo2 := 300) (As := [.ref v5, .int x1]) (st := []) (fun r9_ w9_ h9_ => by rw [hl]; exact wJ10_charAt l g hX N v5 x1 u2 r9_ w9_ h9_) (by decide) rfl rfl (Nat.le_of_ble_eq_true rfl) dJ9_charAt_12 hF (fun r6 u7 hF => ?_)
    obtain ⟨h8, hF⟩ := k_ite hF
    exact c_zret C (kc16_nar h8) dJ9_charAt_15 hF
set_option maxHeartbeats 4000000 in
theorem wJ10_indexOfChar_b7 {l : Launch} {g : GT} {X : CxT} {r : Int32} {w1 : Wd} (C : kOk g X cJ10_indexOfChar 6 RJ10 (some .int) 1 100 (some (.int r)) w1) (hX : ∀ U, gX g U → SX g U) (hl : xl X = l) (hin : kHin X yJ10_indexOfChar) (N : Nat) (k7 : Nat × Int32 × Int32 × Int32 × Wd → Option (Int32 × Wd)) (hk7 : ∀ a, k7 a = some (r, w1) → kV g X 6 a.2.2.2.2 7 [some (.ref a.1), none, none, some (.int a.2.1), some (.int a.2.2.1), some (.int a.2.2.2.1)] []) (x0 : Nat) (x3 : Int32) (x4 : Int32) (x5 : Int32) (w : Wd) (hF : FJ10_indexOfChar_b7 N g k7 x0 x3 x4 x5 w = some (r, w1)) : kV g X 6 w 7 [some (.ref x0), none, none, some (.int x3), some (.int x4), some (.int x5)] [] := by
  unfold FJ10_indexOfChar_b7 at hF
  refine v_iload C dJ10_indexOfChar_7 rfl ?_
  refine v_iload_n C dJ10_indexOfChar_9 rfl rfl ?_
  refine v_icmp_ge C (tgt := 31) dJ10_indexOfChar_10 (by decide) hF (fun c1 hF => ?_) (fun c1 hF => ?_)
  · refine v_iconst C (v := (-1 : Int32)) dJ10_indexOfChar_31 (by decide) ?_
    exact c_iret C dJ10_indexOfChar_32 hF
  · refine v_aload_n C dJ10_indexOfChar_13 rfl rfl ?_
    refine v_iload C dJ10_indexOfChar_14 rfl ?_
    refine v_zI C hX dJ10_indexOfChar_16 hF (fun v2 hF => ?_)
    refine v_iload C dJ10_indexOfChar_17 rfl ?_
    refine v_icmp_ne C (tgt := 25) dJ10_indexOfChar_19 (by decide) hF (fun c3 hF => ?_) (fun c3 hF => ?_)
    · refine v_iload C dJ10_indexOfChar_22 rfl ?_
      exact c_iret C dJ10_indexOfChar_24 hF
    · refine v_iinc C dJ10_indexOfChar_25 rfl (v := (x5 + (1 : Int32))) rfl (Nat.le_of_ble_eq_true rfl) rfl (lv' := [some (.ref x0), none, none, some (.int x3), some (.int x4), some (.int (x5 + (1 : Int32)))]) rfl ?_
      refine v_goto C (tgt := 7) dJ10_indexOfChar_28 (by decide) ?_
      refine v_mask [true, false, false, true, true, true] (lv' := [some (.ref x0), none, none, some (.int x3), some (.int x4), some (.int (x5 + (1 : Int32)))]) rfl ?_
      exact hk7 (x0, x3, x4, (x5 + (1 : Int32)), w) hF
set_option maxHeartbeats 4000000 in
theorem wJ10_indexOfChar (l : Launch) (g : GT) (hX : ∀ U, gX g U → SX g U) (N : Nat) (x0 : Nat) (x1 : Int32) (x2 : Int32) (x3 : Int32) (w : Wd) (r : Int32) (w1 : Wd) (hF : FJ10_indexOfChar N g x0 x1 x2 x3 w = some (r, w1)) : kMt l g yJ10_indexOfChar (ws_ yJ10_indexOfChar cJ10_indexOfChar 6 (some .int)) 1 100 w [.ref x0, .int x1, .int x2, .int x3] (some (.int r)) w1 := by
  refine kMt.ofV (lv := [some (.ref x0), some (.int x1), some (.int x2), some (.int x3), none, none]) (by decide) rfl (Nat.le_of_ble_eq_true rfl) rfl ?_
  intro X hl hin C
  unfold FJ10_indexOfChar at hF
  refine v_iload_n C dJ10_indexOfChar_0 rfl rfl ?_
  refine v_i2b C dJ10_indexOfChar_1 rfl ?_
  refine v_istore C dJ10_indexOfChar_2 (Nat.le_of_ble_eq_true rfl) rfl (lv' := [some (.ref x0), some (.int x1), some (.int x2), some (.int x3), some (.int (x1.toInt8.toInt32)), none]) rfl ?_
  refine v_iload_n C dJ10_indexOfChar_4 rfl rfl ?_
  refine v_istore C dJ10_indexOfChar_5 (Nat.le_of_ble_eq_true rfl) rfl (lv' := [some (.ref x0), some (.int x1), some (.int x2), some (.int x3), some (.int (x1.toInt8.toInt32)), some (.int x2)]) rfl ?_
  refine v_mask [true, false, false, true, true, true] (lv' := [some (.ref x0), none, none, some (.int x3), some (.int (x1.toInt8.toInt32)), some (.int x2)]) rfl ?_
  exact kloop_ok (P := fun a => kV g X 6 a.2.2.2.2 7 [some (.ref a.1), none, none, some (.int a.2.1), some (.int a.2.2.1), some (.int a.2.2.2.1)] []) (fun self hs a hF => wJ10_indexOfChar_b7 C hX hl hin N self hs a.1 a.2.1 a.2.2.1 a.2.2.2.1 a.2.2.2.2 hF) N (x0, x3, (x1.toInt8.toInt32), x2, w) hF
set_option maxHeartbeats 4000000 in
theorem wJ10_indexOf (l : Launch) (g : GT) (hX : ∀ U, gX g U → SX g U) (N : Nat) (x0 : Nat) (x1 : Int32) (x2 : Int32) (x3 : Int32) (w : Wd) (r : Int32) (w1 : Wd) (hF : FJ10_indexOf N g x0 x1 x2 x3 w = some (r, w1)) : kMt l g yJ10_indexOf (ws_ yJ10_indexOf cJ10_indexOf 4 (some .int)) 2 200 w [.ref x0, .int x1, .int x2, .int x3] (some (.int r)) w1 := by
  refine kMt.ofV (lv := [some (.ref x0), some (.int x1), some (.int x2), some (.int x3)]) (by decide) rfl (Nat.le_of_ble_eq_true rfl) rfl ?_
  intro X hl hin C
  unfold FJ10_indexOf at hF
  refine v_iload_n C dJ10_indexOf_0 rfl rfl ?_
  refine c_callSi C lk_J10_88 (fr2 := 1) (lo2 := 100) (As := [.int x1]) (st := []) (fun r9_ w9_ h9_ => by rw [hl]; exact wJ10_canEncode l g hX N x1 w r9_ w9_ h9_) (by decide) rfl rfl (Nat.le_of_ble_eq_true rfl) dJ10_indexOf_1 hF (fun r1 u2 hF => ?_)
  refine v_if_ne C (tgt := 9) dJ10_indexOf_4 (by decide) hF (fun c3 hF => ?_) (fun c3 hF => ?_)
  · refine v_iconst C (v := (-1 : Int32)) dJ10_indexOf_7 (by decide) ?_
    exact c_iret C dJ10_indexOf_8 hF
  · refine v_iload_n C dJ10_indexOf_9 rfl rfl ?_
    refine v_iconst C (v := (0 : Int32)) dJ10_indexOf_10 (by decide) ?_
    refine v_mmax C q529 (by decide) (Nat.le_of_ble_eq_true rfl) dJ10_indexOf_11 ?_
    refine v_istore_n C dJ10_indexOf_14 rfl (Nat.le_of_ble_eq_true rfl) rfl (lv' := [some (.ref x0), some (.int x1), some (.int (kmax x2 (0 : Int32))), some (.int x3)]) rfl ?_
    refine v_iload_n C dJ10_indexOf_15 rfl rfl ?_
    refine v_aload_n C dJ10_indexOf_16 rfl rfl ?_
    refine v_zL C hX dJ10_indexOf_17 hF (fun v4 hF => ?_)
    refine v_mmin C q530 (by decide) (Nat.le_of_ble_eq_true rfl) dJ10_indexOf_18 ?_
    refine v_istore_n C dJ10_indexOf_21 rfl (Nat.le_of_ble_eq_true rfl) rfl (lv' := [some (.ref x0), some (.int x1), some (.int (kmax x2 (0 : Int32))), some (.int (kmin x3 v4))]) rfl ?_
    refine v_iload_n C dJ10_indexOf_22 rfl rfl ?_
    refine v_iload_n C dJ10_indexOf_23 rfl rfl ?_
    refine v_icmp_lt C (tgt := 29) dJ10_indexOf_24 (by decide) hF (fun c5 hF => ?_) (fun c5 hF => ?_)
    · refine v_aload_n C dJ10_indexOf_29 rfl rfl ?_
      refine v_iload_n C dJ10_indexOf_30 rfl rfl ?_
      refine v_iload_n C dJ10_indexOf_31 rfl rfl ?_
      refine v_iload_n C dJ10_indexOf_32 rfl rfl ?_
      refine c_callSi C lk_J10_95 (fr2 := 1) (lo2 := 100) (As := [.ref x0, .int x1, .int (kmax x2 (0 : Int32)), .int (kmin x3 v4)]) (st := []) (fun r9_ w9_ h9_ => by rw [hl]; exact wJ10_indexOfChar l g hX N x0 x1 (kmax x2 (0 : Int32)) (kmin x3 v4) u2 r9_ w9_ h9_) (by decide) rfl rfl (Nat.le_of_ble_eq_true rfl) dJ10_indexOf_33 hF (fun r6 u7 hF => ?_)
      exact c_iret C dJ10_indexOf_36 hF
    · refine v_iconst C (v := (-1 : Int32)) dJ10_indexOf_27 (by decide) ?_
      exact c_iret C dJ10_indexOf_28 hF
set_option maxHeartbeats 4000000 in
theorem wJ9_indexOf_2 (l : Launch) (g : GT) (hX : ∀ U, gX g U → SX g U) (N : Nat) (x0 : Nat) (x1 : Int32) (x2 : Int32) (w : Wd) (r : Int32) (w1 : Wd) (hF : FJ9_indexOf_2 N g x0 x1 x2 w = some (r, w1)) : kMt l g yJ9_indexOf_2 (ws_ yJ9_indexOf_2 cJ9_indexOf_2 3 (some .int)) 3 300 w [.ref x0, .int x1, .int x2] (some (.int r)) w1 := by
  refine kMt.ofV (lv := [some (.ref x0), some (.int x1), some (.int x2)]) (by decide) rfl (Nat.le_of_ble_eq_true rfl) rfl ?_
  intro X hl hin C
  unfold FJ9_indexOf_2 at hF
  refine v_aload_n C dJ9_indexOf_2_0 rfl rfl ?_
  obtain ⟨h3, hF⟩ := k_ite hF
  refine c_callVRi C lk_J9_492 (kRcZ C hX h3) (fr2 := 1) (lo2 := 100) (As := []) (st := []) (fun r9_ w9_ h9_ => by rw [hl]; exact wJ9_isLatin1 l g hX N x0 w r9_ w9_ h9_) (by decide) rfl rfl (Nat.le_of_ble_eq_true rfl) dJ9_indexOf_2_1 hF (fun r1 u2 hF => ?_)
  refine v_if_eq C (tgt := 23) dJ9_indexOf_2_4 (by decide) hF (fun c4 hF => ?_) (fun c4 hF => ?_)
  · cases hF
  · refine v_aload_n C dJ9_indexOf_2_7 rfl rfl ?_
    refine v_zV C hX kc_J9 q2156 dJ9_indexOf_2_8 hF (fun v5 hF => ?_)
    refine v_iload_n C dJ9_indexOf_2_11 rfl rfl ?_
    refine v_iload_n C dJ9_indexOf_2_12 rfl rfl ?_
    refine v_aload_n C dJ9_indexOf_2_13 rfl rfl ?_
    obtain ⟨h8, hF⟩ := k_ite hF
    refine c_callVRi C lk_J9_505 (kRcZ C hX h8) (fr2 := 2) (lo2 := 200) (As := []) (st := [.int x2, .int x1, .ref v5]) (fun r9_ w9_ h9_ => by rw [hl]; exact wJ9_length l g hX N x0 u2 r9_ w9_ h9_) (by decide) rfl rfl (Nat.le_of_ble_eq_true rfl) dJ9_indexOf_2_14 hF (fun r6 u7 hF => ?_)
    refine c_callSi C lk_J9_637 (fr2 := 2) (lo2 := 200) (As := [.ref v5, .int x1, .int x2, .int r6]) (st := []) (fun r9_ w9_ h9_ => by rw [hl]; exact wJ10_indexOf l g hX N v5 x1 x2 r6 u7 r9_ w9_ h9_) (by decide) rfl rfl (Nat.le_of_ble_eq_true rfl) dJ9_indexOf_2_17 hF (fun r9 u10 hF => ?_)
    refine v_goto C (tgt := 36) dJ9_indexOf_2_20 (by decide) ?_
    exact c_iret C dJ9_indexOf_2_36 hF
set_option maxHeartbeats 4000000 in
theorem wJ9_indexOf (l : Launch) (g : GT) (hX : ∀ U, gX g U → SX g U) (N : Nat) (x0 : Nat) (x1 : Int32) (w : Wd) (r : Int32) (w1 : Wd) (hF : FJ9_indexOf N g x0 x1 w = some (r, w1)) : kMt l g yJ9_indexOf (ws_ yJ9_indexOf cJ9_indexOf 2 (some .int)) 4 400 w [.ref x0, .int x1] (some (.int r)) w1 := by
  refine kMt.ofV (lv := [some (.ref x0), some (.int x1)]) (by decide) rfl (Nat.le_of_ble_eq_true rfl) rfl ?_
  intro X hl hin C
  unfold FJ9_indexOf at hF
  refine v_aload_n C dJ9_indexOf_0 rfl rfl ?_
  refine v_iload_n C dJ9_indexOf_1 rfl rfl ?_
  refine v_iconst C (v := (0 : Int32)) dJ9_indexOf_2 (by decide) ?_
  obtain ⟨h3, hF⟩ := k_ite hF
  refine c_callVRi C lk_J9_633 (kRcZ C hX h3) (fr2 := 3) (lo2 := 300) (As := [.int x1, .int (0 : Int32)]) (st := []) (fun r9_ w9_ h9_ => by rw [hl]; exact wJ9_indexOf_2 l g hX N x0 x1 (0 : Int32) w r9_ w9_ h9_) (by decide) rfl rfl (Nat.le_of_ble_eq_true rfl) dJ9_indexOf_3 hF (fun r1 u2 hF => ?_)
  exact c_iret C dJ9_indexOf_6 hF
set_option maxHeartbeats 4000000 in
theorem wJ9_getBytes (l : Launch) (g : GT) (hX : ∀ U, gX g U → SX g U) (N : Nat) (x0 : Nat) (x1 : Nat) (x2 : Int32) (x3 : Int32) (w : Wd) (r : Unit) (w1 : Wd) (hF : FJ9_getBytes N g x0 x1 x2 x3 w = some (r, w1)) : kMt l g yJ9_getBytes (ws_ yJ9_getBytes cJ9_getBytes 4 none) 2 200 w [.ref x0, .ref x1, .int x2, .int x3] none w1 := by
  refine kMt.ofV (lv := [some (.ref x0), some (.ref x1), some (.int x2), some (.int x3)]) (by decide) rfl (Nat.le_of_ble_eq_true rfl) rfl ?_
  intro X hl hin C
  unfold FJ9_getBytes at hF
  refine v_aload_n C dJ9_getBytes_0 rfl rfl ?_
  obtain ⟨h3, hF⟩ := k_ite hF
  refine c_callVRi C lk_J9_335 (kRcZ C hX h3) (fr2 := 1) (lo2 := 100) (As := []) (st := []) (fun r9_ w9_ h9_ => by rw [hl]; exact wJ9_coder l g hX N x0 w r9_ w9_ h9_) (by decide) rfl rfl (Nat.le_of_ble_eq_true rfl) dJ9_getBytes_1 hF (fun r1 u2 hF => ?_)
  refine v_iload_n C dJ9_getBytes_4 rfl rfl ?_
  refine v_icmp_ne C (tgt := 28) dJ9_getBytes_5 (by decide) hF (fun c4 hF => ?_) (fun c4 hF => ?_)
  · refine v_aload_n C dJ9_getBytes_8 rfl rfl ?_
    refine v_zV C hX kc_J9 q2156 dJ9_getBytes_9 hF (fun v5 hF => ?_)
    refine v_iconst C (v := (0 : Int32)) dJ9_getBytes_12 (by decide) ?_
    refine v_aload_n C dJ9_getBytes_13 rfl rfl ?_
    refine v_iload_n C dJ9_getBytes_14 rfl rfl ?_
    refine v_iload_n C dJ9_getBytes_15 rfl rfl ?_
    refine v_ishl C dJ9_getBytes_16 ?_
    refine v_aload_n C dJ9_getBytes_17 rfl rfl ?_
    refine v_zV C hX kc_J9 q2156 dJ9_getBytes_18 hF (fun v6 hF => ?_)
    refine v_aL C (t := 2) rfl dJ9_getBytes_21 hF (fun v7 hF => ?_)
    refine v_cpB C hX q2195 (by decide) (Nat.le_of_ble_eq_true rfl) dJ9_getBytes_22 hF (fun u8 hF => ?_)
    refine v_goto C (tgt := 43) dJ9_getBytes_25 (by decide) ?_
    exact c_vret C dJ9_getBytes_43 hF
  · cases hF
set_option maxHeartbeats 4000000 in
theorem wJ36_init_t22 (l : Launch) (g : GT) (hX : ∀ U, gX g U → SX g U) (N : Nat) (x0 : Nat) (x1 : Int32) (w : Wd) (r : Unit) (w1 : Wd) (hF : FJ36_init_t22 N g x0 x1 w = some (r, w1)) : kMt l g yJ36_init (ws_ yJ36_init cJ36_init 2 none) 1 100 w [.ref x0, .int x1] none w1 := by
  refine kMt.ofV (lv := [some (.ref x0), some (.int x1)]) (by decide) rfl (Nat.le_of_ble_eq_true rfl) rfl ?_
  intro X hl hin C
  unfold FJ36_init_t22 at hF
  refine v_aload_n C dJ36_init_0 rfl rfl ?_
  refine v_objInit C q2008 q142 q143 (by decide) (Nat.le_of_ble_eq_true rfl) dJ36_init_1 ?_
  refine v_gets C ((hX _ C.2.2.2.2.2.1.2.2.1).1 _ (List.mem_of_getElem? (i := 6) rfl)) q1427 (Or.inl rfl) dJ36_init_4 ?_
  refine v_if_eq C (tgt := 25) dJ36_init_7 (by decide) hF (fun c1 hF => ?_) (fun c1 hF => ?_)
  · cases hF
  · refine v_aload_n C dJ36_init_10 rfl rfl ?_
    refine v_iload_n C dJ36_init_11 rfl rfl ?_
    refine v_newaW C (atype := .byte) q194 rfl (t := 2) rfl rfl (fun cA N => rfl) (Nat.le_of_ble_eq_true rfl) dJ36_init_12 hF (fun a2 u3 hF => ?_)
    refine v_putW C kc_J37 0 (Nat.le_of_ble_eq_true rfl) (kFl.p q2031) rfl rfl rfl dJ36_init_14 hF (fun u4 hF => ?_)
    refine v_aload_n C dJ36_init_17 rfl rfl ?_
    refine v_iconst C (v := (0 : Int32)) dJ36_init_18 (by decide) ?_
    refine v_putW C kc_J37 1 (Nat.le_of_ble_eq_true rfl) (kFl.p q2032) rfl rfl rfl dJ36_init_19 hF (fun u5 hF => ?_)
    refine v_goto C (tgt := 38) dJ36_init_22 (by decide) ?_
    exact c_vret C dJ36_init_38 hF
set_option maxHeartbeats 4000000 in
theorem wJ36_isLatin1_t22 (l : Launch) (g : GT) (hX : ∀ U, gX g U → SX g U) (N : Nat) (x0 : Nat) (w : Wd) (r : Int32) (w1 : Wd) (hF : FJ36_isLatin1_t22 N g x0 w = some (r, w1)) : kMt l g yJ36_isLatin1 (ws_ yJ36_isLatin1 cJ36_isLatin1 1 (some .boolean)) 1 100 w [.ref x0] (some (.int r)) w1 := by
  refine kMt.ofV (lv := [some (.ref x0)]) (by decide) rfl (Nat.le_of_ble_eq_true rfl) rfl ?_
  intro X hl hin C
  unfold FJ36_isLatin1_t22 at hF
  refine v_gets C ((hX _ C.2.2.2.2.2.1.2.2.1).1 _ (List.mem_of_getElem? (i := 6) rfl)) q1427 (Or.inl rfl) dJ36_isLatin1_0 ?_
  refine v_if_eq C (tgt := 17) dJ36_isLatin1_3 (by decide) hF (fun c1 hF => ?_) (fun c1 hF => ?_)
  · cases hF
  · refine v_aload_n C dJ36_isLatin1_6 rfl rfl ?_
    refine v_getI C kc_J37 1 (Nat.le_of_ble_eq_true rfl) (kFl.p q2032) dJ36_isLatin1_7 hF (fun v2 hF => ?_)
    refine v_if_ne C (tgt := 17) dJ36_isLatin1_10 (by decide) hF (fun c3 hF => ?_) (fun c3 hF => ?_)
    · refine v_iconst C (v := (1 : Int32)) dJ36_isLatin1_13 (by decide) ?_
      refine v_goto C (tgt := 18) dJ36_isLatin1_14 (by decide) ?_
      exact c_zret C rfl dJ36_isLatin1_18 hF
    · refine v_iconst C (v := (0 : Int32)) dJ36_isLatin1_17 (by decide) ?_
      exact c_zret C rfl dJ36_isLatin1_18 hF
set_option maxHeartbeats 4000000 in
theorem wJ36_length_t22 (l : Launch) (g : GT) (hX : ∀ U, gX g U → SX g U) (N : Nat) (x0 : Nat) (w : Wd) (r : Int32) (w1 : Wd) (hF : FJ36_length_t22 N g x0 w = some (r, w1)) : kMt l g yJ36_length (ws_ yJ36_length cJ36_length 1 (some .int)) 1 100 w [.ref x0] (some (.int r)) w1 := by
  refine kMt.ofV (lv := [some (.ref x0)]) (by decide) rfl (Nat.le_of_ble_eq_true rfl) rfl ?_
  intro X hl hin C
  unfold FJ36_length_t22 at hF
  refine v_aload_n C dJ36_length_0 rfl rfl ?_
  refine v_getI C kc_J37 3 (Nat.le_of_ble_eq_true rfl) (kFl.p q2034) dJ36_length_1 hF (fun v1 hF => ?_)
  exact c_iret C dJ36_length_4 hF
set_option maxHeartbeats 4000000 in
theorem wJ36_newCapacity_t22 (l : Launch) (g : GT) (hX : ∀ U, gX g U → SX g U) (N : Nat) (x0 : Nat) (x1 : Int32) (w : Wd) (r : Int32) (w1 : Wd) (hF : FJ36_newCapacity_t22 N g x0 x1 w = some (r, w1)) : kMt l g yJ36_newCapacity (ws_ yJ36_newCapacity cJ36_newCapacity 6 (some .int)) 2 200 w [.ref x0, .int x1] (some (.int r)) w1 := by
  refine kMt.ofV (lv := [some (.ref x0), some (.int x1), none, none, none, none]) (by decide) rfl (Nat.le_of_ble_eq_true rfl) rfl ?_
  intro X hl hin C
  unfold FJ36_newCapacity_t22 at hF
  refine v_aload_n C dJ36_newCapacity_0 rfl rfl ?_
  refine v_getR C kc_J37 0 (Nat.le_of_ble_eq_true rfl) (kFl.p q2031) dJ36_newCapacity_1 hF (fun v1 hF => ?_)
  refine v_aL C (t := 2) rfl dJ36_newCapacity_4 hF (fun v2 hF => ?_)
  refine v_istore_n C dJ36_newCapacity_5 rfl (Nat.le_of_ble_eq_true rfl) rfl (lv' := [some (.ref x0), some (.int x1), some (.int v2), none, none, none]) rfl ?_
  refine v_iload_n C dJ36_newCapacity_6 rfl rfl ?_
  refine v_aload_n C dJ36_newCapacity_7 rfl rfl ?_
  refine v_getI C kc_J37 1 (Nat.le_of_ble_eq_true rfl) (kFl.p q2032) dJ36_newCapacity_8 hF (fun v3 hF => ?_)
  refine v_ishl C dJ36_newCapacity_11 ?_
  refine v_istore_n C dJ36_newCapacity_12 rfl (Nat.le_of_ble_eq_true rfl) rfl (lv' := [some (.ref x0), some (.int x1), some (.int v2), some (.int (x1 <<< (v3 &&& 31))), none, none]) rfl ?_
  refine v_iload_n C dJ36_newCapacity_13 rfl rfl ?_
  refine v_iload_n C dJ36_newCapacity_14 rfl rfl ?_
  refine v_isub C dJ36_newCapacity_15 ?_
  refine v_istore C dJ36_newCapacity_16 (Nat.le_of_ble_eq_true rfl) rfl (lv' := [some (.ref x0), some (.int x1), some (.int v2), some (.int (x1 <<< (v3 &&& 31))), some (.int ((x1 <<< (v3 &&& 31)) - v2)), none]) rfl ?_
  refine v_iload_n C dJ36_newCapacity_18 rfl rfl ?_
  refine v_iload C dJ36_newCapacity_19 rfl ?_
  refine v_iload_n C dJ36_newCapacity_21 rfl rfl ?_
  refine v_iconst C (v := (2 : Int32)) dJ36_newCapacity_22 (by decide) ?_
  refine v_aload_n C dJ36_newCapacity_23 rfl rfl ?_
  refine v_getI C kc_J37 1 (Nat.le_of_ble_eq_true rfl) (kFl.p q2032) dJ36_newCapacity_24 hF (fun v4 hF => ?_)
  refine v_ishl C dJ36_newCapacity_27 ?_
  refine v_iadd C dJ36_newCapacity_28 ?_
  refine c_callSi C lk_J36_114 (fr2 := 1) (lo2 := 100) (As := [.int v2, .int ((x1 <<< (v3 &&& 31)) - v2), .int (v2 + ((2 : Int32) <<< (v4 &&& 31)))]) (st := []) (fun r9_ w9_ h9_ => by rw [hl]; exact wJ6_newLength l g hX N v2 ((x1 <<< (v3 &&& 31)) - v2) (v2 + ((2 : Int32) <<< (v4 &&& 31))) w r9_ w9_ h9_) (by decide) rfl rfl (Nat.le_of_ble_eq_true rfl) dJ36_newCapacity_29 hF (fun r5 u6 hF => ?_)
  refine v_istore C dJ36_newCapacity_32 (Nat.le_of_ble_eq_true rfl) rfl (lv' := [some (.ref x0), some (.int x1), some (.int v2), some (.int (x1 <<< (v3 &&& 31))), some (.int ((x1 <<< (v3 &&& 31)) - v2)), some (.int r5)]) rfl ?_
  refine v_iload C dJ36_newCapacity_34 rfl ?_
  refine v_ldc C q2066 dJ36_newCapacity_36 ?_
  refine v_icmp_ne C (tgt := 51) dJ36_newCapacity_38 (by decide) hF (fun c7 hF => ?_) (fun c7 hF => ?_)
  · cases hF
  · refine v_iload C dJ36_newCapacity_51 rfl ?_
    refine v_aload_n C dJ36_newCapacity_53 rfl rfl ?_
    refine v_getI C kc_J37 1 (Nat.le_of_ble_eq_true rfl) (kFl.p q2032) dJ36_newCapacity_54 hF (fun v8 hF => ?_)
    refine v_ishr C dJ36_newCapacity_57 ?_
    exact c_iret C dJ36_newCapacity_58 hF
set_option maxHeartbeats 4000000 in
theorem wJ36_ensureCapacityInternal_t22 (l : Launch) (g : GT) (hX : ∀ U, gX g U → SX g U) (N : Nat) (x0 : Nat) (x1 : Int32) (w : Wd) (r : Unit) (w1 : Wd) (hF : FJ36_ensureCapacityInternal_t22 N g x0 x1 w = some (r, w1)) : kMt l g yJ36_ensureCapacityInternal (ws_ yJ36_ensureCapacityInternal cJ36_ensureCapacityInternal 3 none) 3 300 w [.ref x0, .int x1] none w1 := by
  refine kMt.ofV (lv := [some (.ref x0), some (.int x1), none]) (by decide) rfl (Nat.le_of_ble_eq_true rfl) rfl ?_
  intro X hl hin C
  unfold FJ36_ensureCapacityInternal_t22 at hF
  refine v_aload_n C dJ36_ensureCapacityInternal_0 rfl rfl ?_
  refine v_getR C kc_J37 0 (Nat.le_of_ble_eq_true rfl) (kFl.p q2031) dJ36_ensureCapacityInternal_1 hF (fun v1 hF => ?_)
  refine v_aL C (t := 2) rfl dJ36_ensureCapacityInternal_4 hF (fun v2 hF => ?_)
  refine v_aload_n C dJ36_ensureCapacityInternal_5 rfl rfl ?_
  refine v_getI C kc_J37 1 (Nat.le_of_ble_eq_true rfl) (kFl.p q2032) dJ36_ensureCapacityInternal_6 hF (fun v3 hF => ?_)
  refine v_ishr C dJ36_ensureCapacityInternal_9 ?_
  refine v_istore_n C dJ36_ensureCapacityInternal_10 rfl (Nat.le_of_ble_eq_true rfl) rfl (lv' := [some (.ref x0), some (.int x1), some (.int (v2 >>> (v3 &&& 31)))]) rfl ?_
  refine v_iload_n C dJ36_ensureCapacityInternal_11 rfl rfl ?_
  refine v_iload_n C dJ36_ensureCapacityInternal_12 rfl rfl ?_
  refine v_isub C dJ36_ensureCapacityInternal_13 ?_
  refine v_if_le C (tgt := 38) dJ36_ensureCapacityInternal_14 (by decide) hF (fun c4 hF => ?_) (fun c4 hF => ?_)
  · exact c_vret C dJ36_ensureCapacityInternal_38 hF
  · refine v_aload_n C dJ36_ensureCapacityInternal_17 rfl rfl ?_
    refine v_aload_n C dJ36_ensureCapacityInternal_18 rfl rfl ?_
    refine v_getR C kc_J37 0 (Nat.le_of_ble_eq_true rfl) (kFl.p q2031) dJ36_ensureCapacityInternal_19 hF (fun v5 hF => ?_)
    refine v_aload_n C dJ36_ensureCapacityInternal_22 rfl rfl ?_
    refine v_iload_n C dJ36_ensureCapacityInternal_23 rfl rfl ?_
    obtain ⟨h8, hF⟩ := k_ite hF
    refine c_callQi C lk_J36_104 (kRc.of C (ci := 22) rfl h8) (fr2 := 2) (lo2 := 200) (As := [.int x1]) (st := [.ref v5, .ref x0]) (fun r9_ w9_ h9_ => by rw [hl]; exact wJ36_newCapacity_t22 l g hX N x0 x1 w r9_ w9_ h9_) (by decide) rfl rfl (Nat.le_of_ble_eq_true rfl) dJ36_ensureCapacityInternal_24 hF (fun r6 u7 hF => ?_)
    refine v_aload_n C dJ36_ensureCapacityInternal_27 rfl rfl ?_
    refine v_getI C kc_J37 1 (Nat.le_of_ble_eq_true rfl) (kFl.p q2032) dJ36_ensureCapacityInternal_28 hF (fun v9 hF => ?_)
    refine v_ishl C dJ36_ensureCapacityInternal_31 ?_
    refine c_callSr C lk_J36_108 (fr2 := 1) (lo2 := 100) (As := [.ref v5, .int (r6 <<< (v9 &&& 31))]) (st := [.ref x0]) (fun r9_ w9_ h9_ => by rw [hl]; exact wJ8_copyOf_4 l g hX N v5 (r6 <<< (v9 &&& 31)) u7 r9_ w9_ h9_) (by decide) rfl rfl (Nat.le_of_ble_eq_true rfl) dJ36_ensureCapacityInternal_32 hF (fun r10 u11 hF => ?_)
    refine v_putW C kc_J37 0 (Nat.le_of_ble_eq_true rfl) (kFl.p q2031) rfl rfl rfl dJ36_ensureCapacityInternal_35 hF (fun u12 hF => ?_)
    exact c_vret C dJ36_ensureCapacityInternal_38 hF
set_option maxHeartbeats 4000000 in
theorem wJ36_append_t22 (l : Launch) (g : GT) (hX : ∀ U, gX g U → SX g U) (N : Nat) (x0 : Nat) (x1 : Int32) (w : Wd) (r : Nat) (w1 : Wd) (hF : FJ36_append_t22 N g x0 x1 w = some (r, w1)) : kMt l g yJ36_append (ws_ yJ36_append cJ36_append 2 (some (.object "java/lang/AbstractStringBuilder"))) 4 400 w [.ref x0, .int x1] (some (.ref r)) w1 := by
  refine kMt.ofV (lv := [some (.ref x0), some (.int x1)]) (by decide) rfl (Nat.le_of_ble_eq_true rfl) rfl ?_
  intro X hl hin C
  unfold FJ36_append_t22 at hF
  refine v_aload_n C dJ36_append_0 rfl rfl ?_
  refine v_aload_n C dJ36_append_1 rfl rfl ?_
  refine v_getI C kc_J37 3 (Nat.le_of_ble_eq_true rfl) (kFl.p q2034) dJ36_append_2 hF (fun v1 hF => ?_)
  refine v_iconst C (v := (1 : Int32)) dJ36_append_5 (by decide) ?_
  refine v_iadd C dJ36_append_6 ?_
  obtain ⟨h4, hF⟩ := k_ite hF
  refine c_callQv C lk_J36_100 (kRc.of C (ci := 22) rfl h4) (fr2 := 3) (lo2 := 300) (As := [.int (v1 + (1 : Int32))]) (st := []) (fun r9_ w9_ h9_ => by rw [hl]; exact wJ36_ensureCapacityInternal_t22 l g hX N x0 (v1 + (1 : Int32)) w r9_ w9_ h9_) (by decide) rfl rfl (Nat.le_of_ble_eq_true rfl) dJ36_append_7 hF (fun r2 u3 hF => ?_)
  refine v_aload_n C dJ36_append_10 rfl rfl ?_
  obtain ⟨h7, hF⟩ := k_ite hF
  refine c_callUi C lk_J36_83_J36_isLatin1_t22 (kRc.of C (ci := 22) rfl h7) (fr2 := 1) (lo2 := 100) (As := []) (st := []) (fun r9_ w9_ h9_ => by rw [hl]; exact wJ36_isLatin1_t22 l g hX N x0 u3 r9_ w9_ h9_) (by decide) rfl rfl (Nat.le_of_ble_eq_true rfl) dJ36_append_11 hF (fun r5 u6 hF => ?_)
  refine v_if_eq C (tgt := 45) dJ36_append_14 (by decide) hF (fun c8 hF => ?_) (fun c8 hF => ?_)
  · cases hF
  · refine v_iload_n C dJ36_append_17 rfl rfl ?_
    refine c_callSi C lk_J36_191 (fr2 := 1) (lo2 := 100) (As := [.int x1]) (st := []) (fun r9_ w9_ h9_ => by rw [hl]; exact wJ10_canEncode_2 l g hX N x1 u6 r9_ w9_ h9_) (by decide) rfl rfl (Nat.le_of_ble_eq_true rfl) dJ36_append_18 hF (fun r9 u10 hF => ?_)
    refine v_if_eq C (tgt := 45) dJ36_append_21 (by decide) hF (fun c11 hF => ?_) (fun c11 hF => ?_)
    · cases hF
    · refine v_aload_n C dJ36_append_24 rfl rfl ?_
      refine v_getR C kc_J37 0 (Nat.le_of_ble_eq_true rfl) (kFl.p q2031) dJ36_append_25 hF (fun v12 hF => ?_)
      refine v_aload_n C dJ36_append_28 rfl rfl ?_
      refine v_dup C dJ36_append_29 rfl ?_
      refine v_getI C kc_J37 3 (Nat.le_of_ble_eq_true rfl) (kFl.p q2034) dJ36_append_30 hF (fun v13 hF => ?_)
      refine v_dup_x1 C dJ36_append_33 rfl rfl ?_
      refine v_iconst C (v := (1 : Int32)) dJ36_append_34 (by decide) ?_
      refine v_iadd C dJ36_append_35 ?_
      refine v_putW C kc_J37 3 (Nat.le_of_ble_eq_true rfl) (kFl.p q2034) rfl rfl rfl dJ36_append_36 hF (fun u14 hF => ?_)
      refine v_iload_n C dJ36_append_39 rfl rfl ?_
      refine v_i2b C dJ36_append_40 rfl ?_
      refine v_aSb C dJ36_append_41 hF (fun u15 hF => ?_)
      refine v_goto C (tgt := 75) dJ36_append_42 (by decide) ?_
      refine v_aload_n C dJ36_append_75 rfl rfl ?_
      exact c_aret C (Or.inl ⟨_, rfl⟩) dJ36_append_76 hF
set_option maxHeartbeats 4000000 in
theorem wJ36_inflateIfNeededFor_t22 (l : Launch) (g : GT) (hX : ∀ U, gX g U → SX g U) (N : Nat) (x0 : Nat) (x1 : Nat) (w : Wd) (r : Unit) (w1 : Wd) (hF : FJ36_inflateIfNeededFor_t22 N g x0 x1 w = some (r, w1)) : kMt l g yJ36_inflateIfNeededFor (ws_ yJ36_inflateIfNeededFor cJ36_inflateIfNeededFor 2 none) 2 200 w [.ref x0, .ref x1] none w1 := by
  refine kMt.ofV (lv := [some (.ref x0), some (.ref x1)]) (by decide) rfl (Nat.le_of_ble_eq_true rfl) rfl ?_
  intro X hl hin C
  unfold FJ36_inflateIfNeededFor_t22 at hF
  refine v_gets C ((hX _ C.2.2.2.2.2.1.2.2.1).1 _ (List.mem_of_getElem? (i := 6) rfl)) q1427 (Or.inl rfl) dJ36_inflateIfNeededFor_0 ?_
  refine v_if_eq C (tgt := 21) dJ36_inflateIfNeededFor_3 (by decide) hF (fun c1 hF => ?_) (fun c1 hF => ?_)
  · cases hF
  · refine v_aload_n C dJ36_inflateIfNeededFor_6 rfl rfl ?_
    refine v_getI C kc_J37 1 (Nat.le_of_ble_eq_true rfl) (kFl.p q2032) dJ36_inflateIfNeededFor_7 hF (fun v2 hF => ?_)
    refine v_aload_n C dJ36_inflateIfNeededFor_10 rfl rfl ?_
    obtain ⟨h5, hF⟩ := k_ite hF
    refine c_callVRi C lk_J36_40 (kRcZ C hX h5) (fr2 := 1) (lo2 := 100) (As := []) (st := [.int v2]) (fun r9_ w9_ h9_ => by rw [hl]; exact wJ9_coder l g hX N x1 w r9_ w9_ h9_) (by decide) rfl rfl (Nat.le_of_ble_eq_true rfl) dJ36_inflateIfNeededFor_11 hF (fun r3 u4 hF => ?_)
    refine v_icmp_eq C (tgt := 21) dJ36_inflateIfNeededFor_14 (by decide) hF (fun c6 hF => ?_) (fun c6 hF => ?_)
    · exact c_vret C dJ36_inflateIfNeededFor_21 hF
    · cases hF
set_option maxHeartbeats 4000000 in
theorem wJ36_putStringAt_t22 (l : Launch) (g : GT) (hX : ∀ U, gX g U → SX g U) (N : Nat) (x0 : Nat) (x1 : Int32) (x2 : Nat) (w : Wd) (r : Unit) (w1 : Wd) (hF : FJ36_putStringAt_t22 N g x0 x1 x2 w = some (r, w1)) : kMt l g yJ36_putStringAt (ws_ yJ36_putStringAt cJ36_putStringAt 3 none) 3 300 w [.ref x0, .int x1, .ref x2] none w1 := by
  refine kMt.ofV (lv := [some (.ref x0), some (.int x1), some (.ref x2)]) (by decide) rfl (Nat.le_of_ble_eq_true rfl) rfl ?_
  intro X hl hin C
  unfold FJ36_putStringAt_t22 at hF
  refine v_aload_n C dJ36_putStringAt_0 rfl rfl ?_
  refine v_aload_n C dJ36_putStringAt_1 rfl rfl ?_
  obtain ⟨h3, hF⟩ := k_ite hF
  refine c_callQv C lk_J36_397 (kRc.of C (ci := 22) rfl h3) (fr2 := 2) (lo2 := 200) (As := [.ref x2]) (st := []) (fun r9_ w9_ h9_ => by rw [hl]; exact wJ36_inflateIfNeededFor_t22 l g hX N x0 x2 w r9_ w9_ h9_) (by decide) rfl rfl (Nat.le_of_ble_eq_true rfl) dJ36_putStringAt_2 hF (fun r1 u2 hF => ?_)
  refine v_aload_n C dJ36_putStringAt_5 rfl rfl ?_
  refine v_aload_n C dJ36_putStringAt_6 rfl rfl ?_
  refine v_getR C kc_J37 0 (Nat.le_of_ble_eq_true rfl) (kFl.p q2031) dJ36_putStringAt_7 hF (fun v4 hF => ?_)
  refine v_iload_n C dJ36_putStringAt_10 rfl rfl ?_
  refine v_aload_n C dJ36_putStringAt_11 rfl rfl ?_
  refine v_getI C kc_J37 1 (Nat.le_of_ble_eq_true rfl) (kFl.p q2032) dJ36_putStringAt_12 hF (fun v5 hF => ?_)
  obtain ⟨h8, hF⟩ := k_ite hF
  refine c_callVRv C lk_J36_399 (kRcZ C hX h8) (fr2 := 2) (lo2 := 200) (As := [.ref v4, .int x1, .int v5]) (st := []) (fun r9_ w9_ h9_ => by rw [hl]; exact wJ9_getBytes l g hX N x2 v4 x1 v5 u2 r9_ w9_ h9_) (by decide) rfl rfl (Nat.le_of_ble_eq_true rfl) dJ36_putStringAt_15 hF (fun r6 u7 hF => ?_)
  exact c_vret C dJ36_putStringAt_18 hF
set_option maxHeartbeats 4000000 in
theorem wJ36_append_2_t22 (l : Launch) (g : GT) (hX : ∀ U, gX g U → SX g U) (N : Nat) (x0 : Nat) (x1 : Nat) (w : Wd) (r : Nat) (w1 : Wd) (hF : FJ36_append_2_t22 N g x0 x1 w = some (r, w1)) : kMt l g yJ36_append_2 (ws_ yJ36_append_2 cJ36_append_2 3 (some (.object "java/lang/AbstractStringBuilder"))) 4 400 w [.ref x0, .ref x1] (some (.ref r)) w1 := by
  refine kMt.ofV (lv := [some (.ref x0), some (.ref x1), none]) (by decide) rfl (Nat.le_of_ble_eq_true rfl) rfl ?_
  intro X hl hin C
  unfold FJ36_append_2_t22 at hF
  refine v_aload_n C dJ36_append_2_0 rfl rfl ?_
  refine v_ifnonnull C (tgt := 9) dJ36_append_2_1 (by decide) ?_
  refine v_aload_n C dJ36_append_2_9 rfl rfl ?_
  obtain ⟨h3, hF⟩ := k_ite hF
  refine c_callVRi C lk_J36_32 (kRcZ C hX h3) (fr2 := 2) (lo2 := 200) (As := []) (st := []) (fun r9_ w9_ h9_ => by rw [hl]; exact wJ9_length l g hX N x1 w r9_ w9_ h9_) (by decide) rfl rfl (Nat.le_of_ble_eq_true rfl) dJ36_append_2_10 hF (fun r1 u2 hF => ?_)
  refine v_istore_n C dJ36_append_2_13 rfl (Nat.le_of_ble_eq_true rfl) rfl (lv' := [some (.ref x0), some (.ref x1), some (.int r1)]) rfl ?_
  refine v_aload_n C dJ36_append_2_14 rfl rfl ?_
  refine v_aload_n C dJ36_append_2_15 rfl rfl ?_
  refine v_getI C kc_J37 3 (Nat.le_of_ble_eq_true rfl) (kFl.p q2034) dJ36_append_2_16 hF (fun v4 hF => ?_)
  refine v_iload_n C dJ36_append_2_19 rfl rfl ?_
  refine v_iadd C dJ36_append_2_20 ?_
  obtain ⟨h7, hF⟩ := k_ite hF
  refine c_callQv C lk_J36_100 (kRc.of C (ci := 22) rfl h7) (fr2 := 3) (lo2 := 300) (As := [.int (v4 + r1)]) (st := []) (fun r9_ w9_ h9_ => by rw [hl]; exact wJ36_ensureCapacityInternal_t22 l g hX N x0 (v4 + r1) u2 r9_ w9_ h9_) (by decide) rfl rfl (Nat.le_of_ble_eq_true rfl) dJ36_append_2_21 hF (fun r5 u6 hF => ?_)
  refine v_aload_n C dJ36_append_2_24 rfl rfl ?_
  refine v_aload_n C dJ36_append_2_25 rfl rfl ?_
  refine v_getI C kc_J37 3 (Nat.le_of_ble_eq_true rfl) (kFl.p q2034) dJ36_append_2_26 hF (fun v8 hF => ?_)
  refine v_aload_n C dJ36_append_2_29 rfl rfl ?_
  obtain ⟨h11, hF⟩ := k_ite hF
  refine c_callQv C lk_J36_208 (kRc.of C (ci := 22) rfl h11) (fr2 := 3) (lo2 := 300) (As := [.int v8, .ref x1]) (st := []) (fun r9_ w9_ h9_ => by rw [hl]; exact wJ36_putStringAt_t22 l g hX N x0 v8 x1 u6 r9_ w9_ h9_) (by decide) rfl rfl (Nat.le_of_ble_eq_true rfl) dJ36_append_2_30 hF (fun r9 u10 hF => ?_)
  refine v_aload_n C dJ36_append_2_33 rfl rfl ?_
  refine v_dup C dJ36_append_2_34 rfl ?_
  refine v_getI C kc_J37 3 (Nat.le_of_ble_eq_true rfl) (kFl.p q2034) dJ36_append_2_35 hF (fun v12 hF => ?_)
  refine v_iload_n C dJ36_append_2_38 rfl rfl ?_
  refine v_iadd C dJ36_append_2_39 ?_
  refine v_putW C kc_J37 3 (Nat.le_of_ble_eq_true rfl) (kFl.p q2034) rfl rfl rfl dJ36_append_2_40 hF (fun u13 hF => ?_)
  refine v_aload_n C dJ36_append_2_43 rfl rfl ?_
  exact c_aret C (Or.inl ⟨_, rfl⟩) dJ36_append_2_44 hF
set_option maxHeartbeats 4000000 in
theorem wJ36_getValue_t22 (l : Launch) (g : GT) (hX : ∀ U, gX g U → SX g U) (N : Nat) (x0 : Nat) (w : Wd) (r : Nat) (w1 : Wd) (hF : FJ36_getValue_t22 N g x0 w = some (r, w1)) : kMt l g yJ36_getValue (ws_ yJ36_getValue cJ36_getValue 1 (some (.array .byte))) 1 100 w [.ref x0] (some (.ref r)) w1 := by
  refine kMt.ofV (lv := [some (.ref x0)]) (by decide) rfl (Nat.le_of_ble_eq_true rfl) rfl ?_
  intro X hl hin C
  unfold FJ36_getValue_t22 at hF
  refine v_aload_n C dJ36_getValue_0 rfl rfl ?_
  refine v_getR C kc_J37 0 (Nat.le_of_ble_eq_true rfl) (kFl.p q2031) dJ36_getValue_1 hF (fun v1 hF => ?_)
  exact c_aret C (Or.inr ⟨_, rfl⟩) dJ36_getValue_4 hF
set_option maxHeartbeats 4000000 in
theorem wJ37_init (l : Launch) (g : GT) (hX : ∀ U, gX g U → SX g U) (N : Nat) (x0 : Nat) (w : Wd) (r : Unit) (w1 : Wd) (hF : FJ37_init N g x0 w = some (r, w1)) : kMt l g yJ37_init (ws_ yJ37_init cJ37_init 1 none) 2 200 w [.ref x0] none w1 := by
  refine kMt.ofV (lv := [some (.ref x0)]) (by decide) rfl (Nat.le_of_ble_eq_true rfl) rfl ?_
  intro X hl hin C
  unfold FJ37_init at hF
  refine v_aload_n C dJ37_init_0 rfl rfl ?_
  refine v_bipush C (v := (16 : Int32)) dJ37_init_1 (by decide) ?_
  refine c_callI C lk_J37_1 (fr2 := 1) (lo2 := 100) (As := [.int (16 : Int32)]) (st := []) (fun r9_ w9_ h9_ => by rw [hl]; exact wJ36_init_t22 l g hX N x0 (16 : Int32) w r9_ w9_ h9_) (by decide) rfl rfl (Nat.le_of_ble_eq_true rfl) dJ37_init_3 hF (fun r1 u2 hF => ?_)
  exact c_vret C dJ37_init_6 hF
set_option maxHeartbeats 4000000 in
theorem wJ37_length (l : Launch) (g : GT) (hX : ∀ U, gX g U → SX g U) (N : Nat) (x0 : Nat) (w : Wd) (r : Int32) (w1 : Wd) (hF : FJ37_length N g x0 w = some (r, w1)) : kMt l g yJ37_length (ws_ yJ37_length cJ37_length 1 (some .int)) 2 200 w [.ref x0] (some (.int r)) w1 := by
  refine kMt.ofV (lv := [some (.ref x0)]) (by decide) rfl (Nat.le_of_ble_eq_true rfl) rfl ?_
  intro X hl hin C
  unfold FJ37_length at hF
  refine v_aload_n C dJ37_length_0 rfl rfl ?_
  obtain ⟨h3, hF⟩ := k_ite hF
  refine c_callPi C lk_J37_343 (ci := 22) rfl h3 (fr2 := 1) (lo2 := 100) (As := []) (st := []) (fun r9_ w9_ h9_ => by rw [hl]; exact wJ36_length_t22 l g hX N x0 w r9_ w9_ h9_) (by decide) rfl rfl (Nat.le_of_ble_eq_true rfl) dJ37_length_1 hF (fun r1 u2 hF => ?_)
  exact c_iret C dJ37_length_4 hF
set_option maxHeartbeats 4000000 in
theorem wJ37_append (l : Launch) (g : GT) (hX : ∀ U, gX g U → SX g U) (N : Nat) (x0 : Nat) (x1 : Int32) (w : Wd) (r : Nat) (w1 : Wd) (hF : FJ37_append N g x0 x1 w = some (r, w1)) : kMt l g yJ37_append (ws_ yJ37_append cJ37_append 2 (some (.object "java/lang/StringBuilder"))) 5 500 w [.ref x0, .int x1] (some (.ref r)) w1 := by
  refine kMt.ofV (lv := [some (.ref x0), some (.int x1)]) (by decide) rfl (Nat.le_of_ble_eq_true rfl) rfl ?_
  intro X hl hin C
  unfold FJ37_append at hF
  refine v_aload_n C dJ37_append_0 rfl rfl ?_
  refine v_iload_n C dJ37_append_1 rfl rfl ?_
  obtain ⟨h3, hF⟩ := k_ite hF
  refine c_callPr C lk_J37_50 (ci := 22) rfl h3 (fr2 := 4) (lo2 := 400) (As := [.int x1]) (st := []) (fun r9_ w9_ h9_ => by rw [hl]; exact wJ36_append_t22 l g hX N x0 x1 w r9_ w9_ h9_) (by decide) rfl rfl (Nat.le_of_ble_eq_true rfl) dJ37_append_2 hF (fun r1 u2 hF => ?_)
  refine v_pop C dJ37_append_5 rfl ?_
  refine v_aload_n C dJ37_append_6 rfl rfl ?_
  exact c_aret C (Or.inl ⟨_, rfl⟩) dJ37_append_7 hF
set_option maxHeartbeats 4000000 in
theorem wJ37_append_2 (l : Launch) (g : GT) (hX : ∀ U, gX g U → SX g U) (N : Nat) (x0 : Nat) (x1 : Nat) (w : Wd) (r : Nat) (w1 : Wd) (hF : FJ37_append_2 N g x0 x1 w = some (r, w1)) : kMt l g yJ37_append_2 (ws_ yJ37_append_2 cJ37_append_2 2 (some (.object "java/lang/StringBuilder"))) 5 500 w [.ref x0, .ref x1] (some (.ref r)) w1 := by
  refine kMt.ofV (lv := [some (.ref x0), some (.ref x1)]) (by decide) rfl (Nat.le_of_ble_eq_true rfl) rfl ?_
  intro X hl hin C
  unfold FJ37_append_2 at hF
  refine v_aload_n C dJ37_append_2_0 rfl rfl ?_
  refine v_aload_n C dJ37_append_2_1 rfl rfl ?_
  obtain ⟨h3, hF⟩ := k_ite hF
  refine c_callPr C lk_J37_29 (ci := 22) rfl h3 (fr2 := 4) (lo2 := 400) (As := [.ref x1]) (st := []) (fun r9_ w9_ h9_ => by rw [hl]; exact wJ36_append_2_t22 l g hX N x0 x1 w r9_ w9_ h9_) (by decide) rfl rfl (Nat.le_of_ble_eq_true rfl) dJ37_append_2_2 hF (fun r1 u2 hF => ?_)
  refine v_pop C dJ37_append_2_5 rfl ?_
  refine v_aload_n C dJ37_append_2_6 rfl rfl ?_
  exact c_aret C (Or.inl ⟨_, rfl⟩) dJ37_append_2_7 hF
set_option maxHeartbeats 4000000 in
theorem wJ9_init_2 (l : Launch) (g : GT) (hX : ∀ U, gX g U → SX g U) (N : Nat) (x0 : Nat) (x1 : Nat) (x2 : Option Nat) (w : Wd) (r : Unit) (w1 : Wd) (hF : FJ9_init_2 N g x0 x1 x2 w = some (r, w1)) : kMt l g yJ9_init_2 (ws_ yJ9_init_2 cJ9_init_2 5 none) 4 400 w [.ref x0, .ref x1, va_rf x2] none w1 := by
  refine kMt.ofV (lv := [some (.ref x0), some (.ref x1), some (va_rf x2), none, none]) (by decide) rfl (by cases x2 <;> exact Nat.le_of_ble_eq_true rfl) (by cases x2 <;> rfl) ?_
  intro X hl hin C
  unfold FJ9_init_2 at hF
  refine v_aload_n C dJ9_init_2_0 rfl rfl ?_
  refine v_objInit C q2129 q142 q143 (by decide) (Nat.le_of_ble_eq_true rfl) dJ9_init_2_1 ?_
  refine v_aload_n C dJ9_init_2_4 rfl rfl ?_
  obtain ⟨h3, hF⟩ := k_ite hF
  refine c_callUr C lk_J9_552_J36_getValue_t22 (kRc.of C (ci := 22) rfl h3) (fr2 := 1) (lo2 := 100) (As := []) (st := []) (fun r9_ w9_ h9_ => by rw [hl]; exact wJ36_getValue_t22 l g hX N x1 w r9_ w9_ h9_) (by decide) rfl rfl (Nat.le_of_ble_eq_true rfl) dJ9_init_2_5 hF (fun r1 u2 hF => ?_)
  refine v_astore_n C dJ9_init_2_8 rfl (Nat.le_of_ble_eq_true rfl) (by simp [lvK, va_rf_cat]) (lv' := [some (.ref x0), some (.ref x1), some (va_rf x2), some (.ref r1), none]) rfl ?_
  refine v_aload_n C dJ9_init_2_9 rfl rfl ?_
  obtain ⟨h6, hF⟩ := k_ite hF
  refine c_callUi C lk_J9_549_J37_length (kRc.of C (ci := 22) rfl h6) (fr2 := 2) (lo2 := 200) (As := []) (st := []) (fun r9_ w9_ h9_ => by rw [hl]; exact wJ37_length l g hX N x1 u2 r9_ w9_ h9_) (by decide) rfl rfl (Nat.le_of_ble_eq_true rfl) dJ9_init_2_10 hF (fun r4 u5 hF => ?_)
  refine v_istore C dJ9_init_2_13 (Nat.le_of_ble_eq_true rfl) rfl (lv' := [some (.ref x0), some (.ref x1), some (va_rf x2), some (.ref r1), some (.int r4)]) rfl ?_
  refine v_aload_n C dJ9_init_2_15 rfl rfl ?_
  obtain ⟨h9, hF⟩ := k_ite hF
  refine c_callUi C lk_J9_1047_J36_isLatin1_t22 (kRc.of C (ci := 22) rfl h9) (fr2 := 1) (lo2 := 100) (As := []) (st := []) (fun r9_ w9_ h9_ => by rw [hl]; exact wJ36_isLatin1_t22 l g hX N x1 u5 r9_ w9_ h9_) (by decide) rfl rfl (Nat.le_of_ble_eq_true rfl) dJ9_init_2_16 hF (fun r7 u8 hF => ?_)
  refine v_if_eq C (tgt := 41) dJ9_init_2_19 (by decide) hF (fun c10 hF => ?_) (fun c10 hF => ?_)
  · cases hF
  · refine v_aload_n C dJ9_init_2_22 rfl rfl ?_
    refine v_iconst C (v := (0 : Int32)) dJ9_init_2_23 (by decide) ?_
    refine v_putFW C (hin.1.trans rfl) kc_J9 1 (Nat.le_of_ble_eq_true rfl) q2157 rfl rfl rfl rfl dJ9_init_2_24 hF (fun u11 hF => ?_)
    refine v_aload_n C dJ9_init_2_27 rfl rfl ?_
    refine v_aload_n C dJ9_init_2_28 rfl rfl ?_
    refine v_iconst C (v := (0 : Int32)) dJ9_init_2_29 (by decide) ?_
    refine v_iload C dJ9_init_2_30 rfl ?_
    refine c_callSr C lk_J9_54 (fr2 := 3) (lo2 := 300) (As := [.ref r1, .int (0 : Int32), .int r4]) (st := [.ref x0]) (fun r9_ w9_ h9_ => by rw [hl]; exact wJ8_copyOfRange l g hX N r1 (0 : Int32) r4 u11 r9_ w9_ h9_) (by decide) rfl rfl (Nat.le_of_ble_eq_true rfl) dJ9_init_2_32 hF (fun r12 u13 hF => ?_)
    refine v_putFW C (hin.1.trans rfl) kc_J9 0 (Nat.le_of_ble_eq_true rfl) q2156 rfl rfl rfl rfl dJ9_init_2_35 hF (fun u14 hF => ?_)
    refine v_goto C (tgt := 97) dJ9_init_2_38 (by decide) ?_
    exact c_vret C dJ9_init_2_97 hF
set_option maxHeartbeats 4000000 in
theorem wJ9_init (l : Launch) (g : GT) (hX : ∀ U, gX g U → SX g U) (N : Nat) (x0 : Nat) (x1 : Nat) (w : Wd) (r : Unit) (w1 : Wd) (hF : FJ9_init N g x0 x1 w = some (r, w1)) : kMt l g yJ9_init (ws_ yJ9_init cJ9_init 2 none) 5 500 w [.ref x0, .ref x1] none w1 := by
  refine kMt.ofV (lv := [some (.ref x0), some (.ref x1)]) (by decide) rfl (Nat.le_of_ble_eq_true rfl) rfl ?_
  intro X hl hin C
  unfold FJ9_init at hF
  refine v_aload_n C dJ9_init_0 rfl rfl ?_
  refine v_aload_n C dJ9_init_1 rfl rfl ?_
  refine v_null C dJ9_init_2 ?_
  refine c_callI C lk_J9_489 (fr2 := 4) (lo2 := 400) (As := [.ref x1, va_rf none]) (st := []) (fun r9_ w9_ h9_ => by rw [hl]; exact wJ9_init_2 l g hX N x0 x1 none w r9_ w9_ h9_) (by decide) rfl rfl (Nat.le_of_ble_eq_true rfl) dJ9_init_3 hF (fun r1 u2 hF => ?_)
  exact c_vret C dJ9_init_6 hF
set_option maxHeartbeats 4000000 in
theorem wJ37_toString (l : Launch) (g : GT) (hX : ∀ U, gX g U → SX g U) (N : Nat) (x0 : Nat) (w : Wd) (r : Nat) (w1 : Wd) (hF : FJ37_toString N g x0 w = some (r, w1)) : kMt l g yJ37_toString (ws_ yJ37_toString cJ37_toString 1 (some (.object "java/lang/String"))) 6 600 w [.ref x0] (some (.ref r)) w1 := by
  refine kMt.ofV (lv := [some (.ref x0)]) (by decide) rfl (Nat.le_of_ble_eq_true rfl) rfl ?_
  intro X hl hin C
  unfold FJ37_toString at hF
  refine v_newW C kc_J9 q2121 q2122 q95 nw_J9 dJ37_toString_0 hF (fun a1 u2 hF => ?_)
  refine v_dup C dJ37_toString_3 rfl ?_
  refine v_aload_n C dJ37_toString_4 rfl rfl ?_
  refine c_callI C lk_J37_137 (fr2 := 5) (lo2 := 500) (As := [.ref x0]) (st := [.ref a1]) (fun r9_ w9_ h9_ => by rw [hl]; exact wJ9_init l g hX N a1 x0 u2 r9_ w9_ h9_) (by decide) rfl rfl (Nat.le_of_ble_eq_true rfl) dJ37_toString_5 hF (fun r3 u4 hF => ?_)
  exact c_aret C (Or.inl ⟨_, rfl⟩) dJ37_toString_8 hF
set_option maxHeartbeats 4000000 in
theorem wX6_told_b63 {l : Launch} {g : GT} {X : CxT} {r : Nat} {w1 : Wd} (C : kOk g X cX6_told 6 RX6 (some (.object "java/lang/String")) 7 700 (some (.ref r)) w1) (hX : ∀ U, gX g U → SX g U) (hl : xl X = l) (hin : kHin X yX6_told) (N : Nat)  (t0 : Int32) (t1 : Nat) (w : Wd) (hF : FX6_told_b63 N g  t0 t1 w = some (r, w1)) : kV g X 6 w 63 [none, none, none, none, none, none] [.int t0, .ref t1] := by
  unfold FX6_told_b63 at hF
  obtain ⟨h12, hF⟩ := k_ite hF
  refine c_callVr C lk_X6_48 (ci := 22) rfl h12 (fr2 := 5) (lo2 := 500) (As := [.int t0]) (st := []) (fun r9_ w9_ h9_ => by rw [hl]; exact wJ37_append l g hX N t1 t0 w r9_ w9_ h9_) (by decide) rfl rfl (Nat.le_of_ble_eq_true rfl) dX6_told_63 hF (fun r10 u11 hF => ?_)
  obtain ⟨h15, hF⟩ := k_ite hF
  refine c_callVr C lk_X6_52 (ci := 22) rfl h15 (fr2 := 6) (lo2 := 600) (As := []) (st := []) (fun r9_ w9_ h9_ => by rw [hl]; exact wJ37_toString l g hX N r10 u11 r9_ w9_ h9_) (by decide) rfl rfl (Nat.le_of_ble_eq_true rfl) dX6_told_66 hF (fun r13 u14 hF => ?_)
  exact c_aret C (Or.inl ⟨_, rfl⟩) dX6_told_69 hF
set_option maxHeartbeats 4000000 in
theorem wX6_told_b19 {l : Launch} {g : GT} {X : CxT} {r : Nat} {w1 : Wd} (C : kOk g X cX6_told 6 RX6 (some (.object "java/lang/String")) 7 700 (some (.ref r)) w1) (hX : ∀ U, gX g U → SX g U) (hl : xl X = l) (hin : kHin X yX6_told) (N : Nat) (k19 : Nat × Nat × Nat × Int32 × Int32 × Wd → Option (Nat × Wd)) (hk19 : ∀ a, k19 a = some (r, w1) → kV g X 6 a.2.2.2.2.2 19 [some (.ref a.1), some (.ref a.2.1), some (.ref a.2.2.1), some (.int a.2.2.2.1), some (.int a.2.2.2.2.1), none] []) (x0 : Nat) (x1 : Nat) (x2 : Nat) (x3 : Int32) (x4 : Int32) (w : Wd) (hF : FX6_told_b19 N g k19 x0 x1 x2 x3 x4 w = some (r, w1)) : kV g X 6 w 19 [some (.ref x0), some (.ref x1), some (.ref x2), some (.int x3), some (.int x4), none] [] := by
  unfold FX6_told_b19 at hF
  refine v_iload C dX6_told_19 rfl ?_
  refine v_iload_n C dX6_told_21 rfl rfl ?_
  refine v_icmp_ge C (tgt := 48) dX6_told_22 (by decide) hF (fun c7 hF => ?_) (fun c7 hF => ?_)
  · refine v_aload_n C dX6_told_48 rfl rfl ?_
    refine v_aload_n C dX6_told_49 rfl rfl ?_
    refine v_getI C kc_X6 1 (Nat.le_of_ble_eq_true rfl) (kFl.p q382) dX6_told_50 hF (fun v8 hF => ?_)
    refine v_if_ne C (tgt := 61) dX6_told_53 (by decide) hF (fun c9 hF => ?_) (fun c9 hF => ?_)
    · refine v_bipush C (v := (83 : Int32)) dX6_told_56 (by decide) ?_
      refine v_goto C (tgt := 63) dX6_told_58 (by decide) ?_
      refine v_mask [false, false, false, false, false, false] (lv' := [none, none, none, none, none, none]) rfl ?_
      exact wX6_told_b63 C hX hl hin N ((83 : Int32)) (x1) w hF
    · refine v_bipush C (v := (90 : Int32)) dX6_told_61 (by decide) ?_
      refine v_mask [false, false, false, false, false, false] (lv' := [none, none, none, none, none, none]) rfl ?_
      exact wX6_told_b63 C hX hl hin N ((90 : Int32)) (x1) w hF
  · refine v_aload_n C dX6_told_25 rfl rfl ?_
    refine v_iload C dX6_told_26 rfl ?_
    refine v_aIi C dX6_told_28 hF (fun v16 hF => ?_)
    refine v_istore C dX6_told_29 (Nat.le_of_ble_eq_true rfl) rfl (lv' := [some (.ref x0), some (.ref x1), some (.ref x2), some (.int x3), some (.int x4), some (.int v16)]) rfl ?_
    refine v_aload_n C dX6_told_31 rfl rfl ?_
    refine v_bipush C (v := (97 : Int32)) dX6_told_32 (by decide) ?_
    refine v_iload C dX6_told_34 rfl ?_
    refine v_iadd C dX6_told_36 ?_
    refine v_i2c C dX6_told_37 rfl ?_
    obtain ⟨h19, hF⟩ := k_ite hF
    refine c_callVr C lk_X6_48 (ci := 22) rfl h19 (fr2 := 5) (lo2 := 500) (As := [.int ((((97 : Int32) + v16).toUInt32 % 65536).toInt32)]) (st := []) (fun r9_ w9_ h9_ => by rw [hl]; exact wJ37_append l g hX N x1 ((((97 : Int32) + v16).toUInt32 % 65536).toInt32) w r9_ w9_ h9_) (by decide) rfl rfl (Nat.le_of_ble_eq_true rfl) dX6_told_38 hF (fun r17 u18 hF => ?_)
    refine v_pop C dX6_told_41 rfl ?_
    refine v_iinc C dX6_told_42 rfl (v := (x4 + (1 : Int32))) rfl (Nat.le_of_ble_eq_true rfl) rfl (lv' := [some (.ref x0), some (.ref x1), some (.ref x2), some (.int x3), some (.int (x4 + (1 : Int32))), some (.int v16)]) rfl ?_
    refine v_goto C (tgt := 19) dX6_told_45 (by decide) ?_
    refine v_mask [true, true, true, true, true, false] (lv' := [some (.ref x0), some (.ref x1), some (.ref x2), some (.int x3), some (.int (x4 + (1 : Int32))), none]) rfl ?_
    exact hk19 (x0, x1, x2, x3, (x4 + (1 : Int32)), u18) hF
set_option maxHeartbeats 4000000 in
theorem wX6_told (l : Launch) (g : GT) (hX : ∀ U, gX g U → SX g U) (N : Nat) (x0 : Nat) (w : Wd) (r : Nat) (w1 : Wd) (hF : FX6_told N g x0 w = some (r, w1)) : kMt l g yX6_told (ws_ yX6_told cX6_told 6 (some (.object "java/lang/String"))) 7 700 w [.ref x0] (some (.ref r)) w1 := by
  refine kMt.ofV (lv := [some (.ref x0), none, none, none, none, none]) (by decide) rfl (Nat.le_of_ble_eq_true rfl) rfl ?_
  intro X hl hin C
  unfold FX6_told at hF
  refine v_newW C kc_J37 q2114 q2001 q132 nw_J37 dX6_told_0 hF (fun a1 u2 hF => ?_)
  refine v_dup C dX6_told_3 rfl ?_
  refine c_callI C lk_X6_47 (fr2 := 2) (lo2 := 200) (As := []) (st := [.ref a1]) (fun r9_ w9_ h9_ => by rw [hl]; exact wJ37_init l g hX N a1 u2 r9_ w9_ h9_) (by decide) rfl rfl (Nat.le_of_ble_eq_true rfl) dX6_told_4 hF (fun r3 u4 hF => ?_)
  refine v_astore_n C dX6_told_7 rfl (Nat.le_of_ble_eq_true rfl) rfl (lv' := [some (.ref x0), some (.ref a1), none, none, none, none]) rfl ?_
  refine v_aload_n C dX6_told_8 rfl rfl ?_
  refine v_getR C kc_X6 0 (Nat.le_of_ble_eq_true rfl) (kFl.p q378) dX6_told_9 hF (fun v5 hF => ?_)
  refine v_astore_n C dX6_told_12 rfl (Nat.le_of_ble_eq_true rfl) rfl (lv' := [some (.ref x0), some (.ref a1), some (.ref v5), none, none, none]) rfl ?_
  refine v_aload_n C dX6_told_13 rfl rfl ?_
  refine v_aL C (t := 0) rfl dX6_told_14 hF (fun v6 hF => ?_)
  refine v_istore_n C dX6_told_15 rfl (Nat.le_of_ble_eq_true rfl) rfl (lv' := [some (.ref x0), some (.ref a1), some (.ref v5), some (.int v6), none, none]) rfl ?_
  refine v_iconst C (v := (0 : Int32)) dX6_told_16 (by decide) ?_
  refine v_istore C dX6_told_17 (Nat.le_of_ble_eq_true rfl) rfl (lv' := [some (.ref x0), some (.ref a1), some (.ref v5), some (.int v6), some (.int (0 : Int32)), none]) rfl ?_
  refine v_mask [true, true, true, true, true, false] (lv' := [some (.ref x0), some (.ref a1), some (.ref v5), some (.int v6), some (.int (0 : Int32)), none]) rfl ?_
  exact kloop_ok (P := fun a => kV g X 6 a.2.2.2.2.2 19 [some (.ref a.1), some (.ref a.2.1), some (.ref a.2.2.1), some (.int a.2.2.2.1), some (.int a.2.2.2.2.1), none] []) (fun self hs a hF => wX6_told_b19 C hX hl hin N self hs a.1 a.2.1 a.2.2.1 a.2.2.2.1 a.2.2.2.2.1 a.2.2.2.2.2 hF) N (x0, a1, v5, v6, (0 : Int32), u4) hF
set_option maxHeartbeats 4000000 in
theorem wX0_spell_b49 {l : Launch} {g : GT} {X : CxT} {r : Int32} {w1 : Wd} (C : kOk g X cX0_spell 4 RX0 (some .int) 8 800 (some (.int r)) w1) (hX : ∀ U, gX g U → SX g U) (hl : xl X = l) (hin : kHin X yX0_spell) (N : Nat) (k16 : Nat × Nat × Nat × Wd → Option (Int32 × Wd)) (hk16 : ∀ a, k16 a = some (r, w1) → kV g X 4 a.2.2.2 16 [some (.ref a.1), some (.ref a.2.1), some (.ref a.2.2.1), none] []) (x0 : Nat) (x1 : Nat) (x2 : Nat) (x3 : Nat) (w : Wd) (hF : FX0_spell_b49 N g k16 x0 x1 x2 x3 w = some (r, w1)) : kV g X 4 w 49 [some (.ref x0), some (.ref x1), some (.ref x2), some (.ref x3)] [] := by
  unfold FX0_spell_b49 at hF
  refine v_aload_n C dX0_spell_49 rfl rfl ?_
  refine v_aload_n C dX0_spell_50 rfl rfl ?_
  obtain ⟨h30, hF⟩ := k_ite hF
  refine c_callVr C lk_X0_437 (ci := 2) rfl h30 (fr2 := 7) (lo2 := 700) (As := []) (st := [.ref x1]) (fun r9_ w9_ h9_ => by rw [hl]; exact wX6_told l g hX N x3 w r9_ w9_ h9_) (by decide) rfl rfl (Nat.le_of_ble_eq_true rfl) dX0_spell_51 hF (fun r28 u29 hF => ?_)
  obtain ⟨h33, hF⟩ := k_ite hF
  refine c_callVr C lk_X0_441 (ci := 22) rfl h33 (fr2 := 5) (lo2 := 500) (As := [.ref r28]) (st := []) (fun r9_ w9_ h9_ => by rw [hl]; exact wJ37_append_2 l g hX N x1 r28 u29 r9_ w9_ h9_) (by decide) rfl rfl (Nat.le_of_ble_eq_true rfl) dX0_spell_54 hF (fun r31 u32 hF => ?_)
  refine v_pop C dX0_spell_57 rfl ?_
  refine v_goto C (tgt := 16) dX0_spell_58 (by decide) ?_
  refine v_mask [true, true, true, false] (lv' := [some (.ref x0), some (.ref x1), some (.ref x2), none]) rfl ?_
  exact hk16 (x0, x1, x2, u32) hF
set_option maxHeartbeats 4000000 in
theorem wX0_spell_b16 {l : Launch} {g : GT} {X : CxT} {r : Int32} {w1 : Wd} (C : kOk g X cX0_spell 4 RX0 (some .int) 8 800 (some (.int r)) w1) (hX : ∀ U, gX g U → SX g U) (hl : xl X = l) (hin : kHin X yX0_spell) (N : Nat) (k16 : Nat × Nat × Nat × Wd → Option (Int32 × Wd)) (hk16 : ∀ a, k16 a = some (r, w1) → kV g X 4 a.2.2.2 16 [some (.ref a.1), some (.ref a.2.1), some (.ref a.2.2.1), none] []) (x0 : Nat) (x1 : Nat) (x2 : Nat) (w : Wd) (hF : FX0_spell_b16 N g k16 x0 x1 x2 w = some (r, w1)) : kV g X 4 w 16 [some (.ref x0), some (.ref x1), some (.ref x2), none] [] := by
  unfold FX0_spell_b16 at hF
  refine v_aload_n C dX0_spell_16 rfl rfl ?_
  obtain ⟨h11, hF⟩ := k_ite hF
  refine c_callFi C lk_X0_101_J15_hasNext ((hX _ C.2.2.2.2.2.1.2.2.1).2.2.1 _ (List.mem_of_getElem? (i := 0) rfl)) (C.2.2.2.2.2.1.1.1 12 _ rfl).2 (kRc.of C (ci := 12) rfl h11) (fr2 := 1) (lo2 := 100) (As := []) (st := []) (fun r9_ w9_ h9_ => by rw [hl]; exact wJ15_hasNext l g hX N x2 w r9_ w9_ h9_) (by decide) rfl rfl (Nat.le_of_ble_eq_true rfl) dX0_spell_17 hF (fun r9 u10 hF => ?_)
  refine v_if_eq C (tgt := 61) dX0_spell_22 (by decide) hF (fun c12 hF => ?_) (fun c12 hF => ?_)
  · refine v_aload_n C dX0_spell_61 rfl rfl ?_
    refine v_aload_n C dX0_spell_62 rfl rfl ?_
    obtain ⟨h15, hF⟩ := k_ite hF
    refine c_callVr C lk_X0_444 (ci := 22) rfl h15 (fr2 := 6) (lo2 := 600) (As := []) (st := [.ref x0]) (fun r9_ w9_ h9_ => by rw [hl]; exact wJ37_toString l g hX N x1 u10 r9_ w9_ h9_) (by decide) rfl rfl (Nat.le_of_ble_eq_true rfl) dX0_spell_63 hF (fun r13 u14 hF => ?_)
    refine v_putW C kc_X0 9 (Nat.le_of_ble_eq_true rfl) (kFl.p q211) rfl rfl rfl dX0_spell_66 hF (fun u16 hF => ?_)
    refine v_aload_n C dX0_spell_69 rfl rfl ?_
    refine v_getR C kc_X0 9 (Nat.le_of_ble_eq_true rfl) (kFl.p q211) dX0_spell_70 hF (fun v17 hF => ?_)
    obtain ⟨h20, hF⟩ := k_ite hF
    refine c_callVRi C lk_X0_447 (kRcZ C hX h20) (fr2 := 2) (lo2 := 200) (As := []) (st := []) (fun r9_ w9_ h9_ => by rw [hl]; exact wJ9_length l g hX N v17 u16 r9_ w9_ h9_) (by decide) rfl rfl (Nat.le_of_ble_eq_true rfl) dX0_spell_73 hF (fun r18 u19 hF => ?_)
    exact c_iret C dX0_spell_76 hF
  · refine v_aload_n C dX0_spell_25 rfl rfl ?_
    obtain ⟨h23, hF⟩ := k_ite hF
    refine c_callFr C lk_X0_107_J15_next ((hX _ C.2.2.2.2.2.1.2.2.1).2.2.1 _ (List.mem_of_getElem? (i := 1) rfl)) (C.2.2.2.2.2.1.1.1 12 _ rfl).2 (kRc.of C (ci := 12) rfl h23) (fr2 := 2) (lo2 := 200) (As := []) (st := []) (fun r9_ w9_ h9_ => by rw [hl]; exact wJ15_next l g hX N x2 u10 r9_ w9_ h9_) (by decide) rfl rfl (Nat.le_of_ble_eq_true rfl) dX0_spell_26 hF (fun r21 u22 hF => ?_)
    refine v_castI C (ci := 2) rfl q700 dX0_spell_31 hF (fun hF => ?_)
    refine v_astore_n C dX0_spell_34 rfl (Nat.le_of_ble_eq_true rfl) rfl (lv' := [some (.ref x0), some (.ref x1), some (.ref x2), some (.ref r21)]) rfl ?_
    refine v_aload_n C dX0_spell_35 rfl rfl ?_
    obtain ⟨h26, hF⟩ := k_ite hF
    refine c_callVi C lk_X0_430 (ci := 22) rfl h26 (fr2 := 2) (lo2 := 200) (As := []) (st := []) (fun r9_ w9_ h9_ => by rw [hl]; exact wJ37_length l g hX N x1 u22 r9_ w9_ h9_) (by decide) rfl rfl (Nat.le_of_ble_eq_true rfl) dX0_spell_36 hF (fun r24 u25 hF => ?_)
    refine v_if_le C (tgt := 49) dX0_spell_39 (by decide) hF (fun c27 hF => ?_) (fun c27 hF => ?_)
    · refine v_mask [true, true, true, true] (lv' := [some (.ref x0), some (.ref x1), some (.ref x2), some (.ref r21)]) rfl ?_
      exact wX0_spell_b49 C hX hl hin N k16 hk16 (x0) (x1) (x2) (r21) u25 hF
    · refine v_aload_n C dX0_spell_42 rfl rfl ?_
      refine v_bipush C (v := (59 : Int32)) dX0_spell_43 (by decide) ?_
      obtain ⟨h36, hF⟩ := k_ite hF
      refine c_callVr C lk_X0_433 (ci := 22) rfl h36 (fr2 := 5) (lo2 := 500) (As := [.int (59 : Int32)]) (st := []) (fun r9_ w9_ h9_ => by rw [hl]; exact wJ37_append l g hX N x1 (59 : Int32) u25 r9_ w9_ h9_) (by decide) rfl rfl (Nat.le_of_ble_eq_true rfl) dX0_spell_45 hF (fun r34 u35 hF => ?_)
      refine v_pop C dX0_spell_48 rfl ?_
      refine v_mask [true, true, true, true] (lv' := [some (.ref x0), some (.ref x1), some (.ref x2), some (.ref r21)]) rfl ?_
      exact wX0_spell_b49 C hX hl hin N k16 hk16 (x0) (x1) (x2) (r21) u35 hF
set_option maxHeartbeats 4000000 in
theorem wX0_spell (l : Launch) (g : GT) (hX : ∀ U, gX g U → SX g U) (N : Nat) (x0 : Nat) (w : Wd) (r : Int32) (w1 : Wd) (hF : FX0_spell N g x0 w = some (r, w1)) : kMt l g yX0_spell (ws_ yX0_spell cX0_spell 4 (some .int)) 8 800 w [.ref x0] (some (.int r)) w1 := by
  refine kMt.ofV (lv := [some (.ref x0), none, none, none]) (by decide) rfl (Nat.le_of_ble_eq_true rfl) rfl ?_
  intro X hl hin C
  unfold FX0_spell at hF
  refine v_newW C kc_J37 q2000 q2001 q132 nw_J37 dX0_spell_0 hF (fun a1 u2 hF => ?_)
  refine v_dup C dX0_spell_3 rfl ?_
  refine c_callI C lk_X0_429 (fr2 := 2) (lo2 := 200) (As := []) (st := [.ref a1]) (fun r9_ w9_ h9_ => by rw [hl]; exact wJ37_init l g hX N a1 u2 r9_ w9_ h9_) (by decide) rfl rfl (Nat.le_of_ble_eq_true rfl) dX0_spell_4 hF (fun r3 u4 hF => ?_)
  refine v_astore_n C dX0_spell_7 rfl (Nat.le_of_ble_eq_true rfl) rfl (lv' := [some (.ref x0), some (.ref a1), none, none]) rfl ?_
  refine v_aload_n C dX0_spell_8 rfl rfl ?_
  refine v_getR C kc_X0 0 (Nat.le_of_ble_eq_true rfl) (kFl.p q198) dX0_spell_9 hF (fun v5 hF => ?_)
  obtain ⟨h8, hF⟩ := k_ite hF
  refine c_callVr C lk_X0_97 (ci := 11) rfl h8 (fr2 := 2) (lo2 := 200) (As := []) (st := []) (fun r9_ w9_ h9_ => by rw [hl]; exact wJ2_iterator l g hX N v5 u4 r9_ w9_ h9_) (by decide) rfl rfl (Nat.le_of_ble_eq_true rfl) dX0_spell_12 hF (fun r6 u7 hF => ?_)
  refine v_astore_n C dX0_spell_15 rfl (Nat.le_of_ble_eq_true rfl) rfl (lv' := [some (.ref x0), some (.ref a1), some (.ref r6), none]) rfl ?_
  refine v_mask [true, true, true, false] (lv' := [some (.ref x0), some (.ref a1), some (.ref r6), none]) rfl ?_
  exact kloop_ok (P := fun a => kV g X 4 a.2.2.2 16 [some (.ref a.1), some (.ref a.2.1), some (.ref a.2.2.1), none] []) (fun self hs a hF => wX0_spell_b16 C hX hl hin N self hs a.1 a.2.1 a.2.2.1 a.2.2.2 hF) N (x0, a1, r6, u7) hF
set_option maxHeartbeats 4000000 in
theorem wX0_paper (l : Launch) (g : GT) (hX : ∀ U, gX g U → SX g U) (N : Nat) (x0 : Nat) (x1 : Int32) (w : Wd) (r : Int32) (w1 : Wd) (hF : FX0_paper N g x0 x1 w = some (r, w1)) : kMt l g yX0_paper (ws_ yX0_paper cX0_paper 2 (some .int)) 5 500 w [.ref x0, .int x1] (some (.int r)) w1 := by
  refine kMt.ofV (lv := [some (.ref x0), some (.int x1)]) (by decide) rfl (Nat.le_of_ble_eq_true rfl) rfl ?_
  intro X hl hin C
  unfold FX0_paper at hF
  refine v_iload_n C dX0_paper_0 rfl rfl ?_
  refine v_iconst C (v := (0 : Int32)) dX0_paper_1 (by decide) ?_
  refine v_aload_n C dX0_paper_2 rfl rfl ?_
  refine v_getR C kc_X0 9 (Nat.le_of_ble_eq_true rfl) (kFl.p q211) dX0_paper_3 hF (fun v1 hF => ?_)
  obtain ⟨h4, hF⟩ := k_ite hF
  refine c_callVRi C lk_X0_447 (kRcZ C hX h4) (fr2 := 2) (lo2 := 200) (As := []) (st := [.int (0 : Int32), .int x1]) (fun r9_ w9_ h9_ => by rw [hl]; exact wJ9_length l g hX N v1 w r9_ w9_ h9_) (by decide) rfl rfl (Nat.le_of_ble_eq_true rfl) dX0_paper_6 hF (fun r2 u3 hF => ?_)
  refine v_iconst C (v := (1 : Int32)) dX0_paper_9 (by decide) ?_
  refine v_isub C dX0_paper_10 ?_
  refine c_callSi C lk_X0_93 (fr2 := 1) (lo2 := 100) (As := [.int x1, .int (0 : Int32), .int (r2 - (1 : Int32))]) (st := []) (fun r9_ w9_ h9_ => by rw [hl]; exact wX0_isIn l g hX N x1 (0 : Int32) (r2 - (1 : Int32)) u3 r9_ w9_ h9_) (by decide) rfl rfl (Nat.le_of_ble_eq_true rfl) dX0_paper_11 hF (fun r5 u6 hF => ?_)
  refine v_if_eq C (tgt := 28) dX0_paper_14 (by decide) hF (fun c7 hF => ?_) (fun c7 hF => ?_)
  · refine v_iconst C (v := (-1 : Int32)) dX0_paper_28 (by decide) ?_
    exact c_iret C dX0_paper_29 hF
  · refine v_aload_n C dX0_paper_17 rfl rfl ?_
    refine v_getR C kc_X0 9 (Nat.le_of_ble_eq_true rfl) (kFl.p q211) dX0_paper_18 hF (fun v8 hF => ?_)
    refine v_iload_n C dX0_paper_21 rfl rfl ?_
    obtain ⟨h11, hF⟩ := k_ite hF
    refine c_callVRi C lk_X0_450 (kRcZ C hX h11) (fr2 := 4) (lo2 := 400) (As := [.int x1]) (st := []) (fun r9_ w9_ h9_ => by rw [hl]; exact wJ9_charAt l g hX N v8 x1 u6 r9_ w9_ h9_) (by decide) rfl rfl (Nat.le_of_ble_eq_true rfl) dX0_paper_22 hF (fun r9 u10 hF => ?_)
    refine v_goto C (tgt := 29) dX0_paper_25 (by decide) ?_
    exact c_iret C dX0_paper_29 hF
set_option maxHeartbeats 4000000 in
theorem wX0_told (l : Launch) (g : GT) (hX : ∀ U, gX g U → SX g U) (N : Nat) (x0 : Nat) (x1 : Int32) (w : Wd) (r : Int32) (w1 : Wd) (hF : FX0_told N g x0 x1 w = some (r, w1)) : kMt l g yX0_told (ws_ yX0_told cX0_told 2 (some .int)) 5 500 w [.ref x0, .int x1] (some (.int r)) w1 := by
  refine kMt.ofV (lv := [some (.ref x0), some (.int x1)]) (by decide) rfl (Nat.le_of_ble_eq_true rfl) rfl ?_
  intro X hl hin C
  unfold FX0_told at hF
  refine v_iload_n C dX0_told_0 rfl rfl ?_
  rcases k_cases hF with ⟨c1, hF⟩ | ⟨c1, hF⟩
  · refine v_tswIn C (0 : Int32) c1 dX0_told_1 (by decide) (by decide) (off := 47) rfl (tgt := 48) (by decide) ?_
    refine v_aload_n C dX0_told_48 rfl rfl ?_
    obtain ⟨h4, hF⟩ := k_ite hF
    refine c_callVi C lk_X0_90 (ci := 1) rfl h4 (fr2 := 2) (lo2 := 200) (As := []) (st := []) (fun r9_ w9_ h9_ => by rw [hl]; exact wX0_many l g hX N x0 w r9_ w9_ h9_) (by decide) rfl rfl (Nat.le_of_ble_eq_true rfl) dX0_told_49 hF (fun r2 u3 hF => ?_)
    exact c_iret C dX0_told_52 hF
  · rcases k_cases hF with ⟨c5, hF⟩ | ⟨c5, hF⟩
    · refine v_tswIn C (1 : Int32) c5 dX0_told_1 (by decide) (by decide) (off := 52) rfl (tgt := 53) (by decide) ?_
      refine v_aload_n C dX0_told_53 rfl rfl ?_
      refine v_getR C kc_X0 1 (Nat.le_of_ble_eq_true rfl) (kFl.p q199) dX0_told_54 hF (fun v6 hF => ?_)
      obtain ⟨h9, hF⟩ := k_ite hF
      refine c_callVi C lk_X0_86 (ci := 11) rfl h9 (fr2 := 1) (lo2 := 100) (As := []) (st := []) (fun r9_ w9_ h9_ => by rw [hl]; exact wJ2_size l g hX N v6 w r9_ w9_ h9_) (by decide) rfl rfl (Nat.le_of_ble_eq_true rfl) dX0_told_57 hF (fun r7 u8 hF => ?_)
      exact c_iret C dX0_told_60 hF
    · rcases k_cases hF with ⟨c10, hF⟩ | ⟨c10, hF⟩
      · refine v_tswIn C (2 : Int32) c10 dX0_told_1 (by decide) (by decide) (off := 52) rfl (tgt := 53) (by decide) ?_
        refine v_aload_n C dX0_told_53 rfl rfl ?_
        refine v_getR C kc_X0 1 (Nat.le_of_ble_eq_true rfl) (kFl.p q199) dX0_told_54 hF (fun v11 hF => ?_)
        obtain ⟨h14, hF⟩ := k_ite hF
        refine c_callVi C lk_X0_86 (ci := 11) rfl h14 (fr2 := 1) (lo2 := 100) (As := []) (st := []) (fun r9_ w9_ h9_ => by rw [hl]; exact wJ2_size l g hX N v11 w r9_ w9_ h9_) (by decide) rfl rfl (Nat.le_of_ble_eq_true rfl) dX0_told_57 hF (fun r12 u13 hF => ?_)
        exact c_iret C dX0_told_60 hF
      · rcases k_cases hF with ⟨c15, hF⟩ | ⟨c15, hF⟩
        · refine v_tswIn C (3 : Int32) c15 dX0_told_1 (by decide) (by decide) (off := 60) rfl (tgt := 61) (by decide) ?_
          refine v_aload_n C dX0_told_61 rfl rfl ?_
          obtain ⟨h18, hF⟩ := k_ite hF
          refine c_callVi C lk_X0_457 (ci := 1) rfl h18 (fr2 := 3) (lo2 := 300) (As := []) (st := []) (fun r9_ w9_ h9_ => by rw [hl]; exact wX0_twists l g hX N x0 w r9_ w9_ h9_) (by decide) rfl rfl (Nat.le_of_ble_eq_true rfl) dX0_told_62 hF (fun r16 u17 hF => ?_)
          exact c_iret C dX0_told_65 hF
        · rcases k_cases hF with ⟨c19, hF⟩ | ⟨c19, hF⟩
          · refine v_tswIn C (4 : Int32) c19 dX0_told_1 (by decide) (by decide) (off := 65) rfl (tgt := 66) (by decide) ?_
            refine v_aload_n C dX0_told_66 rfl rfl ?_
            refine v_getI C kc_X0 6 (Nat.le_of_ble_eq_true rfl) (kFl.p q207) dX0_told_67 hF (fun v20 hF => ?_)
            exact c_iret C dX0_told_70 hF
          · rcases k_cases hF with ⟨c21, hF⟩ | ⟨c21, hF⟩
            · refine v_tswIn C (5 : Int32) c21 dX0_told_1 (by decide) (by decide) (off := 70) rfl (tgt := 71) (by decide) ?_
              refine v_aload_n C dX0_told_71 rfl rfl ?_
              obtain ⟨h24, hF⟩ := k_ite hF
              refine c_callVi C lk_X0_460 (ci := 1) rfl h24 (fr2 := 4) (lo2 := 400) (As := []) (st := []) (fun r9_ w9_ h9_ => by rw [hl]; exact wX0_greatestFloat l g hX N x0 w r9_ w9_ h9_) (by decide) rfl rfl (Nat.le_of_ble_eq_true rfl) dX0_told_72 hF (fun r22 u23 hF => ?_)
              exact c_iret C dX0_told_75 hF
            · rcases k_cases hF with ⟨c25, hF⟩ | ⟨c25, hF⟩
              · refine v_tswIn C (6 : Int32) c25 dX0_told_1 (by decide) (by decide) (off := 75) rfl (tgt := 76) (by decide) ?_
                refine v_aload_n C dX0_told_76 rfl rfl ?_
                refine v_getI C kc_X0 4 (Nat.le_of_ble_eq_true rfl) (kFl.p q204) dX0_told_77 hF (fun v26 hF => ?_)
                exact c_iret C dX0_told_80 hF
              · rcases k_cases hF with ⟨c27, hF⟩ | ⟨c27, hF⟩
                · refine v_tswIn C (7 : Int32) c27 dX0_told_1 (by decide) (by decide) (off := 80) rfl (tgt := 81) (by decide) ?_
                  refine v_aload_n C dX0_told_81 rfl rfl ?_
                  refine v_getR C kc_X0 9 (Nat.le_of_ble_eq_true rfl) (kFl.p q211) dX0_told_82 hF (fun v28 hF => ?_)
                  obtain ⟨h31, hF⟩ := k_ite hF
                  refine c_callVRi C lk_X0_447 (kRcZ C hX h31) (fr2 := 2) (lo2 := 200) (As := []) (st := []) (fun r9_ w9_ h9_ => by rw [hl]; exact wJ9_length l g hX N v28 w r9_ w9_ h9_) (by decide) rfl rfl (Nat.le_of_ble_eq_true rfl) dX0_told_85 hF (fun r29 u30 hF => ?_)
                  exact c_iret C dX0_told_88 hF
                · refine v_tswOut C [(0 : Int32), (1 : Int32), (2 : Int32), (3 : Int32), (4 : Int32), (5 : Int32), (6 : Int32), (7 : Int32)] (List.forall_mem_cons.mpr ⟨c1, List.forall_mem_cons.mpr ⟨c5, List.forall_mem_cons.mpr ⟨c10, List.forall_mem_cons.mpr ⟨c15, List.forall_mem_cons.mpr ⟨c19, List.forall_mem_cons.mpr ⟨c21, List.forall_mem_cons.mpr ⟨c25, List.forall_mem_cons.mpr ⟨c27, fun _ h => absurd h List.not_mem_nil⟩⟩⟩⟩⟩⟩⟩⟩) dX0_told_1 (by decide +kernel) (by decide) (tgt := 89) (by decide) ?_
                  refine v_iconst C (v := (-1 : Int32)) dX0_told_89 (by decide) ?_
                  exact c_iret C dX0_told_90 hF
