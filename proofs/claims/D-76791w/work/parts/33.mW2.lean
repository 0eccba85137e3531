set_option maxRecDepth 100000
set_option maxHeartbeats 4000000 in
theorem wX3_weaveDraft_b99 {l : Launch} {g : GT} {X : CxT} {o : Nat} {u : Wd} {r : Int32} {s1 : M} (C : kOk g X cX3_weaveDraft 3 RX3 (some .int) 5 500 (some (.int r)) (wM g o s1 u)) (ho : gB g ≤ o) (hl : xl X = l) (N : Nat) (k99 : Int32 × M → Option (Int32 × M)) (hk99 : ∀ a, k99 a = some (r, s1) → kV g X 3 (wM g o a.2 u) 99 [some (.ref o), some (.int a.1), none] []) (x1 : Int32) (s : M) (hF : FX3_weaveDraft_b99 N k99 x1 s = some (r, s1)) : kV g X 3 (wM g o s u) 99 [some (.ref o), some (.int x1), none] [] := by
  unfold FX3_weaveDraft_b99 at hF
  refine v_iload_n C dX3_weaveDraft_99 rfl rfl ?_
  refine v_aload_n C dX3_weaveDraft_100 rfl rfl ?_
  refine m_get C 32 (Nat.le_of_ble_eq_true rfl) q2334 (v := .int (s.1 32)) rfl dX3_weaveDraft_101 ?_
  refine v_icmp_ge C (tgt := 171) dX3_weaveDraft_104 (by decide) hF (fun c8 hF => ?_) (fun c8 hF => ?_)
  · refine v_aload_n C dX3_weaveDraft_171 rfl rfl ?_
    refine m_get C 2 (Nat.le_of_ble_eq_true rfl) q2304 (v := .ref (o + 2)) rfl dX3_weaveDraft_172 ?_
    refine v_iconst C (v := (0 : Int32)) dX3_weaveDraft_175 (by decide) ?_
    refine m_ald C (Nat.le_of_ble_eq_true rfl) (Nat.le_of_ble_eq_true rfl) (by decide) (n := 2) rfl rfl (ix := 0) (by decide) dX3_weaveDraft_176 ?_
    exact m_iret C dX3_weaveDraft_177 hF
  · refine v_iconst C (v := (0 : Int32)) dX3_weaveDraft_107 (by decide) ?_
    refine v_istore_n C dX3_weaveDraft_108 rfl (Nat.le_of_ble_eq_true rfl) rfl (lv' := [some (.ref o), some (.int x1), some (.int (0 : Int32))]) rfl ?_
    refine v_mask [true, true, true] (lv' := [some (.ref o), some (.int x1), some (.int (0 : Int32))]) rfl ?_
    exact kloop_ok (P := fun a => kV g X 3 (wM g o a.2.2 u) 109 [some (.ref o), some (.int a.1), some (.int a.2.1)] []) (fun self hs a hF => wX3_weaveDraft_b109 C ho hl N k99 hk99 self hs a.1 a.2.1 a.2.2 hF) N (x1, (0 : Int32), s) hF
set_option maxHeartbeats 4000000 in
theorem wX3_weaveDraft_b58 {l : Launch} {g : GT} {X : CxT} {o : Nat} {u : Wd} {r : Int32} {s1 : M} (C : kOk g X cX3_weaveDraft 3 RX3 (some .int) 5 500 (some (.int r)) (wM g o s1 u)) (ho : gB g ≤ o) (hl : xl X = l) (N : Nat) (k48 : Int32 × M → Option (Int32 × M)) (hk48 : ∀ a, k48 a = some (r, s1) → kV g X 3 (wM g o a.2 u) 48 [some (.ref o), some (.int a.1), none] []) (k58 : Int32 × Int32 × M → Option (Int32 × M)) (hk58 : ∀ a, k58 a = some (r, s1) → kV g X 3 (wM g o a.2.2 u) 58 [some (.ref o), some (.int a.1), some (.int a.2.1)] []) (x1 : Int32) (x2 : Int32) (s : M) (hF : FX3_weaveDraft_b58 N k48 k58 x1 x2 s = some (r, s1)) : kV g X 3 (wM g o s u) 58 [some (.ref o), some (.int x1), some (.int x2)] [] := by
  unfold FX3_weaveDraft_b58 at hF
  refine v_iload_n C dX3_weaveDraft_58 rfl rfl ?_
  refine v_aload_n C dX3_weaveDraft_59 rfl rfl ?_
  refine m_get C 1 (Nat.le_of_ble_eq_true rfl) q2303 (v := .ref (o + 1)) rfl dX3_weaveDraft_60 ?_
  refine v_iconst C (v := (0 : Int32)) dX3_weaveDraft_63 (by decide) ?_
  refine m_ald C (Nat.le_of_ble_eq_true rfl) (Nat.le_of_ble_eq_true rfl) (by decide) (n := 2) rfl rfl (ix := 0) (by decide) dX3_weaveDraft_64 ?_
  refine v_icmp_ge C (tgt := 91) dX3_weaveDraft_65 (by decide) hF (fun c18 hF => ?_) (fun c18 hF => ?_)
  · refine v_iinc C dX3_weaveDraft_91 rfl (v := (x1 + (1 : Int32))) rfl (Nat.le_of_ble_eq_true rfl) rfl (lv' := [some (.ref o), some (.int (x1 + (1 : Int32))), some (.int x2)]) rfl ?_
    refine v_goto C (tgt := 48) dX3_weaveDraft_94 (by decide) ?_
    refine v_mask [true, true, false] (lv' := [some (.ref o), some (.int (x1 + (1 : Int32))), none]) rfl ?_
    exact hk48 ((x1 + (1 : Int32)), s) hF
  · refine v_aload_n C dX3_weaveDraft_68 rfl rfl ?_
    refine m_get C 35 (Nat.le_of_ble_eq_true rfl) q2337 (v := .ref (o + 27)) rfl dX3_weaveDraft_69 ?_
    refine v_bipush C (v := (10 : Int32)) dX3_weaveDraft_72 (by decide) ?_
    refine v_iload_n C dX3_weaveDraft_74 rfl rfl ?_
    refine v_imul C dX3_weaveDraft_75 ?_
    refine v_iload_n C dX3_weaveDraft_76 rfl rfl ?_
    refine v_iadd C dX3_weaveDraft_77 ?_
    refine v_aload_n C dX3_weaveDraft_78 rfl rfl ?_
    refine v_iload_n C dX3_weaveDraft_79 rfl rfl ?_
    refine v_iload_n C dX3_weaveDraft_80 rfl rfl ?_
    refine m_callVi C lk_X3_228 rfl (fr2 := 4) (lo2 := 400) (As := [.int x1, .int x2]) (st := [.int (((10 : Int32) * x1) + x2), .ref (o + 27)]) (fun r s1 h => by rw [hl]; exact wX3_draftOf l g ho u N x1 x2 s r s1 h) (by decide) rfl rfl (Nat.le_of_ble_eq_true rfl) dX3_weaveDraft_81 hF (fun r19 s20 hF => ?_)
    obtain ⟨h21, hF⟩ := k_ite hF
    refine m_ast C ho (Nat.le_of_ble_eq_true rfl) (Nat.le_of_ble_eq_true rfl) (by decide) (n := 80) rfl h21 (ix := ((((10 : Int32) * x1) + x2).toNatClampNeg)) rfl dX3_weaveDraft_84 ?_
    refine v_iinc C dX3_weaveDraft_85 rfl (v := (x2 + (1 : Int32))) rfl (Nat.le_of_ble_eq_true rfl) rfl (lv' := [some (.ref o), some (.int x1), some (.int (x2 + (1 : Int32)))]) rfl ?_
    refine v_goto C (tgt := 58) dX3_weaveDraft_88 (by decide) ?_
    refine v_mask [true, true, true] (lv' := [some (.ref o), some (.int x1), some (.int (x2 + (1 : Int32)))]) rfl ?_
    exact hk58 (x1, (x2 + (1 : Int32)), (sA s20 27 ((((10 : Int32) * x1) + x2).toNatClampNeg) r19)) hF
set_option maxHeartbeats 4000000 in
theorem wX3_weaveDraft_b48 {l : Launch} {g : GT} {X : CxT} {o : Nat} {u : Wd} {r : Int32} {s1 : M} (C : kOk g X cX3_weaveDraft 3 RX3 (some .int) 5 500 (some (.int r)) (wM g o s1 u)) (ho : gB g ≤ o) (hl : xl X = l) (N : Nat) (k48 : Int32 × M → Option (Int32 × M)) (hk48 : ∀ a, k48 a = some (r, s1) → kV g X 3 (wM g o a.2 u) 48 [some (.ref o), some (.int a.1), none] []) (x1 : Int32) (s : M) (hF : FX3_weaveDraft_b48 N k48 x1 s = some (r, s1)) : kV g X 3 (wM g o s u) 48 [some (.ref o), some (.int x1), none] [] := by
  unfold FX3_weaveDraft_b48 at hF
  refine v_iload_n C dX3_weaveDraft_48 rfl rfl ?_
  refine v_aload_n C dX3_weaveDraft_49 rfl rfl ?_
  refine m_get C 32 (Nat.le_of_ble_eq_true rfl) q2334 (v := .int (s.1 32)) rfl dX3_weaveDraft_50 ?_
  refine v_icmp_ge C (tgt := 97) dX3_weaveDraft_53 (by decide) hF (fun c7 hF => ?_) (fun c7 hF => ?_)
  · refine v_iconst C (v := (0 : Int32)) dX3_weaveDraft_97 (by decide) ?_
    refine v_istore_n C dX3_weaveDraft_98 rfl (Nat.le_of_ble_eq_true rfl) rfl (lv' := [some (.ref o), some (.int (0 : Int32)), none]) rfl ?_
    refine v_mask [true, true, false] (lv' := [some (.ref o), some (.int (0 : Int32)), none]) rfl ?_
    exact kloop_ok (P := fun a => kV g X 3 (wM g o a.2 u) 99 [some (.ref o), some (.int a.1), none] []) (fun self hs a hF => wX3_weaveDraft_b99 C ho hl N  self hs a.1 a.2 hF) N ((0 : Int32), s) hF
  · refine v_iconst C (v := (0 : Int32)) dX3_weaveDraft_56 (by decide) ?_
    refine v_istore_n C dX3_weaveDraft_57 rfl (Nat.le_of_ble_eq_true rfl) rfl (lv' := [some (.ref o), some (.int x1), some (.int (0 : Int32))]) rfl ?_
    refine v_mask [true, true, true] (lv' := [some (.ref o), some (.int x1), some (.int (0 : Int32))]) rfl ?_
    exact kloop_ok (P := fun a => kV g X 3 (wM g o a.2.2 u) 58 [some (.ref o), some (.int a.1), some (.int a.2.1)] []) (fun self hs a hF => wX3_weaveDraft_b58 C ho hl N k48 hk48 self hs a.1 a.2.1 a.2.2 hF) N (x1, (0 : Int32), s) hF
set_option maxHeartbeats 4000000 in
theorem wX3_weaveDraft (l : Launch) (g : GT) {o : Nat} (ho : gB g ≤ o) (u : Wd) (N : Nat)   (s : M) (r : Int32) (s1 : M) (hF : FX3_weaveDraft N  s = some (r, s1)) : kMt l g yX3_weaveDraft (ws_ yX3_weaveDraft cX3_weaveDraft 3 (some .int)) (5) (500) (wM g o s u) [.ref o] (some (.int r)) (wM g o s1 u) := by
  refine kMt.ofV (lv := [some (.ref o), none, none]) (by decide) rfl (Nat.le_of_ble_eq_true rfl) rfl ?_
  intro X hl hin C
  unfold FX3_weaveDraft at hF
  refine v_aload_n C dX3_weaveDraft_0 rfl rfl ?_
  refine m_get C 1 (Nat.le_of_ble_eq_true rfl) q2303 (v := .ref (o + 1)) rfl dX3_weaveDraft_1 ?_
  refine v_iconst C (v := (0 : Int32)) dX3_weaveDraft_4 (by decide) ?_
  refine m_ald C (Nat.le_of_ble_eq_true rfl) (Nat.le_of_ble_eq_true rfl) (by decide) (n := 2) rfl rfl (ix := 0) (by decide) dX3_weaveDraft_5 ?_
  refine v_if_eq C (tgt := 24) dX3_weaveDraft_6 (by decide) hF (fun c1 hF => ?_) (fun c1 hF => ?_)
  · refine v_bipush C (v := (-3 : Int32)) dX3_weaveDraft_24 (by decide) ?_
    exact m_iret C dX3_weaveDraft_26 hF
  · refine v_aload_n C dX3_weaveDraft_9 rfl rfl ?_
    refine m_get C 32 (Nat.le_of_ble_eq_true rfl) q2334 (v := .int (s.1 32)) rfl dX3_weaveDraft_10 ?_
    refine v_if_eq C (tgt := 24) dX3_weaveDraft_13 (by decide) hF (fun c2 hF => ?_) (fun c2 hF => ?_)
    · refine v_bipush C (v := (-3 : Int32)) dX3_weaveDraft_24 (by decide) ?_
      exact m_iret C dX3_weaveDraft_26 hF
    · refine v_aload_n C dX3_weaveDraft_16 rfl rfl ?_
      refine v_iconst C (v := (-1 : Int32)) dX3_weaveDraft_17 (by decide) ?_
      refine m_callVi C lk_X3_231 rfl (fr2 := 3) (lo2 := 300) (As := [.int (-1 : Int32)]) (st := []) (fun r s1 h => by rw [hl]; exact wX3_fewest l g ho u N (-1 : Int32) s r s1 h) (by decide) rfl rfl (Nat.le_of_ble_eq_true rfl) dX3_weaveDraft_18 hF (fun r3 s4 hF => ?_)
      refine v_if_ge C (tgt := 27) dX3_weaveDraft_21 (by decide) hF (fun c5 hF => ?_) (fun c5 hF => ?_)
      · refine v_aload_n C dX3_weaveDraft_27 rfl rfl ?_
        refine m_get C 2 (Nat.le_of_ble_eq_true rfl) q2304 (v := .ref (o + 2)) rfl dX3_weaveDraft_28 ?_
        refine v_iconst C (v := (0 : Int32)) dX3_weaveDraft_31 (by decide) ?_
        refine m_ald C (Nat.le_of_ble_eq_true rfl) (Nat.le_of_ble_eq_true rfl) (by decide) (n := 2) rfl rfl (ix := 0) (by decide) dX3_weaveDraft_32 ?_
        refine v_aload_n C dX3_weaveDraft_33 rfl rfl ?_
        refine m_get C 32 (Nat.le_of_ble_eq_true rfl) q2334 (v := .int (s4.1 32)) rfl dX3_weaveDraft_34 ?_
        refine v_iadd C dX3_weaveDraft_37 ?_
        refine v_bipush C (v := (50 : Int32)) dX3_weaveDraft_38 (by decide) ?_
        refine v_icmp_le C (tgt := 46) dX3_weaveDraft_40 (by decide) hF (fun c6 hF => ?_) (fun c6 hF => ?_)
        · refine v_iconst C (v := (0 : Int32)) dX3_weaveDraft_46 (by decide) ?_
          refine v_istore_n C dX3_weaveDraft_47 rfl (Nat.le_of_ble_eq_true rfl) rfl (lv' := [some (.ref o), some (.int (0 : Int32)), none]) rfl ?_
          refine v_mask [true, true, false] (lv' := [some (.ref o), some (.int (0 : Int32)), none]) rfl ?_
          exact kloop_ok (P := fun a => kV g X 3 (wM g o a.2 u) 48 [some (.ref o), some (.int a.1), none] []) (fun self hs a hF => wX3_weaveDraft_b48 C ho hl N  self hs a.1 a.2 hF) N ((0 : Int32), s4) hF
        · refine v_bipush C (v := (-4 : Int32)) dX3_weaveDraft_43 (by decide) ?_
          exact m_iret C dX3_weaveDraft_45 hF
      · refine v_bipush C (v := (-3 : Int32)) dX3_weaveDraft_24 (by decide) ?_
        exact m_iret C dX3_weaveDraft_26 hF
set_option maxHeartbeats 4000000 in
theorem wX3_matches_b80 {l : Launch} {g : GT} {X : CxT} {o : Nat} {u : Wd} {r : Int32} {s1 : M} (C : kOk g X cX3_matches 5 RX3 (some .int) 3 300 (some (.int r)) (wM g o s1 u)) (ho : gB g ≤ o) (hl : xl X = l) (N : Nat) (k14 : Int32 × Int32 × Int32 × M → Option (Int32 × M)) (hk14 : ∀ a, k14 a = some (r, s1) → kV g X 5 (wM g o a.2.2.2 u) 14 [some (.ref o), some (.int a.1), some (.int a.2.1), some (.int a.2.2.1), none] []) (k37 : Int32 × Int32 × Int32 × Int32 × M → Option (Int32 × M)) (hk37 : ∀ a, k37 a = some (r, s1) → kV g X 5 (wM g o a.2.2.2.2 u) 37 [some (.ref o), some (.int a.1), some (.int a.2.1), some (.int a.2.2.1), some (.int a.2.2.2.1)] []) (x1 : Int32) (x2 : Int32) (x3 : Int32) (x4 : Int32) (s : M) (hF : FX3_matches_b80 N k14 k37 x1 x2 x3 x4 s = some (r, s1)) : kV g X 5 (wM g o s u) 80 [some (.ref o), some (.int x1), some (.int x2), some (.int x3), some (.int x4)] [] := by
  unfold FX3_matches_b80 at hF
  refine v_iinc C dX3_matches_80 rfl (v := (x4 + (1 : Int32))) rfl (Nat.le_of_ble_eq_true rfl) rfl (lv' := [some (.ref o), some (.int x1), some (.int x2), some (.int x3), some (.int (x4 + (1 : Int32)))]) rfl ?_
  refine v_goto C (tgt := 37) dX3_matches_83 (by decide) ?_
  refine v_mask [true, true, true, true, true] (lv' := [some (.ref o), some (.int x1), some (.int x2), some (.int x3), some (.int (x4 + (1 : Int32)))]) rfl ?_
  exact hk37 (x1, x2, x3, (x4 + (1 : Int32)), s) hF
set_option maxHeartbeats 4000000 in
theorem wX3_matches_b37 {l : Launch} {g : GT} {X : CxT} {o : Nat} {u : Wd} {r : Int32} {s1 : M} (C : kOk g X cX3_matches 5 RX3 (some .int) 3 300 (some (.int r)) (wM g o s1 u)) (ho : gB g ≤ o) (hl : xl X = l) (N : Nat) (k14 : Int32 × Int32 × Int32 × M → Option (Int32 × M)) (hk14 : ∀ a, k14 a = some (r, s1) → kV g X 5 (wM g o a.2.2.2 u) 14 [some (.ref o), some (.int a.1), some (.int a.2.1), some (.int a.2.2.1), none] []) (k37 : Int32 × Int32 × Int32 × Int32 × M → Option (Int32 × M)) (hk37 : ∀ a, k37 a = some (r, s1) → kV g X 5 (wM g o a.2.2.2.2 u) 37 [some (.ref o), some (.int a.1), some (.int a.2.1), some (.int a.2.2.1), some (.int a.2.2.2.1)] []) (x1 : Int32) (x2 : Int32) (x3 : Int32) (x4 : Int32) (s : M) (hF : FX3_matches_b37 N k14 k37 x1 x2 x3 x4 s = some (r, s1)) : kV g X 5 (wM g o s u) 37 [some (.ref o), some (.int x1), some (.int x2), some (.int x3), some (.int x4)] [] := by
  unfold FX3_matches_b37 at hF
  refine v_iload C dX3_matches_37 rfl ?_
  refine v_aload_n C dX3_matches_39 rfl rfl ?_
  refine m_get C 1 (Nat.le_of_ble_eq_true rfl) q2303 (v := .ref (o + 1)) rfl dX3_matches_40 ?_
  refine v_iconst C (v := (0 : Int32)) dX3_matches_43 (by decide) ?_
  refine m_ald C (Nat.le_of_ble_eq_true rfl) (Nat.le_of_ble_eq_true rfl) (by decide) (n := 2) rfl rfl (ix := 0) (by decide) dX3_matches_44 ?_
  refine v_icmp_ge C (tgt := 86) dX3_matches_45 (by decide) hF (fun c6 hF => ?_) (fun c6 hF => ?_)
  · refine v_iinc C dX3_matches_86 rfl (v := (x3 + (1 : Int32))) rfl (Nat.le_of_ble_eq_true rfl) rfl (lv' := [some (.ref o), some (.int x1), some (.int x2), some (.int (x3 + (1 : Int32))), some (.int x4)]) rfl ?_
    refine v_goto C (tgt := 14) dX3_matches_89 (by decide) ?_
    refine v_mask [true, true, true, true, false] (lv' := [some (.ref o), some (.int x1), some (.int x2), some (.int (x3 + (1 : Int32))), none]) rfl ?_
    exact hk14 (x1, x2, (x3 + (1 : Int32)), s) hF
  · refine v_aload_n C dX3_matches_48 rfl rfl ?_
    refine m_get C 7 (Nat.le_of_ble_eq_true rfl) q2309 (v := .ref (o + 7)) rfl dX3_matches_49 ?_
    refine v_bipush C (v := (10 : Int32)) dX3_matches_52 (by decide) ?_
    refine v_iload_n C dX3_matches_54 rfl rfl ?_
    refine v_iload_n C dX3_matches_55 rfl rfl ?_
    refine v_iadd C dX3_matches_56 ?_
    refine v_imul C dX3_matches_57 ?_
    refine v_iload C dX3_matches_58 rfl ?_
    refine v_iadd C dX3_matches_60 ?_
    obtain ⟨h7, hF⟩ := k_ite hF
    refine m_ald C (Nat.le_of_ble_eq_true rfl) (Nat.le_of_ble_eq_true rfl) (by decide) (n := 1000) rfl h7 (ix := ((((10 : Int32) * (x1 + x3)) + x4).toNatClampNeg)) rfl dX3_matches_61 ?_
    refine v_aload_n C dX3_matches_62 rfl rfl ?_
    refine m_get C 33 (Nat.le_of_ble_eq_true rfl) q2335 (v := .ref (o + 25)) rfl dX3_matches_63 ?_
    refine v_bipush C (v := (10 : Int32)) dX3_matches_66 (by decide) ?_
    refine v_iload_n C dX3_matches_68 rfl rfl ?_
    refine v_imul C dX3_matches_69 ?_
    refine v_iload C dX3_matches_70 rfl ?_
    refine v_iadd C dX3_matches_72 ?_
    obtain ⟨h8, hF⟩ := k_ite hF
    refine m_ald C (Nat.le_of_ble_eq_true rfl) (Nat.le_of_ble_eq_true rfl) (by decide) (n := 80) rfl h8 (ix := ((((10 : Int32) * x3) + x4).toNatClampNeg)) rfl dX3_matches_73 ?_
    refine v_icmp_ne C (tgt := 80) dX3_matches_74 (by decide) hF (fun c9 hF => ?_) (fun c9 hF => ?_)
    · refine v_iinc C dX3_matches_77 rfl (v := (x2 + (1 : Int32))) rfl (Nat.le_of_ble_eq_true rfl) rfl (lv' := [some (.ref o), some (.int x1), some (.int (x2 + (1 : Int32))), some (.int x3), some (.int x4)]) rfl ?_
      refine v_mask [true, true, true, true, true] (lv' := [some (.ref o), some (.int x1), some (.int (x2 + (1 : Int32))), some (.int x3), some (.int x4)]) rfl ?_
      exact wX3_matches_b80 C ho hl N k14 hk14 k37 hk37 (x1) ((x2 + (1 : Int32))) (x3) (x4) (s) hF
    · refine v_mask [true, true, true, true, true] (lv' := [some (.ref o), some (.int x1), some (.int x2), some (.int x3), some (.int x4)]) rfl ?_
      exact wX3_matches_b80 C ho hl N k14 hk14 k37 hk37 (x1) (x2) (x3) (x4) (s) hF
set_option maxHeartbeats 4000000 in
theorem wX3_matches_b14 {l : Launch} {g : GT} {X : CxT} {o : Nat} {u : Wd} {r : Int32} {s1 : M} (C : kOk g X cX3_matches 5 RX3 (some .int) 3 300 (some (.int r)) (wM g o s1 u)) (ho : gB g ≤ o) (hl : xl X = l) (N : Nat) (k14 : Int32 × Int32 × Int32 × M → Option (Int32 × M)) (hk14 : ∀ a, k14 a = some (r, s1) → kV g X 5 (wM g o a.2.2.2 u) 14 [some (.ref o), some (.int a.1), some (.int a.2.1), some (.int a.2.2.1), none] []) (x1 : Int32) (x2 : Int32) (x3 : Int32) (s : M) (hF : FX3_matches_b14 N k14 x1 x2 x3 s = some (r, s1)) : kV g X 5 (wM g o s u) 14 [some (.ref o), some (.int x1), some (.int x2), some (.int x3), none] [] := by
  unfold FX3_matches_b14 at hF
  refine v_iload_n C dX3_matches_14 rfl rfl ?_
  refine v_aload_n C dX3_matches_15 rfl rfl ?_
  refine m_get C 32 (Nat.le_of_ble_eq_true rfl) q2334 (v := .int (s.1 32)) rfl dX3_matches_16 ?_
  refine v_icmp_ge C (tgt := 92) dX3_matches_19 (by decide) hF (fun c4 hF => ?_) (fun c4 hF => ?_)
  · refine v_iload_n C dX3_matches_92 rfl rfl ?_
    exact m_iret C dX3_matches_93 hF
  · refine v_iload_n C dX3_matches_22 rfl rfl ?_
    refine v_iload_n C dX3_matches_23 rfl rfl ?_
    refine v_iadd C dX3_matches_24 ?_
    refine v_aload_n C dX3_matches_25 rfl rfl ?_
    refine m_get C 2 (Nat.le_of_ble_eq_true rfl) q2304 (v := .ref (o + 2)) rfl dX3_matches_26 ?_
    refine v_iconst C (v := (0 : Int32)) dX3_matches_29 (by decide) ?_
    refine m_ald C (Nat.le_of_ble_eq_true rfl) (Nat.le_of_ble_eq_true rfl) (by decide) (n := 2) rfl rfl (ix := 0) (by decide) dX3_matches_30 ?_
    refine v_icmp_ge C (tgt := 92) dX3_matches_31 (by decide) hF (fun c5 hF => ?_) (fun c5 hF => ?_)
    · refine v_iload_n C dX3_matches_92 rfl rfl ?_
      exact m_iret C dX3_matches_93 hF
    · refine v_iconst C (v := (0 : Int32)) dX3_matches_34 (by decide) ?_
      refine v_istore C dX3_matches_35 (Nat.le_of_ble_eq_true rfl) rfl (lv' := [some (.ref o), some (.int x1), some (.int x2), some (.int x3), some (.int (0 : Int32))]) rfl ?_
      refine v_mask [true, true, true, true, true] (lv' := [some (.ref o), some (.int x1), some (.int x2), some (.int x3), some (.int (0 : Int32))]) rfl ?_
      exact kloop_ok (P := fun a => kV g X 5 (wM g o a.2.2.2.2 u) 37 [some (.ref o), some (.int a.1), some (.int a.2.1), some (.int a.2.2.1), some (.int a.2.2.2.1)] []) (fun self hs a hF => wX3_matches_b37 C ho hl N k14 hk14 self hs a.1 a.2.1 a.2.2.1 a.2.2.2.1 a.2.2.2.2 hF) N (x1, x2, x3, (0 : Int32), s) hF
set_option maxHeartbeats 4000000 in
theorem wX3_matches (l : Launch) (g : GT) {o : Nat} (ho : gB g ≤ o) (u : Wd) (N : Nat) (x1 : Int32)  (s : M) (r : Int32) (s1 : M) (hF : FX3_matches N x1 s = some (r, s1)) : kMt l g yX3_matches (ws_ yX3_matches cX3_matches 5 (some .int)) (3) (300) (wM g o s u) [.ref o, .int x1] (some (.int r)) (wM g o s1 u) := by
  refine kMt.ofV (lv := [some (.ref o), some (.int x1), none, none, none]) (by decide) rfl (Nat.le_of_ble_eq_true rfl) rfl ?_
  intro X hl hin C
  unfold FX3_matches at hF
  refine v_aload_n C dX3_matches_0 rfl rfl ?_
  refine v_iload_n C dX3_matches_1 rfl rfl ?_
  refine m_callVi C lk_X3_193 rfl (fr2 := 2) (lo2 := 200) (As := [.int x1]) (st := []) (fun r s1 h => by rw [hl]; exact wX3_isRow l g ho u N x1 s r s1 h) (by decide) rfl rfl (Nat.le_of_ble_eq_true rfl) dX3_matches_2 hF (fun r1 s2 hF => ?_)
  refine v_if_ne C (tgt := 10) dX3_matches_5 (by decide) hF (fun c3 hF => ?_) (fun c3 hF => ?_)
  · refine v_iconst C (v := (-1 : Int32)) dX3_matches_8 (by decide) ?_
    exact m_iret C dX3_matches_9 hF
  · refine v_iconst C (v := (0 : Int32)) dX3_matches_10 (by decide) ?_
    refine v_istore_n C dX3_matches_11 rfl (Nat.le_of_ble_eq_true rfl) rfl (lv' := [some (.ref o), some (.int x1), some (.int (0 : Int32)), none, none]) rfl ?_
    refine v_iconst C (v := (0 : Int32)) dX3_matches_12 (by decide) ?_
    refine v_istore_n C dX3_matches_13 rfl (Nat.le_of_ble_eq_true rfl) rfl (lv' := [some (.ref o), some (.int x1), some (.int (0 : Int32)), some (.int (0 : Int32)), none]) rfl ?_
    refine v_mask [true, true, true, true, false] (lv' := [some (.ref o), some (.int x1), some (.int (0 : Int32)), some (.int (0 : Int32)), none]) rfl ?_
    exact kloop_ok (P := fun a => kV g X 5 (wM g o a.2.2.2 u) 14 [some (.ref o), some (.int a.1), some (.int a.2.1), some (.int a.2.2.1), none] []) (fun self hs a hF => wX3_matches_b14 C ho hl N  self hs a.1 a.2.1 a.2.2.1 a.2.2.2 hF) N (x1, (0 : Int32), (0 : Int32), s2) hF
set_option maxHeartbeats 4000000 in
theorem wX3_alikeIn_b46 {l : Launch} {g : GT} {X : CxT} {o : Nat} {u : Wd} {r : Int32} {s1 : M} (C : kOk g X cX3_alikeIn 5 RX3 (some .int) 1 100 (some (.int r)) (wM g o s1 u)) (ho : gB g ≤ o) (hl : xl X = l) (N : Nat) (k5 : Int32 × Int32 × Int32 × Int32 × M → Option (Int32 × M)) (hk5 : ∀ a, k5 a = some (r, s1) → kV g X 5 (wM g o a.2.2.2.2 u) 5 [some (.ref o), some (.int a.1), some (.int a.2.1), some (.int a.2.2.1), some (.int a.2.2.2.1)] []) (x1 : Int32) (x2 : Int32) (x3 : Int32) (x4 : Int32) (s : M) (hF : FX3_alikeIn_b46 N k5 x1 x2 x3 x4 s = some (r, s1)) : kV g X 5 (wM g o s u) 46 [some (.ref o), some (.int x1), some (.int x2), some (.int x3), some (.int x4)] [] := by
  unfold FX3_alikeIn_b46 at hF
  refine v_iinc C dX3_alikeIn_46 rfl (v := (x4 + (1 : Int32))) rfl (Nat.le_of_ble_eq_true rfl) rfl (lv' := [some (.ref o), some (.int x1), some (.int x2), some (.int x3), some (.int (x4 + (1 : Int32)))]) rfl ?_
  refine v_goto C (tgt := 5) dX3_alikeIn_49 (by decide) ?_
  refine v_mask [true, true, true, true, true] (lv' := [some (.ref o), some (.int x1), some (.int x2), some (.int x3), some (.int (x4 + (1 : Int32)))]) rfl ?_
  exact hk5 (x1, x2, x3, (x4 + (1 : Int32)), s) hF
set_option maxHeartbeats 4000000 in
theorem wX3_alikeIn_b5 {l : Launch} {g : GT} {X : CxT} {o : Nat} {u : Wd} {r : Int32} {s1 : M} (C : kOk g X cX3_alikeIn 5 RX3 (some .int) 1 100 (some (.int r)) (wM g o s1 u)) (ho : gB g ≤ o) (hl : xl X = l) (N : Nat) (k5 : Int32 × Int32 × Int32 × Int32 × M → Option (Int32 × M)) (hk5 : ∀ a, k5 a = some (r, s1) → kV g X 5 (wM g o a.2.2.2.2 u) 5 [some (.ref o), some (.int a.1), some (.int a.2.1), some (.int a.2.2.1), some (.int a.2.2.2.1)] []) (x1 : Int32) (x2 : Int32) (x3 : Int32) (x4 : Int32) (s : M) (hF : FX3_alikeIn_b5 N k5 x1 x2 x3 x4 s = some (r, s1)) : kV g X 5 (wM g o s u) 5 [some (.ref o), some (.int x1), some (.int x2), some (.int x3), some (.int x4)] [] := by
  unfold FX3_alikeIn_b5 at hF
  refine v_iload C dX3_alikeIn_5 rfl ?_
  refine v_aload_n C dX3_alikeIn_7 rfl rfl ?_
  refine m_get C 1 (Nat.le_of_ble_eq_true rfl) q2303 (v := .ref (o + 1)) rfl dX3_alikeIn_8 ?_
  refine v_iconst C (v := (0 : Int32)) dX3_alikeIn_11 (by decide) ?_
  refine m_ald C (Nat.le_of_ble_eq_true rfl) (Nat.le_of_ble_eq_true rfl) (by decide) (n := 2) rfl rfl (ix := 0) (by decide) dX3_alikeIn_12 ?_
  refine v_icmp_ge C (tgt := 52) dX3_alikeIn_13 (by decide) hF (fun c1 hF => ?_) (fun c1 hF => ?_)
  · refine v_iload_n C dX3_alikeIn_52 rfl rfl ?_
    exact m_iret C dX3_alikeIn_53 hF
  · refine v_aload_n C dX3_alikeIn_16 rfl rfl ?_
    refine m_get C 7 (Nat.le_of_ble_eq_true rfl) q2309 (v := .ref (o + 7)) rfl dX3_alikeIn_17 ?_
    refine v_bipush C (v := (10 : Int32)) dX3_alikeIn_20 (by decide) ?_
    refine v_iload_n C dX3_alikeIn_22 rfl rfl ?_
    refine v_imul C dX3_alikeIn_23 ?_
    refine v_iload C dX3_alikeIn_24 rfl ?_
    refine v_iadd C dX3_alikeIn_26 ?_
    obtain ⟨h2, hF⟩ := k_ite hF
    refine m_ald C (Nat.le_of_ble_eq_true rfl) (Nat.le_of_ble_eq_true rfl) (by decide) (n := 1000) rfl h2 (ix := ((((10 : Int32) * x1) + x4).toNatClampNeg)) rfl dX3_alikeIn_27 ?_
    refine v_aload_n C dX3_alikeIn_28 rfl rfl ?_
    refine m_get C 7 (Nat.le_of_ble_eq_true rfl) q2309 (v := .ref (o + 7)) rfl dX3_alikeIn_29 ?_
    refine v_bipush C (v := (10 : Int32)) dX3_alikeIn_32 (by decide) ?_
    refine v_iload_n C dX3_alikeIn_34 rfl rfl ?_
    refine v_imul C dX3_alikeIn_35 ?_
    refine v_iload C dX3_alikeIn_36 rfl ?_
    refine v_iadd C dX3_alikeIn_38 ?_
    obtain ⟨h3, hF⟩ := k_ite hF
    refine m_ald C (Nat.le_of_ble_eq_true rfl) (Nat.le_of_ble_eq_true rfl) (by decide) (n := 1000) rfl h3 (ix := ((((10 : Int32) * x2) + x4).toNatClampNeg)) rfl dX3_alikeIn_39 ?_
    refine v_icmp_ne C (tgt := 46) dX3_alikeIn_40 (by decide) hF (fun c4 hF => ?_) (fun c4 hF => ?_)
    · refine v_iinc C dX3_alikeIn_43 rfl (v := (x3 + (1 : Int32))) rfl (Nat.le_of_ble_eq_true rfl) rfl (lv' := [some (.ref o), some (.int x1), some (.int x2), some (.int (x3 + (1 : Int32))), some (.int x4)]) rfl ?_
      refine v_mask [true, true, true, true, true] (lv' := [some (.ref o), some (.int x1), some (.int x2), some (.int (x3 + (1 : Int32))), some (.int x4)]) rfl ?_
      exact wX3_alikeIn_b46 C ho hl N k5 hk5 (x1) (x2) ((x3 + (1 : Int32))) (x4) (s) hF
    · refine v_mask [true, true, true, true, true] (lv' := [some (.ref o), some (.int x1), some (.int x2), some (.int x3), some (.int x4)]) rfl ?_
      exact wX3_alikeIn_b46 C ho hl N k5 hk5 (x1) (x2) (x3) (x4) (s) hF
set_option maxHeartbeats 4000000 in
theorem wX3_alikeIn (l : Launch) (g : GT) {o : Nat} (ho : gB g ≤ o) (u : Wd) (N : Nat) (x1 : Int32) (x2 : Int32)  (s : M) (r : Int32) (s1 : M) (hF : FX3_alikeIn N x1 x2 s = some (r, s1)) : kMt l g yX3_alikeIn (ws_ yX3_alikeIn cX3_alikeIn 5 (some .int)) (1) (100) (wM g o s u) [.ref o, .int x1, .int x2] (some (.int r)) (wM g o s1 u) := by
  refine kMt.ofV (lv := [some (.ref o), some (.int x1), some (.int x2), none, none]) (by decide) rfl (Nat.le_of_ble_eq_true rfl) rfl ?_
  intro X hl hin C
  unfold FX3_alikeIn at hF
  refine v_iconst C (v := (0 : Int32)) dX3_alikeIn_0 (by decide) ?_
  refine v_istore_n C dX3_alikeIn_1 rfl (Nat.le_of_ble_eq_true rfl) rfl (lv' := [some (.ref o), some (.int x1), some (.int x2), some (.int (0 : Int32)), none]) rfl ?_
  refine v_iconst C (v := (0 : Int32)) dX3_alikeIn_2 (by decide) ?_
  refine v_istore C dX3_alikeIn_3 (Nat.le_of_ble_eq_true rfl) rfl (lv' := [some (.ref o), some (.int x1), some (.int x2), some (.int (0 : Int32)), some (.int (0 : Int32))]) rfl ?_
  refine v_mask [true, true, true, true, true] (lv' := [some (.ref o), some (.int x1), some (.int x2), some (.int (0 : Int32)), some (.int (0 : Int32))]) rfl ?_
  exact kloop_ok (P := fun a => kV g X 5 (wM g o a.2.2.2.2 u) 5 [some (.ref o), some (.int a.1), some (.int a.2.1), some (.int a.2.2.1), some (.int a.2.2.2.1)] []) (fun self hs a hF => wX3_alikeIn_b5 C ho hl N  self hs a.1 a.2.1 a.2.2.1 a.2.2.2.1 a.2.2.2.2 hF) N (x1, x2, (0 : Int32), (0 : Int32), s) hF
set_option maxHeartbeats 4000000 in
theorem wX3_period_b51 {l : Launch} {g : GT} {X : CxT} {o : Nat} {u : Wd} {r : Int32} {s1 : M} (C : kOk g X cX3_period 4 RX3 (some .int) 2 200 (some (.int r)) (wM g o s1 u)) (ho : gB g ≤ o) (hl : xl X = l) (N : Nat) (k2 : Int32 × M → Option (Int32 × M)) (hk2 : ∀ a, k2 a = some (r, s1) → kV g X 4 (wM g o a.2 u) 2 [some (.ref o), some (.int a.1), none, none] []) (k16 : Int32 × Int32 × Int32 × M → Option (Int32 × M)) (hk16 : ∀ a, k16 a = some (r, s1) → kV g X 4 (wM g o a.2.2.2 u) 16 [some (.ref o), some (.int a.1), some (.int a.2.1), some (.int a.2.2.1)] []) (x1 : Int32) (x3 : Int32) (t0 : Int32) (t1 : Int32) (s : M) (hF : FX3_period_b51 N k2 k16 x1 x3 t0 t1 s = some (r, s1)) : kV g X 4 (wM g o s u) 51 [some (.ref o), some (.int x1), none, some (.int x3)] [.int t0, .int t1] := by
  unfold FX3_period_b51 at hF
  refine v_iand C dX3_period_51 ?_
  refine v_istore_n C dX3_period_52 rfl (Nat.le_of_ble_eq_true rfl) rfl (lv' := [some (.ref o), some (.int x1), some (.int (t1 &&& t0)), some (.int x3)]) rfl ?_
  refine v_iinc C dX3_period_53 rfl (v := (x3 + (1 : Int32))) rfl (Nat.le_of_ble_eq_true rfl) rfl (lv' := [some (.ref o), some (.int x1), some (.int (t1 &&& t0)), some (.int (x3 + (1 : Int32)))]) rfl ?_
  refine v_goto C (tgt := 16) dX3_period_56 (by decide) ?_
  refine v_mask [true, true, true, true] (lv' := [some (.ref o), some (.int x1), some (.int (t1 &&& t0)), some (.int (x3 + (1 : Int32)))]) rfl ?_
  exact hk16 (x1, (t1 &&& t0), (x3 + (1 : Int32)), s) hF
set_option maxHeartbeats 4000000 in
theorem wX3_period_b16 {l : Launch} {g : GT} {X : CxT} {o : Nat} {u : Wd} {r : Int32} {s1 : M} (C : kOk g X cX3_period 4 RX3 (some .int) 2 200 (some (.int r)) (wM g o s1 u)) (ho : gB g ≤ o) (hl : xl X = l) (N : Nat) (k2 : Int32 × M → Option (Int32 × M)) (hk2 : ∀ a, k2 a = some (r, s1) → kV g X 4 (wM g o a.2 u) 2 [some (.ref o), some (.int a.1), none, none] []) (k16 : Int32 × Int32 × Int32 × M → Option (Int32 × M)) (hk16 : ∀ a, k16 a = some (r, s1) → kV g X 4 (wM g o a.2.2.2 u) 16 [some (.ref o), some (.int a.1), some (.int a.2.1), some (.int a.2.2.1)] []) (x1 : Int32) (x2 : Int32) (x3 : Int32) (s : M) (hF : FX3_period_b16 N k2 k16 x1 x2 x3 s = some (r, s1)) : kV g X 4 (wM g o s u) 16 [some (.ref o), some (.int x1), some (.int x2), some (.int x3)] [] := by
  unfold FX3_period_b16 at hF
  refine v_iload_n C dX3_period_16 rfl rfl ?_
  refine v_iload_n C dX3_period_17 rfl rfl ?_
  refine v_iadd C dX3_period_18 ?_
  refine v_aload_n C dX3_period_19 rfl rfl ?_
  refine m_get C 2 (Nat.le_of_ble_eq_true rfl) q2304 (v := .ref (o + 2)) rfl dX3_period_20 ?_
  refine v_iconst C (v := (0 : Int32)) dX3_period_23 (by decide) ?_
  refine m_ald C (Nat.le_of_ble_eq_true rfl) (Nat.le_of_ble_eq_true rfl) (by decide) (n := 2) rfl rfl (ix := 0) (by decide) dX3_period_24 ?_
  refine v_icmp_ge C (tgt := 59) dX3_period_25 (by decide) hF (fun c2 hF => ?_) (fun c2 hF => ?_)
  · refine v_iload_n C dX3_period_59 rfl rfl ?_
    refine v_if_eq C (tgt := 65) dX3_period_60 (by decide) hF (fun c3 hF => ?_) (fun c3 hF => ?_)
    · refine v_iinc C dX3_period_65 rfl (v := (x1 + (1 : Int32))) rfl (Nat.le_of_ble_eq_true rfl) rfl (lv' := [some (.ref o), some (.int (x1 + (1 : Int32))), some (.int x2), some (.int x3)]) rfl ?_
      refine v_goto C (tgt := 2) dX3_period_68 (by decide) ?_
      refine v_mask [true, true, false, false] (lv' := [some (.ref o), some (.int (x1 + (1 : Int32))), none, none]) rfl ?_
      exact hk2 ((x1 + (1 : Int32)), s) hF
    · refine v_iload_n C dX3_period_63 rfl rfl ?_
      exact m_iret C dX3_period_64 hF
  · refine v_iload_n C dX3_period_28 rfl rfl ?_
    refine v_aload_n C dX3_period_29 rfl rfl ?_
    refine v_iload_n C dX3_period_30 rfl rfl ?_
    refine v_iload_n C dX3_period_31 rfl rfl ?_
    refine v_iload_n C dX3_period_32 rfl rfl ?_
    refine v_iadd C dX3_period_33 ?_
    refine m_callVi C lk_X3_237 rfl (fr2 := 1) (lo2 := 100) (As := [.int x3, .int (x3 + x1)]) (st := [.int x2]) (fun r s1 h => by rw [hl]; exact wX3_alikeIn l g ho u N x3 (x3 + x1) s r s1 h) (by decide) rfl rfl (Nat.le_of_ble_eq_true rfl) dX3_period_34 hF (fun r4 s5 hF => ?_)
    refine v_aload_n C dX3_period_37 rfl rfl ?_
    refine m_get C 1 (Nat.le_of_ble_eq_true rfl) q2303 (v := .ref (o + 1)) rfl dX3_period_38 ?_
    refine v_iconst C (v := (0 : Int32)) dX3_period_41 (by decide) ?_
    refine m_ald C (Nat.le_of_ble_eq_true rfl) (Nat.le_of_ble_eq_true rfl) (by decide) (n := 2) rfl rfl (ix := 0) (by decide) dX3_period_42 ?_
    refine v_icmp_ne C (tgt := 50) dX3_period_43 (by decide) hF (fun c6 hF => ?_) (fun c6 hF => ?_)
    · refine v_iconst C (v := (1 : Int32)) dX3_period_46 (by decide) ?_
      refine v_goto C (tgt := 51) dX3_period_47 (by decide) ?_
      refine v_mask [true, true, false, true] (lv' := [some (.ref o), some (.int x1), none, some (.int x3)]) rfl ?_
      exact wX3_period_b51 C ho hl N k2 hk2 k16 hk16 (x1) (x3) ((1 : Int32)) (x2) (s5) hF
    · refine v_iconst C (v := (0 : Int32)) dX3_period_50 (by decide) ?_
      refine v_mask [true, true, false, true] (lv' := [some (.ref o), some (.int x1), none, some (.int x3)]) rfl ?_
      exact wX3_period_b51 C ho hl N k2 hk2 k16 hk16 (x1) (x3) ((0 : Int32)) (x2) (s5) hF
set_option maxHeartbeats 4000000 in
theorem wX3_period_b2 {l : Launch} {g : GT} {X : CxT} {o : Nat} {u : Wd} {r : Int32} {s1 : M} (C : kOk g X cX3_period 4 RX3 (some .int) 2 200 (some (.int r)) (wM g o s1 u)) (ho : gB g ≤ o) (hl : xl X = l) (N : Nat) (k2 : Int32 × M → Option (Int32 × M)) (hk2 : ∀ a, k2 a = some (r, s1) → kV g X 4 (wM g o a.2 u) 2 [some (.ref o), some (.int a.1), none, none] []) (x1 : Int32) (s : M) (hF : FX3_period_b2 N k2 x1 s = some (r, s1)) : kV g X 4 (wM g o s u) 2 [some (.ref o), some (.int x1), none, none] [] := by
  unfold FX3_period_b2 at hF
  refine v_iload_n C dX3_period_2 rfl rfl ?_
  refine v_aload_n C dX3_period_3 rfl rfl ?_
  refine m_get C 2 (Nat.le_of_ble_eq_true rfl) q2304 (v := .ref (o + 2)) rfl dX3_period_4 ?_
  refine v_iconst C (v := (0 : Int32)) dX3_period_7 (by decide) ?_
  refine m_ald C (Nat.le_of_ble_eq_true rfl) (Nat.le_of_ble_eq_true rfl) (by decide) (n := 2) rfl rfl (ix := 0) (by decide) dX3_period_8 ?_
  refine v_icmp_ge C (tgt := 71) dX3_period_9 (by decide) hF (fun c1 hF => ?_) (fun c1 hF => ?_)
  · refine v_bipush C (v := (-5 : Int32)) dX3_period_71 (by decide) ?_
    exact m_iret C dX3_period_73 hF
  · refine v_iconst C (v := (1 : Int32)) dX3_period_12 (by decide) ?_
    refine v_istore_n C dX3_period_13 rfl (Nat.le_of_ble_eq_true rfl) rfl (lv' := [some (.ref o), some (.int x1), some (.int (1 : Int32)), none]) rfl ?_
    refine v_iconst C (v := (0 : Int32)) dX3_period_14 (by decide) ?_
    refine v_istore_n C dX3_period_15 rfl (Nat.le_of_ble_eq_true rfl) rfl (lv' := [some (.ref o), some (.int x1), some (.int (1 : Int32)), some (.int (0 : Int32))]) rfl ?_
    refine v_mask [true, true, true, true] (lv' := [some (.ref o), some (.int x1), some (.int (1 : Int32)), some (.int (0 : Int32))]) rfl ?_
    exact kloop_ok (P := fun a => kV g X 4 (wM g o a.2.2.2 u) 16 [some (.ref o), some (.int a.1), some (.int a.2.1), some (.int a.2.2.1)] []) (fun self hs a hF => wX3_period_b16 C ho hl N k2 hk2 self hs a.1 a.2.1 a.2.2.1 a.2.2.2 hF) N (x1, (1 : Int32), (0 : Int32), s) hF
set_option maxHeartbeats 4000000 in
theorem wX3_period (l : Launch) (g : GT) {o : Nat} (ho : gB g ≤ o) (u : Wd) (N : Nat)   (s : M) (r : Int32) (s1 : M) (hF : FX3_period N  s = some (r, s1)) : kMt l g yX3_period (ws_ yX3_period cX3_period 4 (some .int)) (2) (200) (wM g o s u) [.ref o] (some (.int r)) (wM g o s1 u) := by
  refine kMt.ofV (lv := [some (.ref o), none, none, none]) (by decide) rfl (Nat.le_of_ble_eq_true rfl) rfl ?_
  intro X hl hin C
  unfold FX3_period at hF
  refine v_iconst C (v := (1 : Int32)) dX3_period_0 (by decide) ?_
  refine v_istore_n C dX3_period_1 rfl (Nat.le_of_ble_eq_true rfl) rfl (lv' := [some (.ref o), some (.int (1 : Int32)), none, none]) rfl ?_
  refine v_mask [true, true, false, false] (lv' := [some (.ref o), some (.int (1 : Int32)), none, none]) rfl ?_
  exact kloop_ok (P := fun a => kV g X 4 (wM g o a.2 u) 2 [some (.ref o), some (.int a.1), none, none] []) (fun self hs a hF => wX3_period_b2 C ho hl N  self hs a.1 a.2 hF) N ((1 : Int32), s) hF
set_option maxHeartbeats 4000000 in
theorem wX3_mirrors_b87 {l : Launch} {g : GT} {X : CxT} {o : Nat} {u : Wd} {r : Int32} {s1 : M} (C : kOk g X cX3_mirrors 5 RX3 (some .int) 1 100 (some (.int r)) (wM g o s1 u)) (ho : gB g ≤ o) (hl : xl X = l) (N : Nat) (k4 : Int32 × Int32 × M → Option (Int32 × M)) (hk4 : ∀ a, k4 a = some (r, s1) → kV g X 5 (wM g o a.2.2 u) 4 [some (.ref o), some (.int a.1), some (.int a.2.1), none, none] []) (x1 : Int32) (x2 : Int32) (s : M) (hF : FX3_mirrors_b87 N k4 x1 x2 s = some (r, s1)) : kV g X 5 (wM g o s u) 87 [some (.ref o), some (.int x1), some (.int x2), none, none] [] := by
  unfold FX3_mirrors_b87 at hF
  refine v_iinc C dX3_mirrors_87 rfl (v := (x2 + (1 : Int32))) rfl (Nat.le_of_ble_eq_true rfl) rfl (lv' := [some (.ref o), some (.int x1), some (.int (x2 + (1 : Int32))), none, none]) rfl ?_
  refine v_goto C (tgt := 4) dX3_mirrors_90 (by decide) ?_
  refine v_mask [true, true, true, false, false] (lv' := [some (.ref o), some (.int x1), some (.int (x2 + (1 : Int32))), none, none]) rfl ?_
  exact hk4 (x1, (x2 + (1 : Int32)), s) hF
set_option maxHeartbeats 4000000 in
theorem wX3_mirrors_b72 {l : Launch} {g : GT} {X : CxT} {o : Nat} {u : Wd} {r : Int32} {s1 : M} (C : kOk g X cX3_mirrors 5 RX3 (some .int) 1 100 (some (.int r)) (wM g o s1 u)) (ho : gB g ≤ o) (hl : xl X = l) (N : Nat) (k4 : Int32 × Int32 × M → Option (Int32 × M)) (hk4 : ∀ a, k4 a = some (r, s1) → kV g X 5 (wM g o a.2.2 u) 4 [some (.ref o), some (.int a.1), some (.int a.2.1), none, none] []) (k19 : Int32 × Int32 × Int32 × Int32 × M → Option (Int32 × M)) (hk19 : ∀ a, k19 a = some (r, s1) → kV g X 5 (wM g o a.2.2.2.2 u) 19 [some (.ref o), some (.int a.1), some (.int a.2.1), some (.int a.2.2.1), some (.int a.2.2.2.1)] []) (x1 : Int32) (x2 : Int32) (x4 : Int32) (t0 : Int32) (t1 : Int32) (s : M) (hF : FX3_mirrors_b72 N k4 k19 x1 x2 x4 t0 t1 s = some (r, s1)) : kV g X 5 (wM g o s u) 72 [some (.ref o), some (.int x1), some (.int x2), none, some (.int x4)] [.int t0, .int t1] := by
  unfold FX3_mirrors_b72 at hF
  refine v_iand C dX3_mirrors_72 ?_
  refine v_istore_n C dX3_mirrors_73 rfl (Nat.le_of_ble_eq_true rfl) rfl (lv' := [some (.ref o), some (.int x1), some (.int x2), some (.int (t1 &&& t0)), some (.int x4)]) rfl ?_
  refine v_iinc C dX3_mirrors_74 rfl (v := (x4 + (1 : Int32))) rfl (Nat.le_of_ble_eq_true rfl) rfl (lv' := [some (.ref o), some (.int x1), some (.int x2), some (.int (t1 &&& t0)), some (.int (x4 + (1 : Int32)))]) rfl ?_
  refine v_goto C (tgt := 19) dX3_mirrors_77 (by decide) ?_
  refine v_mask [true, true, true, true, true] (lv' := [some (.ref o), some (.int x1), some (.int x2), some (.int (t1 &&& t0)), some (.int (x4 + (1 : Int32)))]) rfl ?_
  exact hk19 (x1, x2, (t1 &&& t0), (x4 + (1 : Int32)), s) hF
set_option maxHeartbeats 4000000 in
theorem wX3_mirrors_b19 {l : Launch} {g : GT} {X : CxT} {o : Nat} {u : Wd} {r : Int32} {s1 : M} (C : kOk g X cX3_mirrors 5 RX3 (some .int) 1 100 (some (.int r)) (wM g o s1 u)) (ho : gB g ≤ o) (hl : xl X = l) (N : Nat) (k4 : Int32 × Int32 × M → Option (Int32 × M)) (hk4 : ∀ a, k4 a = some (r, s1) → kV g X 5 (wM g o a.2.2 u) 4 [some (.ref o), some (.int a.1), some (.int a.2.1), none, none] []) (k19 : Int32 × Int32 × Int32 × Int32 × M → Option (Int32 × M)) (hk19 : ∀ a, k19 a = some (r, s1) → kV g X 5 (wM g o a.2.2.2.2 u) 19 [some (.ref o), some (.int a.1), some (.int a.2.1), some (.int a.2.2.1), some (.int a.2.2.2.1)] []) (x1 : Int32) (x2 : Int32) (x3 : Int32) (x4 : Int32) (s : M) (hF : FX3_mirrors_b19 N k4 k19 x1 x2 x3 x4 s = some (r, s1)) : kV g X 5 (wM g o s u) 19 [some (.ref o), some (.int x1), some (.int x2), some (.int x3), some (.int x4)] [] := by
  unfold FX3_mirrors_b19 at hF
  refine v_iload C dX3_mirrors_19 rfl ?_
  refine v_aload_n C dX3_mirrors_21 rfl rfl ?_
  refine m_get C 1 (Nat.le_of_ble_eq_true rfl) q2303 (v := .ref (o + 1)) rfl dX3_mirrors_22 ?_
  refine v_iconst C (v := (0 : Int32)) dX3_mirrors_25 (by decide) ?_
  refine m_ald C (Nat.le_of_ble_eq_true rfl) (Nat.le_of_ble_eq_true rfl) (by decide) (n := 2) rfl rfl (ix := 0) (by decide) dX3_mirrors_26 ?_
  refine v_icmp_ge C (tgt := 80) dX3_mirrors_27 (by decide) hF (fun c2 hF => ?_) (fun c2 hF => ?_)
  · refine v_iload_n C dX3_mirrors_80 rfl rfl ?_
    refine v_if_eq C (tgt := 87) dX3_mirrors_81 (by decide) hF (fun c3 hF => ?_) (fun c3 hF => ?_)
    · refine v_mask [true, true, true, false, false] (lv' := [some (.ref o), some (.int x1), some (.int x2), none, none]) rfl ?_
      exact wX3_mirrors_b87 C ho hl N k4 hk4 (x1) (x2) (s) hF
    · refine v_iinc C dX3_mirrors_84 rfl (v := (x1 + (1 : Int32))) rfl (Nat.le_of_ble_eq_true rfl) rfl (lv' := [some (.ref o), some (.int (x1 + (1 : Int32))), some (.int x2), some (.int x3), some (.int x4)]) rfl ?_
      refine v_mask [true, true, true, false, false] (lv' := [some (.ref o), some (.int (x1 + (1 : Int32))), some (.int x2), none, none]) rfl ?_
      exact wX3_mirrors_b87 C ho hl N k4 hk4 ((x1 + (1 : Int32))) (x2) (s) hF
  · refine v_iload_n C dX3_mirrors_30 rfl rfl ?_
    refine v_aload_n C dX3_mirrors_31 rfl rfl ?_
    refine m_get C 7 (Nat.le_of_ble_eq_true rfl) q2309 (v := .ref (o + 7)) rfl dX3_mirrors_32 ?_
    refine v_bipush C (v := (10 : Int32)) dX3_mirrors_35 (by decide) ?_
    refine v_iload_n C dX3_mirrors_37 rfl rfl ?_
    refine v_imul C dX3_mirrors_38 ?_
    refine v_iload C dX3_mirrors_39 rfl ?_
    refine v_iadd C dX3_mirrors_41 ?_
    obtain ⟨h4, hF⟩ := k_ite hF
    refine m_ald C (Nat.le_of_ble_eq_true rfl) (Nat.le_of_ble_eq_true rfl) (by decide) (n := 1000) rfl h4 (ix := ((((10 : Int32) * x2) + x4).toNatClampNeg)) rfl dX3_mirrors_42 ?_
    refine v_aload_n C dX3_mirrors_43 rfl rfl ?_
    refine m_get C 7 (Nat.le_of_ble_eq_true rfl) q2309 (v := .ref (o + 7)) rfl dX3_mirrors_44 ?_
    refine v_bipush C (v := (10 : Int32)) dX3_mirrors_47 (by decide) ?_
    refine v_iload_n C dX3_mirrors_49 rfl rfl ?_
    refine v_imul C dX3_mirrors_50 ?_
    refine v_aload_n C dX3_mirrors_51 rfl rfl ?_
    refine m_get C 1 (Nat.le_of_ble_eq_true rfl) q2303 (v := .ref (o + 1)) rfl dX3_mirrors_52 ?_
    refine v_iconst C (v := (0 : Int32)) dX3_mirrors_55 (by decide) ?_
    refine m_ald C (Nat.le_of_ble_eq_true rfl) (Nat.le_of_ble_eq_true rfl) (by decide) (n := 2) rfl rfl (ix := 0) (by decide) dX3_mirrors_56 ?_
    refine v_iadd C dX3_mirrors_57 ?_
    refine v_iconst C (v := (1 : Int32)) dX3_mirrors_58 (by decide) ?_
    refine v_isub C dX3_mirrors_59 ?_
    refine v_iload C dX3_mirrors_60 rfl ?_
    refine v_isub C dX3_mirrors_62 ?_
    obtain ⟨h5, hF⟩ := k_ite hF
    refine m_ald C (Nat.le_of_ble_eq_true rfl) (Nat.le_of_ble_eq_true rfl) (by decide) (n := 1000) rfl h5 (ix := ((((((10 : Int32) * x2) + (s.2 1 0)) - (1 : Int32)) - x4).toNatClampNeg)) rfl dX3_mirrors_63 ?_
    refine v_icmp_ne C (tgt := 71) dX3_mirrors_64 (by decide) hF (fun c6 hF => ?_) (fun c6 hF => ?_)
    · refine v_iconst C (v := (1 : Int32)) dX3_mirrors_67 (by decide) ?_
      refine v_goto C (tgt := 72) dX3_mirrors_68 (by decide) ?_
      refine v_mask [true, true, true, false, true] (lv' := [some (.ref o), some (.int x1), some (.int x2), none, some (.int x4)]) rfl ?_
      exact wX3_mirrors_b72 C ho hl N k4 hk4 k19 hk19 (x1) (x2) (x4) ((1 : Int32)) (x3) (s) hF
    · refine v_iconst C (v := (0 : Int32)) dX3_mirrors_71 (by decide) ?_
      refine v_mask [true, true, true, false, true] (lv' := [some (.ref o), some (.int x1), some (.int x2), none, some (.int x4)]) rfl ?_
      exact wX3_mirrors_b72 C ho hl N k4 hk4 k19 hk19 (x1) (x2) (x4) ((0 : Int32)) (x3) (s) hF
set_option maxHeartbeats 4000000 in
theorem wX3_mirrors_b4 {l : Launch} {g : GT} {X : CxT} {o : Nat} {u : Wd} {r : Int32} {s1 : M} (C : kOk g X cX3_mirrors 5 RX3 (some .int) 1 100 (some (.int r)) (wM g o s1 u)) (ho : gB g ≤ o) (hl : xl X = l) (N : Nat) (k4 : Int32 × Int32 × M → Option (Int32 × M)) (hk4 : ∀ a, k4 a = some (r, s1) → kV g X 5 (wM g o a.2.2 u) 4 [some (.ref o), some (.int a.1), some (.int a.2.1), none, none] []) (x1 : Int32) (x2 : Int32) (s : M) (hF : FX3_mirrors_b4 N k4 x1 x2 s = some (r, s1)) : kV g X 5 (wM g o s u) 4 [some (.ref o), some (.int x1), some (.int x2), none, none] [] := by
  unfold FX3_mirrors_b4 at hF
  refine v_iload_n C dX3_mirrors_4 rfl rfl ?_
  refine v_aload_n C dX3_mirrors_5 rfl rfl ?_
  refine m_get C 2 (Nat.le_of_ble_eq_true rfl) q2304 (v := .ref (o + 2)) rfl dX3_mirrors_6 ?_
  refine v_iconst C (v := (0 : Int32)) dX3_mirrors_9 (by decide) ?_
  refine m_ald C (Nat.le_of_ble_eq_true rfl) (Nat.le_of_ble_eq_true rfl) (by decide) (n := 2) rfl rfl (ix := 0) (by decide) dX3_mirrors_10 ?_
  refine v_icmp_ge C (tgt := 93) dX3_mirrors_11 (by decide) hF (fun c1 hF => ?_) (fun c1 hF => ?_)
  · refine v_iload_n C dX3_mirrors_93 rfl rfl ?_
    exact m_iret C dX3_mirrors_94 hF
  · refine v_iconst C (v := (1 : Int32)) dX3_mirrors_14 (by decide) ?_
    refine v_istore_n C dX3_mirrors_15 rfl (Nat.le_of_ble_eq_true rfl) rfl (lv' := [some (.ref o), some (.int x1), some (.int x2), some (.int (1 : Int32)), none]) rfl ?_
    refine v_iconst C (v := (0 : Int32)) dX3_mirrors_16 (by decide) ?_
    refine v_istore C dX3_mirrors_17 (Nat.le_of_ble_eq_true rfl) rfl (lv' := [some (.ref o), some (.int x1), some (.int x2), some (.int (1 : Int32)), some (.int (0 : Int32))]) rfl ?_
    refine v_mask [true, true, true, true, true] (lv' := [some (.ref o), some (.int x1), some (.int x2), some (.int (1 : Int32)), some (.int (0 : Int32))]) rfl ?_
    exact kloop_ok (P := fun a => kV g X 5 (wM g o a.2.2.2.2 u) 19 [some (.ref o), some (.int a.1), some (.int a.2.1), some (.int a.2.2.1), some (.int a.2.2.2.1)] []) (fun self hs a hF => wX3_mirrors_b19 C ho hl N k4 hk4 self hs a.1 a.2.1 a.2.2.1 a.2.2.2.1 a.2.2.2.2 hF) N (x1, x2, (1 : Int32), (0 : Int32), s) hF
set_option maxHeartbeats 4000000 in
theorem wX3_mirrors (l : Launch) (g : GT) {o : Nat} (ho : gB g ≤ o) (u : Wd) (N : Nat)   (s : M) (r : Int32) (s1 : M) (hF : FX3_mirrors N  s = some (r, s1)) : kMt l g yX3_mirrors (ws_ yX3_mirrors cX3_mirrors 5 (some .int)) (1) (100) (wM g o s u) [.ref o] (some (.int r)) (wM g o s1 u) := by
  refine kMt.ofV (lv := [some (.ref o), none, none, none, none]) (by decide) rfl (Nat.le_of_ble_eq_true rfl) rfl ?_
  intro X hl hin C
  unfold FX3_mirrors at hF
  refine v_iconst C (v := (0 : Int32)) dX3_mirrors_0 (by decide) ?_
  refine v_istore_n C dX3_mirrors_1 rfl (Nat.le_of_ble_eq_true rfl) rfl (lv' := [some (.ref o), some (.int (0 : Int32)), none, none, none]) rfl ?_
  refine v_iconst C (v := (0 : Int32)) dX3_mirrors_2 (by decide) ?_
  refine v_istore_n C dX3_mirrors_3 rfl (Nat.le_of_ble_eq_true rfl) rfl (lv' := [some (.ref o), some (.int (0 : Int32)), some (.int (0 : Int32)), none, none]) rfl ?_
  refine v_mask [true, true, true, false, false] (lv' := [some (.ref o), some (.int (0 : Int32)), some (.int (0 : Int32)), none, none]) rfl ?_
  exact kloop_ok (P := fun a => kV g X 5 (wM g o a.2.2 u) 4 [some (.ref o), some (.int a.1), some (.int a.2.1), none, none] []) (fun self hs a hF => wX3_mirrors_b4 C ho hl N  self hs a.1 a.2.1 a.2.2 hF) N ((0 : Int32), (0 : Int32), s) hF
set_option maxHeartbeats 4000000 in
theorem wX3_run_b65 {l : Launch} {g : GT} {X : CxT} {o : Nat} {u : Wd} {r : Int32} {s1 : M} (C : kOk g X cX3_run 6 RX3 (some .int) 3 300 (some (.int r)) (wM g o s1 u)) (ho : gB g ≤ o) (hl : xl X = l) (N : Nat) (k14 : Int32 × Int32 × Int32 × M → Option (Int32 × M)) (hk14 : ∀ a, k14 a = some (r, s1) → kV g X 6 (wM g o a.2.2.2 u) 14 [some (.ref o), some (.int a.1), some (.int a.2.1), some (.int a.2.2.1), none, none] []) (k30 : Int32 × Int32 × Int32 × Int32 × Int32 × M → Option (Int32 × M)) (hk30 : ∀ a, k30 a = some (r, s1) → kV g X 6 (wM g o a.2.2.2.2.2 u) 30 [some (.ref o), some (.int a.1), some (.int a.2.1), some (.int a.2.2.1), some (.int a.2.2.2.1), some (.int a.2.2.2.2.1)] []) (x1 : Int32) (x2 : Int32) (x3 : Int32) (x5 : Int32) (t0 : Int32) (s : M) (hF : FX3_run_b65 N k14 k30 x1 x2 x3 x5 t0 s = some (r, s1)) : kV g X 6 (wM g o s u) 65 [some (.ref o), some (.int x1), some (.int x2), some (.int x3), none, some (.int x5)] [.int t0] := by
  unfold FX3_run_b65 at hF
  refine v_istore C dX3_run_65 (Nat.le_of_ble_eq_true rfl) rfl (lv' := [some (.ref o), some (.int x1), some (.int x2), some (.int x3), some (.int t0), some (.int x5)]) rfl ?_
  refine v_iload_n C dX3_run_67 rfl rfl ?_
  refine v_iload C dX3_run_68 rfl ?_
  refine v_mmax C q2482 (by decide) (Nat.le_of_ble_eq_true rfl) dX3_run_70 ?_
  refine v_istore_n C dX3_run_73 rfl (Nat.le_of_ble_eq_true rfl) rfl (lv' := [some (.ref o), some (.int x1), some (.int (kmax x2 t0)), some (.int x3), some (.int t0), some (.int x5)]) rfl ?_
  refine v_iinc C dX3_run_74 rfl (v := (x5 + (1 : Int32))) rfl (Nat.le_of_ble_eq_true rfl) rfl (lv' := [some (.ref o), some (.int x1), some (.int (kmax x2 t0)), some (.int x3), some (.int t0), some (.int (x5 + (1 : Int32)))]) rfl ?_
  refine v_goto C (tgt := 30) dX3_run_77 (by decide) ?_
  refine v_mask [true, true, true, true, true, true] (lv' := [some (.ref o), some (.int x1), some (.int (kmax x2 t0)), some (.int x3), some (.int t0), some (.int (x5 + (1 : Int32)))]) rfl ?_
  exact hk30 (x1, (kmax x2 t0), x3, t0, (x5 + (1 : Int32)), s) hF
set_option maxHeartbeats 4000000 in
theorem wX3_run_b30 {l : Launch} {g : GT} {X : CxT} {o : Nat} {u : Wd} {r : Int32} {s1 : M} (C : kOk g X cX3_run 6 RX3 (some .int) 3 300 (some (.int r)) (wM g o s1 u)) (ho : gB g ≤ o) (hl : xl X = l) (N : Nat) (k14 : Int32 × Int32 × Int32 × M → Option (Int32 × M)) (hk14 : ∀ a, k14 a = some (r, s1) → kV g X 6 (wM g o a.2.2.2 u) 14 [some (.ref o), some (.int a.1), some (.int a.2.1), some (.int a.2.2.1), none, none] []) (k30 : Int32 × Int32 × Int32 × Int32 × Int32 × M → Option (Int32 × M)) (hk30 : ∀ a, k30 a = some (r, s1) → kV g X 6 (wM g o a.2.2.2.2.2 u) 30 [some (.ref o), some (.int a.1), some (.int a.2.1), some (.int a.2.2.1), some (.int a.2.2.2.1), some (.int a.2.2.2.2.1)] []) (x1 : Int32) (x2 : Int32) (x3 : Int32) (x4 : Int32) (x5 : Int32) (s : M) (hF : FX3_run_b30 N k14 k30 x1 x2 x3 x4 x5 s = some (r, s1)) : kV g X 6 (wM g o s u) 30 [some (.ref o), some (.int x1), some (.int x2), some (.int x3), some (.int x4), some (.int x5)] [] := by
  unfold FX3_run_b30 at hF
  refine v_iload C dX3_run_30 rfl ?_
  refine v_aload_n C dX3_run_32 rfl rfl ?_
  refine m_get C 2 (Nat.le_of_ble_eq_true rfl) q2304 (v := .ref (o + 2)) rfl dX3_run_33 ?_
  refine v_iconst C (v := (0 : Int32)) dX3_run_36 (by decide) ?_
  refine m_ald C (Nat.le_of_ble_eq_true rfl) (Nat.le_of_ble_eq_true rfl) (by decide) (n := 2) rfl rfl (ix := 0) (by decide) dX3_run_37 ?_
  refine v_icmp_ge C (tgt := 80) dX3_run_38 (by decide) hF (fun c5 hF => ?_) (fun c5 hF => ?_)
  · refine v_iinc C dX3_run_80 rfl (v := (x3 + (1 : Int32))) rfl (Nat.le_of_ble_eq_true rfl) rfl (lv' := [some (.ref o), some (.int x1), some (.int x2), some (.int (x3 + (1 : Int32))), some (.int x4), some (.int x5)]) rfl ?_
    refine v_goto C (tgt := 14) dX3_run_83 (by decide) ?_
    refine v_mask [true, true, true, true, false, false] (lv' := [some (.ref o), some (.int x1), some (.int x2), some (.int (x3 + (1 : Int32))), none, none]) rfl ?_
    exact hk14 (x1, x2, (x3 + (1 : Int32)), s) hF
  · refine v_aload_n C dX3_run_41 rfl rfl ?_
    refine m_get C 7 (Nat.le_of_ble_eq_true rfl) q2309 (v := .ref (o + 7)) rfl dX3_run_42 ?_
    refine v_bipush C (v := (10 : Int32)) dX3_run_45 (by decide) ?_
    refine v_iload C dX3_run_47 rfl ?_
    refine v_imul C dX3_run_49 ?_
    refine v_iload_n C dX3_run_50 rfl rfl ?_
    refine v_iadd C dX3_run_51 ?_
    obtain ⟨h6, hF⟩ := k_ite hF
    refine m_ald C (Nat.le_of_ble_eq_true rfl) (Nat.le_of_ble_eq_true rfl) (by decide) (n := 1000) rfl h6 (ix := ((((10 : Int32) * x5) + x3).toNatClampNeg)) rfl dX3_run_52 ?_
    refine v_iload_n C dX3_run_53 rfl rfl ?_
    refine v_icmp_ne C (tgt := 64) dX3_run_54 (by decide) hF (fun c7 hF => ?_) (fun c7 hF => ?_)
    · refine v_iload C dX3_run_57 rfl ?_
      refine v_iconst C (v := (1 : Int32)) dX3_run_59 (by decide) ?_
      refine v_iadd C dX3_run_60 ?_
      refine v_goto C (tgt := 65) dX3_run_61 (by decide) ?_
      refine v_mask [true, true, true, true, false, true] (lv' := [some (.ref o), some (.int x1), some (.int x2), some (.int x3), none, some (.int x5)]) rfl ?_
      exact wX3_run_b65 C ho hl N k14 hk14 k30 hk30 (x1) (x2) (x3) (x5) ((x4 + (1 : Int32))) (s) hF
    · refine v_iconst C (v := (0 : Int32)) dX3_run_64 (by decide) ?_
      refine v_mask [true, true, true, true, false, true] (lv' := [some (.ref o), some (.int x1), some (.int x2), some (.int x3), none, some (.int x5)]) rfl ?_
      exact wX3_run_b65 C ho hl N k14 hk14 k30 hk30 (x1) (x2) (x3) (x5) ((0 : Int32)) (s) hF
set_option maxHeartbeats 4000000 in
theorem wX3_run_b14 {l : Launch} {g : GT} {X : CxT} {o : Nat} {u : Wd} {r : Int32} {s1 : M} (C : kOk g X cX3_run 6 RX3 (some .int) 3 300 (some (.int r)) (wM g o s1 u)) (ho : gB g ≤ o) (hl : xl X = l) (N : Nat) (k14 : Int32 × Int32 × Int32 × M → Option (Int32 × M)) (hk14 : ∀ a, k14 a = some (r, s1) → kV g X 6 (wM g o a.2.2.2 u) 14 [some (.ref o), some (.int a.1), some (.int a.2.1), some (.int a.2.2.1), none, none] []) (x1 : Int32) (x2 : Int32) (x3 : Int32) (s : M) (hF : FX3_run_b14 N k14 x1 x2 x3 s = some (r, s1)) : kV g X 6 (wM g o s u) 14 [some (.ref o), some (.int x1), some (.int x2), some (.int x3), none, none] [] := by
  unfold FX3_run_b14 at hF
  refine v_iload_n C dX3_run_14 rfl rfl ?_
  refine v_aload_n C dX3_run_15 rfl rfl ?_
  refine m_get C 1 (Nat.le_of_ble_eq_true rfl) q2303 (v := .ref (o + 1)) rfl dX3_run_16 ?_
  refine v_iconst C (v := (0 : Int32)) dX3_run_19 (by decide) ?_
  refine m_ald C (Nat.le_of_ble_eq_true rfl) (Nat.le_of_ble_eq_true rfl) (by decide) (n := 2) rfl rfl (ix := 0) (by decide) dX3_run_20 ?_
  refine v_icmp_ge C (tgt := 86) dX3_run_21 (by decide) hF (fun c4 hF => ?_) (fun c4 hF => ?_)
  · refine v_iload_n C dX3_run_86 rfl rfl ?_
    exact m_iret C dX3_run_87 hF
  · refine v_iconst C (v := (0 : Int32)) dX3_run_24 (by decide) ?_
    refine v_istore C dX3_run_25 (Nat.le_of_ble_eq_true rfl) rfl (lv' := [some (.ref o), some (.int x1), some (.int x2), some (.int x3), some (.int (0 : Int32)), none]) rfl ?_
    refine v_iconst C (v := (0 : Int32)) dX3_run_27 (by decide) ?_
    refine v_istore C dX3_run_28 (Nat.le_of_ble_eq_true rfl) rfl (lv' := [some (.ref o), some (.int x1), some (.int x2), some (.int x3), some (.int (0 : Int32)), some (.int (0 : Int32))]) rfl ?_
    refine v_mask [true, true, true, true, true, true] (lv' := [some (.ref o), some (.int x1), some (.int x2), some (.int x3), some (.int (0 : Int32)), some (.int (0 : Int32))]) rfl ?_
    exact kloop_ok (P := fun a => kV g X 6 (wM g o a.2.2.2.2.2 u) 30 [some (.ref o), some (.int a.1), some (.int a.2.1), some (.int a.2.2.1), some (.int a.2.2.2.1), some (.int a.2.2.2.2.1)] []) (fun self hs a hF => wX3_run_b30 C ho hl N k14 hk14 self hs a.1 a.2.1 a.2.2.1 a.2.2.2.1 a.2.2.2.2.1 a.2.2.2.2.2 hF) N (x1, x2, x3, (0 : Int32), (0 : Int32), s) hF
set_option maxHeartbeats 4000000 in
theorem wX3_run (l : Launch) (g : GT) {o : Nat} (ho : gB g ≤ o) (u : Wd) (N : Nat) (x1 : Int32)  (s : M) (r : Int32) (s1 : M) (hF : FX3_run N x1 s = some (r, s1)) : kMt l g yX3_run (ws_ yX3_run cX3_run 6 (some .int)) (3) (300) (wM g o s u) [.ref o, .int x1] (some (.int r)) (wM g o s1 u) := by
  refine kMt.ofV (lv := [some (.ref o), some (.int x1), none, none, none, none]) (by decide) rfl (Nat.le_of_ble_eq_true rfl) rfl ?_
  intro X hl hin C
  unfold FX3_run at hF
  refine v_iload_n C dX3_run_0 rfl rfl ?_
  refine m_callSi C lk_X3_168 (fr2 := 2) (lo2 := 200) (As := [.int x1]) (st := []) (fun r s1 h => by rw [hl]; exact wX3_isColour l g ho u N x1 s r s1 h) (by decide) rfl rfl (Nat.le_of_ble_eq_true rfl) dX3_run_1 hF (fun r1 s2 hF => ?_)
  refine v_if_ne C (tgt := 10) dX3_run_4 (by decide) hF (fun c3 hF => ?_) (fun c3 hF => ?_)
  · refine v_bipush C (v := (-2 : Int32)) dX3_run_7 (by decide) ?_
    exact m_iret C dX3_run_9 hF
  · refine v_iconst C (v := (0 : Int32)) dX3_run_10 (by decide) ?_
    refine v_istore_n C dX3_run_11 rfl (Nat.le_of_ble_eq_true rfl) rfl (lv' := [some (.ref o), some (.int x1), some (.int (0 : Int32)), none, none, none]) rfl ?_
    refine v_iconst C (v := (0 : Int32)) dX3_run_12 (by decide) ?_
    refine v_istore_n C dX3_run_13 rfl (Nat.le_of_ble_eq_true rfl) rfl (lv' := [some (.ref o), some (.int x1), some (.int (0 : Int32)), some (.int (0 : Int32)), none, none]) rfl ?_
    refine v_mask [true, true, true, true, false, false] (lv' := [some (.ref o), some (.int x1), some (.int (0 : Int32)), some (.int (0 : Int32)), none, none]) rfl ?_
    exact kloop_ok (P := fun a => kV g X 6 (wM g o a.2.2.2 u) 14 [some (.ref o), some (.int a.1), some (.int a.2.1), some (.int a.2.2.1), none, none] []) (fun self hs a hF => wX3_run_b14 C ho hl N  self hs a.1 a.2.1 a.2.2.1 a.2.2.2 hF) N (x1, (0 : Int32), (0 : Int32), s2) hF
set_option maxHeartbeats 4000000 in
theorem wX3_countOf_b47 {l : Launch} {g : GT} {X : CxT} {o : Nat} {u : Wd} {r : Int32} {s1 : M} (C : kOk g X cX3_countOf 6 RX3 (some .int) 1 100 (some (.int r)) (wM g o s1 u)) (ho : gB g ≤ o) (hl : xl X = l) (N : Nat) (j2 : Nat) (hj2 : 0 < j2 ∧ j2 ≤ 31 ∧ j2 ≠ 29) (k5 : Int32 × Int32 × Int32 × M → Option (Int32 × M)) (hk5 : ∀ a, k5 a = some (r, s1) → kV g X 6 (wM g o a.2.2.2 u) 5 [some (.ref o), some (.int a.1), some (.ref (o + j2)), some (.int a.2.1), some (.int a.2.2.1), none] []) (k19 : Int32 × Int32 × Int32 × Int32 × M → Option (Int32 × M)) (hk19 : ∀ a, k19 a = some (r, s1) → kV g X 6 (wM g o a.2.2.2.2 u) 19 [some (.ref o), some (.int a.1), some (.ref (o + j2)), some (.int a.2.1), some (.int a.2.2.1), some (.int a.2.2.2.1)] []) (x1 : Int32) (x3 : Int32) (x4 : Int32) (x5 : Int32) (s : M) (hF : FX3_countOf_b47 N j2 k5 k19 x1 x3 x4 x5 s = some (r, s1)) : kV g X 6 (wM g o s u) 47 [some (.ref o), some (.int x1), some (.ref (o + j2)), some (.int x3), some (.int x4), some (.int x5)] [] := by
  unfold FX3_countOf_b47 at hF
  refine v_iinc C dX3_countOf_47 rfl (v := (x5 + (1 : Int32))) rfl (Nat.le_of_ble_eq_true rfl) rfl (lv' := [some (.ref o), some (.int x1), some (.ref (o + j2)), some (.int x3), some (.int x4), some (.int (x5 + (1 : Int32)))]) rfl ?_
  refine v_goto C (tgt := 19) dX3_countOf_50 (by decide) ?_
  refine v_mask [true, true, true, true, true, true] (lv' := [some (.ref o), some (.int x1), some (.ref (o + j2)), some (.int x3), some (.int x4), some (.int (x5 + (1 : Int32)))]) rfl ?_
  exact hk19 (x1, x3, x4, (x5 + (1 : Int32)), s) hF
set_option maxHeartbeats 4000000 in
theorem wX3_countOf_b19 {l : Launch} {g : GT} {X : CxT} {o : Nat} {u : Wd} {r : Int32} {s1 : M} (C : kOk g X cX3_countOf 6 RX3 (some .int) 1 100 (some (.int r)) (wM g o s1 u)) (ho : gB g ≤ o) (hl : xl X = l) (N : Nat) (j2 : Nat) (hj2 : 0 < j2 ∧ j2 ≤ 31 ∧ j2 ≠ 29) (k5 : Int32 × Int32 × Int32 × M → Option (Int32 × M)) (hk5 : ∀ a, k5 a = some (r, s1) → kV g X 6 (wM g o a.2.2.2 u) 5 [some (.ref o), some (.int a.1), some (.ref (o + j2)), some (.int a.2.1), some (.int a.2.2.1), none] []) (k19 : Int32 × Int32 × Int32 × Int32 × M → Option (Int32 × M)) (hk19 : ∀ a, k19 a = some (r, s1) → kV g X 6 (wM g o a.2.2.2.2 u) 19 [some (.ref o), some (.int a.1), some (.ref (o + j2)), some (.int a.2.1), some (.int a.2.2.1), some (.int a.2.2.2.1)] []) (x1 : Int32) (x3 : Int32) (x4 : Int32) (x5 : Int32) (s : M) (hF : FX3_countOf_b19 N j2 k5 k19 x1 x3 x4 x5 s = some (r, s1)) : kV g X 6 (wM g o s u) 19 [some (.ref o), some (.int x1), some (.ref (o + j2)), some (.int x3), some (.int x4), some (.int x5)] [] := by
  unfold FX3_countOf_b19 at hF
  refine v_iload C dX3_countOf_19 rfl ?_
  refine v_aload_n C dX3_countOf_21 rfl rfl ?_
  refine m_get C 1 (Nat.le_of_ble_eq_true rfl) q2303 (v := .ref (o + 1)) rfl dX3_countOf_22 ?_
  refine v_iconst C (v := (0 : Int32)) dX3_countOf_25 (by decide) ?_
  refine m_ald C (Nat.le_of_ble_eq_true rfl) (Nat.le_of_ble_eq_true rfl) (by decide) (n := 2) rfl rfl (ix := 0) (by decide) dX3_countOf_26 ?_
  refine v_icmp_ge C (tgt := 53) dX3_countOf_27 (by decide) hF (fun c2 hF => ?_) (fun c2 hF => ?_)
  · refine v_iinc C dX3_countOf_53 rfl (v := (x4 + (1 : Int32))) rfl (Nat.le_of_ble_eq_true rfl) rfl (lv' := [some (.ref o), some (.int x1), some (.ref (o + j2)), some (.int x3), some (.int (x4 + (1 : Int32))), some (.int x5)]) rfl ?_
    refine v_goto C (tgt := 5) dX3_countOf_56 (by decide) ?_
    refine v_mask [true, true, true, true, true, false] (lv' := [some (.ref o), some (.int x1), some (.ref (o + j2)), some (.int x3), some (.int (x4 + (1 : Int32))), none]) rfl ?_
    exact hk5 (x1, x3, (x4 + (1 : Int32)), s) hF
  · refine v_aload_n C dX3_countOf_30 rfl rfl ?_
    refine v_bipush C (v := (10 : Int32)) dX3_countOf_31 (by decide) ?_
    refine v_iload C dX3_countOf_33 rfl ?_
    refine v_imul C dX3_countOf_35 ?_
    refine v_iload C dX3_countOf_36 rfl ?_
    refine v_iadd C dX3_countOf_38 ?_
    obtain ⟨h3, hF⟩ := k_ite hF
    refine m_ald C hj2.1 hj2.2.1 hj2.2.2 (n := (lenM j2)) rfl h3 (ix := ((((10 : Int32) * x4) + x5).toNatClampNeg)) rfl dX3_countOf_39 ?_
    refine v_iload_n C dX3_countOf_40 rfl rfl ?_
    refine v_icmp_ne C (tgt := 47) dX3_countOf_41 (by decide) hF (fun c4 hF => ?_) (fun c4 hF => ?_)
    · refine v_iinc C dX3_countOf_44 rfl (v := (x3 + (1 : Int32))) rfl (Nat.le_of_ble_eq_true rfl) rfl (lv' := [some (.ref o), some (.int x1), some (.ref (o + j2)), some (.int (x3 + (1 : Int32))), some (.int x4), some (.int x5)]) rfl ?_
      refine v_mask [true, true, true, true, true, true] (lv' := [some (.ref o), some (.int x1), some (.ref (o + j2)), some (.int (x3 + (1 : Int32))), some (.int x4), some (.int x5)]) rfl ?_
      exact wX3_countOf_b47 C ho hl N j2 hj2 k5 hk5 k19 hk19 (x1) ((x3 + (1 : Int32))) (x4) (x5) (s) hF
    · refine v_mask [true, true, true, true, true, true] (lv' := [some (.ref o), some (.int x1), some (.ref (o + j2)), some (.int x3), some (.int x4), some (.int x5)]) rfl ?_
      exact wX3_countOf_b47 C ho hl N j2 hj2 k5 hk5 k19 hk19 (x1) (x3) (x4) (x5) (s) hF
set_option maxHeartbeats 4000000 in
theorem wX3_countOf_b5 {l : Launch} {g : GT} {X : CxT} {o : Nat} {u : Wd} {r : Int32} {s1 : M} (C : kOk g X cX3_countOf 6 RX3 (some .int) 1 100 (some (.int r)) (wM g o s1 u)) (ho : gB g ≤ o) (hl : xl X = l) (N : Nat) (j2 : Nat) (hj2 : 0 < j2 ∧ j2 ≤ 31 ∧ j2 ≠ 29) (k5 : Int32 × Int32 × Int32 × M → Option (Int32 × M)) (hk5 : ∀ a, k5 a = some (r, s1) → kV g X 6 (wM g o a.2.2.2 u) 5 [some (.ref o), some (.int a.1), some (.ref (o + j2)), some (.int a.2.1), some (.int a.2.2.1), none] []) (x1 : Int32) (x3 : Int32) (x4 : Int32) (s : M) (hF : FX3_countOf_b5 N j2 k5 x1 x3 x4 s = some (r, s1)) : kV g X 6 (wM g o s u) 5 [some (.ref o), some (.int x1), some (.ref (o + j2)), some (.int x3), some (.int x4), none] [] := by
  unfold FX3_countOf_b5 at hF
  refine v_iload C dX3_countOf_5 rfl ?_
  refine v_aload_n C dX3_countOf_7 rfl rfl ?_
  refine m_get C 2 (Nat.le_of_ble_eq_true rfl) q2304 (v := .ref (o + 2)) rfl dX3_countOf_8 ?_
  refine v_iconst C (v := (0 : Int32)) dX3_countOf_11 (by decide) ?_
  refine m_ald C (Nat.le_of_ble_eq_true rfl) (Nat.le_of_ble_eq_true rfl) (by decide) (n := 2) rfl rfl (ix := 0) (by decide) dX3_countOf_12 ?_
  refine v_icmp_ge C (tgt := 59) dX3_countOf_13 (by decide) hF (fun c1 hF => ?_) (fun c1 hF => ?_)
  · refine v_iload_n C dX3_countOf_59 rfl rfl ?_
    exact m_iret C dX3_countOf_60 hF
  · refine v_iconst C (v := (0 : Int32)) dX3_countOf_16 (by decide) ?_
    refine v_istore C dX3_countOf_17 (Nat.le_of_ble_eq_true rfl) rfl (lv' := [some (.ref o), some (.int x1), some (.ref (o + j2)), some (.int x3), some (.int x4), some (.int (0 : Int32))]) rfl ?_
    refine v_mask [true, true, true, true, true, true] (lv' := [some (.ref o), some (.int x1), some (.ref (o + j2)), some (.int x3), some (.int x4), some (.int (0 : Int32))]) rfl ?_
    exact kloop_ok (P := fun a => kV g X 6 (wM g o a.2.2.2.2 u) 19 [some (.ref o), some (.int a.1), some (.ref (o + j2)), some (.int a.2.1), some (.int a.2.2.1), some (.int a.2.2.2.1)] []) (fun self hs a hF => wX3_countOf_b19 C ho hl N j2 hj2 k5 hk5 self hs a.1 a.2.1 a.2.2.1 a.2.2.2.1 a.2.2.2.2 hF) N (x1, x3, x4, (0 : Int32), s) hF
set_option maxHeartbeats 4000000 in
theorem wX3_countOf (l : Launch) (g : GT) {o : Nat} (ho : gB g ≤ o) (u : Wd) (N : Nat) (x1 : Int32) (j2 : Nat) (hj2 : 0 < j2 ∧ j2 ≤ 31 ∧ j2 ≠ 29) (s : M) (r : Int32) (s1 : M) (hF : FX3_countOf N x1 j2 s = some (r, s1)) : kMt l g yX3_countOf (ws_ yX3_countOf cX3_countOf 6 (some .int)) (1) (100) (wM g o s u) [.ref o, .int x1, .ref (o + j2)] (some (.int r)) (wM g o s1 u) := by
  refine kMt.ofV (lv := [some (.ref o), some (.int x1), some (.ref (o + j2)), none, none, none]) (by decide) rfl (Nat.le_of_ble_eq_true rfl) rfl ?_
  intro X hl hin C
  unfold FX3_countOf at hF
  refine v_iconst C (v := (0 : Int32)) dX3_countOf_0 (by decide) ?_
  refine v_istore_n C dX3_countOf_1 rfl (Nat.le_of_ble_eq_true rfl) rfl (lv' := [some (.ref o), some (.int x1), some (.ref (o + j2)), some (.int (0 : Int32)), none, none]) rfl ?_
  refine v_iconst C (v := (0 : Int32)) dX3_countOf_2 (by decide) ?_
  refine v_istore C dX3_countOf_3 (Nat.le_of_ble_eq_true rfl) rfl (lv' := [some (.ref o), some (.int x1), some (.ref (o + j2)), some (.int (0 : Int32)), some (.int (0 : Int32)), none]) rfl ?_
  refine v_mask [true, true, true, true, true, false] (lv' := [some (.ref o), some (.int x1), some (.ref (o + j2)), some (.int (0 : Int32)), some (.int (0 : Int32)), none]) rfl ?_
  exact kloop_ok (P := fun a => kV g X 6 (wM g o a.2.2.2 u) 5 [some (.ref o), some (.int a.1), some (.ref (o + j2)), some (.int a.2.1), some (.int a.2.2.1), none] []) (fun self hs a hF => wX3_countOf_b5 C ho hl N j2 hj2  self hs a.1 a.2.1 a.2.2.1 a.2.2.2 hF) N (x1, (0 : Int32), (0 : Int32), s) hF
set_option maxHeartbeats 4000000 in
theorem wX3_colours_b78 {l : Launch} {g : GT} {X : CxT} {o : Nat} {u : Wd} {r : Int32} {s1 : M} (C : kOk g X cX3_colours 5 RX3 (some .int) 3 300 (some (.int r)) (wM g o s1 u)) (ho : gB g ≤ o) (hl : xl X = l) (N : Nat) (k51 : Int32 × Int32 × Int32 × M → Option (Int32 × M)) (hk51 : ∀ a, k51 a = some (r, s1) → kV g X 5 (wM g o a.2.2.2 u) 51 [some (.ref o), some (.int a.1), none, some (.int a.2.1), some (.int a.2.2.1)] []) (x1 : Int32) (x3 : Int32) (x4 : Int32) (s : M) (hF : FX3_colours_b78 N k51 x1 x3 x4 s = some (r, s1)) : kV g X 5 (wM g o s u) 78 [some (.ref o), some (.int x1), none, some (.int x3), some (.int x4)] [] := by
  unfold FX3_colours_b78 at hF
  refine v_iinc C dX3_colours_78 rfl (v := (x4 + (1 : Int32))) rfl (Nat.le_of_ble_eq_true rfl) rfl (lv' := [some (.ref o), some (.int x1), none, some (.int x3), some (.int (x4 + (1 : Int32)))]) rfl ?_
  refine v_goto C (tgt := 51) dX3_colours_81 (by decide) ?_
  refine v_mask [true, true, false, true, true] (lv' := [some (.ref o), some (.int x1), none, some (.int x3), some (.int (x4 + (1 : Int32)))]) rfl ?_
  exact hk51 (x1, x3, (x4 + (1 : Int32)), s) hF
set_option maxHeartbeats 4000000 in
theorem wX3_colours_b51 {l : Launch} {g : GT} {X : CxT} {o : Nat} {u : Wd} {r : Int32} {s1 : M} (C : kOk g X cX3_colours 5 RX3 (some .int) 3 300 (some (.int r)) (wM g o s1 u)) (ho : gB g ≤ o) (hl : xl X = l) (N : Nat) (k51 : Int32 × Int32 × Int32 × M → Option (Int32 × M)) (hk51 : ∀ a, k51 a = some (r, s1) → kV g X 5 (wM g o a.2.2.2 u) 51 [some (.ref o), some (.int a.1), none, some (.int a.2.1), some (.int a.2.2.1)] []) (x1 : Int32) (x3 : Int32) (x4 : Int32) (s : M) (hF : FX3_colours_b51 N k51 x1 x3 x4 s = some (r, s1)) : kV g X 5 (wM g o s u) 51 [some (.ref o), some (.int x1), none, some (.int x3), some (.int x4)] [] := by
  unfold FX3_colours_b51 at hF
  refine v_iload C dX3_colours_51 rfl ?_
  refine v_iconst C (v := (4 : Int32)) dX3_colours_53 (by decide) ?_
  refine v_aload_n C dX3_colours_54 rfl rfl ?_
  refine m_get C 1 (Nat.le_of_ble_eq_true rfl) q2303 (v := .ref (o + 1)) rfl dX3_colours_55 ?_
  refine v_iconst C (v := (0 : Int32)) dX3_colours_58 (by decide) ?_
  refine m_ald C (Nat.le_of_ble_eq_true rfl) (Nat.le_of_ble_eq_true rfl) (by decide) (n := 2) rfl rfl (ix := 0) (by decide) dX3_colours_59 ?_
  refine v_imul C dX3_colours_60 ?_
  refine v_icmp_ge C (tgt := 84) dX3_colours_61 (by decide) hF (fun c11 hF => ?_) (fun c11 hF => ?_)
  · refine v_iload_n C dX3_colours_84 rfl rfl ?_
    exact m_iret C dX3_colours_85 hF
  · refine v_aload_n C dX3_colours_64 rfl rfl ?_
    refine m_get C 3 (Nat.le_of_ble_eq_true rfl) q2305 (v := .ref (o + 3)) rfl dX3_colours_65 ?_
    refine v_iload C dX3_colours_68 rfl ?_
    obtain ⟨h12, hF⟩ := k_ite hF
    refine m_ald C (Nat.le_of_ble_eq_true rfl) (Nat.le_of_ble_eq_true rfl) (by decide) (n := 80) rfl h12 (ix := (x4.toNatClampNeg)) rfl dX3_colours_70 ?_
    refine v_iload_n C dX3_colours_71 rfl rfl ?_
    refine v_icmp_ne C (tgt := 78) dX3_colours_72 (by decide) hF (fun c13 hF => ?_) (fun c13 hF => ?_)
    · refine v_iinc C dX3_colours_75 rfl (v := (x3 + (1 : Int32))) rfl (Nat.le_of_ble_eq_true rfl) rfl (lv' := [some (.ref o), some (.int x1), none, some (.int (x3 + (1 : Int32))), some (.int x4)]) rfl ?_
      refine v_mask [true, true, false, true, true] (lv' := [some (.ref o), some (.int x1), none, some (.int (x3 + (1 : Int32))), some (.int x4)]) rfl ?_
      exact wX3_colours_b78 C ho hl N k51 hk51 (x1) ((x3 + (1 : Int32))) (x4) (s) hF
    · refine v_mask [true, true, false, true, true] (lv' := [some (.ref o), some (.int x1), none, some (.int x3), some (.int x4)]) rfl ?_
      exact wX3_colours_b78 C ho hl N k51 hk51 (x1) (x3) (x4) (s) hF
set_option maxHeartbeats 4000000 in
theorem wX3_colours (l : Launch) (g : GT) {o : Nat} (ho : gB g ≤ o) (u : Wd) (N : Nat) (x1 : Int32) (x2 : Int32)  (s : M) (r : Int32) (s1 : M) (hF : FX3_colours N x1 x2 s = some (r, s1)) : kMt l g yX3_colours (ws_ yX3_colours cX3_colours 5 (some .int)) (3) (300) (wM g o s u) [.ref o, .int x1, .int x2] (some (.int r)) (wM g o s1 u) := by
  refine kMt.ofV (lv := [some (.ref o), some (.int x1), some (.int x2), none, none]) (by decide) rfl (Nat.le_of_ble_eq_true rfl) rfl ?_
  intro X hl hin C
  unfold FX3_colours at hF
  refine v_iload_n C dX3_colours_0 rfl rfl ?_
  refine m_callSi C lk_X3_168 (fr2 := 2) (lo2 := 200) (As := [.int x1]) (st := []) (fun r s1 h => by rw [hl]; exact wX3_isColour l g ho u N x1 s r s1 h) (by decide) rfl rfl (Nat.le_of_ble_eq_true rfl) dX3_colours_1 hF (fun r1 s2 hF => ?_)
  refine v_if_ne C (tgt := 10) dX3_colours_4 (by decide) hF (fun c3 hF => ?_) (fun c3 hF => ?_)
  · refine v_bipush C (v := (-2 : Int32)) dX3_colours_7 (by decide) ?_
    exact m_iret C dX3_colours_9 hF
  · refine v_iload_n C dX3_colours_10 rfl rfl ?_
    refine v_if_ne C (tgt := 24) dX3_colours_11 (by decide) hF (fun c4 hF => ?_) (fun c4 hF => ?_)
    · refine v_aload_n C dX3_colours_14 rfl rfl ?_
      refine v_iload_n C dX3_colours_15 rfl rfl ?_
      refine v_aload_n C dX3_colours_16 rfl rfl ?_
      refine m_get C 7 (Nat.le_of_ble_eq_true rfl) q2309 (v := .ref (o + 7)) rfl dX3_colours_17 ?_
      refine m_callVi C lk_X3_240 rfl (fr2 := 1) (lo2 := 100) (As := [.int x1, .ref (o + 7)]) (st := []) (fun r s1 h => by rw [hl]; exact wX3_countOf l g ho u N x1 7 ⟨Nat.le_of_ble_eq_true rfl, Nat.le_of_ble_eq_true rfl, by decide⟩ s2 r s1 h) (by decide) rfl rfl (Nat.le_of_ble_eq_true rfl) dX3_colours_20 hF (fun r5 s6 hF => ?_)
      exact m_iret C dX3_colours_23 hF
    · refine v_iload_n C dX3_colours_24 rfl rfl ?_
      refine v_iconst C (v := (1 : Int32)) dX3_colours_25 (by decide) ?_
      refine v_icmp_ne C (tgt := 39) dX3_colours_26 (by decide) hF (fun c7 hF => ?_) (fun c7 hF => ?_)
      · refine v_aload_n C dX3_colours_29 rfl rfl ?_
        refine v_iload_n C dX3_colours_30 rfl rfl ?_
        refine v_aload_n C dX3_colours_31 rfl rfl ?_
        refine m_get C 8 (Nat.le_of_ble_eq_true rfl) q2310 (v := .ref (o + 8)) rfl dX3_colours_32 ?_
        refine m_callVi C lk_X3_240 rfl (fr2 := 1) (lo2 := 100) (As := [.int x1, .ref (o + 8)]) (st := []) (fun r s1 h => by rw [hl]; exact wX3_countOf l g ho u N x1 8 ⟨Nat.le_of_ble_eq_true rfl, Nat.le_of_ble_eq_true rfl, by decide⟩ s2 r s1 h) (by decide) rfl rfl (Nat.le_of_ble_eq_true rfl) dX3_colours_35 hF (fun r8 s9 hF => ?_)
        exact m_iret C dX3_colours_38 hF
      · refine v_iload_n C dX3_colours_39 rfl rfl ?_
        refine v_iconst C (v := (2 : Int32)) dX3_colours_40 (by decide) ?_
        refine v_icmp_eq C (tgt := 46) dX3_colours_41 (by decide) hF (fun c10 hF => ?_) (fun c10 hF => ?_)
        · refine v_iconst C (v := (0 : Int32)) dX3_colours_46 (by decide) ?_
          refine v_istore_n C dX3_colours_47 rfl (Nat.le_of_ble_eq_true rfl) rfl (lv' := [some (.ref o), some (.int x1), some (.int x2), some (.int (0 : Int32)), none]) rfl ?_
          refine v_iconst C (v := (0 : Int32)) dX3_colours_48 (by decide) ?_
          refine v_istore C dX3_colours_49 (Nat.le_of_ble_eq_true rfl) rfl (lv' := [some (.ref o), some (.int x1), some (.int x2), some (.int (0 : Int32)), some (.int (0 : Int32))]) rfl ?_
          refine v_mask [true, true, false, true, true] (lv' := [some (.ref o), some (.int x1), none, some (.int (0 : Int32)), some (.int (0 : Int32))]) rfl ?_
          exact kloop_ok (P := fun a => kV g X 5 (wM g o a.2.2.2 u) 51 [some (.ref o), some (.int a.1), none, some (.int a.2.1), some (.int a.2.2.1)] []) (fun self hs a hF => wX3_colours_b51 C ho hl N  self hs a.1 a.2.1 a.2.2.1 a.2.2.2 hF) N (x1, (0 : Int32), (0 : Int32), s2) hF
        · refine v_iconst C (v := (-1 : Int32)) dX3_colours_44 (by decide) ?_
          exact m_iret C dX3_colours_45 hF
set_option maxHeartbeats 4000000 in
theorem wX3_isAhead (l : Launch) (g : GT) {o : Nat} (ho : gB g ≤ o) (u : Wd) (N : Nat) (x1 : Int32) (x2 : Int32)  (s : M) (r : Int32) (s1 : M) (hF : FX3_isAhead N x1 x2 s = some (r, s1)) : kMt l g yX3_isAhead (ws_ yX3_isAhead cX3_isAhead 5 (some .boolean)) (2) (200) (wM g o s u) [.ref o, .int x1, .int x2] (some (.int r)) (wM g o s1 u) := by
  refine kMt.ofV (lv := [some (.ref o), some (.int x1), some (.int x2), none, none]) (by decide) rfl (Nat.le_of_ble_eq_true rfl) rfl ?_
  intro X hl hin C
  unfold FX3_isAhead at hF
  refine v_aload_n C dX3_isAhead_0 rfl rfl ?_
  refine v_iload_n C dX3_isAhead_1 rfl rfl ?_
  refine v_aload_n C dX3_isAhead_2 rfl rfl ?_
  refine m_get C 7 (Nat.le_of_ble_eq_true rfl) q2309 (v := .ref (o + 7)) rfl dX3_isAhead_3 ?_
  refine m_callVi C lk_X3_240 rfl (fr2 := 1) (lo2 := 100) (As := [.int x1, .ref (o + 7)]) (st := []) (fun r s1 h => by rw [hl]; exact wX3_countOf l g ho u N x1 7 ⟨Nat.le_of_ble_eq_true rfl, Nat.le_of_ble_eq_true rfl, by decide⟩ s r s1 h) (by decide) rfl rfl (Nat.le_of_ble_eq_true rfl) dX3_isAhead_6 hF (fun r1 s2 hF => ?_)
  refine v_istore_n C dX3_isAhead_9 rfl (Nat.le_of_ble_eq_true rfl) rfl (lv' := [some (.ref o), some (.int x1), some (.int x2), some (.int r1), none]) rfl ?_
  refine v_aload_n C dX3_isAhead_10 rfl rfl ?_
  refine v_iload_n C dX3_isAhead_11 rfl rfl ?_
  refine v_aload_n C dX3_isAhead_12 rfl rfl ?_
  refine m_get C 7 (Nat.le_of_ble_eq_true rfl) q2309 (v := .ref (o + 7)) rfl dX3_isAhead_13 ?_
  refine m_callVi C lk_X3_240 rfl (fr2 := 1) (lo2 := 100) (As := [.int x2, .ref (o + 7)]) (st := []) (fun r s1 h => by rw [hl]; exact wX3_countOf l g ho u N x2 7 ⟨Nat.le_of_ble_eq_true rfl, Nat.le_of_ble_eq_true rfl, by decide⟩ s2 r s1 h) (by decide) rfl rfl (Nat.le_of_ble_eq_true rfl) dX3_isAhead_16 hF (fun r3 s4 hF => ?_)
  refine v_istore C dX3_isAhead_19 (Nat.le_of_ble_eq_true rfl) rfl (lv' := [some (.ref o), some (.int x1), some (.int x2), some (.int r1), some (.int r3)]) rfl ?_
  refine v_iload_n C dX3_isAhead_21 rfl rfl ?_
  refine v_iload C dX3_isAhead_22 rfl ?_
  refine v_icmp_eq C (tgt := 39) dX3_isAhead_24 (by decide) hF (fun c5 hF => ?_) (fun c5 hF => ?_)
  · refine v_aload_n C dX3_isAhead_39 rfl rfl ?_
    refine v_iload_n C dX3_isAhead_40 rfl rfl ?_
    refine v_aload_n C dX3_isAhead_41 rfl rfl ?_
    refine m_get C 8 (Nat.le_of_ble_eq_true rfl) q2310 (v := .ref (o + 8)) rfl dX3_isAhead_42 ?_
    refine m_callVi C lk_X3_240 rfl (fr2 := 1) (lo2 := 100) (As := [.int x1, .ref (o + 8)]) (st := []) (fun r s1 h => by rw [hl]; exact wX3_countOf l g ho u N x1 8 ⟨Nat.le_of_ble_eq_true rfl, Nat.le_of_ble_eq_true rfl, by decide⟩ s4 r s1 h) (by decide) rfl rfl (Nat.le_of_ble_eq_true rfl) dX3_isAhead_45 hF (fun r6 s7 hF => ?_)
    refine v_istore_n C dX3_isAhead_48 rfl (Nat.le_of_ble_eq_true rfl) rfl (lv' := [some (.ref o), some (.int x1), some (.int x2), some (.int r6), some (.int r3)]) rfl ?_
    refine v_aload_n C dX3_isAhead_49 rfl rfl ?_
    refine v_iload_n C dX3_isAhead_50 rfl rfl ?_
    refine v_aload_n C dX3_isAhead_51 rfl rfl ?_
    refine m_get C 8 (Nat.le_of_ble_eq_true rfl) q2310 (v := .ref (o + 8)) rfl dX3_isAhead_52 ?_
    refine m_callVi C lk_X3_240 rfl (fr2 := 1) (lo2 := 100) (As := [.int x2, .ref (o + 8)]) (st := []) (fun r s1 h => by rw [hl]; exact wX3_countOf l g ho u N x2 8 ⟨Nat.le_of_ble_eq_true rfl, Nat.le_of_ble_eq_true rfl, by decide⟩ s7 r s1 h) (by decide) rfl rfl (Nat.le_of_ble_eq_true rfl) dX3_isAhead_55 hF (fun r8 s9 hF => ?_)
    refine v_istore C dX3_isAhead_58 (Nat.le_of_ble_eq_true rfl) rfl (lv' := [some (.ref o), some (.int x1), some (.int x2), some (.int r6), some (.int r8)]) rfl ?_
    refine v_iload_n C dX3_isAhead_60 rfl rfl ?_
    refine v_iload C dX3_isAhead_61 rfl ?_
    refine v_icmp_eq C (tgt := 80) dX3_isAhead_63 (by decide) hF (fun c10 hF => ?_) (fun c10 hF => ?_)
    · refine v_iload_n C dX3_isAhead_80 rfl rfl ?_
      refine v_iload_n C dX3_isAhead_81 rfl rfl ?_
      refine v_icmp_ge C (tgt := 89) dX3_isAhead_82 (by decide) hF (fun c11 hF => ?_) (fun c11 hF => ?_)
      · refine v_iconst C (v := (0 : Int32)) dX3_isAhead_89 (by decide) ?_
        exact m_zret C rfl dX3_isAhead_90 hF
      · refine v_iconst C (v := (1 : Int32)) dX3_isAhead_85 (by decide) ?_
        refine v_goto C (tgt := 90) dX3_isAhead_86 (by decide) ?_
        exact m_zret C rfl dX3_isAhead_90 hF
    · refine v_iload_n C dX3_isAhead_66 rfl rfl ?_
      refine v_iload C dX3_isAhead_67 rfl ?_
      refine v_icmp_ge C (tgt := 76) dX3_isAhead_69 (by decide) hF (fun c12 hF => ?_) (fun c12 hF => ?_)
      · refine v_iconst C (v := (0 : Int32)) dX3_isAhead_76 (by decide) ?_
        refine v_goto C (tgt := 90) dX3_isAhead_77 (by decide) ?_
        exact m_zret C rfl dX3_isAhead_90 hF
      · refine v_iconst C (v := (1 : Int32)) dX3_isAhead_72 (by decide) ?_
        refine v_goto C (tgt := 90) dX3_isAhead_73 (by decide) ?_
        exact m_zret C rfl dX3_isAhead_90 hF
  · refine v_iload_n C dX3_isAhead_27 rfl rfl ?_
    refine v_iload C dX3_isAhead_28 rfl ?_
    refine v_icmp_le C (tgt := 37) dX3_isAhead_30 (by decide) hF (fun c13 hF => ?_) (fun c13 hF => ?_)
    · refine v_iconst C (v := (0 : Int32)) dX3_isAhead_37 (by decide) ?_
      exact m_zret C rfl dX3_isAhead_38 hF
    · refine v_iconst C (v := (1 : Int32)) dX3_isAhead_33 (by decide) ?_
      refine v_goto C (tgt := 38) dX3_isAhead_34 (by decide) ?_
      exact m_zret C rfl dX3_isAhead_38 hF
set_option maxHeartbeats 4000000 in
theorem wX3_ranked_b39 {l : Launch} {g : GT} {X : CxT} {o : Nat} {u : Wd} {r : Int32} {s1 : M} (C : kOk g X cX3_ranked 5 RX3 (some .int) 3 300 (some (.int r)) (wM g o s1 u)) (ho : gB g ≤ o) (hl : xl X = l) (N : Nat) (k2 : Int32 × Int32 × M → Option (Int32 × M)) (hk2 : ∀ a, k2 a = some (r, s1) → kV g X 5 (wM g o a.2.2 u) 2 [some (.ref o), some (.int a.1), some (.int a.2.1), none, none] []) (k13 : Int32 × Int32 × Int32 × Int32 × M → Option (Int32 × M)) (hk13 : ∀ a, k13 a = some (r, s1) → kV g X 5 (wM g o a.2.2.2.2 u) 13 [some (.ref o), some (.int a.1), some (.int a.2.1), some (.int a.2.2.1), some (.int a.2.2.2.1)] []) (x1 : Int32) (x2 : Int32) (x3 : Int32) (x4 : Int32) (s : M) (hF : FX3_ranked_b39 N k2 k13 x1 x2 x3 x4 s = some (r, s1)) : kV g X 5 (wM g o s u) 39 [some (.ref o), some (.int x1), some (.int x2), some (.int x3), some (.int x4)] [] := by
  unfold FX3_ranked_b39 at hF
  refine v_iinc C dX3_ranked_39 rfl (v := (x4 + (1 : Int32))) rfl (Nat.le_of_ble_eq_true rfl) rfl (lv' := [some (.ref o), some (.int x1), some (.int x2), some (.int x3), some (.int (x4 + (1 : Int32)))]) rfl ?_
  refine v_goto C (tgt := 13) dX3_ranked_42 (by decide) ?_
  refine v_mask [true, true, true, true, true] (lv' := [some (.ref o), some (.int x1), some (.int x2), some (.int x3), some (.int (x4 + (1 : Int32)))]) rfl ?_
  exact hk13 (x1, x2, x3, (x4 + (1 : Int32)), s) hF
set_option maxHeartbeats 4000000 in
theorem wX3_ranked_b13 {l : Launch} {g : GT} {X : CxT} {o : Nat} {u : Wd} {r : Int32} {s1 : M} (C : kOk g X cX3_ranked 5 RX3 (some .int) 3 300 (some (.int r)) (wM g o s1 u)) (ho : gB g ≤ o) (hl : xl X = l) (N : Nat) (k2 : Int32 × Int32 × M → Option (Int32 × M)) (hk2 : ∀ a, k2 a = some (r, s1) → kV g X 5 (wM g o a.2.2 u) 2 [some (.ref o), some (.int a.1), some (.int a.2.1), none, none] []) (k13 : Int32 × Int32 × Int32 × Int32 × M → Option (Int32 × M)) (hk13 : ∀ a, k13 a = some (r, s1) → kV g X 5 (wM g o a.2.2.2.2 u) 13 [some (.ref o), some (.int a.1), some (.int a.2.1), some (.int a.2.2.1), some (.int a.2.2.2.1)] []) (x1 : Int32) (x2 : Int32) (x3 : Int32) (x4 : Int32) (s : M) (hF : FX3_ranked_b13 N k2 k13 x1 x2 x3 x4 s = some (r, s1)) : kV g X 5 (wM g o s u) 13 [some (.ref o), some (.int x1), some (.int x2), some (.int x3), some (.int x4)] [] := by
  unfold FX3_ranked_b13 at hF
  refine v_iload C dX3_ranked_13 rfl ?_
  refine v_bipush C (v := (10 : Int32)) dX3_ranked_15 (by decide) ?_
  refine v_icmp_ge C (tgt := 45) dX3_ranked_17 (by decide) hF (fun c2 hF => ?_) (fun c2 hF => ?_)
  · refine v_iload_n C dX3_ranked_45 rfl rfl ?_
    refine v_iload_n C dX3_ranked_46 rfl rfl ?_
    refine v_icmp_ne C (tgt := 52) dX3_ranked_47 (by decide) hF (fun c3 hF => ?_) (fun c3 hF => ?_)
    · refine v_iload_n C dX3_ranked_50 rfl rfl ?_
      exact m_iret C dX3_ranked_51 hF
    · refine v_iinc C dX3_ranked_52 rfl (v := (x2 + (1 : Int32))) rfl (Nat.le_of_ble_eq_true rfl) rfl (lv' := [some (.ref o), some (.int x1), some (.int (x2 + (1 : Int32))), some (.int x3), some (.int x4)]) rfl ?_
      refine v_goto C (tgt := 2) dX3_ranked_55 (by decide) ?_
      refine v_mask [true, true, true, false, false] (lv' := [some (.ref o), some (.int x1), some (.int (x2 + (1 : Int32))), none, none]) rfl ?_
      exact hk2 (x1, (x2 + (1 : Int32)), s) hF
  · refine v_iload C dX3_ranked_20 rfl ?_
    refine v_iload_n C dX3_ranked_22 rfl rfl ?_
    refine v_icmp_eq C (tgt := 39) dX3_ranked_23 (by decide) hF (fun c4 hF => ?_) (fun c4 hF => ?_)
    · refine v_mask [true, true, true, true, true] (lv' := [some (.ref o), some (.int x1), some (.int x2), some (.int x3), some (.int x4)]) rfl ?_
      exact wX3_ranked_b39 C ho hl N k2 hk2 k13 hk13 (x1) (x2) (x3) (x4) (s) hF
    · refine v_aload_n C dX3_ranked_26 rfl rfl ?_
      refine v_iload C dX3_ranked_27 rfl ?_
      refine v_iload_n C dX3_ranked_29 rfl rfl ?_
      refine m_callVi C lk_X3_244 rfl (fr2 := 2) (lo2 := 200) (As := [.int x4, .int x2]) (st := []) (fun r s1 h => by rw [hl]; exact wX3_isAhead l g ho u N x4 x2 s r s1 h) (by decide) rfl rfl (Nat.le_of_ble_eq_true rfl) dX3_ranked_30 hF (fun r5 s6 hF => ?_)
      refine v_if_eq C (tgt := 39) dX3_ranked_33 (by decide) hF (fun c7 hF => ?_) (fun c7 hF => ?_)
      · refine v_mask [true, true, true, true, true] (lv' := [some (.ref o), some (.int x1), some (.int x2), some (.int x3), some (.int x4)]) rfl ?_
        exact wX3_ranked_b39 C ho hl N k2 hk2 k13 hk13 (x1) (x2) (x3) (x4) (s6) hF
      · refine v_iinc C dX3_ranked_36 rfl (v := (x3 + (1 : Int32))) rfl (Nat.le_of_ble_eq_true rfl) rfl (lv' := [some (.ref o), some (.int x1), some (.int x2), some (.int (x3 + (1 : Int32))), some (.int x4)]) rfl ?_
        refine v_mask [true, true, true, true, true] (lv' := [some (.ref o), some (.int x1), some (.int x2), some (.int (x3 + (1 : Int32))), some (.int x4)]) rfl ?_
        exact wX3_ranked_b39 C ho hl N k2 hk2 k13 hk13 (x1) (x2) ((x3 + (1 : Int32))) (x4) (s6) hF
set_option maxHeartbeats 4000000 in
theorem wX3_ranked_b2 {l : Launch} {g : GT} {X : CxT} {o : Nat} {u : Wd} {r : Int32} {s1 : M} (C : kOk g X cX3_ranked 5 RX3 (some .int) 3 300 (some (.int r)) (wM g o s1 u)) (ho : gB g ≤ o) (hl : xl X = l) (N : Nat) (k2 : Int32 × Int32 × M → Option (Int32 × M)) (hk2 : ∀ a, k2 a = some (r, s1) → kV g X 5 (wM g o a.2.2 u) 2 [some (.ref o), some (.int a.1), some (.int a.2.1), none, none] []) (x1 : Int32) (x2 : Int32) (s : M) (hF : FX3_ranked_b2 N k2 x1 x2 s = some (r, s1)) : kV g X 5 (wM g o s u) 2 [some (.ref o), some (.int x1), some (.int x2), none, none] [] := by
  unfold FX3_ranked_b2 at hF
  refine v_iload_n C dX3_ranked_2 rfl rfl ?_
  refine v_bipush C (v := (10 : Int32)) dX3_ranked_3 (by decide) ?_
  refine v_icmp_ge C (tgt := 58) dX3_ranked_5 (by decide) hF (fun c1 hF => ?_) (fun c1 hF => ?_)
  · refine v_iconst C (v := (-1 : Int32)) dX3_ranked_58 (by decide) ?_
    exact m_iret C dX3_ranked_59 hF
  · refine v_iconst C (v := (0 : Int32)) dX3_ranked_8 (by decide) ?_
    refine v_istore_n C dX3_ranked_9 rfl (Nat.le_of_ble_eq_true rfl) rfl (lv' := [some (.ref o), some (.int x1), some (.int x2), some (.int (0 : Int32)), none]) rfl ?_
    refine v_iconst C (v := (0 : Int32)) dX3_ranked_10 (by decide) ?_
    refine v_istore C dX3_ranked_11 (Nat.le_of_ble_eq_true rfl) rfl (lv' := [some (.ref o), some (.int x1), some (.int x2), some (.int (0 : Int32)), some (.int (0 : Int32))]) rfl ?_
    refine v_mask [true, true, true, true, true] (lv' := [some (.ref o), some (.int x1), some (.int x2), some (.int (0 : Int32)), some (.int (0 : Int32))]) rfl ?_
    exact kloop_ok (P := fun a => kV g X 5 (wM g o a.2.2.2.2 u) 13 [some (.ref o), some (.int a.1), some (.int a.2.1), some (.int a.2.2.1), some (.int a.2.2.2.1)] []) (fun self hs a hF => wX3_ranked_b13 C ho hl N k2 hk2 self hs a.1 a.2.1 a.2.2.1 a.2.2.2.1 a.2.2.2.2 hF) N (x1, x2, (0 : Int32), (0 : Int32), s) hF
set_option maxHeartbeats 4000000 in
theorem wX3_ranked (l : Launch) (g : GT) {o : Nat} (ho : gB g ≤ o) (u : Wd) (N : Nat) (x1 : Int32)  (s : M) (r : Int32) (s1 : M) (hF : FX3_ranked N x1 s = some (r, s1)) : kMt l g yX3_ranked (ws_ yX3_ranked cX3_ranked 5 (some .int)) (3) (300) (wM g o s u) [.ref o, .int x1] (some (.int r)) (wM g o s1 u) := by
  refine kMt.ofV (lv := [some (.ref o), some (.int x1), none, none, none]) (by decide) rfl (Nat.le_of_ble_eq_true rfl) rfl ?_
  intro X hl hin C
  unfold FX3_ranked at hF
  refine v_iconst C (v := (0 : Int32)) dX3_ranked_0 (by decide) ?_
  refine v_istore_n C dX3_ranked_1 rfl (Nat.le_of_ble_eq_true rfl) rfl (lv' := [some (.ref o), some (.int x1), some (.int (0 : Int32)), none, none]) rfl ?_
  refine v_mask [true, true, true, false, false] (lv' := [some (.ref o), some (.int x1), some (.int (0 : Int32)), none, none]) rfl ?_
  exact kloop_ok (P := fun a => kV g X 5 (wM g o a.2.2 u) 2 [some (.ref o), some (.int a.1), some (.int a.2.1), none, none] []) (fun self hs a hF => wX3_ranked_b2 C ho hl N  self hs a.1 a.2.1 a.2.2 hF) N (x1, (0 : Int32), s) hF
set_option maxHeartbeats 4000000 in
theorem wX3_alike (l : Launch) (g : GT) {o : Nat} (ho : gB g ≤ o) (u : Wd) (N : Nat) (x1 : Int32) (x2 : Int32)  (s : M) (r : Int32) (s1 : M) (hF : FX3_alike N x1 x2 s = some (r, s1)) : kMt l g yX3_alike (ws_ yX3_alike cX3_alike 3 (some .int)) (3) (300) (wM g o s u) [.ref o, .int x1, .int x2] (some (.int r)) (wM g o s1 u) := by
  refine kMt.ofV (lv := [some (.ref o), some (.int x1), some (.int x2)]) (by decide) rfl (Nat.le_of_ble_eq_true rfl) rfl ?_
  intro X hl hin C
  unfold FX3_alike at hF
  refine v_aload_n C dX3_alike_0 rfl rfl ?_
  refine v_iload_n C dX3_alike_1 rfl rfl ?_
  refine m_callVi C lk_X3_193 rfl (fr2 := 2) (lo2 := 200) (As := [.int x1]) (st := []) (fun r s1 h => by rw [hl]; exact wX3_isRow l g ho u N x1 s r s1 h) (by decide) rfl rfl (Nat.le_of_ble_eq_true rfl) dX3_alike_2 hF (fun r1 s2 hF => ?_)
  refine v_if_eq C (tgt := 25) dX3_alike_5 (by decide) hF (fun c3 hF => ?_) (fun c3 hF => ?_)
  · refine v_iconst C (v := (-1 : Int32)) dX3_alike_25 (by decide) ?_
    exact m_iret C dX3_alike_26 hF
  · refine v_aload_n C dX3_alike_8 rfl rfl ?_
    refine v_iload_n C dX3_alike_9 rfl rfl ?_
    refine m_callVi C lk_X3_193 rfl (fr2 := 2) (lo2 := 200) (As := [.int x2]) (st := []) (fun r s1 h => by rw [hl]; exact wX3_isRow l g ho u N x2 s2 r s1 h) (by decide) rfl rfl (Nat.le_of_ble_eq_true rfl) dX3_alike_10 hF (fun r4 s5 hF => ?_)
    refine v_if_eq C (tgt := 25) dX3_alike_13 (by decide) hF (fun c6 hF => ?_) (fun c6 hF => ?_)
    · refine v_iconst C (v := (-1 : Int32)) dX3_alike_25 (by decide) ?_
      exact m_iret C dX3_alike_26 hF
    · refine v_aload_n C dX3_alike_16 rfl rfl ?_
      refine v_iload_n C dX3_alike_17 rfl rfl ?_
      refine v_iload_n C dX3_alike_18 rfl rfl ?_
      refine m_callVi C lk_X3_237 rfl (fr2 := 1) (lo2 := 100) (As := [.int x1, .int x2]) (st := []) (fun r s1 h => by rw [hl]; exact wX3_alikeIn l g ho u N x1 x2 s5 r s1 h) (by decide) rfl rfl (Nat.le_of_ble_eq_true rfl) dX3_alike_19 hF (fun r7 s8 hF => ?_)
      refine v_goto C (tgt := 26) dX3_alike_22 (by decide) ?_
      exact m_iret C dX3_alike_26 hF
set_option maxHeartbeats 4000000 in
theorem wX3_faces_b52 {l : Launch} {g : GT} {X : CxT} {o : Nat} {u : Wd} {r : Int32} {s1 : M} (C : kOk g X cX3_faces 4 RX3 (some .int) 3 300 (some (.int r)) (wM g o s1 u)) (ho : gB g ≤ o) (hl : xl X = l) (N : Nat) (k14 : Int32 × Int32 × Int32 × M → Option (Int32 × M)) (hk14 : ∀ a, k14 a = some (r, s1) → kV g X 4 (wM g o a.2.2.2 u) 14 [some (.ref o), some (.int a.1), some (.int a.2.1), some (.int a.2.2.1)] []) (x1 : Int32) (x2 : Int32) (x3 : Int32) (s : M) (hF : FX3_faces_b52 N k14 x1 x2 x3 s = some (r, s1)) : kV g X 4 (wM g o s u) 52 [some (.ref o), some (.int x1), some (.int x2), some (.int x3)] [] := by
  unfold FX3_faces_b52 at hF
  refine v_iinc C dX3_faces_52 rfl (v := (x3 + (1 : Int32))) rfl (Nat.le_of_ble_eq_true rfl) rfl (lv' := [some (.ref o), some (.int x1), some (.int x2), some (.int (x3 + (1 : Int32)))]) rfl ?_
  refine v_goto C (tgt := 14) dX3_faces_55 (by decide) ?_
  refine v_mask [true, true, true, true] (lv' := [some (.ref o), some (.int x1), some (.int x2), some (.int (x3 + (1 : Int32)))]) rfl ?_
  exact hk14 (x1, x2, (x3 + (1 : Int32)), s) hF
set_option maxHeartbeats 4000000 in
theorem wX3_faces_b14 {l : Launch} {g : GT} {X : CxT} {o : Nat} {u : Wd} {r : Int32} {s1 : M} (C : kOk g X cX3_faces 4 RX3 (some .int) 3 300 (some (.int r)) (wM g o s1 u)) (ho : gB g ≤ o) (hl : xl X = l) (N : Nat) (k14 : Int32 × Int32 × Int32 × M → Option (Int32 × M)) (hk14 : ∀ a, k14 a = some (r, s1) → kV g X 4 (wM g o a.2.2.2 u) 14 [some (.ref o), some (.int a.1), some (.int a.2.1), some (.int a.2.2.1)] []) (x1 : Int32) (x2 : Int32) (x3 : Int32) (s : M) (hF : FX3_faces_b14 N k14 x1 x2 x3 s = some (r, s1)) : kV g X 4 (wM g o s u) 14 [some (.ref o), some (.int x1), some (.int x2), some (.int x3)] [] := by
  unfold FX3_faces_b14 at hF
  refine v_iload_n C dX3_faces_14 rfl rfl ?_
  refine v_aload_n C dX3_faces_15 rfl rfl ?_
  refine m_get C 1 (Nat.le_of_ble_eq_true rfl) q2303 (v := .ref (o + 1)) rfl dX3_faces_16 ?_
  refine v_iconst C (v := (0 : Int32)) dX3_faces_19 (by decide) ?_
  refine m_ald C (Nat.le_of_ble_eq_true rfl) (Nat.le_of_ble_eq_true rfl) (by decide) (n := 2) rfl rfl (ix := 0) (by decide) dX3_faces_20 ?_
  refine v_icmp_ge C (tgt := 58) dX3_faces_21 (by decide) hF (fun c4 hF => ?_) (fun c4 hF => ?_)
  · refine v_iload_n C dX3_faces_58 rfl rfl ?_
    exact m_iret C dX3_faces_59 hF
  · refine v_aload_n C dX3_faces_24 rfl rfl ?_
    refine m_get C 7 (Nat.le_of_ble_eq_true rfl) q2309 (v := .ref (o + 7)) rfl dX3_faces_25 ?_
    refine v_bipush C (v := (10 : Int32)) dX3_faces_28 (by decide) ?_
    refine v_iload_n C dX3_faces_30 rfl rfl ?_
    refine v_imul C dX3_faces_31 ?_
    refine v_iload_n C dX3_faces_32 rfl rfl ?_
    refine v_iadd C dX3_faces_33 ?_
    obtain ⟨h5, hF⟩ := k_ite hF
    refine m_ald C (Nat.le_of_ble_eq_true rfl) (Nat.le_of_ble_eq_true rfl) (by decide) (n := 1000) rfl h5 (ix := ((((10 : Int32) * x1) + x3).toNatClampNeg)) rfl dX3_faces_34 ?_
    refine v_aload_n C dX3_faces_35 rfl rfl ?_
    refine m_get C 8 (Nat.le_of_ble_eq_true rfl) q2310 (v := .ref (o + 8)) rfl dX3_faces_36 ?_
    refine v_bipush C (v := (10 : Int32)) dX3_faces_39 (by decide) ?_
    refine v_iload_n C dX3_faces_41 rfl rfl ?_
    refine v_imul C dX3_faces_42 ?_
    refine v_iload_n C dX3_faces_43 rfl rfl ?_
    refine v_iadd C dX3_faces_44 ?_
    obtain ⟨h6, hF⟩ := k_ite hF
    refine m_ald C (Nat.le_of_ble_eq_true rfl) (Nat.le_of_ble_eq_true rfl) (by decide) (n := 1000) rfl h6 (ix := ((((10 : Int32) * x1) + x3).toNatClampNeg)) rfl dX3_faces_45 ?_
    refine v_icmp_ne C (tgt := 52) dX3_faces_46 (by decide) hF (fun c7 hF => ?_) (fun c7 hF => ?_)
    · refine v_iinc C dX3_faces_49 rfl (v := (x2 + (1 : Int32))) rfl (Nat.le_of_ble_eq_true rfl) rfl (lv' := [some (.ref o), some (.int x1), some (.int (x2 + (1 : Int32))), some (.int x3)]) rfl ?_
      refine v_mask [true, true, true, true] (lv' := [some (.ref o), some (.int x1), some (.int (x2 + (1 : Int32))), some (.int x3)]) rfl ?_
      exact wX3_faces_b52 C ho hl N k14 hk14 (x1) ((x2 + (1 : Int32))) (x3) (s) hF
    · refine v_mask [true, true, true, true] (lv' := [some (.ref o), some (.int x1), some (.int x2), some (.int x3)]) rfl ?_
      exact wX3_faces_b52 C ho hl N k14 hk14 (x1) (x2) (x3) (s) hF
set_option maxHeartbeats 4000000 in
theorem wX3_faces (l : Launch) (g : GT) {o : Nat} (ho : gB g ≤ o) (u : Wd) (N : Nat) (x1 : Int32)  (s : M) (r : Int32) (s1 : M) (hF : FX3_faces N x1 s = some (r, s1)) : kMt l g yX3_faces (ws_ yX3_faces cX3_faces 4 (some .int)) (3) (300) (wM g o s u) [.ref o, .int x1] (some (.int r)) (wM g o s1 u) := by
  refine kMt.ofV (lv := [some (.ref o), some (.int x1), none, none]) (by decide) rfl (Nat.le_of_ble_eq_true rfl) rfl ?_
  intro X hl hin C
  unfold FX3_faces at hF
  refine v_aload_n C dX3_faces_0 rfl rfl ?_
  refine v_iload_n C dX3_faces_1 rfl rfl ?_
  refine m_callVi C lk_X3_193 rfl (fr2 := 2) (lo2 := 200) (As := [.int x1]) (st := []) (fun r s1 h => by rw [hl]; exact wX3_isRow l g ho u N x1 s r s1 h) (by decide) rfl rfl (Nat.le_of_ble_eq_true rfl) dX3_faces_2 hF (fun r1 s2 hF => ?_)
  refine v_if_ne C (tgt := 10) dX3_faces_5 (by decide) hF (fun c3 hF => ?_) (fun c3 hF => ?_)
  · refine v_iconst C (v := (-1 : Int32)) dX3_faces_8 (by decide) ?_
    exact m_iret C dX3_faces_9 hF
  · refine v_iconst C (v := (0 : Int32)) dX3_faces_10 (by decide) ?_
    refine v_istore_n C dX3_faces_11 rfl (Nat.le_of_ble_eq_true rfl) rfl (lv' := [some (.ref o), some (.int x1), some (.int (0 : Int32)), none]) rfl ?_
    refine v_iconst C (v := (0 : Int32)) dX3_faces_12 (by decide) ?_
    refine v_istore_n C dX3_faces_13 rfl (Nat.le_of_ble_eq_true rfl) rfl (lv' := [some (.ref o), some (.int x1), some (.int (0 : Int32)), some (.int (0 : Int32))]) rfl ?_
    refine v_mask [true, true, true, true] (lv' := [some (.ref o), some (.int x1), some (.int (0 : Int32)), some (.int (0 : Int32))]) rfl ?_
    exact kloop_ok (P := fun a => kV g X 4 (wM g o a.2.2.2 u) 14 [some (.ref o), some (.int a.1), some (.int a.2.1), some (.int a.2.2.1)] []) (fun self hs a hF => wX3_faces_b14 C ho hl N  self hs a.1 a.2.1 a.2.2.1 a.2.2.2 hF) N (x1, (0 : Int32), (0 : Int32), s2) hF
set_option maxHeartbeats 4000000 in
theorem wX3_spell_b105 {l : Launch} {g : GT} {X : CxT} {o : Nat} {u : Wd} {r : Int32} {s1 : M} (C : kOk g X cX3_spell 3 RX3 (some .int) 1 100 (some (.int r)) (wM g o s1 u)) (ho : gB g ≤ o) (hl : xl X = l) (N : Nat) (k7 : Int32 × M → Option (Int32 × M)) (hk7 : ∀ a, k7 a = some (r, s1) → kV g X 3 (wM g o a.2 u) 7 [some (.ref o), some (.int a.1), none] []) (x1 : Int32) (t0 : Int32) (t1 : Int32) (s : M) (hF : FX3_spell_b105 N k7 x1 t0 t1 s = some (r, s1)) : kV g X 3 (wM g o s u) 105 [some (.ref o), some (.int x1), none] [.int t0, .int t1, .ref (o + 28)] := by
  unfold FX3_spell_b105 at hF
  obtain ⟨h6, hF⟩ := k_ite hF
  refine m_ast C ho (Nat.le_of_ble_eq_true rfl) (Nat.le_of_ble_eq_true rfl) (by decide) (n := 60) rfl h6 (ix := (t1.toNatClampNeg)) rfl dX3_spell_105 ?_
  refine v_aload_n C dX3_spell_106 rfl rfl ?_
  refine v_dup C dX3_spell_107 rfl ?_
  refine m_get C 37 (Nat.le_of_ble_eq_true rfl) q2339 (v := .int ((sA s 28 (t1.toNatClampNeg) t0).1 37)) rfl dX3_spell_108 ?_
  refine v_iconst C (v := (5 : Int32)) dX3_spell_111 (by decide) ?_
  refine v_iadd C dX3_spell_112 ?_
  refine m_put C ho 37 (Nat.le_of_ble_eq_true rfl) q2339 rfl rfl rfl rfl dX3_spell_113 ?_
  refine v_iinc C dX3_spell_116 rfl (v := (x1 + (1 : Int32))) rfl (Nat.le_of_ble_eq_true rfl) rfl (lv' := [some (.ref o), some (.int (x1 + (1 : Int32))), none]) rfl ?_
  refine v_goto C (tgt := 7) dX3_spell_119 (by decide) ?_
  refine v_mask [true, true, false] (lv' := [some (.ref o), some (.int (x1 + (1 : Int32))), none]) rfl ?_
  exact hk7 ((x1 + (1 : Int32)), (sS (sA s 28 (t1.toNatClampNeg) t0) 37 (((sA s 28 (t1.toNatClampNeg) t0).1 37) + (5 : Int32)))) hF
set_option maxHeartbeats 4000000 in
theorem wX3_spell_b44 {l : Launch} {g : GT} {X : CxT} {o : Nat} {u : Wd} {r : Int32} {s1 : M} (C : kOk g X cX3_spell 3 RX3 (some .int) 1 100 (some (.int r)) (wM g o s1 u)) (ho : gB g ≤ o) (hl : xl X = l) (N : Nat) (k7 : Int32 × M → Option (Int32 × M)) (hk7 : ∀ a, k7 a = some (r, s1) → kV g X 3 (wM g o a.2 u) 7 [some (.ref o), some (.int a.1), none] []) (k44 : Int32 × Int32 × M → Option (Int32 × M)) (hk44 : ∀ a, k44 a = some (r, s1) → kV g X 3 (wM g o a.2.2 u) 44 [some (.ref o), some (.int a.1), some (.int a.2.1)] []) (x1 : Int32) (x2 : Int32) (s : M) (hF : FX3_spell_b44 N k7 k44 x1 x2 s = some (r, s1)) : kV g X 3 (wM g o s u) 44 [some (.ref o), some (.int x1), some (.int x2)] [] := by
  unfold FX3_spell_b44 at hF
  refine v_iload_n C dX3_spell_44 rfl rfl ?_
  refine v_iconst C (v := (4 : Int32)) dX3_spell_45 (by decide) ?_
  refine v_icmp_ge C (tgt := 79) dX3_spell_46 (by decide) hF (fun c3 hF => ?_) (fun c3 hF => ?_)
  · refine v_aload_n C dX3_spell_79 rfl rfl ?_
    refine m_get C 36 (Nat.le_of_ble_eq_true rfl) q2338 (v := .ref (o + 28)) rfl dX3_spell_80 ?_
    refine v_aload_n C dX3_spell_83 rfl rfl ?_
    refine m_get C 37 (Nat.le_of_ble_eq_true rfl) q2339 (v := .int (s.1 37)) rfl dX3_spell_84 ?_
    refine v_iconst C (v := (4 : Int32)) dX3_spell_87 (by decide) ?_
    refine v_iadd C dX3_spell_88 ?_
    refine v_aload_n C dX3_spell_89 rfl rfl ?_
    refine m_get C 4 (Nat.le_of_ble_eq_true rfl) q2306 (v := .ref (o + 4)) rfl dX3_spell_90 ?_
    refine v_iload_n C dX3_spell_93 rfl rfl ?_
    obtain ⟨h4, hF⟩ := k_ite hF
    refine m_ald C (Nat.le_of_ble_eq_true rfl) (Nat.le_of_ble_eq_true rfl) (by decide) (n := 20) rfl h4 (ix := (x1.toNatClampNeg)) rfl dX3_spell_94 ?_
    refine v_if_ne C (tgt := 103) dX3_spell_95 (by decide) hF (fun c5 hF => ?_) (fun c5 hF => ?_)
    · refine v_bipush C (v := (83 : Int32)) dX3_spell_98 (by decide) ?_
      refine v_goto C (tgt := 105) dX3_spell_100 (by decide) ?_
      refine v_mask [true, true, false] (lv' := [some (.ref o), some (.int x1), none]) rfl ?_
      exact wX3_spell_b105 C ho hl N k7 hk7 (x1) ((83 : Int32)) (((s.1 37) + (4 : Int32))) (s) hF
    · refine v_bipush C (v := (90 : Int32)) dX3_spell_103 (by decide) ?_
      refine v_mask [true, true, false] (lv' := [some (.ref o), some (.int x1), none]) rfl ?_
      exact wX3_spell_b105 C ho hl N k7 hk7 (x1) ((90 : Int32)) (((s.1 37) + (4 : Int32))) (s) hF
  · refine v_aload_n C dX3_spell_49 rfl rfl ?_
    refine m_get C 36 (Nat.le_of_ble_eq_true rfl) q2338 (v := .ref (o + 28)) rfl dX3_spell_50 ?_
    refine v_aload_n C dX3_spell_53 rfl rfl ?_
    refine m_get C 37 (Nat.le_of_ble_eq_true rfl) q2339 (v := .int (s.1 37)) rfl dX3_spell_54 ?_
    refine v_iload_n C dX3_spell_57 rfl rfl ?_
    refine v_iadd C dX3_spell_58 ?_
    refine v_bipush C (v := (97 : Int32)) dX3_spell_59 (by decide) ?_
    refine v_aload_n C dX3_spell_61 rfl rfl ?_
    refine m_get C 3 (Nat.le_of_ble_eq_true rfl) q2305 (v := .ref (o + 3)) rfl dX3_spell_62 ?_
    refine v_iconst C (v := (4 : Int32)) dX3_spell_65 (by decide) ?_
    refine v_iload_n C dX3_spell_66 rfl rfl ?_
    refine v_imul C dX3_spell_67 ?_
    refine v_iload_n C dX3_spell_68 rfl rfl ?_
    refine v_iadd C dX3_spell_69 ?_
    obtain ⟨h7, hF⟩ := k_ite hF
    refine m_ald C (Nat.le_of_ble_eq_true rfl) (Nat.le_of_ble_eq_true rfl) (by decide) (n := 80) rfl h7 (ix := ((((4 : Int32) * x1) + x2).toNatClampNeg)) rfl dX3_spell_70 ?_
    refine v_iadd C dX3_spell_71 ?_
    obtain ⟨h8, hF⟩ := k_ite hF
    refine m_ast C ho (Nat.le_of_ble_eq_true rfl) (Nat.le_of_ble_eq_true rfl) (by decide) (n := 60) rfl h8 (ix := (((s.1 37) + x2).toNatClampNeg)) rfl dX3_spell_72 ?_
    refine v_iinc C dX3_spell_73 rfl (v := (x2 + (1 : Int32))) rfl (Nat.le_of_ble_eq_true rfl) rfl (lv' := [some (.ref o), some (.int x1), some (.int (x2 + (1 : Int32)))]) rfl ?_
    refine v_goto C (tgt := 44) dX3_spell_76 (by decide) ?_
    refine v_mask [true, true, true] (lv' := [some (.ref o), some (.int x1), some (.int (x2 + (1 : Int32)))]) rfl ?_
    exact hk44 (x1, (x2 + (1 : Int32)), (sA s 28 (((s.1 37) + x2).toNatClampNeg) ((97 : Int32) + (s.2 3 ((((4 : Int32) * x1) + x2).toNatClampNeg))))) hF
set_option maxHeartbeats 4000000 in
theorem wX3_spell_b42 {l : Launch} {g : GT} {X : CxT} {o : Nat} {u : Wd} {r : Int32} {s1 : M} (C : kOk g X cX3_spell 3 RX3 (some .int) 1 100 (some (.int r)) (wM g o s1 u)) (ho : gB g ≤ o) (hl : xl X = l) (N : Nat) (k7 : Int32 × M → Option (Int32 × M)) (hk7 : ∀ a, k7 a = some (r, s1) → kV g X 3 (wM g o a.2 u) 7 [some (.ref o), some (.int a.1), none] []) (x1 : Int32) (s : M) (hF : FX3_spell_b42 N k7 x1 s = some (r, s1)) : kV g X 3 (wM g o s u) 42 [some (.ref o), some (.int x1), none] [] := by
  unfold FX3_spell_b42 at hF
  refine v_iconst C (v := (0 : Int32)) dX3_spell_42 (by decide) ?_
  refine v_istore_n C dX3_spell_43 rfl (Nat.le_of_ble_eq_true rfl) rfl (lv' := [some (.ref o), some (.int x1), some (.int (0 : Int32))]) rfl ?_
  refine v_mask [true, true, true] (lv' := [some (.ref o), some (.int x1), some (.int (0 : Int32))]) rfl ?_
  exact kloop_ok (P := fun a => kV g X 3 (wM g o a.2.2 u) 44 [some (.ref o), some (.int a.1), some (.int a.2.1)] []) (fun self hs a hF => wX3_spell_b44 C ho hl N k7 hk7 self hs a.1 a.2.1 a.2.2 hF) N (x1, (0 : Int32), s) hF
set_option maxHeartbeats 4000000 in
theorem wX3_spell_b7 {l : Launch} {g : GT} {X : CxT} {o : Nat} {u : Wd} {r : Int32} {s1 : M} (C : kOk g X cX3_spell 3 RX3 (some .int) 1 100 (some (.int r)) (wM g o s1 u)) (ho : gB g ≤ o) (hl : xl X = l) (N : Nat) (k7 : Int32 × M → Option (Int32 × M)) (hk7 : ∀ a, k7 a = some (r, s1) → kV g X 3 (wM g o a.2 u) 7 [some (.ref o), some (.int a.1), none] []) (x1 : Int32) (s : M) (hF : FX3_spell_b7 N k7 x1 s = some (r, s1)) : kV g X 3 (wM g o s u) 7 [some (.ref o), some (.int x1), none] [] := by
  unfold FX3_spell_b7 at hF
  refine v_iload_n C dX3_spell_7 rfl rfl ?_
  refine v_aload_n C dX3_spell_8 rfl rfl ?_
  refine m_get C 1 (Nat.le_of_ble_eq_true rfl) q2303 (v := .ref (o + 1)) rfl dX3_spell_9 ?_
  refine v_iconst C (v := (0 : Int32)) dX3_spell_12 (by decide) ?_
  refine m_ald C (Nat.le_of_ble_eq_true rfl) (Nat.le_of_ble_eq_true rfl) (by decide) (n := 2) rfl rfl (ix := 0) (by decide) dX3_spell_13 ?_
  refine v_icmp_ge C (tgt := 122) dX3_spell_14 (by decide) hF (fun c1 hF => ?_) (fun c1 hF => ?_)
  · refine v_aload_n C dX3_spell_122 rfl rfl ?_
    refine m_get C 37 (Nat.le_of_ble_eq_true rfl) q2339 (v := .int (s.1 37)) rfl dX3_spell_123 ?_
    exact m_iret C dX3_spell_126 hF
  · refine v_iload_n C dX3_spell_17 rfl rfl ?_
    refine v_if_le C (tgt := 42) dX3_spell_18 (by decide) hF (fun c2 hF => ?_) (fun c2 hF => ?_)
    · refine v_mask [true, true, false] (lv' := [some (.ref o), some (.int x1), none]) rfl ?_
      exact wX3_spell_b42 C ho hl N k7 hk7 (x1) (s) hF
    · refine v_aload_n C dX3_spell_21 rfl rfl ?_
      refine m_get C 36 (Nat.le_of_ble_eq_true rfl) q2338 (v := .ref (o + 28)) rfl dX3_spell_22 ?_
      refine v_aload_n C dX3_spell_25 rfl rfl ?_
      refine m_get C 37 (Nat.le_of_ble_eq_true rfl) q2339 (v := .int (s.1 37)) rfl dX3_spell_26 ?_
      refine v_bipush C (v := (59 : Int32)) dX3_spell_29 (by decide) ?_
      obtain ⟨h9, hF⟩ := k_ite hF
      refine m_ast C ho (Nat.le_of_ble_eq_true rfl) (Nat.le_of_ble_eq_true rfl) (by decide) (n := 60) rfl h9 (ix := ((s.1 37).toNatClampNeg)) rfl dX3_spell_31 ?_
      refine v_aload_n C dX3_spell_32 rfl rfl ?_
      refine v_dup C dX3_spell_33 rfl ?_
      refine m_get C 37 (Nat.le_of_ble_eq_true rfl) q2339 (v := .int ((sA s 28 ((s.1 37).toNatClampNeg) (59 : Int32)).1 37)) rfl dX3_spell_34 ?_
      refine v_iconst C (v := (1 : Int32)) dX3_spell_37 (by decide) ?_
      refine v_iadd C dX3_spell_38 ?_
      refine m_put C ho 37 (Nat.le_of_ble_eq_true rfl) q2339 rfl rfl rfl rfl dX3_spell_39 ?_
      refine v_mask [true, true, false] (lv' := [some (.ref o), some (.int x1), none]) rfl ?_
      exact wX3_spell_b42 C ho hl N k7 hk7 (x1) ((sS (sA s 28 ((s.1 37).toNatClampNeg) (59 : Int32)) 37 (((sA s 28 ((s.1 37).toNatClampNeg) (59 : Int32)).1 37) + (1 : Int32)))) hF
set_option maxHeartbeats 4000000 in
theorem wX3_spell (l : Launch) (g : GT) {o : Nat} (ho : gB g ≤ o) (u : Wd) (N : Nat)   (s : M) (r : Int32) (s1 : M) (hF : FX3_spell N  s = some (r, s1)) : kMt l g yX3_spell (ws_ yX3_spell cX3_spell 3 (some .int)) (1) (100) (wM g o s u) [.ref o] (some (.int r)) (wM g o s1 u) := by
  refine kMt.ofV (lv := [some (.ref o), none, none]) (by decide) rfl (Nat.le_of_ble_eq_true rfl) rfl ?_
  intro X hl hin C
  unfold FX3_spell at hF
  refine v_aload_n C dX3_spell_0 rfl rfl ?_
  refine v_iconst C (v := (0 : Int32)) dX3_spell_1 (by decide) ?_
  refine m_put C ho 37 (Nat.le_of_ble_eq_true rfl) q2339 rfl rfl rfl rfl dX3_spell_2 ?_
  refine v_iconst C (v := (0 : Int32)) dX3_spell_5 (by decide) ?_
  refine v_istore_n C dX3_spell_6 rfl (Nat.le_of_ble_eq_true rfl) rfl (lv' := [some (.ref o), some (.int (0 : Int32)), none]) rfl ?_
  refine v_mask [true, true, false] (lv' := [some (.ref o), some (.int (0 : Int32)), none]) rfl ?_
  exact kloop_ok (P := fun a => kV g X 3 (wM g o a.2 u) 7 [some (.ref o), some (.int a.1), none] []) (fun self hs a hF => wX3_spell_b7 C ho hl N  self hs a.1 a.2 hF) N ((0 : Int32), (sS s 37 (0 : Int32))) hF
set_option maxHeartbeats 4000000 in
theorem wX3_paper (l : Launch) (g : GT) {o : Nat} (ho : gB g ≤ o) (u : Wd) (N : Nat) (x1 : Int32)  (s : M) (r : Int32) (s1 : M) (hF : FX3_paper N x1 s = some (r, s1)) : kMt l g yX3_paper (ws_ yX3_paper cX3_paper 2 (some .int)) (2) (200) (wM g o s u) [.ref o, .int x1] (some (.int r)) (wM g o s1 u) := by
  refine kMt.ofV (lv := [some (.ref o), some (.int x1)]) (by decide) rfl (Nat.le_of_ble_eq_true rfl) rfl ?_
  intro X hl hin C
  unfold FX3_paper at hF
  refine v_iload_n C dX3_paper_0 rfl rfl ?_
  refine v_iconst C (v := (0 : Int32)) dX3_paper_1 (by decide) ?_
  refine v_aload_n C dX3_paper_2 rfl rfl ?_
  refine m_get C 37 (Nat.le_of_ble_eq_true rfl) q2339 (v := .int (s.1 37)) rfl dX3_paper_3 ?_
  refine v_iconst C (v := (1 : Int32)) dX3_paper_6 (by decide) ?_
  refine v_isub C dX3_paper_7 ?_
  refine m_callSi C lk_X3_108 (fr2 := 1) (lo2 := 100) (As := [.int x1, .int (0 : Int32), .int ((s.1 37) - (1 : Int32))]) (st := []) (fun r s1 h => by rw [hl]; exact wX3_in l g ho u N x1 (0 : Int32) ((s.1 37) - (1 : Int32)) s r s1 h) (by decide) rfl rfl (Nat.le_of_ble_eq_true rfl) dX3_paper_8 hF (fun r1 s2 hF => ?_)
  refine v_if_eq C (tgt := 23) dX3_paper_11 (by decide) hF (fun c3 hF => ?_) (fun c3 hF => ?_)
  · refine v_iconst C (v := (-1 : Int32)) dX3_paper_23 (by decide) ?_
    exact m_iret C dX3_paper_24 hF
  · refine v_aload_n C dX3_paper_14 rfl rfl ?_
    refine m_get C 36 (Nat.le_of_ble_eq_true rfl) q2338 (v := .ref (o + 28)) rfl dX3_paper_15 ?_
    refine v_iload_n C dX3_paper_18 rfl rfl ?_
    obtain ⟨h4, hF⟩ := k_ite hF
    refine m_ald C (Nat.le_of_ble_eq_true rfl) (Nat.le_of_ble_eq_true rfl) (by decide) (n := 60) rfl h4 (ix := (x1.toNatClampNeg)) rfl dX3_paper_19 ?_
    refine v_goto C (tgt := 24) dX3_paper_20 (by decide) ?_
    exact m_iret C dX3_paper_24 hF
set_option maxHeartbeats 4000000 in
theorem wX3_told_b64 {l : Launch} {g : GT} {X : CxT} {o : Nat} {u : Wd} {r : Int32} {s1 : M} (C : kOk g X cX3_told 4 RX3 (some .int) 2 200 (some (.int r)) (wM g o s1 u)) (ho : gB g ≤ o) (hl : xl X = l) (N : Nat) (k64 : Int32 × Int32 × M → Option (Int32 × M)) (hk64 : ∀ a, k64 a = some (r, s1) → kV g X 4 (wM g o a.2.2 u) 64 [some (.ref o), none, some (.int a.1), some (.int a.2.1)] []) (x2 : Int32) (x3 : Int32) (s : M) (hF : FX3_told_b64 N k64 x2 x3 s = some (r, s1)) : kV g X 4 (wM g o s u) 64 [some (.ref o), none, some (.int x2), some (.int x3)] [] := by
  unfold FX3_told_b64 at hF
  refine v_iload_n C dX3_told_64 rfl rfl ?_
  refine v_aload_n C dX3_told_65 rfl rfl ?_
  refine m_get C 1 (Nat.le_of_ble_eq_true rfl) q2303 (v := .ref (o + 1)) rfl dX3_told_66 ?_
  refine v_iconst C (v := (0 : Int32)) dX3_told_69 (by decide) ?_
  refine m_ald C (Nat.le_of_ble_eq_true rfl) (Nat.le_of_ble_eq_true rfl) (by decide) (n := 2) rfl rfl (ix := 0) (by decide) dX3_told_70 ?_
  refine v_icmp_ge C (tgt := 92) dX3_told_71 (by decide) hF (fun c5 hF => ?_) (fun c5 hF => ?_)
  · refine v_iload_n C dX3_told_92 rfl rfl ?_
    exact m_iret C dX3_told_93 hF
  · refine v_iload_n C dX3_told_74 rfl rfl ?_
    refine v_aload_n C dX3_told_75 rfl rfl ?_
    refine m_get C 6 (Nat.le_of_ble_eq_true rfl) q2308 (v := .ref (o + 6)) rfl dX3_told_76 ?_
    refine v_iload_n C dX3_told_79 rfl rfl ?_
    obtain ⟨h6, hF⟩ := k_ite hF
    refine m_ald C (Nat.le_of_ble_eq_true rfl) (Nat.le_of_ble_eq_true rfl) (by decide) (n := 20) rfl h6 (ix := (x3.toNatClampNeg)) rfl dX3_told_80 ?_
    refine v_mabs C q2695 (by decide) (Nat.le_of_ble_eq_true rfl) dX3_told_81 ?_
    refine v_iadd C dX3_told_84 ?_
    refine v_istore_n C dX3_told_85 rfl (Nat.le_of_ble_eq_true rfl) rfl (lv' := [some (.ref o), none, some (.int (x2 + (kabs (s.2 6 (x3.toNatClampNeg))))), some (.int x3)]) rfl ?_
    refine v_iinc C dX3_told_86 rfl (v := (x3 + (1 : Int32))) rfl (Nat.le_of_ble_eq_true rfl) rfl (lv' := [some (.ref o), none, some (.int (x2 + (kabs (s.2 6 (x3.toNatClampNeg))))), some (.int (x3 + (1 : Int32)))]) rfl ?_
    refine v_goto C (tgt := 64) dX3_told_89 (by decide) ?_
    refine v_mask [true, false, true, true] (lv' := [some (.ref o), none, some (.int (x2 + (kabs (s.2 6 (x3.toNatClampNeg))))), some (.int (x3 + (1 : Int32)))]) rfl ?_
    exact hk64 ((x2 + (kabs (s.2 6 (x3.toNatClampNeg)))), (x3 + (1 : Int32)), s) hF
set_option maxHeartbeats 4000000 in
theorem wX3_told_b101 {l : Launch} {g : GT} {X : CxT} {o : Nat} {u : Wd} {r : Int32} {s1 : M} (C : kOk g X cX3_told 4 RX3 (some .int) 2 200 (some (.int r)) (wM g o s1 u)) (ho : gB g ≤ o) (hl : xl X = l) (N : Nat) (k101 : Int32 × Int32 × M → Option (Int32 × M)) (hk101 : ∀ a, k101 a = some (r, s1) → kV g X 4 (wM g o a.2.2 u) 101 [some (.ref o), none, some (.int a.1), some (.int a.2.1)] []) (x2 : Int32) (x3 : Int32) (s : M) (hF : FX3_told_b101 N k101 x2 x3 s = some (r, s1)) : kV g X 4 (wM g o s u) 101 [some (.ref o), none, some (.int x2), some (.int x3)] [] := by
  unfold FX3_told_b101 at hF
  refine v_iload_n C dX3_told_101 rfl rfl ?_
  refine v_aload_n C dX3_told_102 rfl rfl ?_
  refine m_get C 1 (Nat.le_of_ble_eq_true rfl) q2303 (v := .ref (o + 1)) rfl dX3_told_103 ?_
  refine v_iconst C (v := (0 : Int32)) dX3_told_106 (by decide) ?_
  refine m_ald C (Nat.le_of_ble_eq_true rfl) (Nat.le_of_ble_eq_true rfl) (by decide) (n := 2) rfl rfl (ix := 0) (by decide) dX3_told_107 ?_
  refine v_icmp_ge C (tgt := 127) dX3_told_108 (by decide) hF (fun c9 hF => ?_) (fun c9 hF => ?_)
  · refine v_iload_n C dX3_told_127 rfl rfl ?_
    exact m_iret C dX3_told_128 hF
  · refine v_iload_n C dX3_told_111 rfl rfl ?_
    refine v_aload_n C dX3_told_112 rfl rfl ?_
    refine v_iload_n C dX3_told_113 rfl rfl ?_
    refine m_callVi C lk_X3_165 rfl (fr2 := 1) (lo2 := 100) (As := [.int x3]) (st := [.int x2]) (fun r s1 h => by rw [hl]; exact wX3_floatOf l g ho u N x3 s r s1 h) (by decide) rfl rfl (Nat.le_of_ble_eq_true rfl) dX3_told_114 hF (fun r10 s11 hF => ?_)
    refine v_mmax C q2482 (by decide) (Nat.le_of_ble_eq_true rfl) dX3_told_117 ?_
    refine v_istore_n C dX3_told_120 rfl (Nat.le_of_ble_eq_true rfl) rfl (lv' := [some (.ref o), none, some (.int (kmax x2 r10)), some (.int x3)]) rfl ?_
    refine v_iinc C dX3_told_121 rfl (v := (x3 + (1 : Int32))) rfl (Nat.le_of_ble_eq_true rfl) rfl (lv' := [some (.ref o), none, some (.int (kmax x2 r10)), some (.int (x3 + (1 : Int32)))]) rfl ?_
    refine v_goto C (tgt := 101) dX3_told_124 (by decide) ?_
    refine v_mask [true, false, true, true] (lv' := [some (.ref o), none, some (.int (kmax x2 r10)), some (.int (x3 + (1 : Int32)))]) rfl ?_
    exact hk101 ((kmax x2 r10), (x3 + (1 : Int32)), s11) hF
set_option maxHeartbeats 4000000 in
theorem wX3_told (l : Launch) (g : GT) {o : Nat} (ho : gB g ≤ o) (u : Wd) (N : Nat) (x1 : Int32)  (s : M) (r : Int32) (s1 : M) (hF : FX3_told N x1 s = some (r, s1)) : kMt l g yX3_told (ws_ yX3_told cX3_told 4 (some .int)) (2) (200) (wM g o s u) [.ref o, .int x1] (some (.int r)) (wM g o s1 u) := by
  refine kMt.ofV (lv := [some (.ref o), some (.int x1), none, none]) (by decide) rfl (Nat.le_of_ble_eq_true rfl) rfl ?_
  intro X hl hin C
  unfold FX3_told at hF
  refine v_iconst C (v := (0 : Int32)) dX3_told_0 (by decide) ?_
  refine v_istore_n C dX3_told_1 rfl (Nat.le_of_ble_eq_true rfl) rfl (lv' := [some (.ref o), some (.int x1), some (.int (0 : Int32)), none]) rfl ?_
  refine v_iload_n C dX3_told_2 rfl rfl ?_
  rcases k_cases hF with ⟨c1, hF⟩ | ⟨c1, hF⟩
  · refine v_tswIn C (0 : Int32) c1 dX3_told_3 (by decide) (by decide) (off := 45) rfl (tgt := 48) (by decide) ?_
    refine v_aload_n C dX3_told_48 rfl rfl ?_
    refine m_get C 1 (Nat.le_of_ble_eq_true rfl) q2303 (v := .ref (o + 1)) rfl dX3_told_49 ?_
    refine v_iconst C (v := (0 : Int32)) dX3_told_52 (by decide) ?_
    refine m_ald C (Nat.le_of_ble_eq_true rfl) (Nat.le_of_ble_eq_true rfl) (by decide) (n := 2) rfl rfl (ix := 0) (by decide) dX3_told_53 ?_
    exact m_iret C dX3_told_54 hF
  · rcases k_cases hF with ⟨c2, hF⟩ | ⟨c2, hF⟩
    · refine v_tswIn C (1 : Int32) c2 dX3_told_3 (by decide) (by decide) (off := 52) rfl (tgt := 55) (by decide) ?_
      refine v_aload_n C dX3_told_55 rfl rfl ?_
      refine m_get C 2 (Nat.le_of_ble_eq_true rfl) q2304 (v := .ref (o + 2)) rfl dX3_told_56 ?_
      refine v_iconst C (v := (0 : Int32)) dX3_told_59 (by decide) ?_
      refine m_ald C (Nat.le_of_ble_eq_true rfl) (Nat.le_of_ble_eq_true rfl) (by decide) (n := 2) rfl rfl (ix := 0) (by decide) dX3_told_60 ?_
      exact m_iret C dX3_told_61 hF
    · rcases k_cases hF with ⟨c3, hF⟩ | ⟨c3, hF⟩
      · refine v_tswIn C (2 : Int32) c3 dX3_told_3 (by decide) (by decide) (off := 52) rfl (tgt := 55) (by decide) ?_
        refine v_aload_n C dX3_told_55 rfl rfl ?_
        refine m_get C 2 (Nat.le_of_ble_eq_true rfl) q2304 (v := .ref (o + 2)) rfl dX3_told_56 ?_
        refine v_iconst C (v := (0 : Int32)) dX3_told_59 (by decide) ?_
        refine m_ald C (Nat.le_of_ble_eq_true rfl) (Nat.le_of_ble_eq_true rfl) (by decide) (n := 2) rfl rfl (ix := 0) (by decide) dX3_told_60 ?_
        exact m_iret C dX3_told_61 hF
      · rcases k_cases hF with ⟨c4, hF⟩ | ⟨c4, hF⟩
        · refine v_tswIn C (3 : Int32) c4 dX3_told_3 (by decide) (by decide) (off := 59) rfl (tgt := 62) (by decide) ?_
          refine v_iconst C (v := (0 : Int32)) dX3_told_62 (by decide) ?_
          refine v_istore_n C dX3_told_63 rfl (Nat.le_of_ble_eq_true rfl) rfl (lv' := [some (.ref o), some (.int x1), some (.int (0 : Int32)), some (.int (0 : Int32))]) rfl ?_
          refine v_mask [true, false, true, true] (lv' := [some (.ref o), none, some (.int (0 : Int32)), some (.int (0 : Int32))]) rfl ?_
          exact kloop_ok (P := fun a => kV g X 4 (wM g o a.2.2 u) 64 [some (.ref o), none, some (.int a.1), some (.int a.2.1)] []) (fun self hs a hF => wX3_told_b64 C ho hl N  self hs a.1 a.2.1 a.2.2 hF) N ((0 : Int32), (0 : Int32), s) hF
        · rcases k_cases hF with ⟨c7, hF⟩ | ⟨c7, hF⟩
          · refine v_tswIn C (4 : Int32) c7 dX3_told_3 (by decide) (by decide) (off := 91) rfl (tgt := 94) (by decide) ?_
            refine v_aload_n C dX3_told_94 rfl rfl ?_
            refine m_get C 32 (Nat.le_of_ble_eq_true rfl) q2334 (v := .int (s.1 32)) rfl dX3_told_95 ?_
            exact m_iret C dX3_told_98 hF
          · rcases k_cases hF with ⟨c8, hF⟩ | ⟨c8, hF⟩
            · refine v_tswIn C (5 : Int32) c8 dX3_told_3 (by decide) (by decide) (off := 96) rfl (tgt := 99) (by decide) ?_
              refine v_iconst C (v := (0 : Int32)) dX3_told_99 (by decide) ?_
              refine v_istore_n C dX3_told_100 rfl (Nat.le_of_ble_eq_true rfl) rfl (lv' := [some (.ref o), some (.int x1), some (.int (0 : Int32)), some (.int (0 : Int32))]) rfl ?_
              refine v_mask [true, false, true, true] (lv' := [some (.ref o), none, some (.int (0 : Int32)), some (.int (0 : Int32))]) rfl ?_
              exact kloop_ok (P := fun a => kV g X 4 (wM g o a.2.2 u) 101 [some (.ref o), none, some (.int a.1), some (.int a.2.1)] []) (fun self hs a hF => wX3_told_b101 C ho hl N  self hs a.1 a.2.1 a.2.2 hF) N ((0 : Int32), (0 : Int32), s) hF
            · rcases k_cases hF with ⟨c12, hF⟩ | ⟨c12, hF⟩
              · refine v_tswIn C (6 : Int32) c12 dX3_told_3 (by decide) (by decide) (off := 126) rfl (tgt := 129) (by decide) ?_
                refine v_aload_n C dX3_told_129 rfl rfl ?_
                refine m_get C 17 (Nat.le_of_ble_eq_true rfl) q2319 (v := .int (s.1 17)) rfl dX3_told_130 ?_
                exact m_iret C dX3_told_133 hF
              · rcases k_cases hF with ⟨c13, hF⟩ | ⟨c13, hF⟩
                · refine v_tswIn C (7 : Int32) c13 dX3_told_3 (by decide) (by decide) (off := 131) rfl (tgt := 134) (by decide) ?_
                  refine v_aload_n C dX3_told_134 rfl rfl ?_
                  refine m_get C 37 (Nat.le_of_ble_eq_true rfl) q2339 (v := .int (s.1 37)) rfl dX3_told_135 ?_
                  exact m_iret C dX3_told_138 hF
                · refine v_tswOut C [(0 : Int32), (1 : Int32), (2 : Int32), (3 : Int32), (4 : Int32), (5 : Int32), (6 : Int32), (7 : Int32)] (List.forall_mem_cons.mpr ⟨c1, List.forall_mem_cons.mpr ⟨c2, List.forall_mem_cons.mpr ⟨c3, List.forall_mem_cons.mpr ⟨c4, List.forall_mem_cons.mpr ⟨c7, List.forall_mem_cons.mpr ⟨c8, List.forall_mem_cons.mpr ⟨c12, List.forall_mem_cons.mpr ⟨c13, fun _ h => absurd h List.not_mem_nil⟩⟩⟩⟩⟩⟩⟩⟩) dX3_told_3 (by decide +kernel) (by decide) (tgt := 139) (by decide) ?_
                  refine v_iconst C (v := (-1 : Int32)) dX3_told_139 (by decide) ?_
                  exact m_iret C dX3_told_140 hF
set_option maxHeartbeats 4000000 in
theorem wX3_isList (l : Launch) (g : GT) {o : Nat} (ho : gB g ≤ o) (u : Wd) (N : Nat) (x0 : Int32)  (s : M) (r : Int32) (s1 : M) (hF : FX3_isList N x0 s = some (r, s1)) : kMt l g yX3_isList (ws_ yX3_isList cX3_isList 1 (some .boolean)) (2) (200) (wM g o s u) [.int x0] (some (.int r)) (wM g o s1 u) := by
  refine kMt.ofV (lv := [some (.int x0)]) (by decide) rfl (Nat.le_of_ble_eq_true rfl) rfl ?_
  intro X hl hin C
  unfold FX3_isList at hF
  refine v_iload_n C dX3_isList_0 rfl rfl ?_
  refine v_iconst C (v := (0 : Int32)) dX3_isList_1 (by decide) ?_
  refine v_iconst C (v := (3 : Int32)) dX3_isList_2 (by decide) ?_
  refine m_callSi C lk_X3_108 (fr2 := 1) (lo2 := 100) (As := [.int x0, .int (0 : Int32), .int (3 : Int32)]) (st := []) (fun r s1 h => by rw [hl]; exact wX3_in l g ho u N x0 (0 : Int32) (3 : Int32) s r s1 h) (by decide) rfl rfl (Nat.le_of_ble_eq_true rfl) dX3_isList_3 hF (fun r1 s2 hF => ?_)
  obtain ⟨h3, hF⟩ := k_ite hF
  exact m_zret C (nb_nar h3) dX3_isList_6 hF
set_option maxHeartbeats 4000000 in
theorem wX3_list_b41 {l : Launch} {g : GT} {X : CxT} {o : Nat} {u : Wd} {r : Int32} {s1 : M} (C : kOk g X cX3_list 4 RX3 (some .int) 3 300 (some (.int r)) (wM g o s1 u)) (ho : gB g ≤ o) (hl : xl X = l) (N : Nat) (k41 : Int32 × Int32 × M → Option (Int32 × M)) (hk41 : ∀ a, k41 a = some (r, s1) → kV g X 4 (wM g o a.2.2 u) 41 [some (.ref o), some (.int a.1), none, some (.int a.2.1)] []) (x1 : Int32) (x3 : Int32) (s : M) (hF : FX3_list_b41 N k41 x1 x3 s = some (r, s1)) : kV g X 4 (wM g o s u) 41 [some (.ref o), some (.int x1), none, some (.int x3)] [] := by
  unfold FX3_list_b41 at hF
  refine v_iload_n C dX3_list_41 rfl rfl ?_
  refine v_bipush C (v := (20 : Int32)) dX3_list_42 (by decide) ?_
  refine v_icmp_ge C (tgt := 65) dX3_list_44 (by decide) hF (fun c8 hF => ?_) (fun c8 hF => ?_)
  · refine v_iconst C (v := (1 : Int32)) dX3_list_65 (by decide) ?_
    exact m_iret C dX3_list_66 hF
  · refine v_aload_n C dX3_list_47 rfl rfl ?_
    refine m_get C 40 (Nat.le_of_ble_eq_true rfl) q2342 (v := .ref (o + 31)) rfl dX3_list_48 ?_
    refine v_bipush C (v := (20 : Int32)) dX3_list_51 (by decide) ?_
    refine v_iload_n C dX3_list_53 rfl rfl ?_
    refine v_imul C dX3_list_54 ?_
    refine v_iload_n C dX3_list_55 rfl rfl ?_
    refine v_iadd C dX3_list_56 ?_
    refine v_iconst C (v := (0 : Int32)) dX3_list_57 (by decide) ?_
    obtain ⟨h9, hF⟩ := k_ite hF
    refine m_ast C ho (Nat.le_of_ble_eq_true rfl) (Nat.le_of_ble_eq_true rfl) (by decide) (n := 80) rfl h9 (ix := ((((20 : Int32) * x1) + x3).toNatClampNeg)) rfl dX3_list_58 ?_
    refine v_iinc C dX3_list_59 rfl (v := (x3 + (1 : Int32))) rfl (Nat.le_of_ble_eq_true rfl) rfl (lv' := [some (.ref o), some (.int x1), none, some (.int (x3 + (1 : Int32)))]) rfl ?_
    refine v_goto C (tgt := 41) dX3_list_62 (by decide) ?_
    refine v_mask [true, true, false, true] (lv' := [some (.ref o), some (.int x1), none, some (.int (x3 + (1 : Int32)))]) rfl ?_
    exact hk41 (x1, (x3 + (1 : Int32)), (sA s 31 ((((20 : Int32) * x1) + x3).toNatClampNeg) (0 : Int32))) hF
set_option maxHeartbeats 4000000 in
theorem wX3_list (l : Launch) (g : GT) {o : Nat} (ho : gB g ≤ o) (u : Wd) (N : Nat) (x1 : Int32) (x2 : Int32)  (s : M) (r : Int32) (s1 : M) (hF : FX3_list N x1 x2 s = some (r, s1)) : kMt l g yX3_list (ws_ yX3_list cX3_list 4 (some .int)) (3) (300) (wM g o s u) [.ref o, .int x1, .int x2] (some (.int r)) (wM g o s1 u) := by
  refine kMt.ofV (lv := [some (.ref o), some (.int x1), some (.int x2), none]) (by decide) rfl (Nat.le_of_ble_eq_true rfl) rfl ?_
  intro X hl hin C
  unfold FX3_list at hF
  refine v_iload_n C dX3_list_0 rfl rfl ?_
  refine m_callSi C lk_X3_254 (fr2 := 2) (lo2 := 200) (As := [.int x1]) (st := []) (fun r s1 h => by rw [hl]; exact wX3_isList l g ho u N x1 s r s1 h) (by decide) rfl rfl (Nat.le_of_ble_eq_true rfl) dX3_list_1 hF (fun r1 s2 hF => ?_)
  refine v_if_ne C (tgt := 9) dX3_list_4 (by decide) hF (fun c3 hF => ?_) (fun c3 hF => ?_)
  · refine v_iconst C (v := (-1 : Int32)) dX3_list_7 (by decide) ?_
    exact m_iret C dX3_list_8 hF
  · refine v_iload_n C dX3_list_9 rfl rfl ?_
    refine v_bipush C (v := (20 : Int32)) dX3_list_10 (by decide) ?_
    refine v_icmp_le C (tgt := 18) dX3_list_12 (by decide) hF (fun c4 hF => ?_) (fun c4 hF => ?_)
    · refine v_iload_n C dX3_list_18 rfl rfl ?_
      refine v_if_ge C (tgt := 25) dX3_list_19 (by decide) hF (fun c5 hF => ?_) (fun c5 hF => ?_)
      · refine v_aload_n C dX3_list_25 rfl rfl ?_
        refine m_get C 38 (Nat.le_of_ble_eq_true rfl) q2340 (v := .ref (o + 29)) rfl dX3_list_26 ?_
        refine v_iload_n C dX3_list_29 rfl rfl ?_
        refine v_iconst C (v := (1 : Int32)) dX3_list_30 (by decide) ?_
        obtain ⟨h6, hF⟩ := k_ite hF
        refine m_zast C ho (by decide) h6 (ix := (x1.toNatClampNeg)) rfl dX3_list_31 ?_
        refine v_aload_n C dX3_list_32 rfl rfl ?_
        refine m_get C 39 (Nat.le_of_ble_eq_true rfl) q2341 (v := .ref (o + 30)) rfl dX3_list_33 ?_
        refine v_iload_n C dX3_list_36 rfl rfl ?_
        refine v_iload_n C dX3_list_37 rfl rfl ?_
        obtain ⟨h7, hF⟩ := k_ite hF
        refine m_ast C ho (Nat.le_of_ble_eq_true rfl) (Nat.le_of_ble_eq_true rfl) (by decide) (n := 4) rfl h7 (ix := (x1.toNatClampNeg)) rfl dX3_list_38 ?_
        refine v_iconst C (v := (0 : Int32)) dX3_list_39 (by decide) ?_
        refine v_istore_n C dX3_list_40 rfl (Nat.le_of_ble_eq_true rfl) rfl (lv' := [some (.ref o), some (.int x1), some (.int x2), some (.int (0 : Int32))]) rfl ?_
        refine v_mask [true, true, false, true] (lv' := [some (.ref o), some (.int x1), none, some (.int (0 : Int32))]) rfl ?_
        exact kloop_ok (P := fun a => kV g X 4 (wM g o a.2.2 u) 41 [some (.ref o), some (.int a.1), none, some (.int a.2.1)] []) (fun self hs a hF => wX3_list_b41 C ho hl N  self hs a.1 a.2.1 a.2.2 hF) N (x1, (0 : Int32), (sA (sA s2 29 (x1.toNatClampNeg) (1 : Int32)) 30 (x1.toNatClampNeg) x2)) hF
      · refine v_bipush C (v := (-14 : Int32)) dX3_list_22 (by decide) ?_
        exact m_iret C dX3_list_24 hF
    · refine v_bipush C (v := (-2 : Int32)) dX3_list_15 (by decide) ?_
      exact m_iret C dX3_list_17 hF
set_option maxHeartbeats 4000000 in
theorem wX3_set (l : Launch) (g : GT) {o : Nat} (ho : gB g ≤ o) (u : Wd) (N : Nat) (x1 : Int32) (x2 : Int32) (x3 : Int32)  (s : M) (r : Int32) (s1 : M) (hF : FX3_set N x1 x2 x3 s = some (r, s1)) : kMt l g yX3_set (ws_ yX3_set cX3_set 4 (some .int)) (3) (300) (wM g o s u) [.ref o, .int x1, .int x2, .int x3] (some (.int r)) (wM g o s1 u) := by
  refine kMt.ofV (lv := [some (.ref o), some (.int x1), some (.int x2), some (.int x3)]) (by decide) rfl (Nat.le_of_ble_eq_true rfl) rfl ?_
  intro X hl hin C
  unfold FX3_set at hF
  refine v_iload_n C dX3_set_0 rfl rfl ?_
  refine m_callSi C lk_X3_254 (fr2 := 2) (lo2 := 200) (As := [.int x1]) (st := []) (fun r s1 h => by rw [hl]; exact wX3_isList l g ho u N x1 s r s1 h) (by decide) rfl rfl (Nat.le_of_ble_eq_true rfl) dX3_set_1 hF (fun r1 s2 hF => ?_)
  refine v_if_ne C (tgt := 9) dX3_set_4 (by decide) hF (fun c3 hF => ?_) (fun c3 hF => ?_)
  · refine v_iconst C (v := (-1 : Int32)) dX3_set_7 (by decide) ?_
    exact m_iret C dX3_set_8 hF
  · refine v_aload_n C dX3_set_9 rfl rfl ?_
    refine m_get C 38 (Nat.le_of_ble_eq_true rfl) q2340 (v := .ref (o + 29)) rfl dX3_set_10 ?_
    refine v_iload_n C dX3_set_13 rfl rfl ?_
    obtain ⟨h4, hF⟩ := k_ite hF
    refine m_zald C h4 (ix := (x1.toNatClampNeg)) rfl dX3_set_14 ?_
    refine v_if_ne C (tgt := 21) dX3_set_15 (by decide) hF (fun c5 hF => ?_) (fun c5 hF => ?_)
    · refine v_bipush C (v := (-11 : Int32)) dX3_set_18 (by decide) ?_
      exact m_iret C dX3_set_20 hF
    · refine v_iload_n C dX3_set_21 rfl rfl ?_
      refine v_iconst C (v := (0 : Int32)) dX3_set_22 (by decide) ?_
      refine v_aload_n C dX3_set_23 rfl rfl ?_
      refine m_get C 39 (Nat.le_of_ble_eq_true rfl) q2341 (v := .ref (o + 30)) rfl dX3_set_24 ?_
      refine v_iload_n C dX3_set_27 rfl rfl ?_
      obtain ⟨h6, hF⟩ := k_ite hF
      refine m_ald C (Nat.le_of_ble_eq_true rfl) (Nat.le_of_ble_eq_true rfl) (by decide) (n := 4) rfl h6 (ix := (x1.toNatClampNeg)) rfl dX3_set_28 ?_
      refine v_iconst C (v := (1 : Int32)) dX3_set_29 (by decide) ?_
      refine v_isub C dX3_set_30 ?_
      refine m_callSi C lk_X3_108 (fr2 := 1) (lo2 := 100) (As := [.int x2, .int (0 : Int32), .int ((s2.2 30 (x1.toNatClampNeg)) - (1 : Int32))]) (st := []) (fun r s1 h => by rw [hl]; exact wX3_in l g ho u N x2 (0 : Int32) ((s2.2 30 (x1.toNatClampNeg)) - (1 : Int32)) s2 r s1 h) (by decide) rfl rfl (Nat.le_of_ble_eq_true rfl) dX3_set_31 hF (fun r7 s8 hF => ?_)
      refine v_if_ne C (tgt := 40) dX3_set_34 (by decide) hF (fun c9 hF => ?_) (fun c9 hF => ?_)
      · refine v_bipush C (v := (-13 : Int32)) dX3_set_37 (by decide) ?_
        exact m_iret C dX3_set_39 hF
      · refine v_aload_n C dX3_set_40 rfl rfl ?_
        refine m_get C 40 (Nat.le_of_ble_eq_true rfl) q2342 (v := .ref (o + 31)) rfl dX3_set_41 ?_
        refine v_bipush C (v := (20 : Int32)) dX3_set_44 (by decide) ?_
        refine v_iload_n C dX3_set_46 rfl rfl ?_
        refine v_imul C dX3_set_47 ?_
        refine v_iload_n C dX3_set_48 rfl rfl ?_
        refine v_iadd C dX3_set_49 ?_
        refine v_iload_n C dX3_set_50 rfl rfl ?_
        obtain ⟨h10, hF⟩ := k_ite hF
        refine m_ast C ho (Nat.le_of_ble_eq_true rfl) (Nat.le_of_ble_eq_true rfl) (by decide) (n := 80) rfl h10 (ix := ((((20 : Int32) * x1) + x2).toNatClampNeg)) rfl dX3_set_51 ?_
        refine v_iconst C (v := (1 : Int32)) dX3_set_52 (by decide) ?_
        exact m_iret C dX3_set_53 hF
set_option maxHeartbeats 4000000 in
theorem wX3_get (l : Launch) (g : GT) {o : Nat} (ho : gB g ≤ o) (u : Wd) (N : Nat) (x1 : Int32) (x2 : Int32)  (s : M) (r : Int32) (s1 : M) (hF : FX3_get N x1 x2 s = some (r, s1)) : kMt l g yX3_get (ws_ yX3_get cX3_get 3 (some .int)) (3) (300) (wM g o s u) [.ref o, .int x1, .int x2] (some (.int r)) (wM g o s1 u) := by
  refine kMt.ofV (lv := [some (.ref o), some (.int x1), some (.int x2)]) (by decide) rfl (Nat.le_of_ble_eq_true rfl) rfl ?_
  intro X hl hin C
  unfold FX3_get at hF
  refine v_iload_n C dX3_get_0 rfl rfl ?_
  refine m_callSi C lk_X3_254 (fr2 := 2) (lo2 := 200) (As := [.int x1]) (st := []) (fun r s1 h => by rw [hl]; exact wX3_isList l g ho u N x1 s r s1 h) (by decide) rfl rfl (Nat.le_of_ble_eq_true rfl) dX3_get_1 hF (fun r1 s2 hF => ?_)
  refine v_if_eq C (tgt := 46) dX3_get_4 (by decide) hF (fun c3 hF => ?_) (fun c3 hF => ?_)
  · refine v_ldcw C q2711 dX3_get_46 ?_
    exact m_iret C dX3_get_49 hF
  · refine v_aload_n C dX3_get_7 rfl rfl ?_
    refine m_get C 38 (Nat.le_of_ble_eq_true rfl) q2340 (v := .ref (o + 29)) rfl dX3_get_8 ?_
    refine v_iload_n C dX3_get_11 rfl rfl ?_
    obtain ⟨h4, hF⟩ := k_ite hF
    refine m_zald C h4 (ix := (x1.toNatClampNeg)) rfl dX3_get_12 ?_
    refine v_if_eq C (tgt := 46) dX3_get_13 (by decide) hF (fun c5 hF => ?_) (fun c5 hF => ?_)
    · refine v_ldcw C q2711 dX3_get_46 ?_
      exact m_iret C dX3_get_49 hF
    · refine v_iload_n C dX3_get_16 rfl rfl ?_
      refine v_iconst C (v := (0 : Int32)) dX3_get_17 (by decide) ?_
      refine v_aload_n C dX3_get_18 rfl rfl ?_
      refine m_get C 39 (Nat.le_of_ble_eq_true rfl) q2341 (v := .ref (o + 30)) rfl dX3_get_19 ?_
      refine v_iload_n C dX3_get_22 rfl rfl ?_
      obtain ⟨h6, hF⟩ := k_ite hF
      refine m_ald C (Nat.le_of_ble_eq_true rfl) (Nat.le_of_ble_eq_true rfl) (by decide) (n := 4) rfl h6 (ix := (x1.toNatClampNeg)) rfl dX3_get_23 ?_
      refine v_iconst C (v := (1 : Int32)) dX3_get_24 (by decide) ?_
      refine v_isub C dX3_get_25 ?_
      refine m_callSi C lk_X3_108 (fr2 := 1) (lo2 := 100) (As := [.int x2, .int (0 : Int32), .int ((s2.2 30 (x1.toNatClampNeg)) - (1 : Int32))]) (st := []) (fun r s1 h => by rw [hl]; exact wX3_in l g ho u N x2 (0 : Int32) ((s2.2 30 (x1.toNatClampNeg)) - (1 : Int32)) s2 r s1 h) (by decide) rfl rfl (Nat.le_of_ble_eq_true rfl) dX3_get_26 hF (fun r7 s8 hF => ?_)
      refine v_if_eq C (tgt := 46) dX3_get_29 (by decide) hF (fun c9 hF => ?_) (fun c9 hF => ?_)
      · refine v_ldcw C q2711 dX3_get_46 ?_
        exact m_iret C dX3_get_49 hF
      · refine v_aload_n C dX3_get_32 rfl rfl ?_
        refine m_get C 40 (Nat.le_of_ble_eq_true rfl) q2342 (v := .ref (o + 31)) rfl dX3_get_33 ?_
        refine v_bipush C (v := (20 : Int32)) dX3_get_36 (by decide) ?_
        refine v_iload_n C dX3_get_38 rfl rfl ?_
        refine v_imul C dX3_get_39 ?_
        refine v_iload_n C dX3_get_40 rfl rfl ?_
        refine v_iadd C dX3_get_41 ?_
        obtain ⟨h10, hF⟩ := k_ite hF
        refine m_ald C (Nat.le_of_ble_eq_true rfl) (Nat.le_of_ble_eq_true rfl) (by decide) (n := 80) rfl h10 (ix := ((((20 : Int32) * x1) + x2).toNatClampNeg)) rfl dX3_get_42 ?_
        refine v_goto C (tgt := 49) dX3_get_43 (by decide) ?_
        exact m_iret C dX3_get_49 hF
set_option maxHeartbeats 4000000 in
theorem wX3_lay_b32 {l : Launch} {g : GT} {X : CxT} {o : Nat} {u : Wd} {r : Int32} {s1 : M} (C : kOk g X cX3_lay 5 RX3 (some .int) 3 300 (some (.int r)) (wM g o s1 u)) (ho : gB g ≤ o) (hl : xl X = l) (N : Nat) (k32 : Int32 × Int32 × Int32 × Int32 × M → Option (Int32 × M)) (hk32 : ∀ a, k32 a = some (r, s1) → kV g X 5 (wM g o a.2.2.2.2 u) 32 [some (.ref o), some (.int a.1), some (.int a.2.1), some (.int a.2.2.1), some (.int a.2.2.2.1)] []) (x1 : Int32) (x2 : Int32) (x3 : Int32) (x4 : Int32) (s : M) (hF : FX3_lay_b32 N k32 x1 x2 x3 x4 s = some (r, s1)) : kV g X 5 (wM g o s u) 32 [some (.ref o), some (.int x1), some (.int x2), some (.int x3), some (.int x4)] [] := by
  unfold FX3_lay_b32 at hF
  refine v_iload C dX3_lay_32 rfl ?_
  refine v_aload_n C dX3_lay_34 rfl rfl ?_
  refine m_get C 1 (Nat.le_of_ble_eq_true rfl) q2303 (v := .ref (o + 1)) rfl dX3_lay_35 ?_
  refine v_iconst C (v := (0 : Int32)) dX3_lay_38 (by decide) ?_
  refine m_ald C (Nat.le_of_ble_eq_true rfl) (Nat.le_of_ble_eq_true rfl) (by decide) (n := 2) rfl rfl (ix := 0) (by decide) dX3_lay_39 ?_
  refine v_icmp_ge C (tgt := 95) dX3_lay_40 (by decide) hF (fun c9 hF => ?_) (fun c9 hF => ?_)
  · refine v_aload_n C dX3_lay_95 rfl rfl ?_
    refine m_get C 1 (Nat.le_of_ble_eq_true rfl) q2303 (v := .ref (o + 1)) rfl dX3_lay_96 ?_
    refine v_iconst C (v := (0 : Int32)) dX3_lay_99 (by decide) ?_
    refine m_ald C (Nat.le_of_ble_eq_true rfl) (Nat.le_of_ble_eq_true rfl) (by decide) (n := 2) rfl rfl (ix := 0) (by decide) dX3_lay_100 ?_
    exact m_iret C dX3_lay_101 hF
  · refine v_iload_n C dX3_lay_43 rfl rfl ?_
    refine v_if_lt C (tgt := 60) dX3_lay_44 (by decide) hF (fun c10 hF => ?_) (fun c10 hF => ?_)
    · refine v_bipush C (v := (-13 : Int32)) dX3_lay_60 (by decide) ?_
      exact m_iret C dX3_lay_62 hF
    · refine v_iload_n C dX3_lay_47 rfl rfl ?_
      refine v_aload_n C dX3_lay_48 rfl rfl ?_
      refine m_get C 39 (Nat.le_of_ble_eq_true rfl) q2341 (v := .ref (o + 30)) rfl dX3_lay_49 ?_
      refine v_iload_n C dX3_lay_52 rfl rfl ?_
      obtain ⟨h11, hF⟩ := k_ite hF
      refine m_ald C (Nat.le_of_ble_eq_true rfl) (Nat.le_of_ble_eq_true rfl) (by decide) (n := 4) rfl h11 (ix := (x1.toNatClampNeg)) rfl dX3_lay_53 ?_
      refine v_iload C dX3_lay_54 rfl ?_
      refine v_isub C dX3_lay_56 ?_
      refine v_icmp_lt C (tgt := 63) dX3_lay_57 (by decide) hF (fun c12 hF => ?_) (fun c12 hF => ?_)
      · refine v_aload_n C dX3_lay_63 rfl rfl ?_
        refine m_get C 40 (Nat.le_of_ble_eq_true rfl) q2342 (v := .ref (o + 31)) rfl dX3_lay_64 ?_
        refine v_bipush C (v := (20 : Int32)) dX3_lay_67 (by decide) ?_
        refine v_iload_n C dX3_lay_69 rfl rfl ?_
        refine v_imul C dX3_lay_70 ?_
        refine v_iload_n C dX3_lay_71 rfl rfl ?_
        refine v_iadd C dX3_lay_72 ?_
        refine v_iload C dX3_lay_73 rfl ?_
        refine v_iadd C dX3_lay_75 ?_
        refine v_aload_n C dX3_lay_76 rfl rfl ?_
        refine m_get C 7 (Nat.le_of_ble_eq_true rfl) q2309 (v := .ref (o + 7)) rfl dX3_lay_77 ?_
        refine v_bipush C (v := (10 : Int32)) dX3_lay_80 (by decide) ?_
        refine v_iload_n C dX3_lay_82 rfl rfl ?_
        refine v_imul C dX3_lay_83 ?_
        refine v_iload C dX3_lay_84 rfl ?_
        refine v_iadd C dX3_lay_86 ?_
        obtain ⟨h13, hF⟩ := k_ite hF
        refine m_ald C (Nat.le_of_ble_eq_true rfl) (Nat.le_of_ble_eq_true rfl) (by decide) (n := 1000) rfl h13 (ix := ((((10 : Int32) * x3) + x4).toNatClampNeg)) rfl dX3_lay_87 ?_
        obtain ⟨h14, hF⟩ := k_ite hF
        refine m_ast C ho (Nat.le_of_ble_eq_true rfl) (Nat.le_of_ble_eq_true rfl) (by decide) (n := 80) rfl h14 (ix := (((((20 : Int32) * x1) + x2) + x4).toNatClampNeg)) rfl dX3_lay_88 ?_
        refine v_iinc C dX3_lay_89 rfl (v := (x4 + (1 : Int32))) rfl (Nat.le_of_ble_eq_true rfl) rfl (lv' := [some (.ref o), some (.int x1), some (.int x2), some (.int x3), some (.int (x4 + (1 : Int32)))]) rfl ?_
        refine v_goto C (tgt := 32) dX3_lay_92 (by decide) ?_
        refine v_mask [true, true, true, true, true] (lv' := [some (.ref o), some (.int x1), some (.int x2), some (.int x3), some (.int (x4 + (1 : Int32)))]) rfl ?_
        exact hk32 (x1, x2, x3, (x4 + (1 : Int32)), (sA s 31 (((((20 : Int32) * x1) + x2) + x4).toNatClampNeg) (s.2 7 ((((10 : Int32) * x3) + x4).toNatClampNeg)))) hF
      · refine v_bipush C (v := (-13 : Int32)) dX3_lay_60 (by decide) ?_
        exact m_iret C dX3_lay_62 hF
set_option maxHeartbeats 4000000 in
theorem wX3_lay (l : Launch) (g : GT) {o : Nat} (ho : gB g ≤ o) (u : Wd) (N : Nat) (x1 : Int32) (x2 : Int32) (x3 : Int32)  (s : M) (r : Int32) (s1 : M) (hF : FX3_lay N x1 x2 x3 s = some (r, s1)) : kMt l g yX3_lay (ws_ yX3_lay cX3_lay 5 (some .int)) (3) (300) (wM g o s u) [.ref o, .int x1, .int x2, .int x3] (some (.int r)) (wM g o s1 u) := by
  refine kMt.ofV (lv := [some (.ref o), some (.int x1), some (.int x2), some (.int x3), none]) (by decide) rfl (Nat.le_of_ble_eq_true rfl) rfl ?_
  intro X hl hin C
  unfold FX3_lay at hF
  refine v_iload_n C dX3_lay_0 rfl rfl ?_
  refine m_callSi C lk_X3_254 (fr2 := 2) (lo2 := 200) (As := [.int x1]) (st := []) (fun r s1 h => by rw [hl]; exact wX3_isList l g ho u N x1 s r s1 h) (by decide) rfl rfl (Nat.le_of_ble_eq_true rfl) dX3_lay_1 hF (fun r1 s2 hF => ?_)
  refine v_if_eq C (tgt := 15) dX3_lay_4 (by decide) hF (fun c3 hF => ?_) (fun c3 hF => ?_)
  · refine v_iconst C (v := (-1 : Int32)) dX3_lay_15 (by decide) ?_
    exact m_iret C dX3_lay_16 hF
  · refine v_aload_n C dX3_lay_7 rfl rfl ?_
    refine v_iload_n C dX3_lay_8 rfl rfl ?_
    refine m_callVi C lk_X3_193 rfl (fr2 := 2) (lo2 := 200) (As := [.int x3]) (st := []) (fun r s1 h => by rw [hl]; exact wX3_isRow l g ho u N x3 s2 r s1 h) (by decide) rfl rfl (Nat.le_of_ble_eq_true rfl) dX3_lay_9 hF (fun r4 s5 hF => ?_)
    refine v_if_ne C (tgt := 17) dX3_lay_12 (by decide) hF (fun c6 hF => ?_) (fun c6 hF => ?_)
    · refine v_iconst C (v := (-1 : Int32)) dX3_lay_15 (by decide) ?_
      exact m_iret C dX3_lay_16 hF
    · refine v_aload_n C dX3_lay_17 rfl rfl ?_
      refine m_get C 38 (Nat.le_of_ble_eq_true rfl) q2340 (v := .ref (o + 29)) rfl dX3_lay_18 ?_
      refine v_iload_n C dX3_lay_21 rfl rfl ?_
      obtain ⟨h7, hF⟩ := k_ite hF
      refine m_zald C h7 (ix := (x1.toNatClampNeg)) rfl dX3_lay_22 ?_
      refine v_if_ne C (tgt := 29) dX3_lay_23 (by decide) hF (fun c8 hF => ?_) (fun c8 hF => ?_)
      · refine v_bipush C (v := (-11 : Int32)) dX3_lay_26 (by decide) ?_
        exact m_iret C dX3_lay_28 hF
      · refine v_iconst C (v := (0 : Int32)) dX3_lay_29 (by decide) ?_
        refine v_istore C dX3_lay_30 (Nat.le_of_ble_eq_true rfl) rfl (lv' := [some (.ref o), some (.int x1), some (.int x2), some (.int x3), some (.int (0 : Int32))]) rfl ?_
        refine v_mask [true, true, true, true, true] (lv' := [some (.ref o), some (.int x1), some (.int x2), some (.int x3), some (.int (0 : Int32))]) rfl ?_
        exact kloop_ok (P := fun a => kV g X 5 (wM g o a.2.2.2.2 u) 32 [some (.ref o), some (.int a.1), some (.int a.2.1), some (.int a.2.2.1), some (.int a.2.2.2.1)] []) (fun self hs a hF => wX3_lay_b32 C ho hl N  self hs a.1 a.2.1 a.2.2.1 a.2.2.2.1 a.2.2.2.2 hF) N (x1, x2, x3, (0 : Int32), s5) hF
set_option maxHeartbeats 4000000 in
theorem wX3_judge_b32 {l : Launch} {g : GT} {X : CxT} {o : Nat} {u : Wd} {r : Int32} {s1 : M} (C : kOk g X cX3_judge 5 RX3 (some .int) 3 300 (some (.int r)) (wM g o s1 u)) (ho : gB g ≤ o) (hl : xl X = l) (N : Nat) (k32 : Int32 × Int32 × Int32 × Int32 × M → Option (Int32 × M)) (hk32 : ∀ a, k32 a = some (r, s1) → kV g X 5 (wM g o a.2.2.2.2 u) 32 [some (.ref o), some (.int a.1), some (.int a.2.1), some (.int a.2.2.1), some (.int a.2.2.2.1)] []) (x1 : Int32) (x2 : Int32) (x3 : Int32) (x4 : Int32) (s : M) (hF : FX3_judge_b32 N k32 x1 x2 x3 x4 s = some (r, s1)) : kV g X 5 (wM g o s u) 32 [some (.ref o), some (.int x1), some (.int x2), some (.int x3), some (.int x4)] [] := by
  unfold FX3_judge_b32 at hF
  refine v_iload C dX3_judge_32 rfl ?_
  refine v_aload_n C dX3_judge_34 rfl rfl ?_
  refine m_get C 1 (Nat.le_of_ble_eq_true rfl) q2303 (v := .ref (o + 1)) rfl dX3_judge_35 ?_
  refine v_iconst C (v := (0 : Int32)) dX3_judge_38 (by decide) ?_
  refine m_ald C (Nat.le_of_ble_eq_true rfl) (Nat.le_of_ble_eq_true rfl) (by decide) (n := 2) rfl rfl (ix := 0) (by decide) dX3_judge_39 ?_
  refine v_icmp_ge C (tgt := 104) dX3_judge_40 (by decide) hF (fun c9 hF => ?_) (fun c9 hF => ?_)
  · refine v_bipush C (v := (-5 : Int32)) dX3_judge_104 (by decide) ?_
    exact m_iret C dX3_judge_106 hF
  · refine v_iload_n C dX3_judge_43 rfl rfl ?_
    refine v_if_lt C (tgt := 60) dX3_judge_44 (by decide) hF (fun c10 hF => ?_) (fun c10 hF => ?_)
    · refine v_bipush C (v := (100 : Int32)) dX3_judge_60 (by decide) ?_
      refine v_iload C dX3_judge_62 rfl ?_
      refine v_iadd C dX3_judge_64 ?_
      exact m_iret C dX3_judge_65 hF
    · refine v_iload_n C dX3_judge_47 rfl rfl ?_
      refine v_aload_n C dX3_judge_48 rfl rfl ?_
      refine m_get C 39 (Nat.le_of_ble_eq_true rfl) q2341 (v := .ref (o + 30)) rfl dX3_judge_49 ?_
      refine v_iload_n C dX3_judge_52 rfl rfl ?_
      obtain ⟨h11, hF⟩ := k_ite hF
      refine m_ald C (Nat.le_of_ble_eq_true rfl) (Nat.le_of_ble_eq_true rfl) (by decide) (n := 4) rfl h11 (ix := (x1.toNatClampNeg)) rfl dX3_judge_53 ?_
      refine v_iload C dX3_judge_54 rfl ?_
      refine v_isub C dX3_judge_56 ?_
      refine v_icmp_lt C (tgt := 66) dX3_judge_57 (by decide) hF (fun c12 hF => ?_) (fun c12 hF => ?_)
      · refine v_aload_n C dX3_judge_66 rfl rfl ?_
        refine m_get C 40 (Nat.le_of_ble_eq_true rfl) q2342 (v := .ref (o + 31)) rfl dX3_judge_67 ?_
        refine v_bipush C (v := (20 : Int32)) dX3_judge_70 (by decide) ?_
        refine v_iload_n C dX3_judge_72 rfl rfl ?_
        refine v_imul C dX3_judge_73 ?_
        refine v_iload_n C dX3_judge_74 rfl rfl ?_
        refine v_iadd C dX3_judge_75 ?_
        refine v_iload C dX3_judge_76 rfl ?_
        refine v_iadd C dX3_judge_78 ?_
        obtain ⟨h13, hF⟩ := k_ite hF
        refine m_ald C (Nat.le_of_ble_eq_true rfl) (Nat.le_of_ble_eq_true rfl) (by decide) (n := 80) rfl h13 (ix := (((((20 : Int32) * x1) + x2) + x4).toNatClampNeg)) rfl dX3_judge_79 ?_
        refine v_aload_n C dX3_judge_80 rfl rfl ?_
        refine m_get C 7 (Nat.le_of_ble_eq_true rfl) q2309 (v := .ref (o + 7)) rfl dX3_judge_81 ?_
        refine v_bipush C (v := (10 : Int32)) dX3_judge_84 (by decide) ?_
        refine v_iload_n C dX3_judge_86 rfl rfl ?_
        refine v_imul C dX3_judge_87 ?_
        refine v_iload C dX3_judge_88 rfl ?_
        refine v_iadd C dX3_judge_90 ?_
        obtain ⟨h14, hF⟩ := k_ite hF
        refine m_ald C (Nat.le_of_ble_eq_true rfl) (Nat.le_of_ble_eq_true rfl) (by decide) (n := 1000) rfl h14 (ix := ((((10 : Int32) * x3) + x4).toNatClampNeg)) rfl dX3_judge_91 ?_
        refine v_icmp_eq C (tgt := 98) dX3_judge_92 (by decide) hF (fun c15 hF => ?_) (fun c15 hF => ?_)
        · refine v_iinc C dX3_judge_98 rfl (v := (x4 + (1 : Int32))) rfl (Nat.le_of_ble_eq_true rfl) rfl (lv' := [some (.ref o), some (.int x1), some (.int x2), some (.int x3), some (.int (x4 + (1 : Int32)))]) rfl ?_
          refine v_goto C (tgt := 32) dX3_judge_101 (by decide) ?_
          refine v_mask [true, true, true, true, true] (lv' := [some (.ref o), some (.int x1), some (.int x2), some (.int x3), some (.int (x4 + (1 : Int32)))]) rfl ?_
          exact hk32 (x1, x2, x3, (x4 + (1 : Int32)), s) hF
        · refine v_iload C dX3_judge_95 rfl ?_
          exact m_iret C dX3_judge_97 hF
      · refine v_bipush C (v := (100 : Int32)) dX3_judge_60 (by decide) ?_
        refine v_iload C dX3_judge_62 rfl ?_
        refine v_iadd C dX3_judge_64 ?_
        exact m_iret C dX3_judge_65 hF
set_option maxHeartbeats 4000000 in
theorem wX3_judge (l : Launch) (g : GT) {o : Nat} (ho : gB g ≤ o) (u : Wd) (N : Nat) (x1 : Int32) (x2 : Int32) (x3 : Int32)  (s : M) (r : Int32) (s1 : M) (hF : FX3_judge N x1 x2 x3 s = some (r, s1)) : kMt l g yX3_judge (ws_ yX3_judge cX3_judge 5 (some .int)) (3) (300) (wM g o s u) [.ref o, .int x1, .int x2, .int x3] (some (.int r)) (wM g o s1 u) := by
  refine kMt.ofV (lv := [some (.ref o), some (.int x1), some (.int x2), some (.int x3), none]) (by decide) rfl (Nat.le_of_ble_eq_true rfl) rfl ?_
  intro X hl hin C
  unfold FX3_judge at hF
  refine v_iload_n C dX3_judge_0 rfl rfl ?_
  refine m_callSi C lk_X3_254 (fr2 := 2) (lo2 := 200) (As := [.int x1]) (st := []) (fun r s1 h => by rw [hl]; exact wX3_isList l g ho u N x1 s r s1 h) (by decide) rfl rfl (Nat.le_of_ble_eq_true rfl) dX3_judge_1 hF (fun r1 s2 hF => ?_)
  refine v_if_eq C (tgt := 15) dX3_judge_4 (by decide) hF (fun c3 hF => ?_) (fun c3 hF => ?_)
  · refine v_iconst C (v := (-1 : Int32)) dX3_judge_15 (by decide) ?_
    exact m_iret C dX3_judge_16 hF
  · refine v_aload_n C dX3_judge_7 rfl rfl ?_
    refine v_iload_n C dX3_judge_8 rfl rfl ?_
    refine m_callVi C lk_X3_193 rfl (fr2 := 2) (lo2 := 200) (As := [.int x3]) (st := []) (fun r s1 h => by rw [hl]; exact wX3_isRow l g ho u N x3 s2 r s1 h) (by decide) rfl rfl (Nat.le_of_ble_eq_true rfl) dX3_judge_9 hF (fun r4 s5 hF => ?_)
    refine v_if_ne C (tgt := 17) dX3_judge_12 (by decide) hF (fun c6 hF => ?_) (fun c6 hF => ?_)
    · refine v_iconst C (v := (-1 : Int32)) dX3_judge_15 (by decide) ?_
      exact m_iret C dX3_judge_16 hF
    · refine v_aload_n C dX3_judge_17 rfl rfl ?_
      refine m_get C 38 (Nat.le_of_ble_eq_true rfl) q2340 (v := .ref (o + 29)) rfl dX3_judge_18 ?_
      refine v_iload_n C dX3_judge_21 rfl rfl ?_
      obtain ⟨h7, hF⟩ := k_ite hF
      refine m_zald C h7 (ix := (x1.toNatClampNeg)) rfl dX3_judge_22 ?_
      refine v_if_ne C (tgt := 29) dX3_judge_23 (by decide) hF (fun c8 hF => ?_) (fun c8 hF => ?_)
      · refine v_bipush C (v := (-11 : Int32)) dX3_judge_26 (by decide) ?_
        exact m_iret C dX3_judge_28 hF
      · refine v_iconst C (v := (0 : Int32)) dX3_judge_29 (by decide) ?_
        refine v_istore C dX3_judge_30 (Nat.le_of_ble_eq_true rfl) rfl (lv' := [some (.ref o), some (.int x1), some (.int x2), some (.int x3), some (.int (0 : Int32))]) rfl ?_
        refine v_mask [true, true, true, true, true] (lv' := [some (.ref o), some (.int x1), some (.int x2), some (.int x3), some (.int (0 : Int32))]) rfl ?_
        exact kloop_ok (P := fun a => kV g X 5 (wM g o a.2.2.2.2 u) 32 [some (.ref o), some (.int a.1), some (.int a.2.1), some (.int a.2.2.1), some (.int a.2.2.2.1)] []) (fun self hs a hF => wX3_judge_b32 C ho hl N  self hs a.1 a.2.1 a.2.2.1 a.2.2.2.1 a.2.2.2.2 hF) N (x1, x2, x3, (0 : Int32), s5) hF
set_option maxHeartbeats 4000000 in
theorem wX3_copy_b35 {l : Launch} {g : GT} {X : CxT} {o : Nat} {u : Wd} {r : Unit} {s1 : M} (C : kOk g X cX3_copy 4 RX3 none 1 100 none (wM g o s1 u)) (ho : gB g ≤ o) (hl : xl X = l) (N : Nat) (j0 : Nat) (hj0 : 0 < j0 ∧ j0 ≤ 31 ∧ j0 ≠ 29) (k7 : Int32 × Int32 × Int32 × M → Option (Unit × M)) (hk7 : ∀ a, k7 a = some (r, s1) → kV g X 4 (wM g o a.2.2.2 u) 7 [some (.ref (o + j0)), some (.int a.1), some (.int a.2.1), some (.int a.2.2.1)] []) (x1 : Int32) (x2 : Int32) (x3 : Int32) (s : M) (hF : FX3_copy_b35 N j0 k7 x1 x2 x3 s = some (r, s1)) : kV g X 4 (wM g o s u) 35 [some (.ref (o + j0)), some (.int x1), some (.int x2), some (.int x3)] [] := by
  unfold FX3_copy_b35 at hF
  refine v_iinc C dX3_copy_35 rfl (v := (x3 + (1 : Int32))) rfl (Nat.le_of_ble_eq_true rfl) rfl (lv' := [some (.ref (o + j0)), some (.int x1), some (.int x2), some (.int (x3 + (1 : Int32)))]) rfl ?_
  refine v_goto C (tgt := 7) dX3_copy_38 (by decide) ?_
  refine v_mask [true, true, true, true] (lv' := [some (.ref (o + j0)), some (.int x1), some (.int x2), some (.int (x3 + (1 : Int32)))]) rfl ?_
  exact hk7 (x1, x2, (x3 + (1 : Int32)), s) hF
set_option maxHeartbeats 4000000 in
theorem wX3_copy_b7 {l : Launch} {g : GT} {X : CxT} {o : Nat} {u : Wd} {r : Unit} {s1 : M} (C : kOk g X cX3_copy 4 RX3 none 1 100 none (wM g o s1 u)) (ho : gB g ≤ o) (hl : xl X = l) (N : Nat) (j0 : Nat) (hj0 : 0 < j0 ∧ j0 ≤ 31 ∧ j0 ≠ 29) (k7 : Int32 × Int32 × Int32 × M → Option (Unit × M)) (hk7 : ∀ a, k7 a = some (r, s1) → kV g X 4 (wM g o a.2.2.2 u) 7 [some (.ref (o + j0)), some (.int a.1), some (.int a.2.1), some (.int a.2.2.1)] []) (x1 : Int32) (x2 : Int32) (x3 : Int32) (s : M) (hF : FX3_copy_b7 N j0 k7 x1 x2 x3 s = some (r, s1)) : kV g X 4 (wM g o s u) 7 [some (.ref (o + j0)), some (.int x1), some (.int x2), some (.int x3)] [] := by
  unfold FX3_copy_b7 at hF
  refine v_iload_n C dX3_copy_7 rfl rfl ?_
  refine v_iload_n C dX3_copy_8 rfl rfl ?_
  refine v_icmp_ge C (tgt := 41) dX3_copy_9 (by decide) hF (fun c1 hF => ?_) (fun c1 hF => ?_)
  · exact m_vret C dX3_copy_41 hF
  · refine v_iload_n C dX3_copy_12 rfl rfl ?_
    refine v_if_eq C (tgt := 27) dX3_copy_13 (by decide) hF (fun c2 hF => ?_) (fun c2 hF => ?_)
    · refine v_aload_n C dX3_copy_27 rfl rfl ?_
      refine v_iload_n C dX3_copy_28 rfl rfl ?_
      refine v_iload_n C dX3_copy_29 rfl rfl ?_
      refine v_iadd C dX3_copy_30 ?_
      refine v_aload_n C dX3_copy_31 rfl rfl ?_
      refine v_iload_n C dX3_copy_32 rfl rfl ?_
      obtain ⟨h3, hF⟩ := k_ite hF
      refine m_ald C hj0.1 hj0.2.1 hj0.2.2 (n := (lenM j0)) rfl h3 (ix := (x3.toNatClampNeg)) rfl dX3_copy_33 ?_
      obtain ⟨h4, hF⟩ := k_ite hF
      refine m_ast C ho hj0.1 hj0.2.1 hj0.2.2 (n := (lenM j0)) rfl h4 (ix := ((x2 + x3).toNatClampNeg)) rfl dX3_copy_34 ?_
      refine v_mask [true, true, true, true] (lv' := [some (.ref (o + j0)), some (.int x1), some (.int x2), some (.int x3)]) rfl ?_
      exact wX3_copy_b35 C ho hl N j0 hj0 k7 hk7 (x1) (x2) (x3) ((sA s j0 ((x2 + x3).toNatClampNeg) (s.2 j0 (x3.toNatClampNeg)))) hF
    · refine v_aload_n C dX3_copy_16 rfl rfl ?_
      refine v_iload_n C dX3_copy_17 rfl rfl ?_
      refine v_aload_n C dX3_copy_18 rfl rfl ?_
      refine v_iload_n C dX3_copy_19 rfl rfl ?_
      refine v_iload_n C dX3_copy_20 rfl rfl ?_
      refine v_iadd C dX3_copy_21 ?_
      obtain ⟨h5, hF⟩ := k_ite hF
      refine m_ald C hj0.1 hj0.2.1 hj0.2.2 (n := (lenM j0)) rfl h5 (ix := ((x2 + x3).toNatClampNeg)) rfl dX3_copy_22 ?_
      obtain ⟨h6, hF⟩ := k_ite hF
      refine m_ast C ho hj0.1 hj0.2.1 hj0.2.2 (n := (lenM j0)) rfl h6 (ix := (x3.toNatClampNeg)) rfl dX3_copy_23 ?_
      refine v_goto C (tgt := 35) dX3_copy_24 (by decide) ?_
      refine v_mask [true, true, true, true] (lv' := [some (.ref (o + j0)), some (.int x1), some (.int x2), some (.int x3)]) rfl ?_
      exact wX3_copy_b35 C ho hl N j0 hj0 k7 hk7 (x1) (x2) (x3) ((sA s j0 (x3.toNatClampNeg) (s.2 j0 ((x2 + x3).toNatClampNeg)))) hF
set_option maxHeartbeats 4000000 in
theorem wX3_copy (l : Launch) (g : GT) {o : Nat} (ho : gB g ≤ o) (u : Wd) (N : Nat) (j0 : Nat) (x1 : Int32) (hj0 : 0 < j0 ∧ j0 ≤ 31 ∧ j0 ≠ 29) (s : M) (r : Unit) (s1 : M) (hF : FX3_copy N j0 x1 s = some (r, s1)) : kMt l g yX3_copy (ws_ yX3_copy cX3_copy 4 none) (1) (100) (wM g o s u) [.ref (o + j0), .int x1] none (wM g o s1 u) := by
  refine kMt.ofV (lv := [some (.ref (o + j0)), some (.int x1), none, none]) (by decide) rfl (Nat.le_of_ble_eq_true rfl) rfl ?_
  intro X hl hin C
  unfold FX3_copy at hF
  refine v_aload_n C dX3_copy_0 rfl rfl ?_
  refine m_alen C hj0.1 hj0.2.1 hj0.2.2 rfl dX3_copy_1 ?_
  refine v_iconst C (v := (2 : Int32)) dX3_copy_2 (by decide) ?_
  refine v_idiv C dX3_copy_3 (by decide) ?_
  refine v_istore_n C dX3_copy_4 rfl (Nat.le_of_ble_eq_true rfl) rfl (lv' := [some (.ref (o + j0)), some (.int x1), some (.int ((Int32.ofNat (lenM j0)) / (2 : Int32))), none]) rfl ?_
  refine v_iconst C (v := (0 : Int32)) dX3_copy_5 (by decide) ?_
  refine v_istore_n C dX3_copy_6 rfl (Nat.le_of_ble_eq_true rfl) rfl (lv' := [some (.ref (o + j0)), some (.int x1), some (.int ((Int32.ofNat (lenM j0)) / (2 : Int32))), some (.int (0 : Int32))]) rfl ?_
  refine v_mask [true, true, true, true] (lv' := [some (.ref (o + j0)), some (.int x1), some (.int ((Int32.ofNat (lenM j0)) / (2 : Int32))), some (.int (0 : Int32))]) rfl ?_
  exact kloop_ok (P := fun a => kV g X 4 (wM g o a.2.2.2 u) 7 [some (.ref (o + j0)), some (.int a.1), some (.int a.2.1), some (.int a.2.2.1)] []) (fun self hs a hF => wX3_copy_b7 C ho hl N j0 hj0  self hs a.1 a.2.1 a.2.2.1 a.2.2.2 hF) N (x1, ((Int32.ofNat (lenM j0)) / (2 : Int32)), (0 : Int32), s) hF
set_option maxHeartbeats 4000000 in
theorem wX3_copyAll (l : Launch) (g : GT) {o : Nat} (ho : gB g ≤ o) (u : Wd) (N : Nat) (x1 : Int32)  (s : M) (r : Unit) (s1 : M) (hF : FX3_copyAll N x1 s = some (r, s1)) : kMt l g yX3_copyAll (ws_ yX3_copyAll cX3_copyAll 2 none) (2) (200) (wM g o s u) [.ref o, .int x1] none (wM g o s1 u) := by
  refine kMt.ofV (lv := [some (.ref o), some (.int x1)]) (by decide) rfl (Nat.le_of_ble_eq_true rfl) rfl ?_
  intro X hl hin C
  unfold FX3_copyAll at hF
  refine v_aload_n C dX3_copyAll_0 rfl rfl ?_
  refine m_get C 1 (Nat.le_of_ble_eq_true rfl) q2303 (v := .ref (o + 1)) rfl dX3_copyAll_1 ?_
  refine v_iload_n C dX3_copyAll_4 rfl rfl ?_
  refine m_callSv C lk_X3_258 (fr2 := 1) (lo2 := 100) (As := [.ref (o + 1), .int x1]) (st := []) (fun r s1 h => by rw [hl]; exact wX3_copy l g ho u N 1 x1 ⟨Nat.le_of_ble_eq_true rfl, Nat.le_of_ble_eq_true rfl, by decide⟩ s r s1 h) (by decide) rfl rfl (Nat.le_of_ble_eq_true rfl) dX3_copyAll_5 hF (fun r1 s2 hF => ?_)
  refine v_aload_n C dX3_copyAll_8 rfl rfl ?_
  refine m_get C 2 (Nat.le_of_ble_eq_true rfl) q2304 (v := .ref (o + 2)) rfl dX3_copyAll_9 ?_
  refine v_iload_n C dX3_copyAll_12 rfl rfl ?_
  refine m_callSv C lk_X3_258 (fr2 := 1) (lo2 := 100) (As := [.ref (o + 2), .int x1]) (st := []) (fun r s1 h => by rw [hl]; exact wX3_copy l g ho u N 2 x1 ⟨Nat.le_of_ble_eq_true rfl, Nat.le_of_ble_eq_true rfl, by decide⟩ s2 r s1 h) (by decide) rfl rfl (Nat.le_of_ble_eq_true rfl) dX3_copyAll_13 hF (fun r3 s4 hF => ?_)
  refine v_aload_n C dX3_copyAll_16 rfl rfl ?_
  refine m_get C 3 (Nat.le_of_ble_eq_true rfl) q2305 (v := .ref (o + 3)) rfl dX3_copyAll_17 ?_
  refine v_iload_n C dX3_copyAll_20 rfl rfl ?_
  refine m_callSv C lk_X3_258 (fr2 := 1) (lo2 := 100) (As := [.ref (o + 3), .int x1]) (st := []) (fun r s1 h => by rw [hl]; exact wX3_copy l g ho u N 3 x1 ⟨Nat.le_of_ble_eq_true rfl, Nat.le_of_ble_eq_true rfl, by decide⟩ s4 r s1 h) (by decide) rfl rfl (Nat.le_of_ble_eq_true rfl) dX3_copyAll_21 hF (fun r5 s6 hF => ?_)
  refine v_aload_n C dX3_copyAll_24 rfl rfl ?_
  refine m_get C 4 (Nat.le_of_ble_eq_true rfl) q2306 (v := .ref (o + 4)) rfl dX3_copyAll_25 ?_
  refine v_iload_n C dX3_copyAll_28 rfl rfl ?_
  refine m_callSv C lk_X3_258 (fr2 := 1) (lo2 := 100) (As := [.ref (o + 4), .int x1]) (st := []) (fun r s1 h => by rw [hl]; exact wX3_copy l g ho u N 4 x1 ⟨Nat.le_of_ble_eq_true rfl, Nat.le_of_ble_eq_true rfl, by decide⟩ s6 r s1 h) (by decide) rfl rfl (Nat.le_of_ble_eq_true rfl) dX3_copyAll_29 hF (fun r7 s8 hF => ?_)
  refine v_aload_n C dX3_copyAll_32 rfl rfl ?_
  refine m_get C 5 (Nat.le_of_ble_eq_true rfl) q2307 (v := .ref (o + 5)) rfl dX3_copyAll_33 ?_
  refine v_iload_n C dX3_copyAll_36 rfl rfl ?_
  refine m_callSv C lk_X3_258 (fr2 := 1) (lo2 := 100) (As := [.ref (o + 5), .int x1]) (st := []) (fun r s1 h => by rw [hl]; exact wX3_copy l g ho u N 5 x1 ⟨Nat.le_of_ble_eq_true rfl, Nat.le_of_ble_eq_true rfl, by decide⟩ s8 r s1 h) (by decide) rfl rfl (Nat.le_of_ble_eq_true rfl) dX3_copyAll_37 hF (fun r9 s10 hF => ?_)
  refine v_aload_n C dX3_copyAll_40 rfl rfl ?_
  refine m_get C 6 (Nat.le_of_ble_eq_true rfl) q2308 (v := .ref (o + 6)) rfl dX3_copyAll_41 ?_
  refine v_iload_n C dX3_copyAll_44 rfl rfl ?_
  refine m_callSv C lk_X3_258 (fr2 := 1) (lo2 := 100) (As := [.ref (o + 6), .int x1]) (st := []) (fun r s1 h => by rw [hl]; exact wX3_copy l g ho u N 6 x1 ⟨Nat.le_of_ble_eq_true rfl, Nat.le_of_ble_eq_true rfl, by decide⟩ s10 r s1 h) (by decide) rfl rfl (Nat.le_of_ble_eq_true rfl) dX3_copyAll_45 hF (fun r11 s12 hF => ?_)
  refine v_aload_n C dX3_copyAll_48 rfl rfl ?_
  refine m_get C 7 (Nat.le_of_ble_eq_true rfl) q2309 (v := .ref (o + 7)) rfl dX3_copyAll_49 ?_
  refine v_iload_n C dX3_copyAll_52 rfl rfl ?_
  refine m_callSv C lk_X3_258 (fr2 := 1) (lo2 := 100) (As := [.ref (o + 7), .int x1]) (st := []) (fun r s1 h => by rw [hl]; exact wX3_copy l g ho u N 7 x1 ⟨Nat.le_of_ble_eq_true rfl, Nat.le_of_ble_eq_true rfl, by decide⟩ s12 r s1 h) (by decide) rfl rfl (Nat.le_of_ble_eq_true rfl) dX3_copyAll_53 hF (fun r13 s14 hF => ?_)
  refine v_aload_n C dX3_copyAll_56 rfl rfl ?_
  refine m_get C 8 (Nat.le_of_ble_eq_true rfl) q2310 (v := .ref (o + 8)) rfl dX3_copyAll_57 ?_
  refine v_iload_n C dX3_copyAll_60 rfl rfl ?_
  refine m_callSv C lk_X3_258 (fr2 := 1) (lo2 := 100) (As := [.ref (o + 8), .int x1]) (st := []) (fun r s1 h => by rw [hl]; exact wX3_copy l g ho u N 8 x1 ⟨Nat.le_of_ble_eq_true rfl, Nat.le_of_ble_eq_true rfl, by decide⟩ s14 r s1 h) (by decide) rfl rfl (Nat.le_of_ble_eq_true rfl) dX3_copyAll_61 hF (fun r15 s16 hF => ?_)
  refine v_aload_n C dX3_copyAll_64 rfl rfl ?_
  refine m_get C 9 (Nat.le_of_ble_eq_true rfl) q2311 (v := .ref (o + 9)) rfl dX3_copyAll_65 ?_
  refine v_iload_n C dX3_copyAll_68 rfl rfl ?_
  refine m_callSv C lk_X3_258 (fr2 := 1) (lo2 := 100) (As := [.ref (o + 9), .int x1]) (st := []) (fun r s1 h => by rw [hl]; exact wX3_copy l g ho u N 9 x1 ⟨Nat.le_of_ble_eq_true rfl, Nat.le_of_ble_eq_true rfl, by decide⟩ s16 r s1 h) (by decide) rfl rfl (Nat.le_of_ble_eq_true rfl) dX3_copyAll_69 hF (fun r17 s18 hF => ?_)
  refine v_aload_n C dX3_copyAll_72 rfl rfl ?_
  refine m_get C 10 (Nat.le_of_ble_eq_true rfl) q2312 (v := .ref (o + 10)) rfl dX3_copyAll_73 ?_
  refine v_iload_n C dX3_copyAll_76 rfl rfl ?_
  refine m_callSv C lk_X3_258 (fr2 := 1) (lo2 := 100) (As := [.ref (o + 10), .int x1]) (st := []) (fun r s1 h => by rw [hl]; exact wX3_copy l g ho u N 10 x1 ⟨Nat.le_of_ble_eq_true rfl, Nat.le_of_ble_eq_true rfl, by decide⟩ s18 r s1 h) (by decide) rfl rfl (Nat.le_of_ble_eq_true rfl) dX3_copyAll_77 hF (fun r19 s20 hF => ?_)
  refine v_aload_n C dX3_copyAll_80 rfl rfl ?_
  refine m_get C 12 (Nat.le_of_ble_eq_true rfl) q2314 (v := .ref (o + 11)) rfl dX3_copyAll_81 ?_
  refine v_iload_n C dX3_copyAll_84 rfl rfl ?_
  refine m_callSv C lk_X3_258 (fr2 := 1) (lo2 := 100) (As := [.ref (o + 11), .int x1]) (st := []) (fun r s1 h => by rw [hl]; exact wX3_copy l g ho u N 11 x1 ⟨Nat.le_of_ble_eq_true rfl, Nat.le_of_ble_eq_true rfl, by decide⟩ s20 r s1 h) (by decide) rfl rfl (Nat.le_of_ble_eq_true rfl) dX3_copyAll_85 hF (fun r21 s22 hF => ?_)
  refine v_aload_n C dX3_copyAll_88 rfl rfl ?_
  refine m_get C 13 (Nat.le_of_ble_eq_true rfl) q2315 (v := .ref (o + 12)) rfl dX3_copyAll_89 ?_
  refine v_iload_n C dX3_copyAll_92 rfl rfl ?_
  refine m_callSv C lk_X3_258 (fr2 := 1) (lo2 := 100) (As := [.ref (o + 12), .int x1]) (st := []) (fun r s1 h => by rw [hl]; exact wX3_copy l g ho u N 12 x1 ⟨Nat.le_of_ble_eq_true rfl, Nat.le_of_ble_eq_true rfl, by decide⟩ s22 r s1 h) (by decide) rfl rfl (Nat.le_of_ble_eq_true rfl) dX3_copyAll_93 hF (fun r23 s24 hF => ?_)
  refine v_aload_n C dX3_copyAll_96 rfl rfl ?_
  refine m_get C 14 (Nat.le_of_ble_eq_true rfl) q2316 (v := .ref (o + 13)) rfl dX3_copyAll_97 ?_
  refine v_iload_n C dX3_copyAll_100 rfl rfl ?_
  refine m_callSv C lk_X3_258 (fr2 := 1) (lo2 := 100) (As := [.ref (o + 13), .int x1]) (st := []) (fun r s1 h => by rw [hl]; exact wX3_copy l g ho u N 13 x1 ⟨Nat.le_of_ble_eq_true rfl, Nat.le_of_ble_eq_true rfl, by decide⟩ s24 r s1 h) (by decide) rfl rfl (Nat.le_of_ble_eq_true rfl) dX3_copyAll_101 hF (fun r25 s26 hF => ?_)
  refine v_aload_n C dX3_copyAll_104 rfl rfl ?_
  refine m_get C 15 (Nat.le_of_ble_eq_true rfl) q2317 (v := .ref (o + 14)) rfl dX3_copyAll_105 ?_
  refine v_iload_n C dX3_copyAll_108 rfl rfl ?_
  refine m_callSv C lk_X3_258 (fr2 := 1) (lo2 := 100) (As := [.ref (o + 14), .int x1]) (st := []) (fun r s1 h => by rw [hl]; exact wX3_copy l g ho u N 14 x1 ⟨Nat.le_of_ble_eq_true rfl, Nat.le_of_ble_eq_true rfl, by decide⟩ s26 r s1 h) (by decide) rfl rfl (Nat.le_of_ble_eq_true rfl) dX3_copyAll_109 hF (fun r27 s28 hF => ?_)
  exact m_vret C dX3_copyAll_112 hF
set_option maxHeartbeats 4000000 in
theorem wX3_image (l : Launch) (g : GT) {o : Nat} (ho : gB g ≤ o) (u : Wd) (N : Nat)   (s : M) (r : Int32) (s1 : M) (hF : FX3_image N  s = some (r, s1)) : kMt l g yX3_image (ws_ yX3_image cX3_image 1 (some .int)) (3) (300) (wM g o s u) [.ref o] (some (.int r)) (wM g o s1 u) := by
  refine kMt.ofV (lv := [some (.ref o)]) (by decide) rfl (Nat.le_of_ble_eq_true rfl) rfl ?_
  intro X hl hin C
  unfold FX3_image at hF
  refine v_aload_n C dX3_image_0 rfl rfl ?_
  refine v_iconst C (v := (1 : Int32)) dX3_image_1 (by decide) ?_
  refine m_put C ho 11 (Nat.le_of_ble_eq_true rfl) q2313 rfl rfl rfl rfl dX3_image_2 ?_
  refine v_aload_n C dX3_image_5 rfl rfl ?_
  refine v_iconst C (v := (0 : Int32)) dX3_image_6 (by decide) ?_
  refine m_callVv C lk_X3_266 rfl (fr2 := 2) (lo2 := 200) (As := [.int (0 : Int32)]) (st := []) (fun r s1 h => by rw [hl]; exact wX3_copyAll l g ho u N (0 : Int32) (sS s 11 (1 : Int32)) r s1 h) (by decide) rfl rfl (Nat.le_of_ble_eq_true rfl) dX3_image_7 hF (fun r1 s2 hF => ?_)
  refine v_aload_n C dX3_image_10 rfl rfl ?_
  refine m_get C 2 (Nat.le_of_ble_eq_true rfl) q2304 (v := .ref (o + 2)) rfl dX3_image_11 ?_
  refine v_iconst C (v := (0 : Int32)) dX3_image_14 (by decide) ?_
  refine m_ald C (Nat.le_of_ble_eq_true rfl) (Nat.le_of_ble_eq_true rfl) (by decide) (n := 2) rfl rfl (ix := 0) (by decide) dX3_image_15 ?_
  exact m_iret C dX3_image_16 hF
set_option maxHeartbeats 4000000 in
theorem wX3_undo (l : Launch) (g : GT) {o : Nat} (ho : gB g ≤ o) (u : Wd) (N : Nat)   (s : M) (r : Int32) (s1 : M) (hF : FX3_undo N  s = some (r, s1)) : kMt l g yX3_undo (ws_ yX3_undo cX3_undo 1 (some .int)) (3) (300) (wM g o s u) [.ref o] (some (.int r)) (wM g o s1 u) := by
  refine kMt.ofV (lv := [some (.ref o)]) (by decide) rfl (Nat.le_of_ble_eq_true rfl) rfl ?_
  intro X hl hin C
  unfold FX3_undo at hF
  refine v_aload_n C dX3_undo_0 rfl rfl ?_
  refine m_get C 11 (Nat.le_of_ble_eq_true rfl) q2313 (v := .int (s.1 11)) rfl dX3_undo_1 ?_
  refine v_if_ne C (tgt := 10) dX3_undo_4 (by decide) hF (fun c1 hF => ?_) (fun c1 hF => ?_)
  · refine v_bipush C (v := (-3 : Int32)) dX3_undo_7 (by decide) ?_
    exact m_iret C dX3_undo_9 hF
  · refine v_aload_n C dX3_undo_10 rfl rfl ?_
    refine v_iconst C (v := (1 : Int32)) dX3_undo_11 (by decide) ?_
    refine m_callVv C lk_X3_266 rfl (fr2 := 2) (lo2 := 200) (As := [.int (1 : Int32)]) (st := []) (fun r s1 h => by rw [hl]; exact wX3_copyAll l g ho u N (1 : Int32) s r s1 h) (by decide) rfl rfl (Nat.le_of_ble_eq_true rfl) dX3_undo_12 hF (fun r2 s3 hF => ?_)
    refine v_aload_n C dX3_undo_15 rfl rfl ?_
    refine m_get C 2 (Nat.le_of_ble_eq_true rfl) q2304 (v := .ref (o + 2)) rfl dX3_undo_16 ?_
    refine v_iconst C (v := (0 : Int32)) dX3_undo_19 (by decide) ?_
    refine m_ald C (Nat.le_of_ble_eq_true rfl) (Nat.le_of_ble_eq_true rfl) (by decide) (n := 2) rfl rfl (ix := 0) (by decide) dX3_undo_20 ?_
    exact m_iret C dX3_undo_21 hF
