/-! the law's own rows: the script, calls of methods with handlers, the end -/
set_option maxRecDepth 100000
section LR
variable {g : GT} {X : CxT} {cc : ByteArray} {nL : Nat} {own : String} {rt : Option FieldType} {fr lo : Nat} {rv : Option Value} {w1 w : Wd} {pc : Nat} {lv : List (Option Value)} {st : List Value}
theorem scr_S {H : Heap} {locs : List Loc} (hgB : (gH g).size = gB g) (a1 : kRp g w H) (b : ∀ z ∈ locs, gB g ≤ z.base) : va_S (kBs g) (gH g) H locs :=
  ⟨by have h1 := a1.2.1; have h2 := a1.2.2.2.1.1; omega, fun q hq hA => a1.2.2.2.2 q (by have : ¬ gB g ≤ q := hA; omega), b⟩
theorem v_sld (C : kOk g X cc nL own rt fr lo rv w1) (hgB : (gH g).size = gB g) {b9 L : Nat} {sc : Nat → Int32} (hS : va_X b9 L sc (xs X) (gH g)) (hb9 : b9 < gB g) {i : Int32} {v : Int32} (hin : kin i L = true) (hv : sc i.toNatClampNeg = v) (hdg : decode cc pc = .ok (.iaload, 1)) (kk : kV g X nL w (pc + 1) lv (.int v :: st)) : kV g X nL w pc lv (.int i :: .ref b9 :: st) := by
  subst hv
  intro H locs ls a1 b h
  exact va_sld C.1 C.2.1 hS (by omega) (by show ¬ gB g ≤ b9; omega) (scr_S hgB a1 b) (kin_vp hin) hdg (kk H locs ls a1 b h)
theorem v_slen (C : kOk g X cc nL own rt fr lo rv w1) (hgB : (gH g).size = gB g) {b9 L : Nat} {sc : Nat → Int32} (hS : va_X b9 L sc (xs X) (gH g)) (hb9 : b9 < gB g) (hdg : decode cc pc = .ok (.arraylength, 1)) (kk : kV g X nL w (pc + 1) lv (.int (Int32.ofNat L) :: st)) : kV g X nL w pc lv (.ref b9 :: st) := by
  intro H locs ls a1 b h
  exact va_slen C.1 C.2.1 hS (by omega) (by show ¬ gB g ≤ b9; omega) (scr_S hgB a1 b) hdg (kk H locs ls a1 b h)
theorem v_runP {a0 : Array Value} {P : Int32 → Wd → Prop} {st0 : List Value} {mc ms : Nat}
    (hr : ∀ (H : Heap) (locs : List Loc) (ls : Array Slot), kRp g w H → lv_has ls nL (lvE 0 lv) → (xs X).heap.size ≤ w.2.1 → khs (xs X).heap ≤ w.2.2 →
      va_Run (xp X) (xl X) (xe X) (xR X) (xs X) (xm X) (xa X) (xb X) (xh X) (xc X) H locs (w.2.1 - (xs X).heap.size) (w.2.2 - khs (xs X).heap) mc ms (F0 (xm X) pc ls st0) st (Qp g P a0) (kfree g))
    (k : ∀ r9 w9, P r9 w9 → kV g X nL w9 (pc + 3) lv (.int r9 :: st)) : kV g X nL w pc lv st0 := by
  intro H locs ls a b h
  refine kW_tight a (fun z1 z2 => ?_)
  intro T hT X0
  obtain ⟨v, st₀, t, T', L, h0, X', hL, e1, e2, ⟨r9, w9, hv, hR, hP⟩, stp⟩ := hr H locs ls a h z1 z2 T hT X0
  cases hv
  have hR' : kRp g w9 T'.heap := by rw [e1]; exact hR
  obtain ⟨t2, a1, b1⟩ := kW_tight hR' (fun _ _ => k r9 w9 hP T'.heap (locs ++ L) ls hR' (fun q hq => by
    rcases List.mem_append.mp hq with z | z
    · exact b q z
    · exact hL q z) h) T' rfl X'
  exact ⟨t2, stp t2 a1, b1⟩
theorem Qp_blind : True := trivial
theorem v_callVp (C : kOk g X cc nL own rt fr lo rv w1) {index : Nat} {y : MethodName} {b : ByteArray} {mL n : Nat} {ret : Option FieldType} {hh : List (Nat × Nat × Nat × Nat)} (l1 : Cond.methodLink own index y ∈ lw_all) (l2 : Cond.instanceMethod y ∈ lw_all) (l3 : Cond.selects y.cls y y ∈ lw_all) (l4 : Cond.initialized y.cls ∈ lw_all) (l5 : Cond.codeWith y b mL ret hh ∈ lw_all) (l6 : kD y n) {fr2 lo2 : Nat} {a : Nat} {As : List Value} {P : Int32 → Wd → Prop} {st0 : List Value} {ci N : Nat} {T : u_T} {fs : List Value} (hc : kcl[ci]? = some (y.cls, T, N)) (ha : w.1 a = some (.inl (.inr (ci, fs)))) (hM : kMp (xl X) g y (wsW_ y b mL ret hh) fr2 lo2 w (.ref a :: As) P) (hR : fr2 + 1 ≤ fr ∧ 8 + (mL + 11) + lo2 ≤ lo) (hn : As.length = n) (hst : st0 = As.reverse ++ .ref a :: st) (hw : (st.map fun v => v.category).sum ≤ 8) (hdg : decode cc pc = .ok (.invokevirtual index, 3))
    (k : ∀ r9 w9, P r9 w9 → kV g X nL w9 (pc + 3) lv (.int r9 :: st)) : kV g X nL w pc lv st0 := by
  refine v_runP (mc := gcc g - w.2.1) (ms := gcs g - w.2.2) (a0 := (Value.ref a :: As).toArray) (fun H locs ls a1 h z1 z2 => ?_) k
  obtain ⟨hx, hb, hml, hown, hts, hG, -, -, ⟨r1, r2, r3, r4⟩, -⟩ := C
  have c1 := a1.2.2.2.1.2.1
  have c2 := a1.2.2.2.1.2.2
  refine vx_runVW (As := As) (hh := hh) ⟨hx, hb, hml, hown, hts⟩ hM (vx_cwVW n hts (lw_VW l1 l2 l3 l4 l5) rfl rfl rfl ⟨rfl, l6⟩ ?_) ⟨Pk_blind, k_recv hG a1 hc ha, Pk_at hG a1⟩ rfl hn h.1 hst (lv_room hw) hdg ?_
  · rw [r1, r2]; exact hR
  · rw [r3, r4]; exact ⟨by omega, by omega⟩
end LR
/-- what the pure part owes of an operation: both answer alike, the relation J stays -/
def OpOk (g : GT) (o : Nat) (J : Wd → M → Prop) (FC : Wd → Option (Int32 × Wd)) (FM : M → Option (Int32 × M)) : Prop := ∀ w σ k, J w σ → Rm g w (9000 + k) → ∃ r w' σ', FC w = some (r, w') ∧ FM σ = some (r, σ') ∧ wM g o σ w' = w' ∧ J (wM g o σ' w') σ' ∧ Rm g w' k
def OpOkP (g : GT) (o : Nat) (J : Wd → M → Prop) (FC : Wd → Option ((Int32 ⊕ Int32) × Wd)) (FM : M → Option (Int32 × M)) : Prop := ∀ w σ k, J w σ → Rm g w (9000 + k) → ∃ z w' r σ', FC w = some (z, w') ∧ FM σ = some (r, σ') ∧ ∀ r9 w9, kPz z w' r9 w9 → r9 = r ∧ wM g o σ w9 = w9 ∧ J (wM g o σ' w9) σ' ∧ Rm g w9 k
theorem sc_in {L i j : Nat} (hj : j < 4) (hL : L ≤ 256) (hi : i + 3 < L) : kin (n32 i + Int32.ofNat j) L = true := by
  rw [show n32 i + Int32.ofNat j = n32 (i + j) from n32_add i j, kin_n (by omega)]
  simp; omega
theorem sc_at (sc : Nat → Int32) {i j : Nat} (h : i + j < 2147483648) : sc (n32 i + Int32.ofNat j).toNatClampNeg = sc (i + j) := by
  rw [show n32 i + Int32.ofNat j = n32 (i + j) from n32_add i j, n32_n h]
theorem sc_in0 {L i : Nat} (hL : L ≤ 256) (hi : i + 3 < L) : kin (n32 i) L = true := by
  rw [kin_n (by omega)]
  simp; omega
theorem sc_at0 (sc : Nat → Int32) {i : Nat} (h : i < 2147483648) : sc (n32 i).toNatClampNeg = sc i := by rw [n32_n h]
theorem sc_end {L i : Nat} (hL : L ≤ 256) (h : L < i + 4) (hi : i < 1000 := by omega) : Int32.ofNat L - 4 < n32 i := by
  by_cases h4 : 4 ≤ L
  · rw [show Int32.ofNat L - 4 = n32 (L - 4) from n32_sub (j := 4) h4, n32_lt (by omega) (by omega)]
    omega
  · have hz : (n32 i).toInt = i := n32_i (by omega)
    rw [Int32.lt_iff_toInt_lt, hz]
    have : (Int32.ofNat L - 4).toInt < 0 := by
      rcases (show L = 0 ∨ L = 1 ∨ L = 2 ∨ L = 3 by omega) with rfl | rfl | rfl | rfl <;> decide
    omega
theorem sc_go {L i : Nat} (hL : L ≤ 256) (h : i + 4 ≤ L) : ¬ Int32.ofNat L - 4 < n32 i := by
  rw [show Int32.ofNat L - 4 = n32 (L - 4) from n32_sub (j := 4) (by omega), n32_lt (by omega) (by omega)]
  omega
set_option maxRecDepth 100000
theorem lkL_13 : kLV "CardLoomLaw" 13 yX0_feed cX0_feed 2 (some .int) 1 := ⟨q245, q246, q247, q78, q248, by unfold kD; decide +kernel⟩
theorem lkL_17 : kLV "CardLoomLaw" 17 yX3_feed cX3_feed 2 (some .int) 1 := ⟨q2427, q2428, q2429, q85, q2430, by unfold kD; decide +kernel⟩
theorem ls_0 {g : GT} {X : CxT} (CF : ∀ w9, kOk g X cL_law 4 "CardLoomLaw" (some .boolean) 2048 98496 (some (.int 1)) w9) (hX : ∀ U, gX g U → SX g U) (hZ : ∀ U, gX g U → SZ g U) (hst : (xl X).stackTraces = false) (hgB : (gH g).size = gB g) {b9 L : Nat} {sc : Nat → Int32} (hS : va_X b9 L sc (xs X) (gH g)) (hb9 : b9 < gB g) (N x o : Nat) (ho : gB g ≤ o) {J : Wd → M → Prop} (hJx : ∀ w σ, J w σ → ∃ fs, w.1 x = some (.inl (.inr (1, fs)))) (hop : ∀ a1 : Int32, OpOk g o J (fun w => FX0_feed N g x a1 w) (fun s => FX3_feed N a1 s)) {w : Wd} {σ : M} {k i : Nat} (hJ : J w σ) (hR : Rm g w (9000 + k)) (hi : i + 3 < L) (hL : L ≤ 256) (kk : ∀ w' σ', J w' σ' → Rm g w' k → kV g X 4 w' 1329 [some (.ref b9), some (.ref x), some (.ref o), some (.int (n32 i))] []) : kV g X 4 w 220 [some (.ref b9), some (.ref x), some (.ref o), some (.int (n32 i))] [] := by
  have C := CF w
  obtain ⟨fs, hfs⟩ := hJx w σ hJ
  obtain ⟨r, w', σ', h1, h2, h3, h4, h5⟩ := hop (sc (i + 1)) w σ k hJ hR
  refine v_aload_n C dL_law_220 rfl rfl ?_
  refine v_aload_n C dL_law_221 rfl rfl ?_
  refine v_iload_n C dL_law_222 rfl rfl ?_
  refine v_iconst C (v := (1 : Int32)) dL_law_223 (by decide) ?_
  refine v_iadd C dL_law_224 ?_
  refine v_sld C hgB hS hb9 (sc_in (j := 1) (by omega) hL hi) (sc_at sc (j := 1) (by omega)) dL_law_225 ?_
  refine v_callV C lkL_13 (ci := 1) rfl hfs (As := [.int (sc (i + 1))]) (wX0_feed (xl X) g hX N x (sc (i + 1)) w _ _ h1) (by decide) rfl rfl (Nat.le_of_ble_eq_true rfl) dL_law_226 ?_
  rw [← h3]
  refine v_aload_n C dL_law_229 rfl rfl ?_
  refine v_aload_n C dL_law_230 rfl rfl ?_
  refine v_iload_n C dL_law_231 rfl rfl ?_
  refine v_iconst C (v := (1 : Int32)) dL_law_232 (by decide) ?_
  refine v_iadd C dL_law_233 ?_
  refine v_sld C hgB hS hb9 (sc_in (j := 1) (by omega) hL hi) (sc_at sc (j := 1) (by omega)) dL_law_234 ?_
  refine v_callV C lkL_17 (ci := 0) rfl hM_o (As := [.int (sc (i + 1))]) (wX3_feed (xl X) g ho w' N (sc (i + 1)) σ _ σ' h2) (by decide) rfl rfl (Nat.le_of_ble_eq_true rfl) dL_law_235 ?_
  exact v_icmp_eq C (tgt := 1329) dL_law_238 (by decide) (f1 := some ()) (f2 := none) (z := ()) (if_pos rfl) (fun _ _ => kk _ σ' h4 h5) (fun q _ => absurd rfl q)
theorem lkL_18 : kLV "CardLoomLaw" 18 yX0_clear cX0_clear 2 (some .int) 0 := ⟨q252, q253, q254, q78, q255, by unfold kD; decide +kernel⟩
theorem lkL_22 : kLV "CardLoomLaw" 22 yX3_clear cX3_clear 2 (some .int) 0 := ⟨q2434, q2435, q2436, q85, q2437, by unfold kD; decide +kernel⟩
theorem ls_1 {g : GT} {X : CxT} (CF : ∀ w9, kOk g X cL_law 4 "CardLoomLaw" (some .boolean) 2048 98496 (some (.int 1)) w9) (hX : ∀ U, gX g U → SX g U) (hZ : ∀ U, gX g U → SZ g U) (hst : (xl X).stackTraces = false) (hgB : (gH g).size = gB g) {b9 L : Nat} {sc : Nat → Int32} (hS : va_X b9 L sc (xs X) (gH g)) (hb9 : b9 < gB g) (N x o : Nat) (ho : gB g ≤ o) {J : Wd → M → Prop} (hJx : ∀ w σ, J w σ → ∃ fs, w.1 x = some (.inl (.inr (1, fs)))) (hop : OpOk g o J (fun w => FX0_clear N g x  w) (fun s => FX3_clear N  s)) {w : Wd} {σ : M} {k i : Nat} (hJ : J w σ) (hR : Rm g w (9000 + k)) (hi : i + 3 < L) (hL : L ≤ 256) (kk : ∀ w' σ', J w' σ' → Rm g w' k → kV g X 4 w' 1329 [some (.ref b9), some (.ref x), some (.ref o), some (.int (n32 i))] []) : kV g X 4 w 243 [some (.ref b9), some (.ref x), some (.ref o), some (.int (n32 i))] [] := by
  have C := CF w
  obtain ⟨fs, hfs⟩ := hJx w σ hJ
  obtain ⟨r, w', σ', h1, h2, h3, h4, h5⟩ := hop w σ k hJ hR
  refine v_aload_n C dL_law_243 rfl rfl ?_
  refine v_callV C lkL_18 (ci := 1) rfl hfs (As := []) (wX0_clear (xl X) g hX N x  w _ _ h1) (by decide) rfl rfl (Nat.le_of_ble_eq_true rfl) dL_law_244 ?_
  rw [← h3]
  refine v_aload_n C dL_law_247 rfl rfl ?_
  refine v_callV C lkL_22 (ci := 0) rfl hM_o (As := []) (wX3_clear (xl X) g ho w' N  σ _ σ' h2) (by decide) rfl rfl (Nat.le_of_ble_eq_true rfl) dL_law_248 ?_
  exact v_icmp_eq C (tgt := 1329) dL_law_251 (by decide) (f1 := some ()) (f2 := none) (z := ()) (if_pos rfl) (fun _ _ => kk _ σ' h4 h5) (fun q _ => absurd rfl q)
theorem lkL_26 : kLV "CardLoomLaw" 26 yX3_thread cX3_thread 4 (some .int) 0 := ⟨q2462, q2463, q2464, q85, q2465, by unfold kD; decide +kernel⟩
theorem ls_2 {g : GT} {X : CxT} (CF : ∀ w9, kOk g X cL_law 4 "CardLoomLaw" (some .boolean) 2048 98496 (some (.int 1)) w9) (hX : ∀ U, gX g U → SX g U) (hZ : ∀ U, gX g U → SZ g U) (hst : (xl X).stackTraces = false) (hgB : (gH g).size = gB g) {b9 L : Nat} {sc : Nat → Int32} (hS : va_X b9 L sc (xs X) (gH g)) (hb9 : b9 < gB g) (N x o : Nat) (ho : gB g ≤ o) {J : Wd → M → Prop} (hJx : ∀ w σ, J w σ → ∃ fs, w.1 x = some (.inl (.inr (1, fs)))) (hop : OpOk g o J (fun w => FX0_thread N g x  w) (fun s => FX3_thread N  s)) {w : Wd} {σ : M} {k i : Nat} (hJ : J w σ) (hR : Rm g w (9000 + k)) (hi : i + 3 < L) (hL : L ≤ 256) (kk : ∀ w' σ', J w' σ' → Rm g w' k → kV g X 4 w' 1329 [some (.ref b9), some (.ref x), some (.ref o), some (.int (n32 i))] []) : kV g X 4 w 256 [some (.ref b9), some (.ref x), some (.ref o), some (.int (n32 i))] [] := by
  have C := CF w
  obtain ⟨fs, hfs⟩ := hJx w σ hJ
  obtain ⟨r, w', σ', h1, h2, h3, h4, h5⟩ := hop w σ k hJ hR
  refine v_aload_n C dL_law_256 rfl rfl ?_
  refine v_callVp C (y := yX0_thread) (b := cX0_thread) (mL := 4) (n := 0) (ret := some .int) (hh := hhX0_thread) q256 q257 q258 q78 q259 (by unfold kD; decide +kernel) (ci := 1) rfl hfs (As := []) (wX0_thread (xl X) g hX N x  w _ _ h1) (by decide) rfl rfl (Nat.le_of_ble_eq_true rfl) dL_law_257 (fun r9 w9 hP => ?_)
  obtain ⟨rfl, rfl⟩ := hP
  rw [← h3]
  refine v_aload_n C dL_law_260 rfl rfl ?_
  refine v_callV C lkL_26 (ci := 0) rfl hM_o (As := []) (wX3_thread (xl X) g ho w9 N  σ _ σ' h2) (by decide) rfl rfl (Nat.le_of_ble_eq_true rfl) dL_law_261 ?_
  exact v_icmp_eq C (tgt := 1329) dL_law_264 (by decide) (f1 := some ()) (f2 := none) (z := ()) (if_pos rfl) (fun _ _ => kk _ σ' h4 h5) (fun q _ => absurd rfl q)
theorem lkL_30 : kLV "CardLoomLaw" 30 yX3_law cX3_law 2 (some .int) 0 := ⟨q2438, q2439, q2440, q85, q2441, by unfold kD; decide +kernel⟩
theorem ls_3 {g : GT} {X : CxT} (CF : ∀ w9, kOk g X cL_law 4 "CardLoomLaw" (some .boolean) 2048 98496 (some (.int 1)) w9) (hX : ∀ U, gX g U → SX g U) (hZ : ∀ U, gX g U → SZ g U) (hst : (xl X).stackTraces = false) (hgB : (gH g).size = gB g) {b9 L : Nat} {sc : Nat → Int32} (hS : va_X b9 L sc (xs X) (gH g)) (hb9 : b9 < gB g) (N x o : Nat) (ho : gB g ≤ o) {J : Wd → M → Prop} (hJx : ∀ w σ, J w σ → ∃ fs, w.1 x = some (.inl (.inr (1, fs)))) (hop : OpOk g o J (fun w => FX0_law N g x  w) (fun s => FX3_law N  s)) {w : Wd} {σ : M} {k i : Nat} (hJ : J w σ) (hR : Rm g w (9000 + k)) (hi : i + 3 < L) (hL : L ≤ 256) (kk : ∀ w' σ', J w' σ' → Rm g w' k → kV g X 4 w' 1329 [some (.ref b9), some (.ref x), some (.ref o), some (.int (n32 i))] []) : kV g X 4 w 269 [some (.ref b9), some (.ref x), some (.ref o), some (.int (n32 i))] [] := by
  have C := CF w
  obtain ⟨fs, hfs⟩ := hJx w σ hJ
  obtain ⟨r, w', σ', h1, h2, h3, h4, h5⟩ := hop w σ k hJ hR
  refine v_aload_n C dL_law_269 rfl rfl ?_
  refine v_callVp C (y := yX0_law) (b := cX0_law) (mL := 4) (n := 0) (ret := some .int) (hh := hhX0_law) q488 q489 q490 q78 q491 (by unfold kD; decide +kernel) (ci := 1) rfl hfs (As := []) (wX0_law (xl X) g hX N x  w _ _ h1) (by decide) rfl rfl (Nat.le_of_ble_eq_true rfl) dL_law_270 (fun r9 w9 hP => ?_)
  obtain ⟨rfl, rfl⟩ := hP
  rw [← h3]
  refine v_aload_n C dL_law_273 rfl rfl ?_
  refine v_callV C lkL_30 (ci := 0) rfl hM_o (As := []) (wX3_law (xl X) g ho w9 N  σ _ σ' h2) (by decide) rfl rfl (Nat.le_of_ble_eq_true rfl) dL_law_274 ?_
  exact v_icmp_eq C (tgt := 1329) dL_law_277 (by decide) (f1 := some ()) (f2 := none) (z := ()) (if_pos rfl) (fun _ _ => kk _ σ' h4 h5) (fun q _ => absurd rfl q)
theorem lkL_31 : kLV "CardLoomLaw" 31 yX0_card cX0_card 4 (some .int) 2 := ⟨q678, q679, q680, q78, q681, by unfold kD; decide +kernel⟩
theorem lkL_35 : kLV "CardLoomLaw" 35 yX3_card cX3_card 3 (some .int) 2 := ⟨q2470, q2471, q2472, q85, q2473, by unfold kD; decide +kernel⟩
theorem ls_4 {g : GT} {X : CxT} (CF : ∀ w9, kOk g X cL_law 4 "CardLoomLaw" (some .boolean) 2048 98496 (some (.int 1)) w9) (hX : ∀ U, gX g U → SX g U) (hZ : ∀ U, gX g U → SZ g U) (hst : (xl X).stackTraces = false) (hgB : (gH g).size = gB g) {b9 L : Nat} {sc : Nat → Int32} (hS : va_X b9 L sc (xs X) (gH g)) (hb9 : b9 < gB g) (N x o : Nat) (ho : gB g ≤ o) {J : Wd → M → Prop} (hJx : ∀ w σ, J w σ → ∃ fs, w.1 x = some (.inl (.inr (1, fs)))) (hop : ∀ a1 a2 : Int32, OpOk g o J (fun w => FX0_card N g x a1 a2 w) (fun s => FX3_card N a1 a2 s)) {w : Wd} {σ : M} {k i : Nat} (hJ : J w σ) (hR : Rm g w (9000 + k)) (hi : i + 3 < L) (hL : L ≤ 256) (kk : ∀ w' σ', J w' σ' → Rm g w' k → kV g X 4 w' 1329 [some (.ref b9), some (.ref x), some (.ref o), some (.int (n32 i))] []) : kV g X 4 w 282 [some (.ref b9), some (.ref x), some (.ref o), some (.int (n32 i))] [] := by
  have C := CF w
  obtain ⟨fs, hfs⟩ := hJx w σ hJ
  obtain ⟨r, w', σ', h1, h2, h3, h4, h5⟩ := hop (sc (i + 1)) (sc (i + 2)) w σ k hJ hR
  refine v_aload_n C dL_law_282 rfl rfl ?_
  refine v_aload_n C dL_law_283 rfl rfl ?_
  refine v_iload_n C dL_law_284 rfl rfl ?_
  refine v_iconst C (v := (1 : Int32)) dL_law_285 (by decide) ?_
  refine v_iadd C dL_law_286 ?_
  refine v_sld C hgB hS hb9 (sc_in (j := 1) (by omega) hL hi) (sc_at sc (j := 1) (by omega)) dL_law_287 ?_
  refine v_aload_n C dL_law_288 rfl rfl ?_
  refine v_iload_n C dL_law_289 rfl rfl ?_
  refine v_iconst C (v := (2 : Int32)) dL_law_290 (by decide) ?_
  refine v_iadd C dL_law_291 ?_
  refine v_sld C hgB hS hb9 (sc_in (j := 2) (by omega) hL hi) (sc_at sc (j := 2) (by omega)) dL_law_292 ?_
  refine v_callV C lkL_31 (ci := 1) rfl hfs (As := [.int (sc (i + 1)), .int (sc (i + 2))]) (wX0_card (xl X) g hX N x (sc (i + 1)) (sc (i + 2)) w _ _ h1) (by decide) rfl rfl (Nat.le_of_ble_eq_true rfl) dL_law_293 ?_
  rw [← h3]
  refine v_aload_n C dL_law_296 rfl rfl ?_
  refine v_aload_n C dL_law_297 rfl rfl ?_
  refine v_iload_n C dL_law_298 rfl rfl ?_
  refine v_iconst C (v := (1 : Int32)) dL_law_299 (by decide) ?_
  refine v_iadd C dL_law_300 ?_
  refine v_sld C hgB hS hb9 (sc_in (j := 1) (by omega) hL hi) (sc_at sc (j := 1) (by omega)) dL_law_301 ?_
  refine v_aload_n C dL_law_302 rfl rfl ?_
  refine v_iload_n C dL_law_303 rfl rfl ?_
  refine v_iconst C (v := (2 : Int32)) dL_law_304 (by decide) ?_
  refine v_iadd C dL_law_305 ?_
  refine v_sld C hgB hS hb9 (sc_in (j := 2) (by omega) hL hi) (sc_at sc (j := 2) (by omega)) dL_law_306 ?_
  refine v_callV C lkL_35 (ci := 0) rfl hM_o (As := [.int (sc (i + 1)), .int (sc (i + 2))]) (wX3_card (xl X) g ho w' N (sc (i + 1)) (sc (i + 2)) σ _ σ' h2) (by decide) rfl rfl (Nat.le_of_ble_eq_true rfl) dL_law_307 ?_
  exact v_icmp_eq C (tgt := 1329) dL_law_310 (by decide) (f1 := some ()) (f2 := none) (z := ()) (if_pos rfl) (fun _ _ => kk _ σ' h4 h5) (fun q _ => absurd rfl q)
theorem lkL_36 : kLV "CardLoomLaw" 36 yX0_slant cX0_slant 3 (some .int) 1 := ⟨q813, q814, q815, q78, q816, by unfold kD; decide +kernel⟩
theorem lkL_39 : kLV "CardLoomLaw" 39 yX3_slant cX3_slant 2 (some .int) 1 := ⟨q2487, q2488, q2489, q85, q2490, by unfold kD; decide +kernel⟩
theorem ls_5 {g : GT} {X : CxT} (CF : ∀ w9, kOk g X cL_law 4 "CardLoomLaw" (some .boolean) 2048 98496 (some (.int 1)) w9) (hX : ∀ U, gX g U → SX g U) (hZ : ∀ U, gX g U → SZ g U) (hst : (xl X).stackTraces = false) (hgB : (gH g).size = gB g) {b9 L : Nat} {sc : Nat → Int32} (hS : va_X b9 L sc (xs X) (gH g)) (hb9 : b9 < gB g) (N x o : Nat) (ho : gB g ≤ o) {J : Wd → M → Prop} (hJx : ∀ w σ, J w σ → ∃ fs, w.1 x = some (.inl (.inr (1, fs)))) (hop : ∀ a1 : Int32, OpOk g o J (fun w => FX0_slant N g x a1 w) (fun s => FX3_slant N a1 s)) {w : Wd} {σ : M} {k i : Nat} (hJ : J w σ) (hR : Rm g w (9000 + k)) (hi : i + 3 < L) (hL : L ≤ 256) (kk : ∀ w' σ', J w' σ' → Rm g w' k → kV g X 4 w' 1329 [some (.ref b9), some (.ref x), some (.ref o), some (.int (n32 i))] []) : kV g X 4 w 315 [some (.ref b9), some (.ref x), some (.ref o), some (.int (n32 i))] [] := by
  have C := CF w
  obtain ⟨fs, hfs⟩ := hJx w σ hJ
  obtain ⟨r, w', σ', h1, h2, h3, h4, h5⟩ := hop (sc (i + 1)) w σ k hJ hR
  refine v_aload_n C dL_law_315 rfl rfl ?_
  refine v_aload_n C dL_law_316 rfl rfl ?_
  refine v_iload_n C dL_law_317 rfl rfl ?_
  refine v_iconst C (v := (1 : Int32)) dL_law_318 (by decide) ?_
  refine v_iadd C dL_law_319 ?_
  refine v_sld C hgB hS hb9 (sc_in (j := 1) (by omega) hL hi) (sc_at sc (j := 1) (by omega)) dL_law_320 ?_
  refine v_callV C lkL_36 (ci := 1) rfl hfs (As := [.int (sc (i + 1))]) (wX0_slant (xl X) g hX N x (sc (i + 1)) w _ _ h1) (by decide) rfl rfl (Nat.le_of_ble_eq_true rfl) dL_law_321 ?_
  rw [← h3]
  refine v_aload_n C dL_law_324 rfl rfl ?_
  refine v_aload_n C dL_law_325 rfl rfl ?_
  refine v_iload_n C dL_law_326 rfl rfl ?_
  refine v_iconst C (v := (1 : Int32)) dL_law_327 (by decide) ?_
  refine v_iadd C dL_law_328 ?_
  refine v_sld C hgB hS hb9 (sc_in (j := 1) (by omega) hL hi) (sc_at sc (j := 1) (by omega)) dL_law_329 ?_
  refine v_callV C lkL_39 (ci := 0) rfl hM_o (As := [.int (sc (i + 1))]) (wX3_slant (xl X) g ho w' N (sc (i + 1)) σ _ σ' h2) (by decide) rfl rfl (Nat.le_of_ble_eq_true rfl) dL_law_330 ?_
  exact v_icmp_eq C (tgt := 1329) dL_law_333 (by decide) (f1 := some ()) (f2 := none) (z := ()) (if_pos rfl) (fun _ _ => kk _ σ' h4 h5) (fun q _ => absurd rfl q)
theorem lkL_40 : kLV "CardLoomLaw" 40 yX0_place cX0_place 4 (some .int) 2 := ⟨q817, q818, q819, q78, q820, by unfold kD; decide +kernel⟩
theorem lkL_43 : kLV "CardLoomLaw" 43 yX3_place cX3_place 4 (some .int) 2 := ⟨q2491, q2492, q2493, q85, q2494, by unfold kD; decide +kernel⟩
theorem ls_6 {g : GT} {X : CxT} (CF : ∀ w9, kOk g X cL_law 4 "CardLoomLaw" (some .boolean) 2048 98496 (some (.int 1)) w9) (hX : ∀ U, gX g U → SX g U) (hZ : ∀ U, gX g U → SZ g U) (hst : (xl X).stackTraces = false) (hgB : (gH g).size = gB g) {b9 L : Nat} {sc : Nat → Int32} (hS : va_X b9 L sc (xs X) (gH g)) (hb9 : b9 < gB g) (N x o : Nat) (ho : gB g ≤ o) {J : Wd → M → Prop} (hJx : ∀ w σ, J w σ → ∃ fs, w.1 x = some (.inl (.inr (1, fs)))) (hop : ∀ a1 a2 : Int32, OpOk g o J (fun w => FX0_place N g x a1 a2 w) (fun s => FX3_place N a1 a2 s)) {w : Wd} {σ : M} {k i : Nat} (hJ : J w σ) (hR : Rm g w (9000 + k)) (hi : i + 3 < L) (hL : L ≤ 256) (kk : ∀ w' σ', J w' σ' → Rm g w' k → kV g X 4 w' 1329 [some (.ref b9), some (.ref x), some (.ref o), some (.int (n32 i))] []) : kV g X 4 w 338 [some (.ref b9), some (.ref x), some (.ref o), some (.int (n32 i))] [] := by
  have C := CF w
  obtain ⟨fs, hfs⟩ := hJx w σ hJ
  obtain ⟨r, w', σ', h1, h2, h3, h4, h5⟩ := hop (sc (i + 1)) (sc (i + 2)) w σ k hJ hR
  refine v_aload_n C dL_law_338 rfl rfl ?_
  refine v_aload_n C dL_law_339 rfl rfl ?_
  refine v_iload_n C dL_law_340 rfl rfl ?_
  refine v_iconst C (v := (1 : Int32)) dL_law_341 (by decide) ?_
  refine v_iadd C dL_law_342 ?_
  refine v_sld C hgB hS hb9 (sc_in (j := 1) (by omega) hL hi) (sc_at sc (j := 1) (by omega)) dL_law_343 ?_
  refine v_aload_n C dL_law_344 rfl rfl ?_
  refine v_iload_n C dL_law_345 rfl rfl ?_
  refine v_iconst C (v := (2 : Int32)) dL_law_346 (by decide) ?_
  refine v_iadd C dL_law_347 ?_
  refine v_sld C hgB hS hb9 (sc_in (j := 2) (by omega) hL hi) (sc_at sc (j := 2) (by omega)) dL_law_348 ?_
  refine v_callV C lkL_40 (ci := 1) rfl hfs (As := [.int (sc (i + 1)), .int (sc (i + 2))]) (wX0_place (xl X) g hX N x (sc (i + 1)) (sc (i + 2)) w _ _ h1) (by decide) rfl rfl (Nat.le_of_ble_eq_true rfl) dL_law_349 ?_
  rw [← h3]
  refine v_aload_n C dL_law_352 rfl rfl ?_
  refine v_aload_n C dL_law_353 rfl rfl ?_
  refine v_iload_n C dL_law_354 rfl rfl ?_
  refine v_iconst C (v := (1 : Int32)) dL_law_355 (by decide) ?_
  refine v_iadd C dL_law_356 ?_
  refine v_sld C hgB hS hb9 (sc_in (j := 1) (by omega) hL hi) (sc_at sc (j := 1) (by omega)) dL_law_357 ?_
  refine v_aload_n C dL_law_358 rfl rfl ?_
  refine v_iload_n C dL_law_359 rfl rfl ?_
  refine v_iconst C (v := (2 : Int32)) dL_law_360 (by decide) ?_
  refine v_iadd C dL_law_361 ?_
  refine v_sld C hgB hS hb9 (sc_in (j := 2) (by omega) hL hi) (sc_at sc (j := 2) (by omega)) dL_law_362 ?_
  refine v_callV C lkL_43 (ci := 0) rfl hM_o (As := [.int (sc (i + 1)), .int (sc (i + 2))]) (wX3_place (xl X) g ho w' N (sc (i + 1)) (sc (i + 2)) σ _ σ' h2) (by decide) rfl rfl (Nat.le_of_ble_eq_true rfl) dL_law_363 ?_
  exact v_icmp_eq C (tgt := 1329) dL_law_366 (by decide) (f1 := some ()) (f2 := none) (z := ()) (if_pos rfl) (fun _ _ => kk _ σ' h4 h5) (fun q _ => absurd rfl q)
theorem lkL_44 : kLV "CardLoomLaw" 44 yX0_recolour cX0_recolour 5 (some .int) 3 := ⟨q821, q822, q823, q78, q824, by unfold kD; decide +kernel⟩
theorem lkL_48 : kLV "CardLoomLaw" 48 yX3_recolour cX3_recolour 5 (some .int) 3 := ⟨q2495, q2496, q2497, q85, q2498, by unfold kD; decide +kernel⟩
theorem ls_7 {g : GT} {X : CxT} (CF : ∀ w9, kOk g X cL_law 4 "CardLoomLaw" (some .boolean) 2048 98496 (some (.int 1)) w9) (hX : ∀ U, gX g U → SX g U) (hZ : ∀ U, gX g U → SZ g U) (hst : (xl X).stackTraces = false) (hgB : (gH g).size = gB g) {b9 L : Nat} {sc : Nat → Int32} (hS : va_X b9 L sc (xs X) (gH g)) (hb9 : b9 < gB g) (N x o : Nat) (ho : gB g ≤ o) {J : Wd → M → Prop} (hJx : ∀ w σ, J w σ → ∃ fs, w.1 x = some (.inl (.inr (1, fs)))) (hop : ∀ a1 a2 a3 : Int32, OpOk g o J (fun w => FX0_recolour N g x a1 a2 a3 w) (fun s => FX3_recolour N a1 a2 a3 s)) {w : Wd} {σ : M} {k i : Nat} (hJ : J w σ) (hR : Rm g w (9000 + k)) (hi : i + 3 < L) (hL : L ≤ 256) (kk : ∀ w' σ', J w' σ' → Rm g w' k → kV g X 4 w' 1329 [some (.ref b9), some (.ref x), some (.ref o), some (.int (n32 i))] []) : kV g X 4 w 371 [some (.ref b9), some (.ref x), some (.ref o), some (.int (n32 i))] [] := by
  have C := CF w
  obtain ⟨fs, hfs⟩ := hJx w σ hJ
  obtain ⟨r, w', σ', h1, h2, h3, h4, h5⟩ := hop (sc (i + 1)) (sc (i + 2)) (sc (i + 3)) w σ k hJ hR
  refine v_aload_n C dL_law_371 rfl rfl ?_
  refine v_aload_n C dL_law_372 rfl rfl ?_
  refine v_iload_n C dL_law_373 rfl rfl ?_
  refine v_iconst C (v := (1 : Int32)) dL_law_374 (by decide) ?_
  refine v_iadd C dL_law_375 ?_
  refine v_sld C hgB hS hb9 (sc_in (j := 1) (by omega) hL hi) (sc_at sc (j := 1) (by omega)) dL_law_376 ?_
  refine v_aload_n C dL_law_377 rfl rfl ?_
  refine v_iload_n C dL_law_378 rfl rfl ?_
  refine v_iconst C (v := (2 : Int32)) dL_law_379 (by decide) ?_
  refine v_iadd C dL_law_380 ?_
  refine v_sld C hgB hS hb9 (sc_in (j := 2) (by omega) hL hi) (sc_at sc (j := 2) (by omega)) dL_law_381 ?_
  refine v_aload_n C dL_law_382 rfl rfl ?_
  refine v_iload_n C dL_law_383 rfl rfl ?_
  refine v_iconst C (v := (3 : Int32)) dL_law_384 (by decide) ?_
  refine v_iadd C dL_law_385 ?_
  refine v_sld C hgB hS hb9 (sc_in (j := 3) (by omega) hL hi) (sc_at sc (j := 3) (by omega)) dL_law_386 ?_
  refine v_callV C lkL_44 (ci := 1) rfl hfs (As := [.int (sc (i + 1)), .int (sc (i + 2)), .int (sc (i + 3))]) (wX0_recolour (xl X) g hX N x (sc (i + 1)) (sc (i + 2)) (sc (i + 3)) w _ _ h1) (by decide) rfl rfl (Nat.le_of_ble_eq_true rfl) dL_law_387 ?_
  rw [← h3]
  refine v_aload_n C dL_law_390 rfl rfl ?_
  refine v_aload_n C dL_law_391 rfl rfl ?_
  refine v_iload_n C dL_law_392 rfl rfl ?_
  refine v_iconst C (v := (1 : Int32)) dL_law_393 (by decide) ?_
  refine v_iadd C dL_law_394 ?_
  refine v_sld C hgB hS hb9 (sc_in (j := 1) (by omega) hL hi) (sc_at sc (j := 1) (by omega)) dL_law_395 ?_
  refine v_aload_n C dL_law_396 rfl rfl ?_
  refine v_iload_n C dL_law_397 rfl rfl ?_
  refine v_iconst C (v := (2 : Int32)) dL_law_398 (by decide) ?_
  refine v_iadd C dL_law_399 ?_
  refine v_sld C hgB hS hb9 (sc_in (j := 2) (by omega) hL hi) (sc_at sc (j := 2) (by omega)) dL_law_400 ?_
  refine v_aload_n C dL_law_401 rfl rfl ?_
  refine v_iload_n C dL_law_402 rfl rfl ?_
  refine v_iconst C (v := (3 : Int32)) dL_law_403 (by decide) ?_
  refine v_iadd C dL_law_404 ?_
  refine v_sld C hgB hS hb9 (sc_in (j := 3) (by omega) hL hi) (sc_at sc (j := 3) (by omega)) dL_law_405 ?_
  refine v_callV C lkL_48 (ci := 0) rfl hM_o (As := [.int (sc (i + 1)), .int (sc (i + 2)), .int (sc (i + 3))]) (wX3_recolour (xl X) g ho w' N (sc (i + 1)) (sc (i + 2)) (sc (i + 3)) σ _ σ' h2) (by decide) rfl rfl (Nat.le_of_ble_eq_true rfl) dL_law_406 ?_
  exact v_icmp_eq C (tgt := 1329) dL_law_409 (by decide) (f1 := some ()) (f2 := none) (z := ()) (if_pos rfl) (fun _ _ => kk _ σ' h4 h5) (fun q _ => absurd rfl q)
theorem lkL_49 : kLV "CardLoomLaw" 49 yX0_turn cX0_turn 3 (some .int) 2 := ⟨q828, q829, q830, q78, q831, by unfold kD; decide +kernel⟩
theorem lkL_52 : kLV "CardLoomLaw" 52 yX3_turn cX3_turn 3 (some .int) 2 := ⟨q2502, q2503, q2504, q85, q2505, by unfold kD; decide +kernel⟩
theorem ls_8 {g : GT} {X : CxT} (CF : ∀ w9, kOk g X cL_law 4 "CardLoomLaw" (some .boolean) 2048 98496 (some (.int 1)) w9) (hX : ∀ U, gX g U → SX g U) (hZ : ∀ U, gX g U → SZ g U) (hst : (xl X).stackTraces = false) (hgB : (gH g).size = gB g) {b9 L : Nat} {sc : Nat → Int32} (hS : va_X b9 L sc (xs X) (gH g)) (hb9 : b9 < gB g) (N x o : Nat) (ho : gB g ≤ o) {J : Wd → M → Prop} (hJx : ∀ w σ, J w σ → ∃ fs, w.1 x = some (.inl (.inr (1, fs)))) (hop : ∀ a1 a2 : Int32, OpOk g o J (fun w => FX0_turn N g x a1 a2 w) (fun s => FX3_turn N a1 a2 s)) {w : Wd} {σ : M} {k i : Nat} (hJ : J w σ) (hR : Rm g w (9000 + k)) (hi : i + 3 < L) (hL : L ≤ 256) (kk : ∀ w' σ', J w' σ' → Rm g w' k → kV g X 4 w' 1329 [some (.ref b9), some (.ref x), some (.ref o), some (.int (n32 i))] []) : kV g X 4 w 414 [some (.ref b9), some (.ref x), some (.ref o), some (.int (n32 i))] [] := by
  have C := CF w
  obtain ⟨fs, hfs⟩ := hJx w σ hJ
  obtain ⟨r, w', σ', h1, h2, h3, h4, h5⟩ := hop (sc (i + 1)) (sc (i + 2)) w σ k hJ hR
  refine v_aload_n C dL_law_414 rfl rfl ?_
  refine v_aload_n C dL_law_415 rfl rfl ?_
  refine v_iload_n C dL_law_416 rfl rfl ?_
  refine v_iconst C (v := (1 : Int32)) dL_law_417 (by decide) ?_
  refine v_iadd C dL_law_418 ?_
  refine v_sld C hgB hS hb9 (sc_in (j := 1) (by omega) hL hi) (sc_at sc (j := 1) (by omega)) dL_law_419 ?_
  refine v_aload_n C dL_law_420 rfl rfl ?_
  refine v_iload_n C dL_law_421 rfl rfl ?_
  refine v_iconst C (v := (2 : Int32)) dL_law_422 (by decide) ?_
  refine v_iadd C dL_law_423 ?_
  refine v_sld C hgB hS hb9 (sc_in (j := 2) (by omega) hL hi) (sc_at sc (j := 2) (by omega)) dL_law_424 ?_
  refine v_callV C lkL_49 (ci := 1) rfl hfs (As := [.int (sc (i + 1)), .int (sc (i + 2))]) (wX0_turn (xl X) g hX N x (sc (i + 1)) (sc (i + 2)) w _ _ h1) (by decide) rfl rfl (Nat.le_of_ble_eq_true rfl) dL_law_425 ?_
  rw [← h3]
  refine v_aload_n C dL_law_428 rfl rfl ?_
  refine v_aload_n C dL_law_429 rfl rfl ?_
  refine v_iload_n C dL_law_430 rfl rfl ?_
  refine v_iconst C (v := (1 : Int32)) dL_law_431 (by decide) ?_
  refine v_iadd C dL_law_432 ?_
  refine v_sld C hgB hS hb9 (sc_in (j := 1) (by omega) hL hi) (sc_at sc (j := 1) (by omega)) dL_law_433 ?_
  refine v_aload_n C dL_law_434 rfl rfl ?_
  refine v_iload_n C dL_law_435 rfl rfl ?_
  refine v_iconst C (v := (2 : Int32)) dL_law_436 (by decide) ?_
  refine v_iadd C dL_law_437 ?_
  refine v_sld C hgB hS hb9 (sc_in (j := 2) (by omega) hL hi) (sc_at sc (j := 2) (by omega)) dL_law_438 ?_
  refine v_callV C lkL_52 (ci := 0) rfl hM_o (As := [.int (sc (i + 1)), .int (sc (i + 2))]) (wX3_turn (xl X) g ho w' N (sc (i + 1)) (sc (i + 2)) σ _ σ' h2) (by decide) rfl rfl (Nat.le_of_ble_eq_true rfl) dL_law_439 ?_
  exact v_icmp_eq C (tgt := 1329) dL_law_442 (by decide) (f1 := some ()) (f2 := none) (z := ()) (if_pos rfl) (fun _ _ => kk _ σ' h4 h5) (fun q _ => absurd rfl q)
theorem lkL_53 : kLV "CardLoomLaw" 53 yX0_pack cX0_pack 3 (some .int) 2 := ⟨q995, q996, q997, q78, q998, by unfold kD; decide +kernel⟩
theorem lkL_56 : kLV "CardLoomLaw" 56 yX3_pack cX3_pack 3 (some .int) 2 := ⟨q2528, q2529, q2530, q85, q2531, by unfold kD; decide +kernel⟩
theorem ls_9 {g : GT} {X : CxT} (CF : ∀ w9, kOk g X cL_law 4 "CardLoomLaw" (some .boolean) 2048 98496 (some (.int 1)) w9) (hX : ∀ U, gX g U → SX g U) (hZ : ∀ U, gX g U → SZ g U) (hst : (xl X).stackTraces = false) (hgB : (gH g).size = gB g) {b9 L : Nat} {sc : Nat → Int32} (hS : va_X b9 L sc (xs X) (gH g)) (hb9 : b9 < gB g) (N x o : Nat) (ho : gB g ≤ o) {J : Wd → M → Prop} (hJx : ∀ w σ, J w σ → ∃ fs, w.1 x = some (.inl (.inr (1, fs)))) (hop : ∀ a1 a2 : Int32, OpOk g o J (fun w => FX0_pack N g x a1 a2 w) (fun s => FX3_pack N a1 a2 s)) {w : Wd} {σ : M} {k i : Nat} (hJ : J w σ) (hR : Rm g w (9000 + k)) (hi : i + 3 < L) (hL : L ≤ 256) (kk : ∀ w' σ', J w' σ' → Rm g w' k → kV g X 4 w' 1329 [some (.ref b9), some (.ref x), some (.ref o), some (.int (n32 i))] []) : kV g X 4 w 447 [some (.ref b9), some (.ref x), some (.ref o), some (.int (n32 i))] [] := by
  have C := CF w
  obtain ⟨fs, hfs⟩ := hJx w σ hJ
  obtain ⟨r, w', σ', h1, h2, h3, h4, h5⟩ := hop (sc (i + 1)) (sc (i + 2)) w σ k hJ hR
  refine v_aload_n C dL_law_447 rfl rfl ?_
  refine v_aload_n C dL_law_448 rfl rfl ?_
  refine v_iload_n C dL_law_449 rfl rfl ?_
  refine v_iconst C (v := (1 : Int32)) dL_law_450 (by decide) ?_
  refine v_iadd C dL_law_451 ?_
  refine v_sld C hgB hS hb9 (sc_in (j := 1) (by omega) hL hi) (sc_at sc (j := 1) (by omega)) dL_law_452 ?_
  refine v_aload_n C dL_law_453 rfl rfl ?_
  refine v_iload_n C dL_law_454 rfl rfl ?_
  refine v_iconst C (v := (2 : Int32)) dL_law_455 (by decide) ?_
  refine v_iadd C dL_law_456 ?_
  refine v_sld C hgB hS hb9 (sc_in (j := 2) (by omega) hL hi) (sc_at sc (j := 2) (by omega)) dL_law_457 ?_
  refine v_callV C lkL_53 (ci := 1) rfl hfs (As := [.int (sc (i + 1)), .int (sc (i + 2))]) (wX0_pack (xl X) g hX N x (sc (i + 1)) (sc (i + 2)) w _ _ h1) (by decide) rfl rfl (Nat.le_of_ble_eq_true rfl) dL_law_458 ?_
  rw [← h3]
  refine v_aload_n C dL_law_461 rfl rfl ?_
  refine v_aload_n C dL_law_462 rfl rfl ?_
  refine v_iload_n C dL_law_463 rfl rfl ?_
  refine v_iconst C (v := (1 : Int32)) dL_law_464 (by decide) ?_
  refine v_iadd C dL_law_465 ?_
  refine v_sld C hgB hS hb9 (sc_in (j := 1) (by omega) hL hi) (sc_at sc (j := 1) (by omega)) dL_law_466 ?_
  refine v_aload_n C dL_law_467 rfl rfl ?_
  refine v_iload_n C dL_law_468 rfl rfl ?_
  refine v_iconst C (v := (2 : Int32)) dL_law_469 (by decide) ?_
  refine v_iadd C dL_law_470 ?_
  refine v_sld C hgB hS hb9 (sc_in (j := 2) (by omega) hL hi) (sc_at sc (j := 2) (by omega)) dL_law_471 ?_
  refine v_callV C lkL_56 (ci := 0) rfl hM_o (As := [.int (sc (i + 1)), .int (sc (i + 2))]) (wX3_pack (xl X) g ho w' N (sc (i + 1)) (sc (i + 2)) σ _ σ' h2) (by decide) rfl rfl (Nat.le_of_ble_eq_true rfl) dL_law_472 ?_
  exact v_icmp_eq C (tgt := 1329) dL_law_475 (by decide) (f1 := some ()) (f2 := none) (z := ()) (if_pos rfl) (fun _ _ => kk _ σ' h4 h5) (fun q _ => absurd rfl q)
theorem lkL_57 : kLV "CardLoomLaw" 57 yX0_weave cX0_weave 3 (some .int) 1 := ⟨q999, q1000, q1001, q78, q1002, by unfold kD; decide +kernel⟩
theorem lkL_60 : kLV "CardLoomLaw" 60 yX3_weave cX3_weave 3 (some .int) 1 := ⟨q2532, q2533, q2534, q85, q2535, by unfold kD; decide +kernel⟩
theorem ls_10 {g : GT} {X : CxT} (CF : ∀ w9, kOk g X cL_law 4 "CardLoomLaw" (some .boolean) 2048 98496 (some (.int 1)) w9) (hX : ∀ U, gX g U → SX g U) (hZ : ∀ U, gX g U → SZ g U) (hst : (xl X).stackTraces = false) (hgB : (gH g).size = gB g) {b9 L : Nat} {sc : Nat → Int32} (hS : va_X b9 L sc (xs X) (gH g)) (hb9 : b9 < gB g) (N x o : Nat) (ho : gB g ≤ o) {J : Wd → M → Prop} (hJx : ∀ w σ, J w σ → ∃ fs, w.1 x = some (.inl (.inr (1, fs)))) (hop : ∀ a1 : Int32, OpOk g o J (fun w => FX0_weave N g x a1 w) (fun s => FX3_weave N a1 s)) {w : Wd} {σ : M} {k i : Nat} (hJ : J w σ) (hR : Rm g w (9000 + k)) (hi : i + 3 < L) (hL : L ≤ 256) (kk : ∀ w' σ', J w' σ' → Rm g w' k → kV g X 4 w' 1329 [some (.ref b9), some (.ref x), some (.ref o), some (.int (n32 i))] []) : kV g X 4 w 480 [some (.ref b9), some (.ref x), some (.ref o), some (.int (n32 i))] [] := by
  have C := CF w
  obtain ⟨fs, hfs⟩ := hJx w σ hJ
  obtain ⟨r, w', σ', h1, h2, h3, h4, h5⟩ := hop (sc (i + 1)) w σ k hJ hR
  refine v_aload_n C dL_law_480 rfl rfl ?_
  refine v_aload_n C dL_law_481 rfl rfl ?_
  refine v_iload_n C dL_law_482 rfl rfl ?_
  refine v_iconst C (v := (1 : Int32)) dL_law_483 (by decide) ?_
  refine v_iadd C dL_law_484 ?_
  refine v_sld C hgB hS hb9 (sc_in (j := 1) (by omega) hL hi) (sc_at sc (j := 1) (by omega)) dL_law_485 ?_
  refine v_callV C lkL_57 (ci := 1) rfl hfs (As := [.int (sc (i + 1))]) (wX0_weave (xl X) g hX N x (sc (i + 1)) w _ _ h1) (by decide) rfl rfl (Nat.le_of_ble_eq_true rfl) dL_law_486 ?_
  rw [← h3]
  refine v_aload_n C dL_law_489 rfl rfl ?_
  refine v_aload_n C dL_law_490 rfl rfl ?_
  refine v_iload_n C dL_law_491 rfl rfl ?_
  refine v_iconst C (v := (1 : Int32)) dL_law_492 (by decide) ?_
  refine v_iadd C dL_law_493 ?_
  refine v_sld C hgB hS hb9 (sc_in (j := 1) (by omega) hL hi) (sc_at sc (j := 1) (by omega)) dL_law_494 ?_
  refine v_callV C lkL_60 (ci := 0) rfl hM_o (As := [.int (sc (i + 1))]) (wX3_weave (xl X) g ho w' N (sc (i + 1)) σ _ σ' h2) (by decide) rfl rfl (Nat.le_of_ble_eq_true rfl) dL_law_495 ?_
  exact v_icmp_eq C (tgt := 1329) dL_law_498 (by decide) (f1 := some ()) (f2 := none) (z := ()) (if_pos rfl) (fun _ _ => kk _ σ' h4 h5) (fun q _ => absurd rfl q)
theorem lkL_61 : kLV "CardLoomLaw" 61 yX0_unweave cX0_unweave 5 (some .int) 1 := ⟨q1007, q1008, q1009, q78, q1010, by unfold kD; decide +kernel⟩
theorem lkL_64 : kLV "CardLoomLaw" 64 yX3_unweave cX3_unweave 5 (some .int) 1 := ⟨q2540, q2541, q2542, q85, q2543, by unfold kD; decide +kernel⟩
theorem ls_11 {g : GT} {X : CxT} (CF : ∀ w9, kOk g X cL_law 4 "CardLoomLaw" (some .boolean) 2048 98496 (some (.int 1)) w9) (hX : ∀ U, gX g U → SX g U) (hZ : ∀ U, gX g U → SZ g U) (hst : (xl X).stackTraces = false) (hgB : (gH g).size = gB g) {b9 L : Nat} {sc : Nat → Int32} (hS : va_X b9 L sc (xs X) (gH g)) (hb9 : b9 < gB g) (N x o : Nat) (ho : gB g ≤ o) {J : Wd → M → Prop} (hJx : ∀ w σ, J w σ → ∃ fs, w.1 x = some (.inl (.inr (1, fs)))) (hop : ∀ a1 : Int32, OpOk g o J (fun w => FX0_unweave N g x a1 w) (fun s => FX3_unweave N a1 s)) {w : Wd} {σ : M} {k i : Nat} (hJ : J w σ) (hR : Rm g w (9000 + k)) (hi : i + 3 < L) (hL : L ≤ 256) (kk : ∀ w' σ', J w' σ' → Rm g w' k → kV g X 4 w' 1329 [some (.ref b9), some (.ref x), some (.ref o), some (.int (n32 i))] []) : kV g X 4 w 503 [some (.ref b9), some (.ref x), some (.ref o), some (.int (n32 i))] [] := by
  have C := CF w
  obtain ⟨fs, hfs⟩ := hJx w σ hJ
  obtain ⟨r, w', σ', h1, h2, h3, h4, h5⟩ := hop (sc (i + 1)) w σ k hJ hR
  refine v_aload_n C dL_law_503 rfl rfl ?_
  refine v_aload_n C dL_law_504 rfl rfl ?_
  refine v_iload_n C dL_law_505 rfl rfl ?_
  refine v_iconst C (v := (1 : Int32)) dL_law_506 (by decide) ?_
  refine v_iadd C dL_law_507 ?_
  refine v_sld C hgB hS hb9 (sc_in (j := 1) (by omega) hL hi) (sc_at sc (j := 1) (by omega)) dL_law_508 ?_
  refine v_callV C lkL_61 (ci := 1) rfl hfs (As := [.int (sc (i + 1))]) (wX0_unweave (xl X) g hX N x (sc (i + 1)) w _ _ h1) (by decide) rfl rfl (Nat.le_of_ble_eq_true rfl) dL_law_509 ?_
  rw [← h3]
  refine v_aload_n C dL_law_512 rfl rfl ?_
  refine v_aload_n C dL_law_513 rfl rfl ?_
  refine v_iload_n C dL_law_514 rfl rfl ?_
  refine v_iconst C (v := (1 : Int32)) dL_law_515 (by decide) ?_
  refine v_iadd C dL_law_516 ?_
  refine v_sld C hgB hS hb9 (sc_in (j := 1) (by omega) hL hi) (sc_at sc (j := 1) (by omega)) dL_law_517 ?_
  refine v_callV C lkL_64 (ci := 0) rfl hM_o (As := [.int (sc (i + 1))]) (wX3_unweave (xl X) g ho w' N (sc (i + 1)) σ _ σ' h2) (by decide) rfl rfl (Nat.le_of_ble_eq_true rfl) dL_law_518 ?_
  exact v_icmp_eq C (tgt := 1329) dL_law_521 (by decide) (f1 := some ()) (f2 := none) (z := ()) (if_pos rfl) (fun _ _ => kk _ σ' h4 h5) (fun q _ => absurd rfl q)
theorem lkL_65 : kLV "CardLoomLaw" 65 yX0_front cX0_front 3 (some .int) 2 := ⟨q1028, q1029, q1030, q78, q1031, by unfold kD; decide +kernel⟩
theorem lkL_68 : kLV "CardLoomLaw" 68 yX3_front cX3_front 3 (some .int) 2 := ⟨q2544, q2545, q2546, q85, q2547, by unfold kD; decide +kernel⟩
theorem ls_12 {g : GT} {X : CxT} (CF : ∀ w9, kOk g X cL_law 4 "CardLoomLaw" (some .boolean) 2048 98496 (some (.int 1)) w9) (hX : ∀ U, gX g U → SX g U) (hZ : ∀ U, gX g U → SZ g U) (hst : (xl X).stackTraces = false) (hgB : (gH g).size = gB g) {b9 L : Nat} {sc : Nat → Int32} (hS : va_X b9 L sc (xs X) (gH g)) (hb9 : b9 < gB g) (N x o : Nat) (ho : gB g ≤ o) {J : Wd → M → Prop} (hJx : ∀ w σ, J w σ → ∃ fs, w.1 x = some (.inl (.inr (1, fs)))) (hop : ∀ a1 a2 : Int32, OpOk g o J (fun w => FX0_front N g x a1 a2 w) (fun s => FX3_front N a1 a2 s)) {w : Wd} {σ : M} {k i : Nat} (hJ : J w σ) (hR : Rm g w (9000 + k)) (hi : i + 3 < L) (hL : L ≤ 256) (kk : ∀ w' σ', J w' σ' → Rm g w' k → kV g X 4 w' 1329 [some (.ref b9), some (.ref x), some (.ref o), some (.int (n32 i))] []) : kV g X 4 w 526 [some (.ref b9), some (.ref x), some (.ref o), some (.int (n32 i))] [] := by
  have C := CF w
  obtain ⟨fs, hfs⟩ := hJx w σ hJ
  obtain ⟨r, w', σ', h1, h2, h3, h4, h5⟩ := hop (sc (i + 1)) (sc (i + 2)) w σ k hJ hR
  refine v_aload_n C dL_law_526 rfl rfl ?_
  refine v_aload_n C dL_law_527 rfl rfl ?_
  refine v_iload_n C dL_law_528 rfl rfl ?_
  refine v_iconst C (v := (1 : Int32)) dL_law_529 (by decide) ?_
  refine v_iadd C dL_law_530 ?_
  refine v_sld C hgB hS hb9 (sc_in (j := 1) (by omega) hL hi) (sc_at sc (j := 1) (by omega)) dL_law_531 ?_
  refine v_aload_n C dL_law_532 rfl rfl ?_
  refine v_iload_n C dL_law_533 rfl rfl ?_
  refine v_iconst C (v := (2 : Int32)) dL_law_534 (by decide) ?_
  refine v_iadd C dL_law_535 ?_
  refine v_sld C hgB hS hb9 (sc_in (j := 2) (by omega) hL hi) (sc_at sc (j := 2) (by omega)) dL_law_536 ?_
  refine v_callV C lkL_65 (ci := 1) rfl hfs (As := [.int (sc (i + 1)), .int (sc (i + 2))]) (wX0_front (xl X) g hX N x (sc (i + 1)) (sc (i + 2)) w _ _ h1) (by decide) rfl rfl (Nat.le_of_ble_eq_true rfl) dL_law_537 ?_
  rw [← h3]
  refine v_aload_n C dL_law_540 rfl rfl ?_
  refine v_aload_n C dL_law_541 rfl rfl ?_
  refine v_iload_n C dL_law_542 rfl rfl ?_
  refine v_iconst C (v := (1 : Int32)) dL_law_543 (by decide) ?_
  refine v_iadd C dL_law_544 ?_
  refine v_sld C hgB hS hb9 (sc_in (j := 1) (by omega) hL hi) (sc_at sc (j := 1) (by omega)) dL_law_545 ?_
  refine v_aload_n C dL_law_546 rfl rfl ?_
  refine v_iload_n C dL_law_547 rfl rfl ?_
  refine v_iconst C (v := (2 : Int32)) dL_law_548 (by decide) ?_
  refine v_iadd C dL_law_549 ?_
  refine v_sld C hgB hS hb9 (sc_in (j := 2) (by omega) hL hi) (sc_at sc (j := 2) (by omega)) dL_law_550 ?_
  refine v_callV C lkL_68 (ci := 0) rfl hM_o (As := [.int (sc (i + 1)), .int (sc (i + 2))]) (wX3_front (xl X) g ho w' N (sc (i + 1)) (sc (i + 2)) σ _ σ' h2) (by decide) rfl rfl (Nat.le_of_ble_eq_true rfl) dL_law_551 ?_
  exact v_icmp_eq C (tgt := 1329) dL_law_554 (by decide) (f1 := some ()) (f2 := none) (z := ()) (if_pos rfl) (fun _ _ => kk _ σ' h4 h5) (fun q _ => absurd rfl q)
theorem lkL_69 : kLV "CardLoomLaw" 69 yX0_back cX0_back 3 (some .int) 2 := ⟨q1040, q1041, q1042, q78, q1043, by unfold kD; decide +kernel⟩
theorem lkL_72 : kLV "CardLoomLaw" 72 yX3_back cX3_back 3 (some .int) 2 := ⟨q2556, q2557, q2558, q85, q2559, by unfold kD; decide +kernel⟩
theorem ls_13 {g : GT} {X : CxT} (CF : ∀ w9, kOk g X cL_law 4 "CardLoomLaw" (some .boolean) 2048 98496 (some (.int 1)) w9) (hX : ∀ U, gX g U → SX g U) (hZ : ∀ U, gX g U → SZ g U) (hst : (xl X).stackTraces = false) (hgB : (gH g).size = gB g) {b9 L : Nat} {sc : Nat → Int32} (hS : va_X b9 L sc (xs X) (gH g)) (hb9 : b9 < gB g) (N x o : Nat) (ho : gB g ≤ o) {J : Wd → M → Prop} (hJx : ∀ w σ, J w σ → ∃ fs, w.1 x = some (.inl (.inr (1, fs)))) (hop : ∀ a1 a2 : Int32, OpOk g o J (fun w => FX0_back N g x a1 a2 w) (fun s => FX3_back N a1 a2 s)) {w : Wd} {σ : M} {k i : Nat} (hJ : J w σ) (hR : Rm g w (9000 + k)) (hi : i + 3 < L) (hL : L ≤ 256) (kk : ∀ w' σ', J w' σ' → Rm g w' k → kV g X 4 w' 1329 [some (.ref b9), some (.ref x), some (.ref o), some (.int (n32 i))] []) : kV g X 4 w 559 [some (.ref b9), some (.ref x), some (.ref o), some (.int (n32 i))] [] := by
  have C := CF w
  obtain ⟨fs, hfs⟩ := hJx w σ hJ
  obtain ⟨r, w', σ', h1, h2, h3, h4, h5⟩ := hop (sc (i + 1)) (sc (i + 2)) w σ k hJ hR
  refine v_aload_n C dL_law_559 rfl rfl ?_
  refine v_aload_n C dL_law_560 rfl rfl ?_
  refine v_iload_n C dL_law_561 rfl rfl ?_
  refine v_iconst C (v := (1 : Int32)) dL_law_562 (by decide) ?_
  refine v_iadd C dL_law_563 ?_
  refine v_sld C hgB hS hb9 (sc_in (j := 1) (by omega) hL hi) (sc_at sc (j := 1) (by omega)) dL_law_564 ?_
  refine v_aload_n C dL_law_565 rfl rfl ?_
  refine v_iload_n C dL_law_566 rfl rfl ?_
  refine v_iconst C (v := (2 : Int32)) dL_law_567 (by decide) ?_
  refine v_iadd C dL_law_568 ?_
  refine v_sld C hgB hS hb9 (sc_in (j := 2) (by omega) hL hi) (sc_at sc (j := 2) (by omega)) dL_law_569 ?_
  refine v_callV C lkL_69 (ci := 1) rfl hfs (As := [.int (sc (i + 1)), .int (sc (i + 2))]) (wX0_back (xl X) g hX N x (sc (i + 1)) (sc (i + 2)) w _ _ h1) (by decide) rfl rfl (Nat.le_of_ble_eq_true rfl) dL_law_570 ?_
  rw [← h3]
  refine v_aload_n C dL_law_573 rfl rfl ?_
  refine v_aload_n C dL_law_574 rfl rfl ?_
  refine v_iload_n C dL_law_575 rfl rfl ?_
  refine v_iconst C (v := (1 : Int32)) dL_law_576 (by decide) ?_
  refine v_iadd C dL_law_577 ?_
  refine v_sld C hgB hS hb9 (sc_in (j := 1) (by omega) hL hi) (sc_at sc (j := 1) (by omega)) dL_law_578 ?_
  refine v_aload_n C dL_law_579 rfl rfl ?_
  refine v_iload_n C dL_law_580 rfl rfl ?_
  refine v_iconst C (v := (2 : Int32)) dL_law_581 (by decide) ?_
  refine v_iadd C dL_law_582 ?_
  refine v_sld C hgB hS hb9 (sc_in (j := 2) (by omega) hL hi) (sc_at sc (j := 2) (by omega)) dL_law_583 ?_
  refine v_callV C lkL_72 (ci := 0) rfl hM_o (As := [.int (sc (i + 1)), .int (sc (i + 2))]) (wX3_back (xl X) g ho w' N (sc (i + 1)) (sc (i + 2)) σ _ σ' h2) (by decide) rfl rfl (Nat.le_of_ble_eq_true rfl) dL_law_584 ?_
  exact v_icmp_eq C (tgt := 1329) dL_law_587 (by decide) (f1 := some ()) (f2 := none) (z := ()) (if_pos rfl) (fun _ _ => kk _ σ' h4 h5) (fun q _ => absurd rfl q)
theorem lkL_73 : kLV "CardLoomLaw" 73 yX0_lean cX0_lean 3 (some .int) 2 := ⟨q1044, q1045, q1046, q78, q1047, by unfold kD; decide +kernel⟩
theorem lkL_76 : kLV "CardLoomLaw" 76 yX3_lean cX3_lean 3 (some .int) 2 := ⟨q2560, q2561, q2562, q85, q2563, by unfold kD; decide +kernel⟩
theorem ls_14 {g : GT} {X : CxT} (CF : ∀ w9, kOk g X cL_law 4 "CardLoomLaw" (some .boolean) 2048 98496 (some (.int 1)) w9) (hX : ∀ U, gX g U → SX g U) (hZ : ∀ U, gX g U → SZ g U) (hst : (xl X).stackTraces = false) (hgB : (gH g).size = gB g) {b9 L : Nat} {sc : Nat → Int32} (hS : va_X b9 L sc (xs X) (gH g)) (hb9 : b9 < gB g) (N x o : Nat) (ho : gB g ≤ o) {J : Wd → M → Prop} (hJx : ∀ w σ, J w σ → ∃ fs, w.1 x = some (.inl (.inr (1, fs)))) (hop : ∀ a1 a2 : Int32, OpOk g o J (fun w => FX0_lean N g x a1 a2 w) (fun s => FX3_lean N a1 a2 s)) {w : Wd} {σ : M} {k i : Nat} (hJ : J w σ) (hR : Rm g w (9000 + k)) (hi : i + 3 < L) (hL : L ≤ 256) (kk : ∀ w' σ', J w' σ' → Rm g w' k → kV g X 4 w' 1329 [some (.ref b9), some (.ref x), some (.ref o), some (.int (n32 i))] []) : kV g X 4 w 592 [some (.ref b9), some (.ref x), some (.ref o), some (.int (n32 i))] [] := by
  have C := CF w
  obtain ⟨fs, hfs⟩ := hJx w σ hJ
  obtain ⟨r, w', σ', h1, h2, h3, h4, h5⟩ := hop (sc (i + 1)) (sc (i + 2)) w σ k hJ hR
  refine v_aload_n C dL_law_592 rfl rfl ?_
  refine v_aload_n C dL_law_593 rfl rfl ?_
  refine v_iload_n C dL_law_594 rfl rfl ?_
  refine v_iconst C (v := (1 : Int32)) dL_law_595 (by decide) ?_
  refine v_iadd C dL_law_596 ?_
  refine v_sld C hgB hS hb9 (sc_in (j := 1) (by omega) hL hi) (sc_at sc (j := 1) (by omega)) dL_law_597 ?_
  refine v_aload_n C dL_law_598 rfl rfl ?_
  refine v_iload_n C dL_law_599 rfl rfl ?_
  refine v_iconst C (v := (2 : Int32)) dL_law_600 (by decide) ?_
  refine v_iadd C dL_law_601 ?_
  refine v_sld C hgB hS hb9 (sc_in (j := 2) (by omega) hL hi) (sc_at sc (j := 2) (by omega)) dL_law_602 ?_
  refine v_callV C lkL_73 (ci := 1) rfl hfs (As := [.int (sc (i + 1)), .int (sc (i + 2))]) (wX0_lean (xl X) g hX N x (sc (i + 1)) (sc (i + 2)) w _ _ h1) (by decide) rfl rfl (Nat.le_of_ble_eq_true rfl) dL_law_603 ?_
  rw [← h3]
  refine v_aload_n C dL_law_606 rfl rfl ?_
  refine v_aload_n C dL_law_607 rfl rfl ?_
  refine v_iload_n C dL_law_608 rfl rfl ?_
  refine v_iconst C (v := (1 : Int32)) dL_law_609 (by decide) ?_
  refine v_iadd C dL_law_610 ?_
  refine v_sld C hgB hS hb9 (sc_in (j := 1) (by omega) hL hi) (sc_at sc (j := 1) (by omega)) dL_law_611 ?_
  refine v_aload_n C dL_law_612 rfl rfl ?_
  refine v_iload_n C dL_law_613 rfl rfl ?_
  refine v_iconst C (v := (2 : Int32)) dL_law_614 (by decide) ?_
  refine v_iadd C dL_law_615 ?_
  refine v_sld C hgB hS hb9 (sc_in (j := 2) (by omega) hL hi) (sc_at sc (j := 2) (by omega)) dL_law_616 ?_
  refine v_callV C lkL_76 (ci := 0) rfl hM_o (As := [.int (sc (i + 1)), .int (sc (i + 2))]) (wX3_lean (xl X) g ho w' N (sc (i + 1)) (sc (i + 2)) σ _ σ' h2) (by decide) rfl rfl (Nat.le_of_ble_eq_true rfl) dL_law_617 ?_
  exact v_icmp_eq C (tgt := 1329) dL_law_620 (by decide) (f1 := some ()) (f2 := none) (z := ()) (if_pos rfl) (fun _ _ => kk _ σ' h4 h5) (fun q _ => absurd rfl q)
theorem lkL_77 : kLV "CardLoomLaw" 77 yX0_turning cX0_turning 3 (some .int) 2 := ⟨q1048, q1049, q1050, q78, q1051, by unfold kD; decide +kernel⟩
theorem lkL_80 : kLV "CardLoomLaw" 80 yX3_turning cX3_turning 3 (some .int) 2 := ⟨q2564, q2565, q2566, q85, q2567, by unfold kD; decide +kernel⟩
theorem ls_15 {g : GT} {X : CxT} (CF : ∀ w9, kOk g X cL_law 4 "CardLoomLaw" (some .boolean) 2048 98496 (some (.int 1)) w9) (hX : ∀ U, gX g U → SX g U) (hZ : ∀ U, gX g U → SZ g U) (hst : (xl X).stackTraces = false) (hgB : (gH g).size = gB g) {b9 L : Nat} {sc : Nat → Int32} (hS : va_X b9 L sc (xs X) (gH g)) (hb9 : b9 < gB g) (N x o : Nat) (ho : gB g ≤ o) {J : Wd → M → Prop} (hJx : ∀ w σ, J w σ → ∃ fs, w.1 x = some (.inl (.inr (1, fs)))) (hop : ∀ a1 a2 : Int32, OpOk g o J (fun w => FX0_turning N g x a1 a2 w) (fun s => FX3_turning N a1 a2 s)) {w : Wd} {σ : M} {k i : Nat} (hJ : J w σ) (hR : Rm g w (9000 + k)) (hi : i + 3 < L) (hL : L ≤ 256) (kk : ∀ w' σ', J w' σ' → Rm g w' k → kV g X 4 w' 1329 [some (.ref b9), some (.ref x), some (.ref o), some (.int (n32 i))] []) : kV g X 4 w 625 [some (.ref b9), some (.ref x), some (.ref o), some (.int (n32 i))] [] := by
  have C := CF w
  obtain ⟨fs, hfs⟩ := hJx w σ hJ
  obtain ⟨r, w', σ', h1, h2, h3, h4, h5⟩ := hop (sc (i + 1)) (sc (i + 2)) w σ k hJ hR
  refine v_aload_n C dL_law_625 rfl rfl ?_
  refine v_aload_n C dL_law_626 rfl rfl ?_
  refine v_iload_n C dL_law_627 rfl rfl ?_
  refine v_iconst C (v := (1 : Int32)) dL_law_628 (by decide) ?_
  refine v_iadd C dL_law_629 ?_
  refine v_sld C hgB hS hb9 (sc_in (j := 1) (by omega) hL hi) (sc_at sc (j := 1) (by omega)) dL_law_630 ?_
  refine v_aload_n C dL_law_631 rfl rfl ?_
  refine v_iload_n C dL_law_632 rfl rfl ?_
  refine v_iconst C (v := (2 : Int32)) dL_law_633 (by decide) ?_
  refine v_iadd C dL_law_634 ?_
  refine v_sld C hgB hS hb9 (sc_in (j := 2) (by omega) hL hi) (sc_at sc (j := 2) (by omega)) dL_law_635 ?_
  refine v_callV C lkL_77 (ci := 1) rfl hfs (As := [.int (sc (i + 1)), .int (sc (i + 2))]) (wX0_turning (xl X) g hX N x (sc (i + 1)) (sc (i + 2)) w _ _ h1) (by decide) rfl rfl (Nat.le_of_ble_eq_true rfl) dL_law_636 ?_
  rw [← h3]
  refine v_aload_n C dL_law_639 rfl rfl ?_
  refine v_aload_n C dL_law_640 rfl rfl ?_
  refine v_iload_n C dL_law_641 rfl rfl ?_
  refine v_iconst C (v := (1 : Int32)) dL_law_642 (by decide) ?_
  refine v_iadd C dL_law_643 ?_
  refine v_sld C hgB hS hb9 (sc_in (j := 1) (by omega) hL hi) (sc_at sc (j := 1) (by omega)) dL_law_644 ?_
  refine v_aload_n C dL_law_645 rfl rfl ?_
  refine v_iload_n C dL_law_646 rfl rfl ?_
  refine v_iconst C (v := (2 : Int32)) dL_law_647 (by decide) ?_
  refine v_iadd C dL_law_648 ?_
  refine v_sld C hgB hS hb9 (sc_in (j := 2) (by omega) hL hi) (sc_at sc (j := 2) (by omega)) dL_law_649 ?_
  refine v_callV C lkL_80 (ci := 0) rfl hM_o (As := [.int (sc (i + 1)), .int (sc (i + 2))]) (wX3_turning (xl X) g ho w' N (sc (i + 1)) (sc (i + 2)) σ _ σ' h2) (by decide) rfl rfl (Nat.le_of_ble_eq_true rfl) dL_law_650 ?_
  exact v_icmp_eq C (tgt := 1329) dL_law_653 (by decide) (f1 := some ()) (f2 := none) (z := ()) (if_pos rfl) (fun _ _ => kk _ σ' h4 h5) (fun q _ => absurd rfl q)
theorem lkL_81 : kLV "CardLoomLaw" 81 yX0_returns cX0_returns 1 (some .int) 0 := ⟨q1052, q1053, q1054, q78, q1055, by unfold kD; decide +kernel⟩
theorem lkL_84 : kLV "CardLoomLaw" 84 yX3_returns cX3_returns 2 (some .int) 0 := ⟨q2568, q2569, q2570, q85, q2571, by unfold kD; decide +kernel⟩
theorem ls_16 {g : GT} {X : CxT} (CF : ∀ w9, kOk g X cL_law 4 "CardLoomLaw" (some .boolean) 2048 98496 (some (.int 1)) w9) (hX : ∀ U, gX g U → SX g U) (hZ : ∀ U, gX g U → SZ g U) (hst : (xl X).stackTraces = false) (hgB : (gH g).size = gB g) {b9 L : Nat} {sc : Nat → Int32} (hS : va_X b9 L sc (xs X) (gH g)) (hb9 : b9 < gB g) (N x o : Nat) (ho : gB g ≤ o) {J : Wd → M → Prop} (hJx : ∀ w σ, J w σ → ∃ fs, w.1 x = some (.inl (.inr (1, fs)))) (hop : OpOk g o J (fun w => FX0_returns N g x  w) (fun s => FX3_returns N  s)) {w : Wd} {σ : M} {k i : Nat} (hJ : J w σ) (hR : Rm g w (9000 + k)) (hi : i + 3 < L) (hL : L ≤ 256) (kk : ∀ w' σ', J w' σ' → Rm g w' k → kV g X 4 w' 1329 [some (.ref b9), some (.ref x), some (.ref o), some (.int (n32 i))] []) : kV g X 4 w 658 [some (.ref b9), some (.ref x), some (.ref o), some (.int (n32 i))] [] := by
  have C := CF w
  obtain ⟨fs, hfs⟩ := hJx w σ hJ
  obtain ⟨r, w', σ', h1, h2, h3, h4, h5⟩ := hop w σ k hJ hR
  refine v_aload_n C dL_law_658 rfl rfl ?_
  refine v_callV C lkL_81 (ci := 1) rfl hfs (As := []) (wX0_returns (xl X) g hX N x  w _ _ h1) (by decide) rfl rfl (Nat.le_of_ble_eq_true rfl) dL_law_659 ?_
  rw [← h3]
  refine v_aload_n C dL_law_662 rfl rfl ?_
  refine v_callV C lkL_84 (ci := 0) rfl hM_o (As := []) (wX3_returns (xl X) g ho w' N  σ _ σ' h2) (by decide) rfl rfl (Nat.le_of_ble_eq_true rfl) dL_law_663 ?_
  exact v_icmp_eq C (tgt := 1329) dL_law_666 (by decide) (f1 := some ()) (f2 := none) (z := ()) (if_pos rfl) (fun _ _ => kk _ σ' h4 h5) (fun q _ => absurd rfl q)
theorem lkL_85 : kLV "CardLoomLaw" 85 yX0_flat cX0_flat 1 (some .int) 0 := ⟨q1081, q1082, q1083, q78, q1084, by unfold kD; decide +kernel⟩
theorem lkL_88 : kLV "CardLoomLaw" 88 yX3_flat cX3_flat 2 (some .int) 0 := ⟨q2584, q2585, q2586, q85, q2587, by unfold kD; decide +kernel⟩
theorem ls_17 {g : GT} {X : CxT} (CF : ∀ w9, kOk g X cL_law 4 "CardLoomLaw" (some .boolean) 2048 98496 (some (.int 1)) w9) (hX : ∀ U, gX g U → SX g U) (hZ : ∀ U, gX g U → SZ g U) (hst : (xl X).stackTraces = false) (hgB : (gH g).size = gB g) {b9 L : Nat} {sc : Nat → Int32} (hS : va_X b9 L sc (xs X) (gH g)) (hb9 : b9 < gB g) (N x o : Nat) (ho : gB g ≤ o) {J : Wd → M → Prop} (hJx : ∀ w σ, J w σ → ∃ fs, w.1 x = some (.inl (.inr (1, fs)))) (hop : OpOk g o J (fun w => FX0_flat N g x  w) (fun s => FX3_flat N  s)) {w : Wd} {σ : M} {k i : Nat} (hJ : J w σ) (hR : Rm g w (9000 + k)) (hi : i + 3 < L) (hL : L ≤ 256) (kk : ∀ w' σ', J w' σ' → Rm g w' k → kV g X 4 w' 1329 [some (.ref b9), some (.ref x), some (.ref o), some (.int (n32 i))] []) : kV g X 4 w 671 [some (.ref b9), some (.ref x), some (.ref o), some (.int (n32 i))] [] := by
  have C := CF w
  obtain ⟨fs, hfs⟩ := hJx w σ hJ
  obtain ⟨r, w', σ', h1, h2, h3, h4, h5⟩ := hop w σ k hJ hR
  refine v_aload_n C dL_law_671 rfl rfl ?_
  refine v_callV C lkL_85 (ci := 1) rfl hfs (As := []) (wX0_flat (xl X) g hX N x  w _ _ h1) (by decide) rfl rfl (Nat.le_of_ble_eq_true rfl) dL_law_672 ?_
  rw [← h3]
  refine v_aload_n C dL_law_675 rfl rfl ?_
  refine v_callV C lkL_88 (ci := 0) rfl hM_o (As := []) (wX3_flat (xl X) g ho w' N  σ _ σ' h2) (by decide) rfl rfl (Nat.le_of_ble_eq_true rfl) dL_law_676 ?_
  exact v_icmp_eq C (tgt := 1329) dL_law_679 (by decide) (f1 := some ()) (f2 := none) (z := ()) (if_pos rfl) (fun _ _ => kk _ σ' h4 h5) (fun q _ => absurd rfl q)
theorem lkL_89 : kLV "CardLoomLaw" 89 yX0_jam cX0_jam 4 (some .int) 0 := ⟨q1087, q1088, q1089, q78, q1090, by unfold kD; decide +kernel⟩
theorem lkL_92 : kLV "CardLoomLaw" 92 yX3_jam cX3_jam 2 (some .int) 0 := ⟨q2592, q2593, q2594, q85, q2595, by unfold kD; decide +kernel⟩
theorem ls_18 {g : GT} {X : CxT} (CF : ∀ w9, kOk g X cL_law 4 "CardLoomLaw" (some .boolean) 2048 98496 (some (.int 1)) w9) (hX : ∀ U, gX g U → SX g U) (hZ : ∀ U, gX g U → SZ g U) (hst : (xl X).stackTraces = false) (hgB : (gH g).size = gB g) {b9 L : Nat} {sc : Nat → Int32} (hS : va_X b9 L sc (xs X) (gH g)) (hb9 : b9 < gB g) (N x o : Nat) (ho : gB g ≤ o) {J : Wd → M → Prop} (hJx : ∀ w σ, J w σ → ∃ fs, w.1 x = some (.inl (.inr (1, fs)))) (hop : OpOk g o J (fun w => FX0_jam N g x  w) (fun s => FX3_jam N  s)) {w : Wd} {σ : M} {k i : Nat} (hJ : J w σ) (hR : Rm g w (9000 + k)) (hi : i + 3 < L) (hL : L ≤ 256) (kk : ∀ w' σ', J w' σ' → Rm g w' k → kV g X 4 w' 1329 [some (.ref b9), some (.ref x), some (.ref o), some (.int (n32 i))] []) : kV g X 4 w 684 [some (.ref b9), some (.ref x), some (.ref o), some (.int (n32 i))] [] := by
  have C := CF w
  obtain ⟨fs, hfs⟩ := hJx w σ hJ
  obtain ⟨r, w', σ', h1, h2, h3, h4, h5⟩ := hop w σ k hJ hR
  refine v_aload_n C dL_law_684 rfl rfl ?_
  refine v_callV C lkL_89 (ci := 1) rfl hfs (As := []) (wX0_jam (xl X) g hX N x  w _ _ h1) (by decide) rfl rfl (Nat.le_of_ble_eq_true rfl) dL_law_685 ?_
  rw [← h3]
  refine v_aload_n C dL_law_688 rfl rfl ?_
  refine v_callV C lkL_92 (ci := 0) rfl hM_o (As := []) (wX3_jam (xl X) g ho w' N  σ _ σ' h2) (by decide) rfl rfl (Nat.le_of_ble_eq_true rfl) dL_law_689 ?_
  exact v_icmp_eq C (tgt := 1329) dL_law_692 (by decide) (f1 := some ()) (f2 := none) (z := ()) (if_pos rfl) (fun _ _ => kk _ σ' h4 h5) (fun q _ => absurd rfl q)
theorem lkL_93 : kLV "CardLoomLaw" 93 yX0_undoing cX0_undoing 5 (some .int) 2 := ⟨q1091, q1092, q1093, q78, q1094, by unfold kD; decide +kernel⟩
theorem lkL_96 : kLV "CardLoomLaw" 96 yX3_undoing cX3_undoing 7 (some .int) 2 := ⟨q2596, q2597, q2598, q85, q2599, by unfold kD; decide +kernel⟩
theorem ls_19 {g : GT} {X : CxT} (CF : ∀ w9, kOk g X cL_law 4 "CardLoomLaw" (some .boolean) 2048 98496 (some (.int 1)) w9) (hX : ∀ U, gX g U → SX g U) (hZ : ∀ U, gX g U → SZ g U) (hst : (xl X).stackTraces = false) (hgB : (gH g).size = gB g) {b9 L : Nat} {sc : Nat → Int32} (hS : va_X b9 L sc (xs X) (gH g)) (hb9 : b9 < gB g) (N x o : Nat) (ho : gB g ≤ o) {J : Wd → M → Prop} (hJx : ∀ w σ, J w σ → ∃ fs, w.1 x = some (.inl (.inr (1, fs)))) (hop : ∀ a1 a2 : Int32, OpOk g o J (fun w => FX0_undoing N g x a1 a2 w) (fun s => FX3_undoing N a1 a2 s)) {w : Wd} {σ : M} {k i : Nat} (hJ : J w σ) (hR : Rm g w (9000 + k)) (hi : i + 3 < L) (hL : L ≤ 256) (kk : ∀ w' σ', J w' σ' → Rm g w' k → kV g X 4 w' 1329 [some (.ref b9), some (.ref x), some (.ref o), some (.int (n32 i))] []) : kV g X 4 w 697 [some (.ref b9), some (.ref x), some (.ref o), some (.int (n32 i))] [] := by
  have C := CF w
  obtain ⟨fs, hfs⟩ := hJx w σ hJ
  obtain ⟨r, w', σ', h1, h2, h3, h4, h5⟩ := hop (sc (i + 1)) (sc (i + 2)) w σ k hJ hR
  refine v_aload_n C dL_law_697 rfl rfl ?_
  refine v_aload_n C dL_law_698 rfl rfl ?_
  refine v_iload_n C dL_law_699 rfl rfl ?_
  refine v_iconst C (v := (1 : Int32)) dL_law_700 (by decide) ?_
  refine v_iadd C dL_law_701 ?_
  refine v_sld C hgB hS hb9 (sc_in (j := 1) (by omega) hL hi) (sc_at sc (j := 1) (by omega)) dL_law_702 ?_
  refine v_aload_n C dL_law_703 rfl rfl ?_
  refine v_iload_n C dL_law_704 rfl rfl ?_
  refine v_iconst C (v := (2 : Int32)) dL_law_705 (by decide) ?_
  refine v_iadd C dL_law_706 ?_
  refine v_sld C hgB hS hb9 (sc_in (j := 2) (by omega) hL hi) (sc_at sc (j := 2) (by omega)) dL_law_707 ?_
  refine v_callV C lkL_93 (ci := 1) rfl hfs (As := [.int (sc (i + 1)), .int (sc (i + 2))]) (wX0_undoing (xl X) g hX N x (sc (i + 1)) (sc (i + 2)) w _ _ h1) (by decide) rfl rfl (Nat.le_of_ble_eq_true rfl) dL_law_708 ?_
  rw [← h3]
  refine v_aload_n C dL_law_711 rfl rfl ?_
  refine v_aload_n C dL_law_712 rfl rfl ?_
  refine v_iload_n C dL_law_713 rfl rfl ?_
  refine v_iconst C (v := (1 : Int32)) dL_law_714 (by decide) ?_
  refine v_iadd C dL_law_715 ?_
  refine v_sld C hgB hS hb9 (sc_in (j := 1) (by omega) hL hi) (sc_at sc (j := 1) (by omega)) dL_law_716 ?_
  refine v_aload_n C dL_law_717 rfl rfl ?_
  refine v_iload_n C dL_law_718 rfl rfl ?_
  refine v_iconst C (v := (2 : Int32)) dL_law_719 (by decide) ?_
  refine v_iadd C dL_law_720 ?_
  refine v_sld C hgB hS hb9 (sc_in (j := 2) (by omega) hL hi) (sc_at sc (j := 2) (by omega)) dL_law_721 ?_
  refine v_callV C lkL_96 (ci := 0) rfl hM_o (As := [.int (sc (i + 1)), .int (sc (i + 2))]) (wX3_undoing (xl X) g ho w' N (sc (i + 1)) (sc (i + 2)) σ _ σ' h2) (by decide) rfl rfl (Nat.le_of_ble_eq_true rfl) dL_law_722 ?_
  exact v_icmp_eq C (tgt := 1329) dL_law_725 (by decide) (f1 := some ()) (f2 := none) (z := ()) (if_pos rfl) (fun _ _ => kk _ σ' h4 h5) (fun q _ => absurd rfl q)
theorem lkL_97 : kLV "CardLoomLaw" 97 yX0_paint cX0_paint 5 (some .int) 3 := ⟨q1497, q1498, q1499, q78, q1500, by unfold kD; decide +kernel⟩
theorem lkL_100 : kLV "CardLoomLaw" 100 yX3_paint cX3_paint 5 (some .int) 3 := ⟨q2604, q2605, q2606, q85, q2607, by unfold kD; decide +kernel⟩
theorem ls_20 {g : GT} {X : CxT} (CF : ∀ w9, kOk g X cL_law 4 "CardLoomLaw" (some .boolean) 2048 98496 (some (.int 1)) w9) (hX : ∀ U, gX g U → SX g U) (hZ : ∀ U, gX g U → SZ g U) (hst : (xl X).stackTraces = false) (hgB : (gH g).size = gB g) {b9 L : Nat} {sc : Nat → Int32} (hS : va_X b9 L sc (xs X) (gH g)) (hb9 : b9 < gB g) (N x o : Nat) (ho : gB g ≤ o) {J : Wd → M → Prop} (hJx : ∀ w σ, J w σ → ∃ fs, w.1 x = some (.inl (.inr (1, fs)))) (hop : ∀ a1 a2 a3 : Int32, OpOk g o J (fun w => FX0_paint N g x a1 a2 a3 w) (fun s => FX3_paint N a1 a2 a3 s)) {w : Wd} {σ : M} {k i : Nat} (hJ : J w σ) (hR : Rm g w (9000 + k)) (hi : i + 3 < L) (hL : L ≤ 256) (kk : ∀ w' σ', J w' σ' → Rm g w' k → kV g X 4 w' 1329 [some (.ref b9), some (.ref x), some (.ref o), some (.int (n32 i))] []) : kV g X 4 w 730 [some (.ref b9), some (.ref x), some (.ref o), some (.int (n32 i))] [] := by
  have C := CF w
  obtain ⟨fs, hfs⟩ := hJx w σ hJ
  obtain ⟨r, w', σ', h1, h2, h3, h4, h5⟩ := hop (sc (i + 1)) (sc (i + 2)) (sc (i + 3)) w σ k hJ hR
  refine v_aload_n C dL_law_730 rfl rfl ?_
  refine v_aload_n C dL_law_731 rfl rfl ?_
  refine v_iload_n C dL_law_732 rfl rfl ?_
  refine v_iconst C (v := (1 : Int32)) dL_law_733 (by decide) ?_
  refine v_iadd C dL_law_734 ?_
  refine v_sld C hgB hS hb9 (sc_in (j := 1) (by omega) hL hi) (sc_at sc (j := 1) (by omega)) dL_law_735 ?_
  refine v_aload_n C dL_law_736 rfl rfl ?_
  refine v_iload_n C dL_law_737 rfl rfl ?_
  refine v_iconst C (v := (2 : Int32)) dL_law_738 (by decide) ?_
  refine v_iadd C dL_law_739 ?_
  refine v_sld C hgB hS hb9 (sc_in (j := 2) (by omega) hL hi) (sc_at sc (j := 2) (by omega)) dL_law_740 ?_
  refine v_aload_n C dL_law_741 rfl rfl ?_
  refine v_iload_n C dL_law_742 rfl rfl ?_
  refine v_iconst C (v := (3 : Int32)) dL_law_743 (by decide) ?_
  refine v_iadd C dL_law_744 ?_
  refine v_sld C hgB hS hb9 (sc_in (j := 3) (by omega) hL hi) (sc_at sc (j := 3) (by omega)) dL_law_745 ?_
  refine v_callV C lkL_97 (ci := 1) rfl hfs (As := [.int (sc (i + 1)), .int (sc (i + 2)), .int (sc (i + 3))]) (wX0_paint (xl X) g hX N x (sc (i + 1)) (sc (i + 2)) (sc (i + 3)) w _ _ h1) (by decide) rfl rfl (Nat.le_of_ble_eq_true rfl) dL_law_746 ?_
  rw [← h3]
  refine v_aload_n C dL_law_749 rfl rfl ?_
  refine v_aload_n C dL_law_750 rfl rfl ?_
  refine v_iload_n C dL_law_751 rfl rfl ?_
  refine v_iconst C (v := (1 : Int32)) dL_law_752 (by decide) ?_
  refine v_iadd C dL_law_753 ?_
  refine v_sld C hgB hS hb9 (sc_in (j := 1) (by omega) hL hi) (sc_at sc (j := 1) (by omega)) dL_law_754 ?_
  refine v_aload_n C dL_law_755 rfl rfl ?_
  refine v_iload_n C dL_law_756 rfl rfl ?_
  refine v_iconst C (v := (2 : Int32)) dL_law_757 (by decide) ?_
  refine v_iadd C dL_law_758 ?_
  refine v_sld C hgB hS hb9 (sc_in (j := 2) (by omega) hL hi) (sc_at sc (j := 2) (by omega)) dL_law_759 ?_
  refine v_aload_n C dL_law_760 rfl rfl ?_
  refine v_iload_n C dL_law_761 rfl rfl ?_
  refine v_iconst C (v := (3 : Int32)) dL_law_762 (by decide) ?_
  refine v_iadd C dL_law_763 ?_
  refine v_sld C hgB hS hb9 (sc_in (j := 3) (by omega) hL hi) (sc_at sc (j := 3) (by omega)) dL_law_764 ?_
  refine v_callV C lkL_100 (ci := 0) rfl hM_o (As := [.int (sc (i + 1)), .int (sc (i + 2)), .int (sc (i + 3))]) (wX3_paint (xl X) g ho w' N (sc (i + 1)) (sc (i + 2)) (sc (i + 3)) σ _ σ' h2) (by decide) rfl rfl (Nat.le_of_ble_eq_true rfl) dL_law_765 ?_
  exact v_icmp_eq C (tgt := 1329) dL_law_768 (by decide) (f1 := some ()) (f2 := none) (z := ()) (if_pos rfl) (fun _ _ => kk _ σ' h4 h5) (fun q _ => absurd rfl q)
theorem lkL_101 : kLV "CardLoomLaw" 101 yX0_lines cX0_lines 5 (some .int) 1 := ⟨q1501, q1502, q1503, q78, q1504, by unfold kD; decide +kernel⟩
theorem lkL_104 : kLV "CardLoomLaw" 104 yX3_lines cX3_lines 4 (some .int) 1 := ⟨q2608, q2609, q2610, q85, q2611, by unfold kD; decide +kernel⟩
theorem ls_21 {g : GT} {X : CxT} (CF : ∀ w9, kOk g X cL_law 4 "CardLoomLaw" (some .boolean) 2048 98496 (some (.int 1)) w9) (hX : ∀ U, gX g U → SX g U) (hZ : ∀ U, gX g U → SZ g U) (hst : (xl X).stackTraces = false) (hgB : (gH g).size = gB g) {b9 L : Nat} {sc : Nat → Int32} (hS : va_X b9 L sc (xs X) (gH g)) (hb9 : b9 < gB g) (N x o : Nat) (ho : gB g ≤ o) {J : Wd → M → Prop} (hJx : ∀ w σ, J w σ → ∃ fs, w.1 x = some (.inl (.inr (1, fs)))) (hop : ∀ a1 : Int32, OpOk g o J (fun w => FX0_lines N g x a1 w) (fun s => FX3_lines N a1 s)) {w : Wd} {σ : M} {k i : Nat} (hJ : J w σ) (hR : Rm g w (9000 + k)) (hi : i + 3 < L) (hL : L ≤ 256) (kk : ∀ w' σ', J w' σ' → Rm g w' k → kV g X 4 w' 1329 [some (.ref b9), some (.ref x), some (.ref o), some (.int (n32 i))] []) : kV g X 4 w 773 [some (.ref b9), some (.ref x), some (.ref o), some (.int (n32 i))] [] := by
  have C := CF w
  obtain ⟨fs, hfs⟩ := hJx w σ hJ
  obtain ⟨r, w', σ', h1, h2, h3, h4, h5⟩ := hop (sc (i + 1)) w σ k hJ hR
  refine v_aload_n C dL_law_773 rfl rfl ?_
  refine v_aload_n C dL_law_774 rfl rfl ?_
  refine v_iload_n C dL_law_775 rfl rfl ?_
  refine v_iconst C (v := (1 : Int32)) dL_law_776 (by decide) ?_
  refine v_iadd C dL_law_777 ?_
  refine v_sld C hgB hS hb9 (sc_in (j := 1) (by omega) hL hi) (sc_at sc (j := 1) (by omega)) dL_law_778 ?_
  refine v_callV C lkL_101 (ci := 1) rfl hfs (As := [.int (sc (i + 1))]) (wX0_lines (xl X) g hX N x (sc (i + 1)) w _ _ h1) (by decide) rfl rfl (Nat.le_of_ble_eq_true rfl) dL_law_779 ?_
  rw [← h3]
  refine v_aload_n C dL_law_782 rfl rfl ?_
  refine v_aload_n C dL_law_783 rfl rfl ?_
  refine v_iload_n C dL_law_784 rfl rfl ?_
  refine v_iconst C (v := (1 : Int32)) dL_law_785 (by decide) ?_
  refine v_iadd C dL_law_786 ?_
  refine v_sld C hgB hS hb9 (sc_in (j := 1) (by omega) hL hi) (sc_at sc (j := 1) (by omega)) dL_law_787 ?_
  refine v_callV C lkL_104 (ci := 0) rfl hM_o (As := [.int (sc (i + 1))]) (wX3_lines (xl X) g ho w' N (sc (i + 1)) σ _ σ' h2) (by decide) rfl rfl (Nat.le_of_ble_eq_true rfl) dL_law_788 ?_
  exact v_icmp_eq C (tgt := 1329) dL_law_791 (by decide) (f1 := some ()) (f2 := none) (z := ()) (if_pos rfl) (fun _ _ => kk _ σ' h4 h5) (fun q _ => absurd rfl q)
theorem lkL_105 : kLV "CardLoomLaw" 105 yX0_draft cX0_draft 4 (some .int) 2 := ⟨q1505, q1506, q1507, q78, q1508, by unfold kD; decide +kernel⟩
theorem lkL_108 : kLV "CardLoomLaw" 108 yX3_draft cX3_draft 3 (some .int) 2 := ⟨q2612, q2613, q2614, q85, q2615, by unfold kD; decide +kernel⟩
theorem ls_22 {g : GT} {X : CxT} (CF : ∀ w9, kOk g X cL_law 4 "CardLoomLaw" (some .boolean) 2048 98496 (some (.int 1)) w9) (hX : ∀ U, gX g U → SX g U) (hZ : ∀ U, gX g U → SZ g U) (hst : (xl X).stackTraces = false) (hgB : (gH g).size = gB g) {b9 L : Nat} {sc : Nat → Int32} (hS : va_X b9 L sc (xs X) (gH g)) (hb9 : b9 < gB g) (N x o : Nat) (ho : gB g ≤ o) {J : Wd → M → Prop} (hJx : ∀ w σ, J w σ → ∃ fs, w.1 x = some (.inl (.inr (1, fs)))) (hop : ∀ a1 a2 : Int32, OpOk g o J (fun w => FX0_draft N g x a1 a2 w) (fun s => FX3_draft N a1 a2 s)) {w : Wd} {σ : M} {k i : Nat} (hJ : J w σ) (hR : Rm g w (9000 + k)) (hi : i + 3 < L) (hL : L ≤ 256) (kk : ∀ w' σ', J w' σ' → Rm g w' k → kV g X 4 w' 1329 [some (.ref b9), some (.ref x), some (.ref o), some (.int (n32 i))] []) : kV g X 4 w 796 [some (.ref b9), some (.ref x), some (.ref o), some (.int (n32 i))] [] := by
  have C := CF w
  obtain ⟨fs, hfs⟩ := hJx w σ hJ
  obtain ⟨r, w', σ', h1, h2, h3, h4, h5⟩ := hop (sc (i + 1)) (sc (i + 2)) w σ k hJ hR
  refine v_aload_n C dL_law_796 rfl rfl ?_
  refine v_aload_n C dL_law_797 rfl rfl ?_
  refine v_iload_n C dL_law_798 rfl rfl ?_
  refine v_iconst C (v := (1 : Int32)) dL_law_799 (by decide) ?_
  refine v_iadd C dL_law_800 ?_
  refine v_sld C hgB hS hb9 (sc_in (j := 1) (by omega) hL hi) (sc_at sc (j := 1) (by omega)) dL_law_801 ?_
  refine v_aload_n C dL_law_802 rfl rfl ?_
  refine v_iload_n C dL_law_803 rfl rfl ?_
  refine v_iconst C (v := (2 : Int32)) dL_law_804 (by decide) ?_
  refine v_iadd C dL_law_805 ?_
  refine v_sld C hgB hS hb9 (sc_in (j := 2) (by omega) hL hi) (sc_at sc (j := 2) (by omega)) dL_law_806 ?_
  refine v_callV C lkL_105 (ci := 1) rfl hfs (As := [.int (sc (i + 1)), .int (sc (i + 2))]) (wX0_draft (xl X) g hX N x (sc (i + 1)) (sc (i + 2)) w _ _ h1) (by decide) rfl rfl (Nat.le_of_ble_eq_true rfl) dL_law_807 ?_
  rw [← h3]
  refine v_aload_n C dL_law_810 rfl rfl ?_
  refine v_aload_n C dL_law_811 rfl rfl ?_
  refine v_iload_n C dL_law_812 rfl rfl ?_
  refine v_iconst C (v := (1 : Int32)) dL_law_813 (by decide) ?_
  refine v_iadd C dL_law_814 ?_
  refine v_sld C hgB hS hb9 (sc_in (j := 1) (by omega) hL hi) (sc_at sc (j := 1) (by omega)) dL_law_815 ?_
  refine v_aload_n C dL_law_816 rfl rfl ?_
  refine v_iload_n C dL_law_817 rfl rfl ?_
  refine v_iconst C (v := (2 : Int32)) dL_law_818 (by decide) ?_
  refine v_iadd C dL_law_819 ?_
  refine v_sld C hgB hS hb9 (sc_in (j := 2) (by omega) hL hi) (sc_at sc (j := 2) (by omega)) dL_law_820 ?_
  refine v_callV C lkL_108 (ci := 0) rfl hM_o (As := [.int (sc (i + 1)), .int (sc (i + 2))]) (wX3_draft (xl X) g ho w' N (sc (i + 1)) (sc (i + 2)) σ _ σ' h2) (by decide) rfl rfl (Nat.le_of_ble_eq_true rfl) dL_law_821 ?_
  exact v_icmp_eq C (tgt := 1329) dL_law_824 (by decide) (f1 := some ()) (f2 := none) (z := ()) (if_pos rfl) (fun _ _ => kk _ σ' h4 h5) (fun q _ => absurd rfl q)
theorem lkL_109 : kLV "CardLoomLaw" 109 yX0_fewest cX0_fewest 4 (some .int) 1 := ⟨q1570, q1571, q1572, q78, q1573, by unfold kD; decide +kernel⟩
theorem lkL_112 : kLV "CardLoomLaw" 112 yX3_fewest cX3_fewest 5 (some .int) 1 := ⟨q2629, q2630, q2631, q85, q2632, by unfold kD; decide +kernel⟩
theorem ls_23 {g : GT} {X : CxT} (CF : ∀ w9, kOk g X cL_law 4 "CardLoomLaw" (some .boolean) 2048 98496 (some (.int 1)) w9) (hX : ∀ U, gX g U → SX g U) (hZ : ∀ U, gX g U → SZ g U) (hst : (xl X).stackTraces = false) (hgB : (gH g).size = gB g) {b9 L : Nat} {sc : Nat → Int32} (hS : va_X b9 L sc (xs X) (gH g)) (hb9 : b9 < gB g) (N x o : Nat) (ho : gB g ≤ o) {J : Wd → M → Prop} (hJx : ∀ w σ, J w σ → ∃ fs, w.1 x = some (.inl (.inr (1, fs)))) (hop : ∀ a1 : Int32, OpOk g o J (fun w => FX0_fewest N g x a1 w) (fun s => FX3_fewest N a1 s)) {w : Wd} {σ : M} {k i : Nat} (hJ : J w σ) (hR : Rm g w (9000 + k)) (hi : i + 3 < L) (hL : L ≤ 256) (kk : ∀ w' σ', J w' σ' → Rm g w' k → kV g X 4 w' 1329 [some (.ref b9), some (.ref x), some (.ref o), some (.int (n32 i))] []) : kV g X 4 w 829 [some (.ref b9), some (.ref x), some (.ref o), some (.int (n32 i))] [] := by
  have C := CF w
  obtain ⟨fs, hfs⟩ := hJx w σ hJ
  obtain ⟨r, w', σ', h1, h2, h3, h4, h5⟩ := hop (sc (i + 1)) w σ k hJ hR
  refine v_aload_n C dL_law_829 rfl rfl ?_
  refine v_aload_n C dL_law_830 rfl rfl ?_
  refine v_iload_n C dL_law_831 rfl rfl ?_
  refine v_iconst C (v := (1 : Int32)) dL_law_832 (by decide) ?_
  refine v_iadd C dL_law_833 ?_
  refine v_sld C hgB hS hb9 (sc_in (j := 1) (by omega) hL hi) (sc_at sc (j := 1) (by omega)) dL_law_834 ?_
  refine v_callV C lkL_109 (ci := 1) rfl hfs (As := [.int (sc (i + 1))]) (wX0_fewest (xl X) g hX N x (sc (i + 1)) w _ _ h1) (by decide) rfl rfl (Nat.le_of_ble_eq_true rfl) dL_law_835 ?_
  rw [← h3]
  refine v_aload_n C dL_law_838 rfl rfl ?_
  refine v_aload_n C dL_law_839 rfl rfl ?_
  refine v_iload_n C dL_law_840 rfl rfl ?_
  refine v_iconst C (v := (1 : Int32)) dL_law_841 (by decide) ?_
  refine v_iadd C dL_law_842 ?_
  refine v_sld C hgB hS hb9 (sc_in (j := 1) (by omega) hL hi) (sc_at sc (j := 1) (by omega)) dL_law_843 ?_
  refine v_callV C lkL_112 (ci := 0) rfl hM_o (As := [.int (sc (i + 1))]) (wX3_fewest (xl X) g ho w' N (sc (i + 1)) σ _ σ' h2) (by decide) rfl rfl (Nat.le_of_ble_eq_true rfl) dL_law_844 ?_
  exact v_icmp_eq C (tgt := 1329) dL_law_847 (by decide) (f1 := some ()) (f2 := none) (z := ()) (if_pos rfl) (fun _ _ => kk _ σ' h4 h5) (fun q _ => absurd rfl q)
theorem lkL_113 : kLV "CardLoomLaw" 113 yX0_weaveDraft cX0_weaveDraft 5 (some .int) 0 := ⟨q1578, q1579, q1580, q78, q1581, by unfold kD; decide +kernel⟩
theorem lkL_116 : kLV "CardLoomLaw" 116 yX3_weaveDraft cX3_weaveDraft 3 (some .int) 0 := ⟨q2633, q2634, q2635, q85, q2636, by unfold kD; decide +kernel⟩
theorem ls_24 {g : GT} {X : CxT} (CF : ∀ w9, kOk g X cL_law 4 "CardLoomLaw" (some .boolean) 2048 98496 (some (.int 1)) w9) (hX : ∀ U, gX g U → SX g U) (hZ : ∀ U, gX g U → SZ g U) (hst : (xl X).stackTraces = false) (hgB : (gH g).size = gB g) {b9 L : Nat} {sc : Nat → Int32} (hS : va_X b9 L sc (xs X) (gH g)) (hb9 : b9 < gB g) (N x o : Nat) (ho : gB g ≤ o) {J : Wd → M → Prop} (hJx : ∀ w σ, J w σ → ∃ fs, w.1 x = some (.inl (.inr (1, fs)))) (hop : OpOk g o J (fun w => FX0_weaveDraft N g x  w) (fun s => FX3_weaveDraft N  s)) {w : Wd} {σ : M} {k i : Nat} (hJ : J w σ) (hR : Rm g w (9000 + k)) (hi : i + 3 < L) (hL : L ≤ 256) (kk : ∀ w' σ', J w' σ' → Rm g w' k → kV g X 4 w' 1329 [some (.ref b9), some (.ref x), some (.ref o), some (.int (n32 i))] []) : kV g X 4 w 852 [some (.ref b9), some (.ref x), some (.ref o), some (.int (n32 i))] [] := by
  have C := CF w
  obtain ⟨fs, hfs⟩ := hJx w σ hJ
  obtain ⟨r, w', σ', h1, h2, h3, h4, h5⟩ := hop w σ k hJ hR
  refine v_aload_n C dL_law_852 rfl rfl ?_
  refine v_callV C lkL_113 (ci := 1) rfl hfs (As := []) (wX0_weaveDraft (xl X) g hX N x  w _ _ h1) (by decide) rfl rfl (Nat.le_of_ble_eq_true rfl) dL_law_853 ?_
  rw [← h3]
  refine v_aload_n C dL_law_856 rfl rfl ?_
  refine v_callV C lkL_116 (ci := 0) rfl hM_o (As := []) (wX3_weaveDraft (xl X) g ho w' N  σ _ σ' h2) (by decide) rfl rfl (Nat.le_of_ble_eq_true rfl) dL_law_857 ?_
  exact v_icmp_eq C (tgt := 1329) dL_law_860 (by decide) (f1 := some ()) (f2 := none) (z := ()) (if_pos rfl) (fun _ _ => kk _ σ' h4 h5) (fun q _ => absurd rfl q)
theorem lkL_117 : kLV "CardLoomLaw" 117 yX0_matches cX0_matches 5 (some .int) 1 := ⟨q1588, q1589, q1590, q78, q1591, by unfold kD; decide +kernel⟩
theorem lkL_120 : kLV "CardLoomLaw" 120 yX3_matches cX3_matches 5 (some .int) 1 := ⟨q2639, q2640, q2641, q85, q2642, by unfold kD; decide +kernel⟩
theorem ls_25 {g : GT} {X : CxT} (CF : ∀ w9, kOk g X cL_law 4 "CardLoomLaw" (some .boolean) 2048 98496 (some (.int 1)) w9) (hX : ∀ U, gX g U → SX g U) (hZ : ∀ U, gX g U → SZ g U) (hst : (xl X).stackTraces = false) (hgB : (gH g).size = gB g) {b9 L : Nat} {sc : Nat → Int32} (hS : va_X b9 L sc (xs X) (gH g)) (hb9 : b9 < gB g) (N x o : Nat) (ho : gB g ≤ o) {J : Wd → M → Prop} (hJx : ∀ w σ, J w σ → ∃ fs, w.1 x = some (.inl (.inr (1, fs)))) (hop : ∀ a1 : Int32, OpOk g o J (fun w => FX0_matches N g x a1 w) (fun s => FX3_matches N a1 s)) {w : Wd} {σ : M} {k i : Nat} (hJ : J w σ) (hR : Rm g w (9000 + k)) (hi : i + 3 < L) (hL : L ≤ 256) (kk : ∀ w' σ', J w' σ' → Rm g w' k → kV g X 4 w' 1329 [some (.ref b9), some (.ref x), some (.ref o), some (.int (n32 i))] []) : kV g X 4 w 865 [some (.ref b9), some (.ref x), some (.ref o), some (.int (n32 i))] [] := by
  have C := CF w
  obtain ⟨fs, hfs⟩ := hJx w σ hJ
  obtain ⟨r, w', σ', h1, h2, h3, h4, h5⟩ := hop (sc (i + 1)) w σ k hJ hR
  refine v_aload_n C dL_law_865 rfl rfl ?_
  refine v_aload_n C dL_law_866 rfl rfl ?_
  refine v_iload_n C dL_law_867 rfl rfl ?_
  refine v_iconst C (v := (1 : Int32)) dL_law_868 (by decide) ?_
  refine v_iadd C dL_law_869 ?_
  refine v_sld C hgB hS hb9 (sc_in (j := 1) (by omega) hL hi) (sc_at sc (j := 1) (by omega)) dL_law_870 ?_
  refine v_callV C lkL_117 (ci := 1) rfl hfs (As := [.int (sc (i + 1))]) (wX0_matches (xl X) g hX N x (sc (i + 1)) w _ _ h1) (by decide) rfl rfl (Nat.le_of_ble_eq_true rfl) dL_law_871 ?_
  rw [← h3]
  refine v_aload_n C dL_law_874 rfl rfl ?_
  refine v_aload_n C dL_law_875 rfl rfl ?_
  refine v_iload_n C dL_law_876 rfl rfl ?_
  refine v_iconst C (v := (1 : Int32)) dL_law_877 (by decide) ?_
  refine v_iadd C dL_law_878 ?_
  refine v_sld C hgB hS hb9 (sc_in (j := 1) (by omega) hL hi) (sc_at sc (j := 1) (by omega)) dL_law_879 ?_
  refine v_callV C lkL_120 (ci := 0) rfl hM_o (As := [.int (sc (i + 1))]) (wX3_matches (xl X) g ho w' N (sc (i + 1)) σ _ σ' h2) (by decide) rfl rfl (Nat.le_of_ble_eq_true rfl) dL_law_880 ?_
  exact v_icmp_eq C (tgt := 1329) dL_law_883 (by decide) (f1 := some ()) (f2 := none) (z := ()) (if_pos rfl) (fun _ _ => kk _ σ' h4 h5) (fun q _ => absurd rfl q)
theorem lkL_121 : kLV "CardLoomLaw" 121 yX0_period cX0_period 2 (some .int) 0 := ⟨q1592, q1593, q1594, q78, q1595, by unfold kD; decide +kernel⟩
theorem lkL_124 : kLV "CardLoomLaw" 124 yX3_period cX3_period 4 (some .int) 0 := ⟨q2643, q2644, q2645, q85, q2646, by unfold kD; decide +kernel⟩
theorem ls_26 {g : GT} {X : CxT} (CF : ∀ w9, kOk g X cL_law 4 "CardLoomLaw" (some .boolean) 2048 98496 (some (.int 1)) w9) (hX : ∀ U, gX g U → SX g U) (hZ : ∀ U, gX g U → SZ g U) (hst : (xl X).stackTraces = false) (hgB : (gH g).size = gB g) {b9 L : Nat} {sc : Nat → Int32} (hS : va_X b9 L sc (xs X) (gH g)) (hb9 : b9 < gB g) (N x o : Nat) (ho : gB g ≤ o) {J : Wd → M → Prop} (hJx : ∀ w σ, J w σ → ∃ fs, w.1 x = some (.inl (.inr (1, fs)))) (hop : OpOk g o J (fun w => FX0_period N g x  w) (fun s => FX3_period N  s)) {w : Wd} {σ : M} {k i : Nat} (hJ : J w σ) (hR : Rm g w (9000 + k)) (hi : i + 3 < L) (hL : L ≤ 256) (kk : ∀ w' σ', J w' σ' → Rm g w' k → kV g X 4 w' 1329 [some (.ref b9), some (.ref x), some (.ref o), some (.int (n32 i))] []) : kV g X 4 w 888 [some (.ref b9), some (.ref x), some (.ref o), some (.int (n32 i))] [] := by
  have C := CF w
  obtain ⟨fs, hfs⟩ := hJx w σ hJ
  obtain ⟨r, w', σ', h1, h2, h3, h4, h5⟩ := hop w σ k hJ hR
  refine v_aload_n C dL_law_888 rfl rfl ?_
  refine v_callV C lkL_121 (ci := 1) rfl hfs (As := []) (wX0_period (xl X) g hX N x  w _ _ h1) (by decide) rfl rfl (Nat.le_of_ble_eq_true rfl) dL_law_889 ?_
  rw [← h3]
  refine v_aload_n C dL_law_892 rfl rfl ?_
  refine v_callV C lkL_124 (ci := 0) rfl hM_o (As := []) (wX3_period (xl X) g ho w' N  σ _ σ' h2) (by decide) rfl rfl (Nat.le_of_ble_eq_true rfl) dL_law_893 ?_
  exact v_icmp_eq C (tgt := 1329) dL_law_896 (by decide) (f1 := some ()) (f2 := none) (z := ()) (if_pos rfl) (fun _ _ => kk _ σ' h4 h5) (fun q _ => absurd rfl q)
theorem lkL_125 : kLV "CardLoomLaw" 125 yX0_mirrors cX0_mirrors 4 (some .int) 0 := ⟨q1612, q1613, q1614, q78, q1615, by unfold kD; decide +kernel⟩
theorem lkL_128 : kLV "CardLoomLaw" 128 yX3_mirrors cX3_mirrors 5 (some .int) 0 := ⟨q2651, q2652, q2653, q85, q2654, by unfold kD; decide +kernel⟩
theorem ls_27 {g : GT} {X : CxT} (CF : ∀ w9, kOk g X cL_law 4 "CardLoomLaw" (some .boolean) 2048 98496 (some (.int 1)) w9) (hX : ∀ U, gX g U → SX g U) (hZ : ∀ U, gX g U → SZ g U) (hst : (xl X).stackTraces = false) (hgB : (gH g).size = gB g) {b9 L : Nat} {sc : Nat → Int32} (hS : va_X b9 L sc (xs X) (gH g)) (hb9 : b9 < gB g) (N x o : Nat) (ho : gB g ≤ o) {J : Wd → M → Prop} (hJx : ∀ w σ, J w σ → ∃ fs, w.1 x = some (.inl (.inr (1, fs)))) (hop : OpOk g o J (fun w => FX0_mirrors N g x  w) (fun s => FX3_mirrors N  s)) {w : Wd} {σ : M} {k i : Nat} (hJ : J w σ) (hR : Rm g w (9000 + k)) (hi : i + 3 < L) (hL : L ≤ 256) (kk : ∀ w' σ', J w' σ' → Rm g w' k → kV g X 4 w' 1329 [some (.ref b9), some (.ref x), some (.ref o), some (.int (n32 i))] []) : kV g X 4 w 901 [some (.ref b9), some (.ref x), some (.ref o), some (.int (n32 i))] [] := by
  have C := CF w
  obtain ⟨fs, hfs⟩ := hJx w σ hJ
  obtain ⟨r, w', σ', h1, h2, h3, h4, h5⟩ := hop w σ k hJ hR
  refine v_aload_n C dL_law_901 rfl rfl ?_
  refine v_callV C lkL_125 (ci := 1) rfl hfs (As := []) (wX0_mirrors (xl X) g hX N x  w _ _ h1) (by decide) rfl rfl (Nat.le_of_ble_eq_true rfl) dL_law_902 ?_
  rw [← h3]
  refine v_aload_n C dL_law_905 rfl rfl ?_
  refine v_callV C lkL_128 (ci := 0) rfl hM_o (As := []) (wX3_mirrors (xl X) g ho w' N  σ _ σ' h2) (by decide) rfl rfl (Nat.le_of_ble_eq_true rfl) dL_law_906 ?_
  exact v_icmp_eq C (tgt := 1329) dL_law_909 (by decide) (f1 := some ()) (f2 := none) (z := ()) (if_pos rfl) (fun _ _ => kk _ σ' h4 h5) (fun q _ => absurd rfl q)
theorem lkL_129 : kLV "CardLoomLaw" 129 yX0_run cX0_run 4 (some .int) 1 := ⟨q1620, q1621, q1622, q78, q1623, by unfold kD; decide +kernel⟩
theorem lkL_132 : kLV "CardLoomLaw" 132 yX3_run cX3_run 6 (some .int) 1 := ⟨q2655, q2656, q2657, q85, q2658, by unfold kD; decide +kernel⟩
theorem ls_28 {g : GT} {X : CxT} (CF : ∀ w9, kOk g X cL_law 4 "CardLoomLaw" (some .boolean) 2048 98496 (some (.int 1)) w9) (hX : ∀ U, gX g U → SX g U) (hZ : ∀ U, gX g U → SZ g U) (hst : (xl X).stackTraces = false) (hgB : (gH g).size = gB g) {b9 L : Nat} {sc : Nat → Int32} (hS : va_X b9 L sc (xs X) (gH g)) (hb9 : b9 < gB g) (N x o : Nat) (ho : gB g ≤ o) {J : Wd → M → Prop} (hJx : ∀ w σ, J w σ → ∃ fs, w.1 x = some (.inl (.inr (1, fs)))) (hop : ∀ a1 : Int32, OpOk g o J (fun w => FX0_run N g x a1 w) (fun s => FX3_run N a1 s)) {w : Wd} {σ : M} {k i : Nat} (hJ : J w σ) (hR : Rm g w (9000 + k)) (hi : i + 3 < L) (hL : L ≤ 256) (kk : ∀ w' σ', J w' σ' → Rm g w' k → kV g X 4 w' 1329 [some (.ref b9), some (.ref x), some (.ref o), some (.int (n32 i))] []) : kV g X 4 w 914 [some (.ref b9), some (.ref x), some (.ref o), some (.int (n32 i))] [] := by
  have C := CF w
  obtain ⟨fs, hfs⟩ := hJx w σ hJ
  obtain ⟨r, w', σ', h1, h2, h3, h4, h5⟩ := hop (sc (i + 1)) w σ k hJ hR
  refine v_aload_n C dL_law_914 rfl rfl ?_
  refine v_aload_n C dL_law_915 rfl rfl ?_
  refine v_iload_n C dL_law_916 rfl rfl ?_
  refine v_iconst C (v := (1 : Int32)) dL_law_917 (by decide) ?_
  refine v_iadd C dL_law_918 ?_
  refine v_sld C hgB hS hb9 (sc_in (j := 1) (by omega) hL hi) (sc_at sc (j := 1) (by omega)) dL_law_919 ?_
  refine v_callV C lkL_129 (ci := 1) rfl hfs (As := [.int (sc (i + 1))]) (wX0_run (xl X) g hX N x (sc (i + 1)) w _ _ h1) (by decide) rfl rfl (Nat.le_of_ble_eq_true rfl) dL_law_920 ?_
  rw [← h3]
  refine v_aload_n C dL_law_923 rfl rfl ?_
  refine v_aload_n C dL_law_924 rfl rfl ?_
  refine v_iload_n C dL_law_925 rfl rfl ?_
  refine v_iconst C (v := (1 : Int32)) dL_law_926 (by decide) ?_
  refine v_iadd C dL_law_927 ?_
  refine v_sld C hgB hS hb9 (sc_in (j := 1) (by omega) hL hi) (sc_at sc (j := 1) (by omega)) dL_law_928 ?_
  refine v_callV C lkL_132 (ci := 0) rfl hM_o (As := [.int (sc (i + 1))]) (wX3_run (xl X) g ho w' N (sc (i + 1)) σ _ σ' h2) (by decide) rfl rfl (Nat.le_of_ble_eq_true rfl) dL_law_929 ?_
  exact v_icmp_eq C (tgt := 1329) dL_law_932 (by decide) (f1 := some ()) (f2 := none) (z := ()) (if_pos rfl) (fun _ _ => kk _ σ' h4 h5) (fun q _ => absurd rfl q)
theorem lkL_133 : kLV "CardLoomLaw" 133 yX0_colours cX0_colours 4 (some .int) 2 := ⟨q1628, q1629, q1630, q78, q1631, by unfold kD; decide +kernel⟩
theorem lkL_136 : kLV "CardLoomLaw" 136 yX3_colours cX3_colours 5 (some .int) 2 := ⟨q2659, q2660, q2661, q85, q2662, by unfold kD; decide +kernel⟩
theorem ls_29 {g : GT} {X : CxT} (CF : ∀ w9, kOk g X cL_law 4 "CardLoomLaw" (some .boolean) 2048 98496 (some (.int 1)) w9) (hX : ∀ U, gX g U → SX g U) (hZ : ∀ U, gX g U → SZ g U) (hst : (xl X).stackTraces = false) (hgB : (gH g).size = gB g) {b9 L : Nat} {sc : Nat → Int32} (hS : va_X b9 L sc (xs X) (gH g)) (hb9 : b9 < gB g) (N x o : Nat) (ho : gB g ≤ o) {J : Wd → M → Prop} (hJx : ∀ w σ, J w σ → ∃ fs, w.1 x = some (.inl (.inr (1, fs)))) (hop : ∀ a1 a2 : Int32, OpOk g o J (fun w => FX0_colours N g x a1 a2 w) (fun s => FX3_colours N a1 a2 s)) {w : Wd} {σ : M} {k i : Nat} (hJ : J w σ) (hR : Rm g w (9000 + k)) (hi : i + 3 < L) (hL : L ≤ 256) (kk : ∀ w' σ', J w' σ' → Rm g w' k → kV g X 4 w' 1329 [some (.ref b9), some (.ref x), some (.ref o), some (.int (n32 i))] []) : kV g X 4 w 937 [some (.ref b9), some (.ref x), some (.ref o), some (.int (n32 i))] [] := by
  have C := CF w
  obtain ⟨fs, hfs⟩ := hJx w σ hJ
  obtain ⟨r, w', σ', h1, h2, h3, h4, h5⟩ := hop (sc (i + 1)) (sc (i + 2)) w σ k hJ hR
  refine v_aload_n C dL_law_937 rfl rfl ?_
  refine v_aload_n C dL_law_938 rfl rfl ?_
  refine v_iload_n C dL_law_939 rfl rfl ?_
  refine v_iconst C (v := (1 : Int32)) dL_law_940 (by decide) ?_
  refine v_iadd C dL_law_941 ?_
  refine v_sld C hgB hS hb9 (sc_in (j := 1) (by omega) hL hi) (sc_at sc (j := 1) (by omega)) dL_law_942 ?_
  refine v_aload_n C dL_law_943 rfl rfl ?_
  refine v_iload_n C dL_law_944 rfl rfl ?_
  refine v_iconst C (v := (2 : Int32)) dL_law_945 (by decide) ?_
  refine v_iadd C dL_law_946 ?_
  refine v_sld C hgB hS hb9 (sc_in (j := 2) (by omega) hL hi) (sc_at sc (j := 2) (by omega)) dL_law_947 ?_
  refine v_callV C lkL_133 (ci := 1) rfl hfs (As := [.int (sc (i + 1)), .int (sc (i + 2))]) (wX0_colours (xl X) g hX N x (sc (i + 1)) (sc (i + 2)) w _ _ h1) (by decide) rfl rfl (Nat.le_of_ble_eq_true rfl) dL_law_948 ?_
  rw [← h3]
  refine v_aload_n C dL_law_951 rfl rfl ?_
  refine v_aload_n C dL_law_952 rfl rfl ?_
  refine v_iload_n C dL_law_953 rfl rfl ?_
  refine v_iconst C (v := (1 : Int32)) dL_law_954 (by decide) ?_
  refine v_iadd C dL_law_955 ?_
  refine v_sld C hgB hS hb9 (sc_in (j := 1) (by omega) hL hi) (sc_at sc (j := 1) (by omega)) dL_law_956 ?_
  refine v_aload_n C dL_law_957 rfl rfl ?_
  refine v_iload_n C dL_law_958 rfl rfl ?_
  refine v_iconst C (v := (2 : Int32)) dL_law_959 (by decide) ?_
  refine v_iadd C dL_law_960 ?_
  refine v_sld C hgB hS hb9 (sc_in (j := 2) (by omega) hL hi) (sc_at sc (j := 2) (by omega)) dL_law_961 ?_
  refine v_callV C lkL_136 (ci := 0) rfl hM_o (As := [.int (sc (i + 1)), .int (sc (i + 2))]) (wX3_colours (xl X) g ho w' N (sc (i + 1)) (sc (i + 2)) σ _ σ' h2) (by decide) rfl rfl (Nat.le_of_ble_eq_true rfl) dL_law_962 ?_
  exact v_icmp_eq C (tgt := 1329) dL_law_965 (by decide) (f1 := some ()) (f2 := none) (z := ()) (if_pos rfl) (fun _ _ => kk _ σ' h4 h5) (fun q _ => absurd rfl q)
theorem lkL_137 : kLV "CardLoomLaw" 137 yX0_ranked cX0_ranked 6 (some .int) 1 := ⟨q1795, q1796, q1797, q78, q1798, by unfold kD; decide +kernel⟩
theorem lkL_140 : kLV "CardLoomLaw" 140 yX3_ranked cX3_ranked 5 (some .int) 1 := ⟨q2667, q2668, q2669, q85, q2670, by unfold kD; decide +kernel⟩
theorem ls_30 {g : GT} {X : CxT} (CF : ∀ w9, kOk g X cL_law 4 "CardLoomLaw" (some .boolean) 2048 98496 (some (.int 1)) w9) (hX : ∀ U, gX g U → SX g U) (hZ : ∀ U, gX g U → SZ g U) (hst : (xl X).stackTraces = false) (hgB : (gH g).size = gB g) {b9 L : Nat} {sc : Nat → Int32} (hS : va_X b9 L sc (xs X) (gH g)) (hb9 : b9 < gB g) (N x o : Nat) (ho : gB g ≤ o) {J : Wd → M → Prop} (hJx : ∀ w σ, J w σ → ∃ fs, w.1 x = some (.inl (.inr (1, fs)))) (hop : ∀ a1 : Int32, OpOk g o J (fun w => FX0_ranked N g x a1 w) (fun s => FX3_ranked N a1 s)) {w : Wd} {σ : M} {k i : Nat} (hJ : J w σ) (hR : Rm g w (9000 + k)) (hi : i + 3 < L) (hL : L ≤ 256) (kk : ∀ w' σ', J w' σ' → Rm g w' k → kV g X 4 w' 1329 [some (.ref b9), some (.ref x), some (.ref o), some (.int (n32 i))] []) : kV g X 4 w 970 [some (.ref b9), some (.ref x), some (.ref o), some (.int (n32 i))] [] := by
  have C := CF w
  obtain ⟨fs, hfs⟩ := hJx w σ hJ
  obtain ⟨r, w', σ', h1, h2, h3, h4, h5⟩ := hop (sc (i + 1)) w σ k hJ hR
  refine v_aload_n C dL_law_970 rfl rfl ?_
  refine v_aload_n C dL_law_971 rfl rfl ?_
  refine v_iload_n C dL_law_972 rfl rfl ?_
  refine v_iconst C (v := (1 : Int32)) dL_law_973 (by decide) ?_
  refine v_iadd C dL_law_974 ?_
  refine v_sld C hgB hS hb9 (sc_in (j := 1) (by omega) hL hi) (sc_at sc (j := 1) (by omega)) dL_law_975 ?_
  refine v_callV C lkL_137 (ci := 1) rfl hfs (As := [.int (sc (i + 1))]) (wX0_ranked (xl X) g hX N x (sc (i + 1)) w _ _ h1) (by decide) rfl rfl (Nat.le_of_ble_eq_true rfl) dL_law_976 ?_
  rw [← h3]
  refine v_aload_n C dL_law_979 rfl rfl ?_
  refine v_aload_n C dL_law_980 rfl rfl ?_
  refine v_iload_n C dL_law_981 rfl rfl ?_
  refine v_iconst C (v := (1 : Int32)) dL_law_982 (by decide) ?_
  refine v_iadd C dL_law_983 ?_
  refine v_sld C hgB hS hb9 (sc_in (j := 1) (by omega) hL hi) (sc_at sc (j := 1) (by omega)) dL_law_984 ?_
  refine v_callV C lkL_140 (ci := 0) rfl hM_o (As := [.int (sc (i + 1))]) (wX3_ranked (xl X) g ho w' N (sc (i + 1)) σ _ σ' h2) (by decide) rfl rfl (Nat.le_of_ble_eq_true rfl) dL_law_985 ?_
  exact v_icmp_eq C (tgt := 1329) dL_law_988 (by decide) (f1 := some ()) (f2 := none) (z := ()) (if_pos rfl) (fun _ _ => kk _ σ' h4 h5) (fun q _ => absurd rfl q)
theorem lkL_141 : kLV "CardLoomLaw" 141 yX0_alike cX0_alike 3 (some .int) 2 := ⟨q1983, q1984, q1985, q78, q1986, by unfold kD; decide +kernel⟩
theorem lkL_144 : kLV "CardLoomLaw" 144 yX3_alike cX3_alike 3 (some .int) 2 := ⟨q2675, q2676, q2677, q85, q2678, by unfold kD; decide +kernel⟩
theorem ls_31 {g : GT} {X : CxT} (CF : ∀ w9, kOk g X cL_law 4 "CardLoomLaw" (some .boolean) 2048 98496 (some (.int 1)) w9) (hX : ∀ U, gX g U → SX g U) (hZ : ∀ U, gX g U → SZ g U) (hst : (xl X).stackTraces = false) (hgB : (gH g).size = gB g) {b9 L : Nat} {sc : Nat → Int32} (hS : va_X b9 L sc (xs X) (gH g)) (hb9 : b9 < gB g) (N x o : Nat) (ho : gB g ≤ o) {J : Wd → M → Prop} (hJx : ∀ w σ, J w σ → ∃ fs, w.1 x = some (.inl (.inr (1, fs)))) (hop : ∀ a1 a2 : Int32, OpOk g o J (fun w => FX0_alike N g x a1 a2 w) (fun s => FX3_alike N a1 a2 s)) {w : Wd} {σ : M} {k i : Nat} (hJ : J w σ) (hR : Rm g w (9000 + k)) (hi : i + 3 < L) (hL : L ≤ 256) (kk : ∀ w' σ', J w' σ' → Rm g w' k → kV g X 4 w' 1329 [some (.ref b9), some (.ref x), some (.ref o), some (.int (n32 i))] []) : kV g X 4 w 993 [some (.ref b9), some (.ref x), some (.ref o), some (.int (n32 i))] [] := by
  have C := CF w
  obtain ⟨fs, hfs⟩ := hJx w σ hJ
  obtain ⟨r, w', σ', h1, h2, h3, h4, h5⟩ := hop (sc (i + 1)) (sc (i + 2)) w σ k hJ hR
  refine v_aload_n C dL_law_993 rfl rfl ?_
  refine v_aload_n C dL_law_994 rfl rfl ?_
  refine v_iload_n C dL_law_995 rfl rfl ?_
  refine v_iconst C (v := (1 : Int32)) dL_law_996 (by decide) ?_
  refine v_iadd C dL_law_997 ?_
  refine v_sld C hgB hS hb9 (sc_in (j := 1) (by omega) hL hi) (sc_at sc (j := 1) (by omega)) dL_law_998 ?_
  refine v_aload_n C dL_law_999 rfl rfl ?_
  refine v_iload_n C dL_law_1000 rfl rfl ?_
  refine v_iconst C (v := (2 : Int32)) dL_law_1001 (by decide) ?_
  refine v_iadd C dL_law_1002 ?_
  refine v_sld C hgB hS hb9 (sc_in (j := 2) (by omega) hL hi) (sc_at sc (j := 2) (by omega)) dL_law_1003 ?_
  refine v_callV C lkL_141 (ci := 1) rfl hfs (As := [.int (sc (i + 1)), .int (sc (i + 2))]) (wX0_alike (xl X) g hX N x (sc (i + 1)) (sc (i + 2)) w _ _ h1) (by decide) rfl rfl (Nat.le_of_ble_eq_true rfl) dL_law_1004 ?_
  rw [← h3]
  refine v_aload_n C dL_law_1007 rfl rfl ?_
  refine v_aload_n C dL_law_1008 rfl rfl ?_
  refine v_iload_n C dL_law_1009 rfl rfl ?_
  refine v_iconst C (v := (1 : Int32)) dL_law_1010 (by decide) ?_
  refine v_iadd C dL_law_1011 ?_
  refine v_sld C hgB hS hb9 (sc_in (j := 1) (by omega) hL hi) (sc_at sc (j := 1) (by omega)) dL_law_1012 ?_
  refine v_aload_n C dL_law_1013 rfl rfl ?_
  refine v_iload_n C dL_law_1014 rfl rfl ?_
  refine v_iconst C (v := (2 : Int32)) dL_law_1015 (by decide) ?_
  refine v_iadd C dL_law_1016 ?_
  refine v_sld C hgB hS hb9 (sc_in (j := 2) (by omega) hL hi) (sc_at sc (j := 2) (by omega)) dL_law_1017 ?_
  refine v_callV C lkL_144 (ci := 0) rfl hM_o (As := [.int (sc (i + 1)), .int (sc (i + 2))]) (wX3_alike (xl X) g ho w' N (sc (i + 1)) (sc (i + 2)) σ _ σ' h2) (by decide) rfl rfl (Nat.le_of_ble_eq_true rfl) dL_law_1018 ?_
  exact v_icmp_eq C (tgt := 1329) dL_law_1021 (by decide) (f1 := some ()) (f2 := none) (z := ()) (if_pos rfl) (fun _ _ => kk _ σ' h4 h5) (fun q _ => absurd rfl q)
theorem lkL_145 : kLV "CardLoomLaw" 145 yX0_faces cX0_faces 2 (some .int) 1 := ⟨q1988, q1989, q1990, q78, q1991, by unfold kD; decide +kernel⟩
theorem lkL_148 : kLV "CardLoomLaw" 148 yX3_faces cX3_faces 4 (some .int) 1 := ⟨q2679, q2680, q2681, q85, q2682, by unfold kD; decide +kernel⟩
theorem ls_32 {g : GT} {X : CxT} (CF : ∀ w9, kOk g X cL_law 4 "CardLoomLaw" (some .boolean) 2048 98496 (some (.int 1)) w9) (hX : ∀ U, gX g U → SX g U) (hZ : ∀ U, gX g U → SZ g U) (hst : (xl X).stackTraces = false) (hgB : (gH g).size = gB g) {b9 L : Nat} {sc : Nat → Int32} (hS : va_X b9 L sc (xs X) (gH g)) (hb9 : b9 < gB g) (N x o : Nat) (ho : gB g ≤ o) {J : Wd → M → Prop} (hJx : ∀ w σ, J w σ → ∃ fs, w.1 x = some (.inl (.inr (1, fs)))) (hop : ∀ a1 : Int32, OpOk g o J (fun w => FX0_faces N g x a1 w) (fun s => FX3_faces N a1 s)) {w : Wd} {σ : M} {k i : Nat} (hJ : J w σ) (hR : Rm g w (9000 + k)) (hi : i + 3 < L) (hL : L ≤ 256) (kk : ∀ w' σ', J w' σ' → Rm g w' k → kV g X 4 w' 1329 [some (.ref b9), some (.ref x), some (.ref o), some (.int (n32 i))] []) : kV g X 4 w 1026 [some (.ref b9), some (.ref x), some (.ref o), some (.int (n32 i))] [] := by
  have C := CF w
  obtain ⟨fs, hfs⟩ := hJx w σ hJ
  obtain ⟨r, w', σ', h1, h2, h3, h4, h5⟩ := hop (sc (i + 1)) w σ k hJ hR
  refine v_aload_n C dL_law_1026 rfl rfl ?_
  refine v_aload_n C dL_law_1027 rfl rfl ?_
  refine v_iload_n C dL_law_1028 rfl rfl ?_
  refine v_iconst C (v := (1 : Int32)) dL_law_1029 (by decide) ?_
  refine v_iadd C dL_law_1030 ?_
  refine v_sld C hgB hS hb9 (sc_in (j := 1) (by omega) hL hi) (sc_at sc (j := 1) (by omega)) dL_law_1031 ?_
  refine v_callV C lkL_145 (ci := 1) rfl hfs (As := [.int (sc (i + 1))]) (wX0_faces (xl X) g hX N x (sc (i + 1)) w _ _ h1) (by decide) rfl rfl (Nat.le_of_ble_eq_true rfl) dL_law_1032 ?_
  rw [← h3]
  refine v_aload_n C dL_law_1035 rfl rfl ?_
  refine v_aload_n C dL_law_1036 rfl rfl ?_
  refine v_iload_n C dL_law_1037 rfl rfl ?_
  refine v_iconst C (v := (1 : Int32)) dL_law_1038 (by decide) ?_
  refine v_iadd C dL_law_1039 ?_
  refine v_sld C hgB hS hb9 (sc_in (j := 1) (by omega) hL hi) (sc_at sc (j := 1) (by omega)) dL_law_1040 ?_
  refine v_callV C lkL_148 (ci := 0) rfl hM_o (As := [.int (sc (i + 1))]) (wX3_faces (xl X) g ho w' N (sc (i + 1)) σ _ σ' h2) (by decide) rfl rfl (Nat.le_of_ble_eq_true rfl) dL_law_1041 ?_
  exact v_icmp_eq C (tgt := 1329) dL_law_1044 (by decide) (f1 := some ()) (f2 := none) (z := ()) (if_pos rfl) (fun _ _ => kk _ σ' h4 h5) (fun q _ => absurd rfl q)
theorem lkL_149 : kLV "CardLoomLaw" 149 yX0_spell cX0_spell 4 (some .int) 0 := ⟨q1996, q1997, q1998, q78, q1999, by unfold kD; decide +kernel⟩
theorem lkL_152 : kLV "CardLoomLaw" 152 yX3_spell cX3_spell 3 (some .int) 0 := ⟨q2683, q2684, q2685, q85, q2686, by unfold kD; decide +kernel⟩
theorem ls_33 {g : GT} {X : CxT} (CF : ∀ w9, kOk g X cL_law 4 "CardLoomLaw" (some .boolean) 2048 98496 (some (.int 1)) w9) (hX : ∀ U, gX g U → SX g U) (hZ : ∀ U, gX g U → SZ g U) (hst : (xl X).stackTraces = false) (hgB : (gH g).size = gB g) {b9 L : Nat} {sc : Nat → Int32} (hS : va_X b9 L sc (xs X) (gH g)) (hb9 : b9 < gB g) (N x o : Nat) (ho : gB g ≤ o) {J : Wd → M → Prop} (hJx : ∀ w σ, J w σ → ∃ fs, w.1 x = some (.inl (.inr (1, fs)))) (hop : OpOk g o J (fun w => FX0_spell N g x  w) (fun s => FX3_spell N  s)) {w : Wd} {σ : M} {k i : Nat} (hJ : J w σ) (hR : Rm g w (9000 + k)) (hi : i + 3 < L) (hL : L ≤ 256) (kk : ∀ w' σ', J w' σ' → Rm g w' k → kV g X 4 w' 1329 [some (.ref b9), some (.ref x), some (.ref o), some (.int (n32 i))] []) : kV g X 4 w 1049 [some (.ref b9), some (.ref x), some (.ref o), some (.int (n32 i))] [] := by
  have C := CF w
  obtain ⟨fs, hfs⟩ := hJx w σ hJ
  obtain ⟨r, w', σ', h1, h2, h3, h4, h5⟩ := hop w σ k hJ hR
  refine v_aload_n C dL_law_1049 rfl rfl ?_
  refine v_callV C lkL_149 (ci := 1) rfl hfs (As := []) (wX0_spell (xl X) g hX N x  w _ _ h1) (by decide) rfl rfl (Nat.le_of_ble_eq_true rfl) dL_law_1050 ?_
  rw [← h3]
  refine v_aload_n C dL_law_1053 rfl rfl ?_
  refine v_callV C lkL_152 (ci := 0) rfl hM_o (As := []) (wX3_spell (xl X) g ho w' N  σ _ σ' h2) (by decide) rfl rfl (Nat.le_of_ble_eq_true rfl) dL_law_1054 ?_
  exact v_icmp_eq C (tgt := 1329) dL_law_1057 (by decide) (f1 := some ()) (f2 := none) (z := ()) (if_pos rfl) (fun _ _ => kk _ σ' h4 h5) (fun q _ => absurd rfl q)
theorem lkL_153 : kLV "CardLoomLaw" 153 yX0_paper cX0_paper 2 (some .int) 1 := ⟨q2199, q2200, q2201, q78, q2202, by unfold kD; decide +kernel⟩
theorem lkL_156 : kLV "CardLoomLaw" 156 yX3_paper cX3_paper 2 (some .int) 1 := ⟨q2687, q2688, q2689, q85, q2690, by unfold kD; decide +kernel⟩
theorem ls_34 {g : GT} {X : CxT} (CF : ∀ w9, kOk g X cL_law 4 "CardLoomLaw" (some .boolean) 2048 98496 (some (.int 1)) w9) (hX : ∀ U, gX g U → SX g U) (hZ : ∀ U, gX g U → SZ g U) (hst : (xl X).stackTraces = false) (hgB : (gH g).size = gB g) {b9 L : Nat} {sc : Nat → Int32} (hS : va_X b9 L sc (xs X) (gH g)) (hb9 : b9 < gB g) (N x o : Nat) (ho : gB g ≤ o) {J : Wd → M → Prop} (hJx : ∀ w σ, J w σ → ∃ fs, w.1 x = some (.inl (.inr (1, fs)))) (hop : ∀ a1 : Int32, OpOk g o J (fun w => FX0_paper N g x a1 w) (fun s => FX3_paper N a1 s)) {w : Wd} {σ : M} {k i : Nat} (hJ : J w σ) (hR : Rm g w (9000 + k)) (hi : i + 3 < L) (hL : L ≤ 256) (kk : ∀ w' σ', J w' σ' → Rm g w' k → kV g X 4 w' 1329 [some (.ref b9), some (.ref x), some (.ref o), some (.int (n32 i))] []) : kV g X 4 w 1062 [some (.ref b9), some (.ref x), some (.ref o), some (.int (n32 i))] [] := by
  have C := CF w
  obtain ⟨fs, hfs⟩ := hJx w σ hJ
  obtain ⟨r, w', σ', h1, h2, h3, h4, h5⟩ := hop (sc (i + 1)) w σ k hJ hR
  refine v_aload_n C dL_law_1062 rfl rfl ?_
  refine v_aload_n C dL_law_1063 rfl rfl ?_
  refine v_iload_n C dL_law_1064 rfl rfl ?_
  refine v_iconst C (v := (1 : Int32)) dL_law_1065 (by decide) ?_
  refine v_iadd C dL_law_1066 ?_
  refine v_sld C hgB hS hb9 (sc_in (j := 1) (by omega) hL hi) (sc_at sc (j := 1) (by omega)) dL_law_1067 ?_
  refine v_callV C lkL_153 (ci := 1) rfl hfs (As := [.int (sc (i + 1))]) (wX0_paper (xl X) g hX N x (sc (i + 1)) w _ _ h1) (by decide) rfl rfl (Nat.le_of_ble_eq_true rfl) dL_law_1068 ?_
  rw [← h3]
  refine v_aload_n C dL_law_1071 rfl rfl ?_
  refine v_aload_n C dL_law_1072 rfl rfl ?_
  refine v_iload_n C dL_law_1073 rfl rfl ?_
  refine v_iconst C (v := (1 : Int32)) dL_law_1074 (by decide) ?_
  refine v_iadd C dL_law_1075 ?_
  refine v_sld C hgB hS hb9 (sc_in (j := 1) (by omega) hL hi) (sc_at sc (j := 1) (by omega)) dL_law_1076 ?_
  refine v_callV C lkL_156 (ci := 0) rfl hM_o (As := [.int (sc (i + 1))]) (wX3_paper (xl X) g ho w' N (sc (i + 1)) σ _ σ' h2) (by decide) rfl rfl (Nat.le_of_ble_eq_true rfl) dL_law_1077 ?_
  exact v_icmp_eq C (tgt := 1329) dL_law_1080 (by decide) (f1 := some ()) (f2 := none) (z := ()) (if_pos rfl) (fun _ _ => kk _ σ' h4 h5) (fun q _ => absurd rfl q)
theorem lkL_157 : kLV "CardLoomLaw" 157 yX0_told cX0_told 2 (some .int) 1 := ⟨q2214, q2215, q2216, q78, q2217, by unfold kD; decide +kernel⟩
theorem lkL_160 : kLV "CardLoomLaw" 160 yX3_told cX3_told 4 (some .int) 1 := ⟨q2691, q2692, q2693, q85, q2694, by unfold kD; decide +kernel⟩
theorem ls_35 {g : GT} {X : CxT} (CF : ∀ w9, kOk g X cL_law 4 "CardLoomLaw" (some .boolean) 2048 98496 (some (.int 1)) w9) (hX : ∀ U, gX g U → SX g U) (hZ : ∀ U, gX g U → SZ g U) (hst : (xl X).stackTraces = false) (hgB : (gH g).size = gB g) {b9 L : Nat} {sc : Nat → Int32} (hS : va_X b9 L sc (xs X) (gH g)) (hb9 : b9 < gB g) (N x o : Nat) (ho : gB g ≤ o) {J : Wd → M → Prop} (hJx : ∀ w σ, J w σ → ∃ fs, w.1 x = some (.inl (.inr (1, fs)))) (hop : ∀ a1 : Int32, OpOk g o J (fun w => FX0_told N g x a1 w) (fun s => FX3_told N a1 s)) {w : Wd} {σ : M} {k i : Nat} (hJ : J w σ) (hR : Rm g w (9000 + k)) (hi : i + 3 < L) (hL : L ≤ 256) (kk : ∀ w' σ', J w' σ' → Rm g w' k → kV g X 4 w' 1329 [some (.ref b9), some (.ref x), some (.ref o), some (.int (n32 i))] []) : kV g X 4 w 1085 [some (.ref b9), some (.ref x), some (.ref o), some (.int (n32 i))] [] := by
  have C := CF w
  obtain ⟨fs, hfs⟩ := hJx w σ hJ
  obtain ⟨r, w', σ', h1, h2, h3, h4, h5⟩ := hop (sc (i + 1)) w σ k hJ hR
  refine v_aload_n C dL_law_1085 rfl rfl ?_
  refine v_aload_n C dL_law_1086 rfl rfl ?_
  refine v_iload_n C dL_law_1087 rfl rfl ?_
  refine v_iconst C (v := (1 : Int32)) dL_law_1088 (by decide) ?_
  refine v_iadd C dL_law_1089 ?_
  refine v_sld C hgB hS hb9 (sc_in (j := 1) (by omega) hL hi) (sc_at sc (j := 1) (by omega)) dL_law_1090 ?_
  refine v_callV C lkL_157 (ci := 1) rfl hfs (As := [.int (sc (i + 1))]) (wX0_told (xl X) g hX N x (sc (i + 1)) w _ _ h1) (by decide) rfl rfl (Nat.le_of_ble_eq_true rfl) dL_law_1091 ?_
  rw [← h3]
  refine v_aload_n C dL_law_1094 rfl rfl ?_
  refine v_aload_n C dL_law_1095 rfl rfl ?_
  refine v_iload_n C dL_law_1096 rfl rfl ?_
  refine v_iconst C (v := (1 : Int32)) dL_law_1097 (by decide) ?_
  refine v_iadd C dL_law_1098 ?_
  refine v_sld C hgB hS hb9 (sc_in (j := 1) (by omega) hL hi) (sc_at sc (j := 1) (by omega)) dL_law_1099 ?_
  refine v_callV C lkL_160 (ci := 0) rfl hM_o (As := [.int (sc (i + 1))]) (wX3_told (xl X) g ho w' N (sc (i + 1)) σ _ σ' h2) (by decide) rfl rfl (Nat.le_of_ble_eq_true rfl) dL_law_1100 ?_
  exact v_icmp_eq C (tgt := 1329) dL_law_1103 (by decide) (f1 := some ()) (f2 := none) (z := ()) (if_pos rfl) (fun _ _ => kk _ σ' h4 h5) (fun q _ => absurd rfl q)
theorem lkL_164 : kLV "CardLoomLaw" 164 yX3_list cX3_list 4 (some .int) 2 := ⟨q2696, q2697, q2698, q85, q2699, by unfold kD; decide +kernel⟩
theorem ls_36 {g : GT} {X : CxT} (CF : ∀ w9, kOk g X cL_law 4 "CardLoomLaw" (some .boolean) 2048 98496 (some (.int 1)) w9) (hX : ∀ U, gX g U → SX g U) (hZ : ∀ U, gX g U → SZ g U) (hst : (xl X).stackTraces = false) (hgB : (gH g).size = gB g) {b9 L : Nat} {sc : Nat → Int32} (hS : va_X b9 L sc (xs X) (gH g)) (hb9 : b9 < gB g) (N x o : Nat) (ho : gB g ≤ o) {J : Wd → M → Prop} (hJx : ∀ w σ, J w σ → ∃ fs, w.1 x = some (.inl (.inr (1, fs)))) (hop : ∀ a1 a2 : Int32, OpOkP g o J (fun w => FX0_list N g x a1 a2 w) (fun s => FX3_list N a1 a2 s)) {w : Wd} {σ : M} {k i : Nat} (hJ : J w σ) (hR : Rm g w (9000 + k)) (hi : i + 3 < L) (hL : L ≤ 256) (kk : ∀ w' σ', J w' σ' → Rm g w' k → kV g X 4 w' 1329 [some (.ref b9), some (.ref x), some (.ref o), some (.int (n32 i))] []) : kV g X 4 w 1108 [some (.ref b9), some (.ref x), some (.ref o), some (.int (n32 i))] [] := by
  have C := CF w
  obtain ⟨fs, hfs⟩ := hJx w σ hJ
  obtain ⟨z9, w', r, σ', h1, h2, h3⟩ := hop (sc (i + 1)) (sc (i + 2)) w σ k hJ hR
  refine v_aload_n C dL_law_1108 rfl rfl ?_
  refine v_aload_n C dL_law_1109 rfl rfl ?_
  refine v_iload_n C dL_law_1110 rfl rfl ?_
  refine v_iconst C (v := (1 : Int32)) dL_law_1111 (by decide) ?_
  refine v_iadd C dL_law_1112 ?_
  refine v_sld C hgB hS hb9 (sc_in (j := 1) (by omega) hL hi) (sc_at sc (j := 1) (by omega)) dL_law_1113 ?_
  refine v_aload_n C dL_law_1114 rfl rfl ?_
  refine v_iload_n C dL_law_1115 rfl rfl ?_
  refine v_iconst C (v := (2 : Int32)) dL_law_1116 (by decide) ?_
  refine v_iadd C dL_law_1117 ?_
  refine v_sld C hgB hS hb9 (sc_in (j := 2) (by omega) hL hi) (sc_at sc (j := 2) (by omega)) dL_law_1118 ?_
  refine v_callVp C (y := yX0_list) (b := cX0_list) (mL := 4) (n := 2) (ret := some .int) (hh := hhX0_list) q2229 q2230 q2231 q78 q2232 (by unfold kD; decide +kernel) (ci := 1) rfl hfs (As := [.int (sc (i + 1)), .int (sc (i + 2))]) (wX0_list (xl X) g hX hZ hst N x (sc (i + 1)) (sc (i + 2)) w _ _ h1) (by decide) rfl rfl (Nat.le_of_ble_eq_true rfl) dL_law_1119 (fun r9 w9 hP => ?_)
  obtain ⟨rfl, h3, h4, h5⟩ := h3 r9 w9 hP
  rw [← h3]
  refine v_aload_n C dL_law_1122 rfl rfl ?_
  refine v_aload_n C dL_law_1123 rfl rfl ?_
  refine v_iload_n C dL_law_1124 rfl rfl ?_
  refine v_iconst C (v := (1 : Int32)) dL_law_1125 (by decide) ?_
  refine v_iadd C dL_law_1126 ?_
  refine v_sld C hgB hS hb9 (sc_in (j := 1) (by omega) hL hi) (sc_at sc (j := 1) (by omega)) dL_law_1127 ?_
  refine v_aload_n C dL_law_1128 rfl rfl ?_
  refine v_iload_n C dL_law_1129 rfl rfl ?_
  refine v_iconst C (v := (2 : Int32)) dL_law_1130 (by decide) ?_
  refine v_iadd C dL_law_1131 ?_
  refine v_sld C hgB hS hb9 (sc_in (j := 2) (by omega) hL hi) (sc_at sc (j := 2) (by omega)) dL_law_1132 ?_
  refine v_callV C lkL_164 (ci := 0) rfl hM_o (As := [.int (sc (i + 1)), .int (sc (i + 2))]) (wX3_list (xl X) g ho w9 N (sc (i + 1)) (sc (i + 2)) σ _ σ' h2) (by decide) rfl rfl (Nat.le_of_ble_eq_true rfl) dL_law_1133 ?_
  exact v_icmp_eq C (tgt := 1329) dL_law_1136 (by decide) (f1 := some ()) (f2 := none) (z := ()) (if_pos rfl) (fun _ _ => kk _ σ' h4 h5) (fun q _ => absurd rfl q)
theorem lkL_168 : kLV "CardLoomLaw" 168 yX3_set cX3_set 4 (some .int) 3 := ⟨q2703, q2704, q2705, q85, q2706, by unfold kD; decide +kernel⟩
theorem ls_37 {g : GT} {X : CxT} (CF : ∀ w9, kOk g X cL_law 4 "CardLoomLaw" (some .boolean) 2048 98496 (some (.int 1)) w9) (hX : ∀ U, gX g U → SX g U) (hZ : ∀ U, gX g U → SZ g U) (hst : (xl X).stackTraces = false) (hgB : (gH g).size = gB g) {b9 L : Nat} {sc : Nat → Int32} (hS : va_X b9 L sc (xs X) (gH g)) (hb9 : b9 < gB g) (N x o : Nat) (ho : gB g ≤ o) {J : Wd → M → Prop} (hJx : ∀ w σ, J w σ → ∃ fs, w.1 x = some (.inl (.inr (1, fs)))) (hop : ∀ a1 a2 a3 : Int32, OpOkP g o J (fun w => FX0_set N g x a1 a2 a3 w) (fun s => FX3_set N a1 a2 a3 s)) {w : Wd} {σ : M} {k i : Nat} (hJ : J w σ) (hR : Rm g w (9000 + k)) (hi : i + 3 < L) (hL : L ≤ 256) (kk : ∀ w' σ', J w' σ' → Rm g w' k → kV g X 4 w' 1329 [some (.ref b9), some (.ref x), some (.ref o), some (.int (n32 i))] []) : kV g X 4 w 1141 [some (.ref b9), some (.ref x), some (.ref o), some (.int (n32 i))] [] := by
  have C := CF w
  obtain ⟨fs, hfs⟩ := hJx w σ hJ
  obtain ⟨z9, w', r, σ', h1, h2, h3⟩ := hop (sc (i + 1)) (sc (i + 2)) (sc (i + 3)) w σ k hJ hR
  refine v_aload_n C dL_law_1141 rfl rfl ?_
  refine v_aload_n C dL_law_1142 rfl rfl ?_
  refine v_iload_n C dL_law_1143 rfl rfl ?_
  refine v_iconst C (v := (1 : Int32)) dL_law_1144 (by decide) ?_
  refine v_iadd C dL_law_1145 ?_
  refine v_sld C hgB hS hb9 (sc_in (j := 1) (by omega) hL hi) (sc_at sc (j := 1) (by omega)) dL_law_1146 ?_
  refine v_aload_n C dL_law_1147 rfl rfl ?_
  refine v_iload_n C dL_law_1148 rfl rfl ?_
  refine v_iconst C (v := (2 : Int32)) dL_law_1149 (by decide) ?_
  refine v_iadd C dL_law_1150 ?_
  refine v_sld C hgB hS hb9 (sc_in (j := 2) (by omega) hL hi) (sc_at sc (j := 2) (by omega)) dL_law_1151 ?_
  refine v_aload_n C dL_law_1152 rfl rfl ?_
  refine v_iload_n C dL_law_1153 rfl rfl ?_
  refine v_iconst C (v := (3 : Int32)) dL_law_1154 (by decide) ?_
  refine v_iadd C dL_law_1155 ?_
  refine v_sld C hgB hS hb9 (sc_in (j := 3) (by omega) hL hi) (sc_at sc (j := 3) (by omega)) dL_law_1156 ?_
  refine v_callVp C (y := yX0_set) (b := cX0_set) (mL := 5) (n := 3) (ret := some .int) (hh := hhX0_set) q2248 q2249 q2250 q78 q2251 (by unfold kD; decide +kernel) (ci := 1) rfl hfs (As := [.int (sc (i + 1)), .int (sc (i + 2)), .int (sc (i + 3))]) (wX0_set (xl X) g hX hZ hst N x (sc (i + 1)) (sc (i + 2)) (sc (i + 3)) w _ _ h1) (by decide) rfl rfl (Nat.le_of_ble_eq_true rfl) dL_law_1157 (fun r9 w9 hP => ?_)
  obtain ⟨rfl, h3, h4, h5⟩ := h3 r9 w9 hP
  rw [← h3]
  refine v_aload_n C dL_law_1160 rfl rfl ?_
  refine v_aload_n C dL_law_1161 rfl rfl ?_
  refine v_iload_n C dL_law_1162 rfl rfl ?_
  refine v_iconst C (v := (1 : Int32)) dL_law_1163 (by decide) ?_
  refine v_iadd C dL_law_1164 ?_
  refine v_sld C hgB hS hb9 (sc_in (j := 1) (by omega) hL hi) (sc_at sc (j := 1) (by omega)) dL_law_1165 ?_
  refine v_aload_n C dL_law_1166 rfl rfl ?_
  refine v_iload_n C dL_law_1167 rfl rfl ?_
  refine v_iconst C (v := (2 : Int32)) dL_law_1168 (by decide) ?_
  refine v_iadd C dL_law_1169 ?_
  refine v_sld C hgB hS hb9 (sc_in (j := 2) (by omega) hL hi) (sc_at sc (j := 2) (by omega)) dL_law_1170 ?_
  refine v_aload_n C dL_law_1171 rfl rfl ?_
  refine v_iload_n C dL_law_1172 rfl rfl ?_
  refine v_iconst C (v := (3 : Int32)) dL_law_1173 (by decide) ?_
  refine v_iadd C dL_law_1174 ?_
  refine v_sld C hgB hS hb9 (sc_in (j := 3) (by omega) hL hi) (sc_at sc (j := 3) (by omega)) dL_law_1175 ?_
  refine v_callV C lkL_168 (ci := 0) rfl hM_o (As := [.int (sc (i + 1)), .int (sc (i + 2)), .int (sc (i + 3))]) (wX3_set (xl X) g ho w9 N (sc (i + 1)) (sc (i + 2)) (sc (i + 3)) σ _ σ' h2) (by decide) rfl rfl (Nat.le_of_ble_eq_true rfl) dL_law_1176 ?_
  exact v_icmp_eq C (tgt := 1329) dL_law_1179 (by decide) (f1 := some ()) (f2 := none) (z := ()) (if_pos rfl) (fun _ _ => kk _ σ' h4 h5) (fun q _ => absurd rfl q)
theorem lkL_172 : kLV "CardLoomLaw" 172 yX3_get cX3_get 3 (some .int) 2 := ⟨q2707, q2708, q2709, q85, q2710, by unfold kD; decide +kernel⟩
theorem ls_38 {g : GT} {X : CxT} (CF : ∀ w9, kOk g X cL_law 4 "CardLoomLaw" (some .boolean) 2048 98496 (some (.int 1)) w9) (hX : ∀ U, gX g U → SX g U) (hZ : ∀ U, gX g U → SZ g U) (hst : (xl X).stackTraces = false) (hgB : (gH g).size = gB g) {b9 L : Nat} {sc : Nat → Int32} (hS : va_X b9 L sc (xs X) (gH g)) (hb9 : b9 < gB g) (N x o : Nat) (ho : gB g ≤ o) {J : Wd → M → Prop} (hJx : ∀ w σ, J w σ → ∃ fs, w.1 x = some (.inl (.inr (1, fs)))) (hop : ∀ a1 a2 : Int32, OpOkP g o J (fun w => FX0_get N g x a1 a2 w) (fun s => FX3_get N a1 a2 s)) {w : Wd} {σ : M} {k i : Nat} (hJ : J w σ) (hR : Rm g w (9000 + k)) (hi : i + 3 < L) (hL : L ≤ 256) (kk : ∀ w' σ', J w' σ' → Rm g w' k → kV g X 4 w' 1329 [some (.ref b9), some (.ref x), some (.ref o), some (.int (n32 i))] []) : kV g X 4 w 1184 [some (.ref b9), some (.ref x), some (.ref o), some (.int (n32 i))] [] := by
  have C := CF w
  obtain ⟨fs, hfs⟩ := hJx w σ hJ
  obtain ⟨z9, w', r, σ', h1, h2, h3⟩ := hop (sc (i + 1)) (sc (i + 2)) w σ k hJ hR
  refine v_aload_n C dL_law_1184 rfl rfl ?_
  refine v_aload_n C dL_law_1185 rfl rfl ?_
  refine v_iload_n C dL_law_1186 rfl rfl ?_
  refine v_iconst C (v := (1 : Int32)) dL_law_1187 (by decide) ?_
  refine v_iadd C dL_law_1188 ?_
  refine v_sld C hgB hS hb9 (sc_in (j := 1) (by omega) hL hi) (sc_at sc (j := 1) (by omega)) dL_law_1189 ?_
  refine v_aload_n C dL_law_1190 rfl rfl ?_
  refine v_iload_n C dL_law_1191 rfl rfl ?_
  refine v_iconst C (v := (2 : Int32)) dL_law_1192 (by decide) ?_
  refine v_iadd C dL_law_1193 ?_
  refine v_sld C hgB hS hb9 (sc_in (j := 2) (by omega) hL hi) (sc_at sc (j := 2) (by omega)) dL_law_1194 ?_
  refine v_callVp C (y := yX0_get) (b := cX0_get) (mL := 4) (n := 2) (ret := some .int) (hh := hhX0_get) q2273 q2274 q2275 q78 q2276 (by unfold kD; decide +kernel) (ci := 1) rfl hfs (As := [.int (sc (i + 1)), .int (sc (i + 2))]) (wX0_get (xl X) g hX hZ hst N x (sc (i + 1)) (sc (i + 2)) w _ _ h1) (by decide) rfl rfl (Nat.le_of_ble_eq_true rfl) dL_law_1195 (fun r9 w9 hP => ?_)
  obtain ⟨rfl, h3, h4, h5⟩ := h3 r9 w9 hP
  rw [← h3]
  refine v_aload_n C dL_law_1198 rfl rfl ?_
  refine v_aload_n C dL_law_1199 rfl rfl ?_
  refine v_iload_n C dL_law_1200 rfl rfl ?_
  refine v_iconst C (v := (1 : Int32)) dL_law_1201 (by decide) ?_
  refine v_iadd C dL_law_1202 ?_
  refine v_sld C hgB hS hb9 (sc_in (j := 1) (by omega) hL hi) (sc_at sc (j := 1) (by omega)) dL_law_1203 ?_
  refine v_aload_n C dL_law_1204 rfl rfl ?_
  refine v_iload_n C dL_law_1205 rfl rfl ?_
  refine v_iconst C (v := (2 : Int32)) dL_law_1206 (by decide) ?_
  refine v_iadd C dL_law_1207 ?_
  refine v_sld C hgB hS hb9 (sc_in (j := 2) (by omega) hL hi) (sc_at sc (j := 2) (by omega)) dL_law_1208 ?_
  refine v_callV C lkL_172 (ci := 0) rfl hM_o (As := [.int (sc (i + 1)), .int (sc (i + 2))]) (wX3_get (xl X) g ho w9 N (sc (i + 1)) (sc (i + 2)) σ _ σ' h2) (by decide) rfl rfl (Nat.le_of_ble_eq_true rfl) dL_law_1209 ?_
  exact v_icmp_eq C (tgt := 1329) dL_law_1212 (by decide) (f1 := some ()) (f2 := none) (z := ()) (if_pos rfl) (fun _ _ => kk _ σ' h4 h5) (fun q _ => absurd rfl q)
theorem lkL_176 : kLV "CardLoomLaw" 176 yX3_lay cX3_lay 5 (some .int) 3 := ⟨q2712, q2713, q2714, q85, q2715, by unfold kD; decide +kernel⟩
theorem ls_39 {g : GT} {X : CxT} (CF : ∀ w9, kOk g X cL_law 4 "CardLoomLaw" (some .boolean) 2048 98496 (some (.int 1)) w9) (hX : ∀ U, gX g U → SX g U) (hZ : ∀ U, gX g U → SZ g U) (hst : (xl X).stackTraces = false) (hgB : (gH g).size = gB g) {b9 L : Nat} {sc : Nat → Int32} (hS : va_X b9 L sc (xs X) (gH g)) (hb9 : b9 < gB g) (N x o : Nat) (ho : gB g ≤ o) {J : Wd → M → Prop} (hJx : ∀ w σ, J w σ → ∃ fs, w.1 x = some (.inl (.inr (1, fs)))) (hop : ∀ a1 a2 a3 : Int32, OpOkP g o J (fun w => FX0_lay N g x a1 a2 a3 w) (fun s => FX3_lay N a1 a2 a3 s)) {w : Wd} {σ : M} {k i : Nat} (hJ : J w σ) (hR : Rm g w (9000 + k)) (hi : i + 3 < L) (hL : L ≤ 256) (kk : ∀ w' σ', J w' σ' → Rm g w' k → kV g X 4 w' 1329 [some (.ref b9), some (.ref x), some (.ref o), some (.int (n32 i))] []) : kV g X 4 w 1217 [some (.ref b9), some (.ref x), some (.ref o), some (.int (n32 i))] [] := by
  have C := CF w
  obtain ⟨fs, hfs⟩ := hJx w σ hJ
  obtain ⟨z9, w', r, σ', h1, h2, h3⟩ := hop (sc (i + 1)) (sc (i + 2)) (sc (i + 3)) w σ k hJ hR
  refine v_aload_n C dL_law_1217 rfl rfl ?_
  refine v_aload_n C dL_law_1218 rfl rfl ?_
  refine v_iload_n C dL_law_1219 rfl rfl ?_
  refine v_iconst C (v := (1 : Int32)) dL_law_1220 (by decide) ?_
  refine v_iadd C dL_law_1221 ?_
  refine v_sld C hgB hS hb9 (sc_in (j := 1) (by omega) hL hi) (sc_at sc (j := 1) (by omega)) dL_law_1222 ?_
  refine v_aload_n C dL_law_1223 rfl rfl ?_
  refine v_iload_n C dL_law_1224 rfl rfl ?_
  refine v_iconst C (v := (2 : Int32)) dL_law_1225 (by decide) ?_
  refine v_iadd C dL_law_1226 ?_
  refine v_sld C hgB hS hb9 (sc_in (j := 2) (by omega) hL hi) (sc_at sc (j := 2) (by omega)) dL_law_1227 ?_
  refine v_aload_n C dL_law_1228 rfl rfl ?_
  refine v_iload_n C dL_law_1229 rfl rfl ?_
  refine v_iconst C (v := (3 : Int32)) dL_law_1230 (by decide) ?_
  refine v_iadd C dL_law_1231 ?_
  refine v_sld C hgB hS hb9 (sc_in (j := 3) (by omega) hL hi) (sc_at sc (j := 3) (by omega)) dL_law_1232 ?_
  refine v_callVp C (y := yX0_lay) (b := cX0_lay) (mL := 5) (n := 3) (ret := some .int) (hh := hhX0_lay) q2278 q2279 q2280 q78 q2281 (by unfold kD; decide +kernel) (ci := 1) rfl hfs (As := [.int (sc (i + 1)), .int (sc (i + 2)), .int (sc (i + 3))]) (wX0_lay (xl X) g hX hZ hst N x (sc (i + 1)) (sc (i + 2)) (sc (i + 3)) w _ _ h1) (by decide) rfl rfl (Nat.le_of_ble_eq_true rfl) dL_law_1233 (fun r9 w9 hP => ?_)
  obtain ⟨rfl, h3, h4, h5⟩ := h3 r9 w9 hP
  rw [← h3]
  refine v_aload_n C dL_law_1236 rfl rfl ?_
  refine v_aload_n C dL_law_1237 rfl rfl ?_
  refine v_iload_n C dL_law_1238 rfl rfl ?_
  refine v_iconst C (v := (1 : Int32)) dL_law_1239 (by decide) ?_
  refine v_iadd C dL_law_1240 ?_
  refine v_sld C hgB hS hb9 (sc_in (j := 1) (by omega) hL hi) (sc_at sc (j := 1) (by omega)) dL_law_1241 ?_
  refine v_aload_n C dL_law_1242 rfl rfl ?_
  refine v_iload_n C dL_law_1243 rfl rfl ?_
  refine v_iconst C (v := (2 : Int32)) dL_law_1244 (by decide) ?_
  refine v_iadd C dL_law_1245 ?_
  refine v_sld C hgB hS hb9 (sc_in (j := 2) (by omega) hL hi) (sc_at sc (j := 2) (by omega)) dL_law_1246 ?_
  refine v_aload_n C dL_law_1247 rfl rfl ?_
  refine v_iload_n C dL_law_1248 rfl rfl ?_
  refine v_iconst C (v := (3 : Int32)) dL_law_1249 (by decide) ?_
  refine v_iadd C dL_law_1250 ?_
  refine v_sld C hgB hS hb9 (sc_in (j := 3) (by omega) hL hi) (sc_at sc (j := 3) (by omega)) dL_law_1251 ?_
  refine v_callV C lkL_176 (ci := 0) rfl hM_o (As := [.int (sc (i + 1)), .int (sc (i + 2)), .int (sc (i + 3))]) (wX3_lay (xl X) g ho w9 N (sc (i + 1)) (sc (i + 2)) (sc (i + 3)) σ _ σ' h2) (by decide) rfl rfl (Nat.le_of_ble_eq_true rfl) dL_law_1252 ?_
  exact v_icmp_eq C (tgt := 1329) dL_law_1255 (by decide) (f1 := some ()) (f2 := none) (z := ()) (if_pos rfl) (fun _ _ => kk _ σ' h4 h5) (fun q _ => absurd rfl q)
theorem lkL_180 : kLV "CardLoomLaw" 180 yX3_judge cX3_judge 5 (some .int) 3 := ⟨q2716, q2717, q2718, q85, q2719, by unfold kD; decide +kernel⟩
theorem ls_40 {g : GT} {X : CxT} (CF : ∀ w9, kOk g X cL_law 4 "CardLoomLaw" (some .boolean) 2048 98496 (some (.int 1)) w9) (hX : ∀ U, gX g U → SX g U) (hZ : ∀ U, gX g U → SZ g U) (hst : (xl X).stackTraces = false) (hgB : (gH g).size = gB g) {b9 L : Nat} {sc : Nat → Int32} (hS : va_X b9 L sc (xs X) (gH g)) (hb9 : b9 < gB g) (N x o : Nat) (ho : gB g ≤ o) {J : Wd → M → Prop} (hJx : ∀ w σ, J w σ → ∃ fs, w.1 x = some (.inl (.inr (1, fs)))) (hop : ∀ a1 a2 a3 : Int32, OpOkP g o J (fun w => FX0_judge N g x a1 a2 a3 w) (fun s => FX3_judge N a1 a2 a3 s)) {w : Wd} {σ : M} {k i : Nat} (hJ : J w σ) (hR : Rm g w (9000 + k)) (hi : i + 3 < L) (hL : L ≤ 256) (kk : ∀ w' σ', J w' σ' → Rm g w' k → kV g X 4 w' 1329 [some (.ref b9), some (.ref x), some (.ref o), some (.int (n32 i))] []) : kV g X 4 w 1260 [some (.ref b9), some (.ref x), some (.ref o), some (.int (n32 i))] [] := by
  have C := CF w
  obtain ⟨fs, hfs⟩ := hJx w σ hJ
  obtain ⟨z9, w', r, σ', h1, h2, h3⟩ := hop (sc (i + 1)) (sc (i + 2)) (sc (i + 3)) w σ k hJ hR
  refine v_aload_n C dL_law_1260 rfl rfl ?_
  refine v_aload_n C dL_law_1261 rfl rfl ?_
  refine v_iload_n C dL_law_1262 rfl rfl ?_
  refine v_iconst C (v := (1 : Int32)) dL_law_1263 (by decide) ?_
  refine v_iadd C dL_law_1264 ?_
  refine v_sld C hgB hS hb9 (sc_in (j := 1) (by omega) hL hi) (sc_at sc (j := 1) (by omega)) dL_law_1265 ?_
  refine v_aload_n C dL_law_1266 rfl rfl ?_
  refine v_iload_n C dL_law_1267 rfl rfl ?_
  refine v_iconst C (v := (2 : Int32)) dL_law_1268 (by decide) ?_
  refine v_iadd C dL_law_1269 ?_
  refine v_sld C hgB hS hb9 (sc_in (j := 2) (by omega) hL hi) (sc_at sc (j := 2) (by omega)) dL_law_1270 ?_
  refine v_aload_n C dL_law_1271 rfl rfl ?_
  refine v_iload_n C dL_law_1272 rfl rfl ?_
  refine v_iconst C (v := (3 : Int32)) dL_law_1273 (by decide) ?_
  refine v_iadd C dL_law_1274 ?_
  refine v_sld C hgB hS hb9 (sc_in (j := 3) (by omega) hL hi) (sc_at sc (j := 3) (by omega)) dL_law_1275 ?_
  refine v_callVp C (y := yX0_judge) (b := cX0_judge) (mL := 6) (n := 3) (ret := some .int) (hh := hhX0_judge) q2282 q2283 q2284 q78 q2285 (by unfold kD; decide +kernel) (ci := 1) rfl hfs (As := [.int (sc (i + 1)), .int (sc (i + 2)), .int (sc (i + 3))]) (wX0_judge (xl X) g hX hZ hst N x (sc (i + 1)) (sc (i + 2)) (sc (i + 3)) w _ _ h1) (by decide) rfl rfl (Nat.le_of_ble_eq_true rfl) dL_law_1276 (fun r9 w9 hP => ?_)
  obtain ⟨rfl, h3, h4, h5⟩ := h3 r9 w9 hP
  rw [← h3]
  refine v_aload_n C dL_law_1279 rfl rfl ?_
  refine v_aload_n C dL_law_1280 rfl rfl ?_
  refine v_iload_n C dL_law_1281 rfl rfl ?_
  refine v_iconst C (v := (1 : Int32)) dL_law_1282 (by decide) ?_
  refine v_iadd C dL_law_1283 ?_
  refine v_sld C hgB hS hb9 (sc_in (j := 1) (by omega) hL hi) (sc_at sc (j := 1) (by omega)) dL_law_1284 ?_
  refine v_aload_n C dL_law_1285 rfl rfl ?_
  refine v_iload_n C dL_law_1286 rfl rfl ?_
  refine v_iconst C (v := (2 : Int32)) dL_law_1287 (by decide) ?_
  refine v_iadd C dL_law_1288 ?_
  refine v_sld C hgB hS hb9 (sc_in (j := 2) (by omega) hL hi) (sc_at sc (j := 2) (by omega)) dL_law_1289 ?_
  refine v_aload_n C dL_law_1290 rfl rfl ?_
  refine v_iload_n C dL_law_1291 rfl rfl ?_
  refine v_iconst C (v := (3 : Int32)) dL_law_1292 (by decide) ?_
  refine v_iadd C dL_law_1293 ?_
  refine v_sld C hgB hS hb9 (sc_in (j := 3) (by omega) hL hi) (sc_at sc (j := 3) (by omega)) dL_law_1294 ?_
  refine v_callV C lkL_180 (ci := 0) rfl hM_o (As := [.int (sc (i + 1)), .int (sc (i + 2)), .int (sc (i + 3))]) (wX3_judge (xl X) g ho w9 N (sc (i + 1)) (sc (i + 2)) (sc (i + 3)) σ _ σ' h2) (by decide) rfl rfl (Nat.le_of_ble_eq_true rfl) dL_law_1295 ?_
  exact v_icmp_eq C (tgt := 1329) dL_law_1298 (by decide) (f1 := some ()) (f2 := none) (z := ()) (if_pos rfl) (fun _ _ => kk _ σ' h4 h5) (fun q _ => absurd rfl q)
theorem lkL_181 : kLV "CardLoomLaw" 181 yX0_image cX0_image 1 (some .int) 0 := ⟨q2286, q2287, q2288, q78, q2289, by unfold kD; decide +kernel⟩
theorem lkL_184 : kLV "CardLoomLaw" 184 yX3_image cX3_image 1 (some .int) 0 := ⟨q2720, q2721, q2722, q85, q2723, by unfold kD; decide +kernel⟩
theorem ls_41 {g : GT} {X : CxT} (CF : ∀ w9, kOk g X cL_law 4 "CardLoomLaw" (some .boolean) 2048 98496 (some (.int 1)) w9) (hX : ∀ U, gX g U → SX g U) (hZ : ∀ U, gX g U → SZ g U) (hst : (xl X).stackTraces = false) (hgB : (gH g).size = gB g) {b9 L : Nat} {sc : Nat → Int32} (hS : va_X b9 L sc (xs X) (gH g)) (hb9 : b9 < gB g) (N x o : Nat) (ho : gB g ≤ o) {J : Wd → M → Prop} (hJx : ∀ w σ, J w σ → ∃ fs, w.1 x = some (.inl (.inr (1, fs)))) (hop : OpOk g o J (fun w => FX0_image N g x  w) (fun s => FX3_image N  s)) {w : Wd} {σ : M} {k i : Nat} (hJ : J w σ) (hR : Rm g w (9000 + k)) (hi : i + 3 < L) (hL : L ≤ 256) (kk : ∀ w' σ', J w' σ' → Rm g w' k → kV g X 4 w' 1329 [some (.ref b9), some (.ref x), some (.ref o), some (.int (n32 i))] []) : kV g X 4 w 1303 [some (.ref b9), some (.ref x), some (.ref o), some (.int (n32 i))] [] := by
  have C := CF w
  obtain ⟨fs, hfs⟩ := hJx w σ hJ
  obtain ⟨r, w', σ', h1, h2, h3, h4, h5⟩ := hop w σ k hJ hR
  refine v_aload_n C dL_law_1303 rfl rfl ?_
  refine v_callV C lkL_181 (ci := 1) rfl hfs (As := []) (wX0_image (xl X) g hX N x  w _ _ h1) (by decide) rfl rfl (Nat.le_of_ble_eq_true rfl) dL_law_1304 ?_
  rw [← h3]
  refine v_aload_n C dL_law_1307 rfl rfl ?_
  refine v_callV C lkL_184 (ci := 0) rfl hM_o (As := []) (wX3_image (xl X) g ho w' N  σ _ σ' h2) (by decide) rfl rfl (Nat.le_of_ble_eq_true rfl) dL_law_1308 ?_
  exact v_icmp_eq C (tgt := 1329) dL_law_1311 (by decide) (f1 := some ()) (f2 := none) (z := ()) (if_pos rfl) (fun _ _ => kk _ σ' h4 h5) (fun q _ => absurd rfl q)
theorem lkL_185 : kLV "CardLoomLaw" 185 yX0_undo cX0_undo 1 (some .int) 0 := ⟨q2293, q2294, q2295, q78, q2296, by unfold kD; decide +kernel⟩
theorem lkL_188 : kLV "CardLoomLaw" 188 yX3_undo cX3_undo 1 (some .int) 0 := ⟨q2731, q2732, q2733, q85, q2734, by unfold kD; decide +kernel⟩
theorem ls_42 {g : GT} {X : CxT} (CF : ∀ w9, kOk g X cL_law 4 "CardLoomLaw" (some .boolean) 2048 98496 (some (.int 1)) w9) (hX : ∀ U, gX g U → SX g U) (hZ : ∀ U, gX g U → SZ g U) (hst : (xl X).stackTraces = false) (hgB : (gH g).size = gB g) {b9 L : Nat} {sc : Nat → Int32} (hS : va_X b9 L sc (xs X) (gH g)) (hb9 : b9 < gB g) (N x o : Nat) (ho : gB g ≤ o) {J : Wd → M → Prop} (hJx : ∀ w σ, J w σ → ∃ fs, w.1 x = some (.inl (.inr (1, fs)))) (hop : OpOk g o J (fun w => FX0_undo N g x  w) (fun s => FX3_undo N  s)) {w : Wd} {σ : M} {k i : Nat} (hJ : J w σ) (hR : Rm g w (9000 + k)) (hi : i + 3 < L) (hL : L ≤ 256) (kk : ∀ w' σ', J w' σ' → Rm g w' k → kV g X 4 w' 1329 [some (.ref b9), some (.ref x), some (.ref o), some (.int (n32 i))] []) : kV g X 4 w 1316 [some (.ref b9), some (.ref x), some (.ref o), some (.int (n32 i))] [] := by
  have C := CF w
  obtain ⟨fs, hfs⟩ := hJx w σ hJ
  obtain ⟨r, w', σ', h1, h2, h3, h4, h5⟩ := hop w σ k hJ hR
  refine v_aload_n C dL_law_1316 rfl rfl ?_
  refine v_callV C lkL_185 (ci := 1) rfl hfs (As := []) (wX0_undo (xl X) g hX N x  w _ _ h1) (by decide) rfl rfl (Nat.le_of_ble_eq_true rfl) dL_law_1317 ?_
  rw [← h3]
  refine v_aload_n C dL_law_1320 rfl rfl ?_
  refine v_callV C lkL_188 (ci := 0) rfl hM_o (As := []) (wX3_undo (xl X) g ho w' N  σ _ σ' h2) (by decide) rfl rfl (Nat.le_of_ble_eq_true rfl) dL_law_1321 ?_
  exact v_icmp_eq C (tgt := 1329) dL_law_1324 (by decide) (f1 := some ()) (f2 := none) (z := ()) (if_pos rfl) (fun _ _ => kk _ σ' h4 h5) (fun q _ => absurd rfl q)
theorem law_loop {g : GT} {X : CxT} (CF : ∀ w9, kOk g X cL_law 4 "CardLoomLaw" (some .boolean) 2048 98496 (some (.int 1)) w9) (hX : ∀ U, gX g U → SX g U) (hZ : ∀ U, gX g U → SZ g U) (hst : (xl X).stackTraces = false) (hgB : (gH g).size = gB g) {b9 L : Nat} {sc : Nat → Int32} (hS : va_X b9 L sc (xs X) (gH g)) (hb9 : b9 < gB g) (N x o : Nat) (ho : gB g ≤ o) {J : Wd → M → Prop} (hJx : ∀ w σ, J w σ → ∃ fs, w.1 x = some (.inl (.inr (1, fs)))) (hL : L ≤ 256) (hop0 : ∀ a1 : Int32, OpOk g o J (fun w => FX0_feed N g x a1 w) (fun s => FX3_feed N a1 s)) (hop1 : OpOk g o J (fun w => FX0_clear N g x  w) (fun s => FX3_clear N  s)) (hop2 : OpOk g o J (fun w => FX0_thread N g x  w) (fun s => FX3_thread N  s)) (hop3 : OpOk g o J (fun w => FX0_law N g x  w) (fun s => FX3_law N  s)) (hop4 : ∀ a1 a2 : Int32, OpOk g o J (fun w => FX0_card N g x a1 a2 w) (fun s => FX3_card N a1 a2 s)) (hop5 : ∀ a1 : Int32, OpOk g o J (fun w => FX0_slant N g x a1 w) (fun s => FX3_slant N a1 s)) (hop6 : ∀ a1 a2 : Int32, OpOk g o J (fun w => FX0_place N g x a1 a2 w) (fun s => FX3_place N a1 a2 s)) (hop7 : ∀ a1 a2 a3 : Int32, OpOk g o J (fun w => FX0_recolour N g x a1 a2 a3 w) (fun s => FX3_recolour N a1 a2 a3 s)) (hop8 : ∀ a1 a2 : Int32, OpOk g o J (fun w => FX0_turn N g x a1 a2 w) (fun s => FX3_turn N a1 a2 s)) (hop9 : ∀ a1 a2 : Int32, OpOk g o J (fun w => FX0_pack N g x a1 a2 w) (fun s => FX3_pack N a1 a2 s)) (hop10 : ∀ a1 : Int32, OpOk g o J (fun w => FX0_weave N g x a1 w) (fun s => FX3_weave N a1 s)) (hop11 : ∀ a1 : Int32, OpOk g o J (fun w => FX0_unweave N g x a1 w) (fun s => FX3_unweave N a1 s)) (hop12 : ∀ a1 a2 : Int32, OpOk g o J (fun w => FX0_front N g x a1 a2 w) (fun s => FX3_front N a1 a2 s)) (hop13 : ∀ a1 a2 : Int32, OpOk g o J (fun w => FX0_back N g x a1 a2 w) (fun s => FX3_back N a1 a2 s)) (hop14 : ∀ a1 a2 : Int32, OpOk g o J (fun w => FX0_lean N g x a1 a2 w) (fun s => FX3_lean N a1 a2 s)) (hop15 : ∀ a1 a2 : Int32, OpOk g o J (fun w => FX0_turning N g x a1 a2 w) (fun s => FX3_turning N a1 a2 s)) (hop16 : OpOk g o J (fun w => FX0_returns N g x  w) (fun s => FX3_returns N  s)) (hop17 : OpOk g o J (fun w => FX0_flat N g x  w) (fun s => FX3_flat N  s)) (hop18 : OpOk g o J (fun w => FX0_jam N g x  w) (fun s => FX3_jam N  s)) (hop19 : ∀ a1 a2 : Int32, OpOk g o J (fun w => FX0_undoing N g x a1 a2 w) (fun s => FX3_undoing N a1 a2 s)) (hop20 : ∀ a1 a2 a3 : Int32, OpOk g o J (fun w => FX0_paint N g x a1 a2 a3 w) (fun s => FX3_paint N a1 a2 a3 s)) (hop21 : ∀ a1 : Int32, OpOk g o J (fun w => FX0_lines N g x a1 w) (fun s => FX3_lines N a1 s)) (hop22 : ∀ a1 a2 : Int32, OpOk g o J (fun w => FX0_draft N g x a1 a2 w) (fun s => FX3_draft N a1 a2 s)) (hop23 : ∀ a1 : Int32, OpOk g o J (fun w => FX0_fewest N g x a1 w) (fun s => FX3_fewest N a1 s)) (hop24 : OpOk g o J (fun w => FX0_weaveDraft N g x  w) (fun s => FX3_weaveDraft N  s)) (hop25 : ∀ a1 : Int32, OpOk g o J (fun w => FX0_matches N g x a1 w) (fun s => FX3_matches N a1 s)) (hop26 : OpOk g o J (fun w => FX0_period N g x  w) (fun s => FX3_period N  s)) (hop27 : OpOk g o J (fun w => FX0_mirrors N g x  w) (fun s => FX3_mirrors N  s)) (hop28 : ∀ a1 : Int32, OpOk g o J (fun w => FX0_run N g x a1 w) (fun s => FX3_run N a1 s)) (hop29 : ∀ a1 a2 : Int32, OpOk g o J (fun w => FX0_colours N g x a1 a2 w) (fun s => FX3_colours N a1 a2 s)) (hop30 : ∀ a1 : Int32, OpOk g o J (fun w => FX0_ranked N g x a1 w) (fun s => FX3_ranked N a1 s)) (hop31 : ∀ a1 a2 : Int32, OpOk g o J (fun w => FX0_alike N g x a1 a2 w) (fun s => FX3_alike N a1 a2 s)) (hop32 : ∀ a1 : Int32, OpOk g o J (fun w => FX0_faces N g x a1 w) (fun s => FX3_faces N a1 s)) (hop33 : OpOk g o J (fun w => FX0_spell N g x  w) (fun s => FX3_spell N  s)) (hop34 : ∀ a1 : Int32, OpOk g o J (fun w => FX0_paper N g x a1 w) (fun s => FX3_paper N a1 s)) (hop35 : ∀ a1 : Int32, OpOk g o J (fun w => FX0_told N g x a1 w) (fun s => FX3_told N a1 s)) (hop36 : ∀ a1 a2 : Int32, OpOkP g o J (fun w => FX0_list N g x a1 a2 w) (fun s => FX3_list N a1 a2 s)) (hop37 : ∀ a1 a2 a3 : Int32, OpOkP g o J (fun w => FX0_set N g x a1 a2 a3 w) (fun s => FX3_set N a1 a2 a3 s)) (hop38 : ∀ a1 a2 : Int32, OpOkP g o J (fun w => FX0_get N g x a1 a2 w) (fun s => FX3_get N a1 a2 s)) (hop39 : ∀ a1 a2 a3 : Int32, OpOkP g o J (fun w => FX0_lay N g x a1 a2 a3 w) (fun s => FX3_lay N a1 a2 a3 s)) (hop40 : ∀ a1 a2 a3 : Int32, OpOkP g o J (fun w => FX0_judge N g x a1 a2 a3 w) (fun s => FX3_judge N a1 a2 a3 s)) (hop41 : OpOk g o J (fun w => FX0_image N g x  w) (fun s => FX3_image N  s)) (hop42 : OpOk g o J (fun w => FX0_undo N g x  w) (fun s => FX3_undo N  s)) : ∀ (r i : Nat) (w : Wd) (σ : M), i + 4 * r = 260 → J w σ → Rm g w (9000 * r) → kV g X 4 w 18 [some (.ref b9), some (.ref x), some (.ref o), some (.int (n32 i))] [] := by
  intro r
  induction r with
  | zero =>
    intro i w σ hi hJ hR
    have C := CF w
    refine v_iload_n C dL_law_18 rfl rfl ?_
    refine v_aload_n C dL_law_19 rfl rfl ?_
    refine v_slen C hgB hS hb9 dL_law_20 ?_
    refine v_iconst C (v := (4 : Int32)) dL_law_21 (by decide) ?_
    refine v_isub C dL_law_22 ?_
    refine v_icmp_gt C (tgt := 1335) dL_law_23 (by decide) (f1 := some ()) (f2 := none) (z := ()) (if_pos (sc_end hL (by omega))) (fun _ _ => ?_) (fun q _ => absurd (sc_end hL (by omega)) q)
    refine v_iconst C (v := (1 : Int32)) dL_law_1335 (by decide) ?_
    exact v_zret C rfl dL_law_1336
  | succ r ih =>
    intro i w σ hi hJ hR
    have C := CF w
    refine v_iload_n C dL_law_18 rfl rfl ?_
    refine v_aload_n C dL_law_19 rfl rfl ?_
    refine v_slen C hgB hS hb9 dL_law_20 ?_
    refine v_iconst C (v := (4 : Int32)) dL_law_21 (by decide) ?_
    refine v_isub C dL_law_22 ?_
    by_cases he : L < i + 4
    · refine v_icmp_gt C (tgt := 1335) dL_law_23 (by decide) (f1 := some ()) (f2 := none) (z := ()) (if_pos (sc_end hL he)) (fun _ _ => ?_) (fun q _ => absurd (sc_end hL he) q)
      refine v_iconst C (v := (1 : Int32)) dL_law_1335 (by decide) ?_
      exact v_zret C rfl dL_law_1336
    · refine v_icmp_gt C (tgt := 1335) dL_law_23 (by decide) (f1 := none) (f2 := some ()) (z := ()) (if_neg (sc_go hL (by omega))) (fun q _ => absurd q (sc_go hL (by omega))) (fun _ _ => ?_)
      have hi3 : i + 3 < L := by omega
      have hR2 : Rm g w (9000 + 9000 * r) := by rw [Nat.mul_succ] at hR; rw [Nat.add_comm]; exact hR
      have kk : ∀ w' σ', J w' σ' → Rm g w' (9000 * r) → kV g X 4 w' 1329 [some (.ref b9), some (.ref x), some (.ref o), some (.int (n32 i))] [] := by
        intro w' σ' hJ' hR'
        refine v_iinc (CF w') (v := n32 (i + 4)) dL_law_1329 rfl (n32_add i 4) (Nat.le_of_ble_eq_true rfl) rfl rfl ?_
        exact v_goto (CF w') (tgt := 18) dL_law_1332 (by decide) (ih (i + 4) w' σ' (by omega) hJ' hR')
      refine v_aload_n C dL_law_26 rfl rfl ?_
      refine v_iload_n C dL_law_27 rfl rfl ?_
      refine v_sld C hgB hS hb9 (sc_in0 hL hi3) (sc_at0 sc (by omega)) dL_law_28 ?_
      refine v_bipush C (v := (63 : Int32)) dL_law_29 (by decide) ?_
      refine v_iand C dL_law_31 ?_
      by_cases h0 : sc i &&& 63 = (0 : Int32)
      · exact v_tswIn C 0 h0 dL_law_32 (by decide) (by decide) (off := 188) rfl (tgt := 220) (by decide) (ls_0 CF hX hZ hst hgB hS hb9 N x o ho hJx hop0 hJ hR2 hi3 hL kk)
      by_cases h1 : sc i &&& 63 = (1 : Int32)
      · exact v_tswIn C 1 h1 dL_law_32 (by decide) (by decide) (off := 211) rfl (tgt := 243) (by decide) (ls_1 CF hX hZ hst hgB hS hb9 N x o ho hJx hop1 hJ hR2 hi3 hL kk)
      by_cases h2 : sc i &&& 63 = (2 : Int32)
      · exact v_tswIn C 2 h2 dL_law_32 (by decide) (by decide) (off := 224) rfl (tgt := 256) (by decide) (ls_2 CF hX hZ hst hgB hS hb9 N x o ho hJx hop2 hJ hR2 hi3 hL kk)
      by_cases h3 : sc i &&& 63 = (3 : Int32)
      · exact v_tswIn C 3 h3 dL_law_32 (by decide) (by decide) (off := 237) rfl (tgt := 269) (by decide) (ls_3 CF hX hZ hst hgB hS hb9 N x o ho hJx hop3 hJ hR2 hi3 hL kk)
      by_cases h4 : sc i &&& 63 = (4 : Int32)
      · exact v_tswIn C 4 h4 dL_law_32 (by decide) (by decide) (off := 250) rfl (tgt := 282) (by decide) (ls_4 CF hX hZ hst hgB hS hb9 N x o ho hJx hop4 hJ hR2 hi3 hL kk)
      by_cases h5 : sc i &&& 63 = (5 : Int32)
      · exact v_tswIn C 5 h5 dL_law_32 (by decide) (by decide) (off := 283) rfl (tgt := 315) (by decide) (ls_5 CF hX hZ hst hgB hS hb9 N x o ho hJx hop5 hJ hR2 hi3 hL kk)
      by_cases h6 : sc i &&& 63 = (6 : Int32)
      · exact v_tswIn C 6 h6 dL_law_32 (by decide) (by decide) (off := 306) rfl (tgt := 338) (by decide) (ls_6 CF hX hZ hst hgB hS hb9 N x o ho hJx hop6 hJ hR2 hi3 hL kk)
      by_cases h7 : sc i &&& 63 = (7 : Int32)
      · exact v_tswIn C 7 h7 dL_law_32 (by decide) (by decide) (off := 339) rfl (tgt := 371) (by decide) (ls_7 CF hX hZ hst hgB hS hb9 N x o ho hJx hop7 hJ hR2 hi3 hL kk)
      by_cases h8 : sc i &&& 63 = (8 : Int32)
      · exact v_tswIn C 8 h8 dL_law_32 (by decide) (by decide) (off := 382) rfl (tgt := 414) (by decide) (ls_8 CF hX hZ hst hgB hS hb9 N x o ho hJx hop8 hJ hR2 hi3 hL kk)
      by_cases h9 : sc i &&& 63 = (9 : Int32)
      · exact v_tswIn C 9 h9 dL_law_32 (by decide) (by decide) (off := 415) rfl (tgt := 447) (by decide) (ls_9 CF hX hZ hst hgB hS hb9 N x o ho hJx hop9 hJ hR2 hi3 hL kk)
      by_cases h10 : sc i &&& 63 = (10 : Int32)
      · exact v_tswIn C 10 h10 dL_law_32 (by decide) (by decide) (off := 448) rfl (tgt := 480) (by decide) (ls_10 CF hX hZ hst hgB hS hb9 N x o ho hJx hop10 hJ hR2 hi3 hL kk)
      by_cases h11 : sc i &&& 63 = (11 : Int32)
      · exact v_tswIn C 11 h11 dL_law_32 (by decide) (by decide) (off := 471) rfl (tgt := 503) (by decide) (ls_11 CF hX hZ hst hgB hS hb9 N x o ho hJx hop11 hJ hR2 hi3 hL kk)
      by_cases h12 : sc i &&& 63 = (12 : Int32)
      · exact v_tswIn C 12 h12 dL_law_32 (by decide) (by decide) (off := 494) rfl (tgt := 526) (by decide) (ls_12 CF hX hZ hst hgB hS hb9 N x o ho hJx hop12 hJ hR2 hi3 hL kk)
      by_cases h13 : sc i &&& 63 = (13 : Int32)
      · exact v_tswIn C 13 h13 dL_law_32 (by decide) (by decide) (off := 527) rfl (tgt := 559) (by decide) (ls_13 CF hX hZ hst hgB hS hb9 N x o ho hJx hop13 hJ hR2 hi3 hL kk)
      by_cases h14 : sc i &&& 63 = (14 : Int32)
      · exact v_tswIn C 14 h14 dL_law_32 (by decide) (by decide) (off := 560) rfl (tgt := 592) (by decide) (ls_14 CF hX hZ hst hgB hS hb9 N x o ho hJx hop14 hJ hR2 hi3 hL kk)
      by_cases h15 : sc i &&& 63 = (15 : Int32)
      · exact v_tswIn C 15 h15 dL_law_32 (by decide) (by decide) (off := 593) rfl (tgt := 625) (by decide) (ls_15 CF hX hZ hst hgB hS hb9 N x o ho hJx hop15 hJ hR2 hi3 hL kk)
      by_cases h16 : sc i &&& 63 = (16 : Int32)
      · exact v_tswIn C 16 h16 dL_law_32 (by decide) (by decide) (off := 626) rfl (tgt := 658) (by decide) (ls_16 CF hX hZ hst hgB hS hb9 N x o ho hJx hop16 hJ hR2 hi3 hL kk)
      by_cases h17 : sc i &&& 63 = (17 : Int32)
      · exact v_tswIn C 17 h17 dL_law_32 (by decide) (by decide) (off := 639) rfl (tgt := 671) (by decide) (ls_17 CF hX hZ hst hgB hS hb9 N x o ho hJx hop17 hJ hR2 hi3 hL kk)
      by_cases h18 : sc i &&& 63 = (18 : Int32)
      · exact v_tswIn C 18 h18 dL_law_32 (by decide) (by decide) (off := 652) rfl (tgt := 684) (by decide) (ls_18 CF hX hZ hst hgB hS hb9 N x o ho hJx hop18 hJ hR2 hi3 hL kk)
      by_cases h19 : sc i &&& 63 = (19 : Int32)
      · exact v_tswIn C 19 h19 dL_law_32 (by decide) (by decide) (off := 665) rfl (tgt := 697) (by decide) (ls_19 CF hX hZ hst hgB hS hb9 N x o ho hJx hop19 hJ hR2 hi3 hL kk)
      by_cases h20 : sc i &&& 63 = (20 : Int32)
      · exact v_tswIn C 20 h20 dL_law_32 (by decide) (by decide) (off := 698) rfl (tgt := 730) (by decide) (ls_20 CF hX hZ hst hgB hS hb9 N x o ho hJx hop20 hJ hR2 hi3 hL kk)
      by_cases h21 : sc i &&& 63 = (21 : Int32)
      · exact v_tswIn C 21 h21 dL_law_32 (by decide) (by decide) (off := 741) rfl (tgt := 773) (by decide) (ls_21 CF hX hZ hst hgB hS hb9 N x o ho hJx hop21 hJ hR2 hi3 hL kk)
      by_cases h22 : sc i &&& 63 = (22 : Int32)
      · exact v_tswIn C 22 h22 dL_law_32 (by decide) (by decide) (off := 764) rfl (tgt := 796) (by decide) (ls_22 CF hX hZ hst hgB hS hb9 N x o ho hJx hop22 hJ hR2 hi3 hL kk)
      by_cases h23 : sc i &&& 63 = (23 : Int32)
      · exact v_tswIn C 23 h23 dL_law_32 (by decide) (by decide) (off := 797) rfl (tgt := 829) (by decide) (ls_23 CF hX hZ hst hgB hS hb9 N x o ho hJx hop23 hJ hR2 hi3 hL kk)
      by_cases h24 : sc i &&& 63 = (24 : Int32)
      · exact v_tswIn C 24 h24 dL_law_32 (by decide) (by decide) (off := 820) rfl (tgt := 852) (by decide) (ls_24 CF hX hZ hst hgB hS hb9 N x o ho hJx hop24 hJ hR2 hi3 hL kk)
      by_cases h25 : sc i &&& 63 = (25 : Int32)
      · exact v_tswIn C 25 h25 dL_law_32 (by decide) (by decide) (off := 833) rfl (tgt := 865) (by decide) (ls_25 CF hX hZ hst hgB hS hb9 N x o ho hJx hop25 hJ hR2 hi3 hL kk)
      by_cases h26 : sc i &&& 63 = (26 : Int32)
      · exact v_tswIn C 26 h26 dL_law_32 (by decide) (by decide) (off := 856) rfl (tgt := 888) (by decide) (ls_26 CF hX hZ hst hgB hS hb9 N x o ho hJx hop26 hJ hR2 hi3 hL kk)
      by_cases h27 : sc i &&& 63 = (27 : Int32)
      · exact v_tswIn C 27 h27 dL_law_32 (by decide) (by decide) (off := 869) rfl (tgt := 901) (by decide) (ls_27 CF hX hZ hst hgB hS hb9 N x o ho hJx hop27 hJ hR2 hi3 hL kk)
      by_cases h28 : sc i &&& 63 = (28 : Int32)
      · exact v_tswIn C 28 h28 dL_law_32 (by decide) (by decide) (off := 882) rfl (tgt := 914) (by decide) (ls_28 CF hX hZ hst hgB hS hb9 N x o ho hJx hop28 hJ hR2 hi3 hL kk)
      by_cases h29 : sc i &&& 63 = (29 : Int32)
      · exact v_tswIn C 29 h29 dL_law_32 (by decide) (by decide) (off := 905) rfl (tgt := 937) (by decide) (ls_29 CF hX hZ hst hgB hS hb9 N x o ho hJx hop29 hJ hR2 hi3 hL kk)
      by_cases h30 : sc i &&& 63 = (30 : Int32)
      · exact v_tswIn C 30 h30 dL_law_32 (by decide) (by decide) (off := 938) rfl (tgt := 970) (by decide) (ls_30 CF hX hZ hst hgB hS hb9 N x o ho hJx hop30 hJ hR2 hi3 hL kk)
      by_cases h31 : sc i &&& 63 = (31 : Int32)
      · exact v_tswIn C 31 h31 dL_law_32 (by decide) (by decide) (off := 961) rfl (tgt := 993) (by decide) (ls_31 CF hX hZ hst hgB hS hb9 N x o ho hJx hop31 hJ hR2 hi3 hL kk)
      by_cases h32 : sc i &&& 63 = (32 : Int32)
      · exact v_tswIn C 32 h32 dL_law_32 (by decide) (by decide) (off := 994) rfl (tgt := 1026) (by decide) (ls_32 CF hX hZ hst hgB hS hb9 N x o ho hJx hop32 hJ hR2 hi3 hL kk)
      by_cases h33 : sc i &&& 63 = (33 : Int32)
      · exact v_tswIn C 33 h33 dL_law_32 (by decide) (by decide) (off := 1017) rfl (tgt := 1049) (by decide) (ls_33 CF hX hZ hst hgB hS hb9 N x o ho hJx hop33 hJ hR2 hi3 hL kk)
      by_cases h34 : sc i &&& 63 = (34 : Int32)
      · exact v_tswIn C 34 h34 dL_law_32 (by decide) (by decide) (off := 1030) rfl (tgt := 1062) (by decide) (ls_34 CF hX hZ hst hgB hS hb9 N x o ho hJx hop34 hJ hR2 hi3 hL kk)
      by_cases h35 : sc i &&& 63 = (35 : Int32)
      · exact v_tswIn C 35 h35 dL_law_32 (by decide) (by decide) (off := 1053) rfl (tgt := 1085) (by decide) (ls_35 CF hX hZ hst hgB hS hb9 N x o ho hJx hop35 hJ hR2 hi3 hL kk)
      by_cases h36 : sc i &&& 63 = (36 : Int32)
      · exact v_tswIn C 36 h36 dL_law_32 (by decide) (by decide) (off := 1076) rfl (tgt := 1108) (by decide) (ls_36 CF hX hZ hst hgB hS hb9 N x o ho hJx hop36 hJ hR2 hi3 hL kk)
      by_cases h37 : sc i &&& 63 = (37 : Int32)
      · exact v_tswIn C 37 h37 dL_law_32 (by decide) (by decide) (off := 1109) rfl (tgt := 1141) (by decide) (ls_37 CF hX hZ hst hgB hS hb9 N x o ho hJx hop37 hJ hR2 hi3 hL kk)
      by_cases h38 : sc i &&& 63 = (38 : Int32)
      · exact v_tswIn C 38 h38 dL_law_32 (by decide) (by decide) (off := 1152) rfl (tgt := 1184) (by decide) (ls_38 CF hX hZ hst hgB hS hb9 N x o ho hJx hop38 hJ hR2 hi3 hL kk)
      by_cases h39 : sc i &&& 63 = (39 : Int32)
      · exact v_tswIn C 39 h39 dL_law_32 (by decide) (by decide) (off := 1185) rfl (tgt := 1217) (by decide) (ls_39 CF hX hZ hst hgB hS hb9 N x o ho hJx hop39 hJ hR2 hi3 hL kk)
      by_cases h40 : sc i &&& 63 = (40 : Int32)
      · exact v_tswIn C 40 h40 dL_law_32 (by decide) (by decide) (off := 1228) rfl (tgt := 1260) (by decide) (ls_40 CF hX hZ hst hgB hS hb9 N x o ho hJx hop40 hJ hR2 hi3 hL kk)
      by_cases h41 : sc i &&& 63 = (41 : Int32)
      · exact v_tswIn C 41 h41 dL_law_32 (by decide) (by decide) (off := 1271) rfl (tgt := 1303) (by decide) (ls_41 CF hX hZ hst hgB hS hb9 N x o ho hJx hop41 hJ hR2 hi3 hL kk)
      by_cases h42 : sc i &&& 63 = (42 : Int32)
      · exact v_tswIn C 42 h42 dL_law_32 (by decide) (by decide) (off := 1284) rfl (tgt := 1316) (by decide) (ls_42 CF hX hZ hst hgB hS hb9 N x o ho hJx hop42 hJ hR2 hi3 hL kk)
      exact v_tswOut C [(0 : Int32), (1 : Int32), (2 : Int32), (3 : Int32), (4 : Int32), (5 : Int32), (6 : Int32), (7 : Int32), (8 : Int32), (9 : Int32), (10 : Int32), (11 : Int32), (12 : Int32), (13 : Int32), (14 : Int32), (15 : Int32), (16 : Int32), (17 : Int32), (18 : Int32), (19 : Int32), (20 : Int32), (21 : Int32), (22 : Int32), (23 : Int32), (24 : Int32), (25 : Int32), (26 : Int32), (27 : Int32), (28 : Int32), (29 : Int32), (30 : Int32), (31 : Int32), (32 : Int32), (33 : Int32), (34 : Int32), (35 : Int32), (36 : Int32), (37 : Int32), (38 : Int32), (39 : Int32), (40 : Int32), (41 : Int32), (42 : Int32)] (by simp only [List.mem_cons, List.not_mem_nil, or_false, forall_eq_or_imp, forall_eq]; exact ⟨h0, h1, h2, h3, h4, h5, h6, h7, h8, h9, h10, h11, h12, h13, h14, h15, h16, h17, h18, h19, h20, h21, h22, h23, h24, h25, h26, h27, h28, h29, h30, h31, h32, h33, h34, h35, h36, h37, h38, h39, h40, h41, h42⟩) dL_law_32 (by decide +kernel) (by decide) (tgt := 1329) (by decide) (kk w σ hJ (hR2.le (by omega)))
set_option maxRecDepth 100000
abbrev dfX0 : List Value := [.null, .null, .null, .null, .int 0, .null, .int 0, .null, .null, .null, .null, .null, .null, .null]
theorem nw_X0 : ∀ j, j < 14 → defaultValue (tyX0 j) = vp_V dfX0 j := fun j hj => by rcases (show j = 0 ∨ j = 1 ∨ j = 2 ∨ j = 3 ∨ j = 4 ∨ j = 5 ∨ j = 6 ∨ j = 7 ∨ j = 8 ∨ j = 9 ∨ j = 10 ∨ j = 11 ∨ j = 12 ∨ j = 13 by omega) with rfl | rfl | rfl | rfl | rfl | rfl | rfl | rfl | rfl | rfl | rfl | rfl | rfl | rfl <;> rfl
abbrev dfX3 : List Value := [.int 0, .null, .null, .null, .null, .null, .null, .null, .null, .null, .null, .int 0, .null, .null, .null, .null, .null, .int 0, .int 0, .int 0, .int 0, .int 0, .int 0, .null, .null, .null, .null, .null, .null, .null, .null, .null, .int 0, .null, .null, .null, .null, .int 0, .null, .null, .null]
theorem nw_X3 : ∀ j, j < 41 → defaultValue (tyX3 j) = vp_V dfX3 j := fun j hj => by rcases (show j = 0 ∨ j = 1 ∨ j = 2 ∨ j = 3 ∨ j = 4 ∨ j = 5 ∨ j = 6 ∨ j = 7 ∨ j = 8 ∨ j = 9 ∨ j = 10 ∨ j = 11 ∨ j = 12 ∨ j = 13 ∨ j = 14 ∨ j = 15 ∨ j = 16 ∨ j = 17 ∨ j = 18 ∨ j = 19 ∨ j = 20 ∨ j = 21 ∨ j = 22 ∨ j = 23 ∨ j = 24 ∨ j = 25 ∨ j = 26 ∨ j = 27 ∨ j = 28 ∨ j = 29 ∨ j = 30 ∨ j = 31 ∨ j = 32 ∨ j = 33 ∨ j = 34 ∨ j = 35 ∨ j = 36 ∨ j = 37 ∨ j = 38 ∨ j = 39 ∨ j = 40 by omega) with rfl | rfl | rfl | rfl | rfl | rfl | rfl | rfl | rfl | rfl | rfl | rfl | rfl | rfl | rfl | rfl | rfl | rfl | rfl | rfl | rfl | rfl | rfl | rfl | rfl | rfl | rfl | rfl | rfl | rfl | rfl | rfl | rfl | rfl | rfl | rfl | rfl | rfl | rfl | rfl | rfl <;> rfl
theorem lkL_9 : kLI "CardLoomLaw" 9 yX0_init cX0_init 1 0 := ⟨q138, q139, q78, q140, rfl, by unfold kD; decide +kernel⟩
theorem lkL_12 : kLI "CardLoomLaw" 12 yX3_init cX3_init 1 0 := ⟨q2299, q2300, q85, q2301, rfl, by unfold kD; decide +kernel⟩
/-- what the pure part owes of the start -/
def IniOk (g : GT) (N x o : Nat) (J : Wd → M → Prop) (w0 : Wd) : Prop := ∃ wa wb wc wd σ, oNew g w0 1 dfX0 14 = some (x, wa) ∧ FX0_init N g x wa = some ((), wb) ∧ oNew g wb 0 dfX3 41 = some (o, wc) ∧ FX3_init N g o wc = some ((), wd) ∧ J wd σ ∧ Rm g wd 585000
theorem law_start {g : GT} {X : CxT} (CF : ∀ w9, kOk g X cL_law 4 "CardLoomLaw" (some .boolean) 2048 98496 (some (.int 1)) w9) (hX : ∀ U, gX g U → SX g U) {b9 : Nat} (N x o : Nat) {J : Wd → M → Prop} {w0 : Wd} (hI : IniOk g N x o J w0) (kk : ∀ w σ, J w σ → Rm g w 585000 → kV g X 4 w 18 [some (.ref b9), some (.ref x), some (.ref o), some (.int (n32 0))] []) : kV g X 4 w0 0 [some (.ref b9), none, none, none] [] := by
  obtain ⟨wa, wb, wc, wd, σ, h1, h2, h3, h4, h5, h6⟩ := hI
  have C := CF w0
  refine v_newW C kc_X0 q136 q137 q78 nw_X0 dL_law_0 (A := fun a w2 => some (a, w2)) (z := (x, wa)) (by rw [h1]; rfl) (fun a w2 hF => ?_)
  cases hF
  refine v_dup C dL_law_3 rfl ?_
  refine v_callI C lkL_9 (As := []) (wX0_init (xl X) g hX N _ _ () wb h2) (by decide) rfl rfl (Nat.le_of_ble_eq_true rfl) dL_law_4 ?_
  refine v_astore_n C dL_law_7 rfl (Nat.le_of_ble_eq_true rfl) rfl (lv' := [some (.ref b9), some (.ref x), none, none]) rfl ?_
  refine v_newW C kc_X3 q2297 q2298 q85 nw_X3 dL_law_8 (A := fun a w2 => some (a, w2)) (z := (o, wc)) (by rw [h3]; rfl) (fun a2 w2 hF => ?_)
  cases hF
  refine v_dup C dL_law_11 rfl ?_
  refine v_callI C lkL_12 (As := []) (wX3_init (xl X) g hX N _ _ () wd h4) (by decide) rfl rfl (Nat.le_of_ble_eq_true rfl) dL_law_12 ?_
  refine v_astore_n C dL_law_15 rfl (Nat.le_of_ble_eq_true rfl) rfl (lv' := [some (.ref b9), some (.ref x), some (.ref o), none]) rfl ?_
  refine v_iconst C (v := (0 : Int32)) dL_law_16 (by decide) ?_
  refine v_istore_n C dL_law_17 rfl (Nat.le_of_ble_eq_true rfl) rfl (lv' := [some (.ref b9), some (.ref x), some (.ref o), some (.int (n32 0))]) rfl ?_
  exact kk wd σ h5 h6
