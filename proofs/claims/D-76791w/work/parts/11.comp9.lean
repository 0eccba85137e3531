/-! texts: the two literals lie below the law's first new address; bytes copied -/
set_option maxRecDepth 100000
def zV (g : GT) (w : Wd) (a : Nat) : Option Nat := if a = gT g 10 then some (gT g 11) else if a = gT g 12 then some (gT g 13) else oR w a 23 0
def zC (g : GT) (w : Wd) (a : Nat) : Option Int32 := if a = gT g 10 ∨ a = gT g 12 then some 0 else oI w a 23 1
def zIs (g : GT) (w : Wd) (a : Nat) : Bool := decide (a = gT g 10) || decide (a = gT g 12) || oIs w a 23
def zL (g : GT) (w : Wd) (a : Nat) : Option Int32 := if a = gT g 11 then some 0 else if a = gT g 13 then some 4 else aL g w 2 a
def zI (g : GT) (w : Wd) (a : Nat) (i : Int32) : Option Int32 := if a = gT g 13 then (if kin i 4 = true then some (([105, 102, 98, 104] : List Int32).getD i.toNatClampNeg 0) else none) else aI g w 2 a i
def kb8 (v : Int32) : Bool := decide (narrow .byte (.int v) = .int v) && fits .byte (.int v)
theorem kb8_nar {v : Int32} (h : kb8 v = true) : narrow .byte (.int v) = .int v := of_decide_eq_true (Bool.and_eq_true _ _ ▸ h : _ ∧ _).1
theorem kb8_fit {v : Int32} (h : kb8 v = true) : fits .byte (.int v) = true := (Bool.and_eq_true _ _ ▸ h : _ ∧ _).2
def aCpB (g : GT) (w : Wd) (src : Nat) (sp : Int32) (dst : Nat) (dp n : Int32) : Option Wd := kob (aC g w 2 src) (fun x => kob (xI x) (fun f => kob (aC g w 2 dst) (fun y => kob (xI y) (fun h => if (¬ sp < 0 ∧ ¬ dp < 0 ∧ ¬ n < 0 ∧ sp.toNatClampNeg + n.toNatClampNeg ≤ x.1 ∧ dp.toNatClampNeg + n.toNatClampNeg ≤ y.1) ∧ (List.range n.toNatClampNeg).all (fun i => fits .byte (.int (f (sp.toNatClampNeg + i)))) = true then some (kup w.1 dst (some (.inl (.inl (gA g 2, y.1, .inl (va_cpy f h sp.toNatClampNeg dp.toNatClampNeg n.toNatClampNeg))))), w.2) else none))))
def kc16 (v : Int32) : Bool := decide (narrow .char (.int v) = .int v)
theorem kc16_nar {v : Int32} (h : kc16 v = true) : narrow .char (.int v) = .int v := of_decide_eq_true h
section KL
variable {g : GT} {X : CxT} {cc : ByteArray} {nL : Nat} {own : String} {rt : Option FieldType} {fr lo : Nat} {rv : Option Value} {w1 w : Wd} {pc : Nat} {lv : List (Option Value)} {st : List Value} {β : Type} {z : β}
/-- a field of a known object below -/
theorem v_kget (C : kOk g X cc nL own rt fr lo rv w1) {o n d : String} {index t : Nat} {v : Value} (hO : va_OF o n d v t (kBs g) (xs X) (gH g)) (hq : Cond.fieldLink own index o n d ∈ lw_all) (hdg : decode cc pc = .ok (.getfield index, 3)) (kk : kV g X nL w (pc + 3) lv (v :: st)) : kV g X nL w pc lv (.ref t :: st) := by
  obtain ⟨cf, kc, fi, f, cell, h1, h2, h3, h4, h5, h6⟩ := hO
  intro H locs ls a1 b h
  have hc : H[t]? = some cell := by rw [a1.2.2.2.2 _ (Nat.not_le.mp h6)]; exact h3
  exact W.getf C.1 C.2.1 C.2.2.2.1 (C.2.2.2.2.1 _ hq) h1 h2 hc h4 h5 rfl rfl hdg (kk H locs ls a1 b h)
theorem v_zV (C : kOk g X cc nL own rt fr lo rv w1) (hX : ∀ U, gX g U → SX g U) {index a : Nat} (L : kCl 23 "java/lang/String" TJ9 4 tyJ9) (hq : Cond.fieldLink own index "java/lang/String" "value" "[B" ∈ lw_all) (hdg : decode cc pc = .ok (.getfield index, 3)) {A : Nat → Option β} (hF : kob (zV g w a) A = some z) (kk : ∀ x, A x = some z → kV g X nL w (pc + 3) lv (.ref x :: st)) : kV g X nL w pc lv (.ref a :: st) := by
  have hS := (hX _ C.2.2.2.2.2.1.2.2.1).2.2.2.2.2.2.2.1
  obtain ⟨x, h1, h2⟩ := kob_of hF
  unfold zV at h1
  by_cases c0 : a = gT g 10
  · rw [if_pos c0] at h1; cases h1
    rw [c0]; exact v_kget C (hS.1 0 (by decide)).2.2.1 hq hdg (kk _ h2)
  · rw [if_neg c0] at h1
    by_cases c1 : a = gT g 12
    · rw [if_pos c1] at h1; cases h1
      rw [c1]; exact v_kget C (hS.1 1 (by decide)).2.2.1 hq hdg (kk _ h2)
    · rw [if_neg c1] at h1
      exact v_getR C L 0 (by decide) (kFl.p hq) hdg (A := fun x => some x) (z := x) (by rw [h1]; rfl) (fun y hy => by cases hy; exact kk _ h2)
theorem v_zC (C : kOk g X cc nL own rt fr lo rv w1) (hX : ∀ U, gX g U → SX g U) {index a : Nat} (L : kCl 23 "java/lang/String" TJ9 4 tyJ9) (hq : Cond.fieldLink own index "java/lang/String" "coder" "B" ∈ lw_all) (hdg : decode cc pc = .ok (.getfield index, 3)) {A : Int32 → Option β} (hF : kob (zC g w a) A = some z) (kk : ∀ x, A x = some z → kV g X nL w (pc + 3) lv (.int x :: st)) : kV g X nL w pc lv (.ref a :: st) := by
  have hS := (hX _ C.2.2.2.2.2.1.2.2.1).2.2.2.2.2.2.2.1
  obtain ⟨x, h1, h2⟩ := kob_of hF
  unfold zC at h1
  by_cases c0 : a = gT g 10 ∨ a = gT g 12
  · rw [if_pos c0] at h1; cases h1
    rcases c0 with c0 | c0
    · rw [c0]; exact v_kget C (hS.1 0 (by decide)).2.1 hq hdg (kk _ h2)
    · rw [c0]; exact v_kget C (hS.1 1 (by decide)).2.1 hq hdg (kk _ h2)
  · rw [if_neg c0] at h1
    exact v_getI C L 1 (by decide) (kFl.p hq) hdg (A := fun x => some x) (z := x) (by rw [h1]; rfl) (fun y hy => by cases hy; exact kk _ h2)
theorem kRcZ (C : kOk g X cc nL own rt fr lo rv w1) (hX : ∀ U, gX g U → SX g U) {a : Nat} (h : zIs g w a = true) : kRc g X w "java/lang/String" a := by
  have hS := (hX _ C.2.2.2.2.2.1.2.2.1).2.2.2.2.2.2.2.1
  have key : ∀ i, i < 2 → kRc g X w "java/lang/String" (gT g (10 + 2 * i)) := by
    intro i hi H a1
    obtain ⟨cell, h1, h2, h3, h4⟩ := (hS.1 i hi).1
    exact ⟨cell, by rw [a1.2.2.2.2 _ (Nat.not_le.mp h4)]; exact h1, h2, h3⟩
  simp only [zIs, Bool.or_eq_true, decide_eq_true_eq] at h
  rcases h with (h | h) | h
  · rw [h]; exact key 0 (by decide)
  · rw [h]; exact key 1 (by decide)
  · exact kRc.of C (ci := 23) rfl h
theorem v_zL (C : kOk g X cc nL own rt fr lo rv w1) (hX : ∀ U, gX g U → SX g U) {a : Nat} (hdg : decode cc pc = .ok (.arraylength, 1)) {A : Int32 → Option β} (hF : kob (zL g w a) A = some z) (kk : ∀ x, A x = some z → kV g X nL w (pc + 1) lv (.int x :: st)) : kV g X nL w pc lv (.ref a :: st) := by
  have hS := (hX _ C.2.2.2.2.2.1.2.2.1).2.2.2.2.2.2.2.1
  have key : ∀ i, i < 2 → A (Int32.ofNat (([0, 4] : List Nat).getD i 0)) = some z → kV g X nL w pc lv (.ref (gT g (11 + 2 * i)) :: st) := by
    intro i hi hA
    obtain ⟨cell, e1, e2, e3, e4, e5, e6, e7⟩ := (hS.1 i hi).2.2.2
    have kk := kk _ hA
    intro H locs ls a1 b h
    exact W.alen C.1 C.2.1 (by rw [a1.2.2.2.2 _ (Nat.not_le.mp e7)]; exact e1) e2 e5 rfl rfl hdg (kk H locs ls a1 b h)
  obtain ⟨x, h1, h2⟩ := kob_of hF
  unfold zL at h1
  by_cases c0 : a = gT g 11
  · rw [if_pos c0] at h1; cases h1
    rw [c0]; exact key 0 (by decide) h2
  · rw [if_neg c0] at h1
    by_cases c1 : a = gT g 13
    · rw [if_pos c1] at h1; cases h1
      rw [c1]; exact key 1 (by decide) h2
    · rw [if_neg c1] at h1
      exact v_aL C (t := 2) rfl hdg (A := fun x => some x) (z := x) (by rw [h1]; rfl) (fun y hy => by cases hy; exact kk _ h2)
theorem v_zI (C : kOk g X cc nL own rt fr lo rv w1) (hX : ∀ U, gX g U → SX g U) {a : Nat} {i : Int32} (hdg : decode cc pc = .ok (.baload, 1)) {A : Int32 → Option β} (hF : kob (zI g w a i) A = some z) (kk : ∀ x, A x = some z → kV g X nL w (pc + 1) lv (.int x :: st)) : kV g X nL w pc lv (.int i :: .ref a :: st) := by
  obtain ⟨x, h1, h2⟩ := kob_of hF
  unfold zI at h1
  by_cases c0 : a = gT g 13
  · rw [if_pos c0] at h1
    obtain ⟨h3, h4⟩ := k_ite h1
    cases h4
    obtain ⟨cell, e1, e2, e3, e4, e5, e6, e7⟩ := ((hX _ C.2.2.2.2.2.1.2.2.1).2.2.2.2.2.2.2.1.1 1 (by decide)).2.2.2
    have hin := kin_vp h3
    have hlt : i.toNatClampNeg < 4 := Nat.not_le.mp fun q => hin (Or.inr q)
    have kk := kk _ h2
    have e4 : 4 ≤ cell.slots.size := e4
    intro H locs ls a1 b h
    rw [c0]
    exact W.bald (v := .int (([105, 102, 98, 104] : List Int32).getD i.toNatClampNeg 0)) C.1 C.2.1 (by rw [a1.2.2.2.2 _ (Nat.not_le.mp e7)]; exact e1) e2 e3 (fun q => by rcases q with q | q; exact hin (Or.inl q); omega) (e6 _ hlt) rfl rfl hdg (kk H locs ls a1 b h)
  · rw [if_neg c0] at h1
    exact v_aIb C hdg (A := fun x => some x) (z := x) (by rw [h1]; rfl) (fun y hy => by cases hy; exact kk _ h2)
theorem v_ldcS (C : kOk g X cc nL own rt fr lo rv w1) {tx : String} {index q : Nat} (hZ : vk_R own index tx q (xs X)) (hdg : decode cc pc = .ok (.ldc index, 2)) (kk : kV g X nL w (pc + 2) lv (.ref q :: st)) : kV g X nL w pc lv st := fun H locs ls a1 b h => va_ldcS C.1 C.2.1 C.2.2.2.1 hZ hdg (kk H locs ls a1 b h)
theorem v_callVR (C : kOk g X cc nL own rt fr lo rv w1) {index : Nat} {y : MethodName} {b : ByteArray} {mL n : Nat} {ret : Option FieldType} (L : kLV own index y b mL ret n) {fr2 lo2 : Nat} {a : Nat} {As : List Value} {r : Option Value} {w2 : Wd} {st0 : List Value} (hrc : kRc g X w y.cls a) (hM : kMt (xl X) g y (ws_ y b mL ret) fr2 lo2 w (.ref a :: As) r w2) (hR : fr2 + 1 ≤ fr ∧ 8 + (mL + 11) + lo2 ≤ lo) (hn : As.length = n) (hst : st0 = As.reverse ++ .ref a :: st) (hw : (st.map fun v => v.category).sum ≤ 8) (hdg : decode cc pc = .ok (.invokevirtual index, 3))
    (k : kV g X nL w2 (pc + 3) lv (r.toList ++ st)) : kV g X nL w pc lv st0 := by
  refine v_run (mc := gcc g - w.2.1) (ms := gcs g - w.2.2) (a0 := (Value.ref a :: As).toArray) (fun H locs ls a1 h z1 z2 => ?_) k
  obtain ⟨hx, hb, hml, hown, hts, hG, -, -, ⟨r1, r2, r3, r4⟩, -⟩ := C
  have c1 := a1.2.2.2.1.2.1
  have c2 := a1.2.2.2.1.2.2
  refine va_runV (As := As) ⟨hx, hb, hml, hown, hts⟩ hM (cwV n hts (lw_V L.1 L.2.1 L.2.2.1 L.2.2.2.1 L.2.2.2.2.1) rfl rfl rfl ⟨rfl, L.2.2.2.2.2⟩ ?_) ⟨Pk_blind, hrc H a1, Pk_at hG a1⟩ rfl hn h.1 hst (lv_room hw) hdg ?_
  · rw [r1, r2]; exact hR
  · rw [r3, r4]; exact ⟨by omega, by omega⟩
theorem c_callVRi (C : kOk g X cc nL own rt fr lo rv w1) {index : Nat} {y : MethodName} {b : ByteArray} {mL n : Nat} {ret : Option FieldType} (L : kLV own index y b mL ret n) {a : Nat} (hrc : kRc g X w y.cls a) {fr2 lo2 : Nat} {As st0 : List Value} {f : Option (Int32 × Wd)} (hM : ∀ r w2, f = some (r, w2) → kMt (xl X) g y (ws_ y b mL ret) fr2 lo2 w (.ref a :: As) (some (.int r)) w2) (hR : fr2 + 1 ≤ fr ∧ 8 + (mL + 11) + lo2 ≤ lo) (hn : As.length = n) (hst : st0 = As.reverse ++ .ref a :: st) (hw : (st.map fun v => v.category).sum ≤ 8) (hdg : decode cc pc = .ok (.invokevirtual index, 3)) {A : Int32 → Wd → Option β} (hF : kb f A = some z) (k : ∀ r w2, A r w2 = some z → kV g X nL w2 (pc + 3) lv (.int r :: st)) : kV g X nL w pc lv st0 := by
  obtain ⟨r, w2, h1, h2⟩ := kb_of hF
  exact v_callVR C L hrc (hM r w2 h1) hR hn hst hw hdg (k r w2 h2)
theorem c_callVRv (C : kOk g X cc nL own rt fr lo rv w1) {index : Nat} {y : MethodName} {b : ByteArray} {mL n : Nat} {ret : Option FieldType} (L : kLV own index y b mL ret n) {a : Nat} (hrc : kRc g X w y.cls a) {fr2 lo2 : Nat} {As st0 : List Value} {f : Option (Unit × Wd)} (hM : ∀ r w2, f = some (r, w2) → kMt (xl X) g y (ws_ y b mL ret) fr2 lo2 w (.ref a :: As) none w2) (hR : fr2 + 1 ≤ fr ∧ 8 + (mL + 11) + lo2 ≤ lo) (hn : As.length = n) (hst : st0 = As.reverse ++ .ref a :: st) (hw : (st.map fun v => v.category).sum ≤ 8) (hdg : decode cc pc = .ok (.invokevirtual index, 3)) {A : Unit → Wd → Option β} (hF : kb f A = some z) (k : ∀ r w2, A r w2 = some z → kV g X nL w2 (pc + 3) lv st) : kV g X nL w pc lv st0 := by
  obtain ⟨r, w2, h1, h2⟩ := kb_of hF
  exact v_callVR C L hrc (hM r w2 h1) hR hn hst hw hdg (k r w2 h2)
/-- a superclass's method by invokespecial -/
def kLP (own : String) (index : Nat) (Cn : String) (y : MethodName) (b : ByteArray) (mL : Nat) (ret : Option FieldType) (n : Nat) : Prop :=
  Cond.methodLink own index y ∈ lw_all ∧ Cond.sameMethod y.cls y.cls y.name y.desc ∈ lw_all ∧ Cond.superclass own y.cls ∈ lw_all ∧ Cond.instanceMethod y ∈ lw_all ∧ Cond.initialized y.cls ∈ lw_all ∧ Cond.code y b mL ret ∈ lw_all ∧ (y.name ≠ "<init>" ∧ (parseMethodDescriptor y.desc).map (fun d => d.parameters.length) = some n) ∧ Cn = own
theorem v_callP (C : kOk g X cc nL own rt fr lo rv w1) {index : Nat} {Cn : String} {y : MethodName} {b : ByteArray} {mL n : Nat} {ret : Option FieldType} (L : kLP own index Cn y b mL ret n) {fr2 lo2 : Nat} {a ci N : Nat} {T : u_T} (hc : kcl[ci]? = some (Cn, T, N)) {As : List Value} {r : Option Value} {w2 : Wd} {st0 : List Value} (hi : oIs w a ci = true) (hM : kMt (xl X) g y (ws_ y b mL ret) fr2 lo2 w (.ref a :: As) r w2) (hR : fr2 + 1 ≤ fr ∧ 8 + (mL + 11) + lo2 ≤ lo) (hn : As.length = n) (hst : st0 = As.reverse ++ .ref a :: st) (hw : (st.map fun v => v.category).sum ≤ 8) (hdg : decode cc pc = .ok (.invokespecial index, 3))
    (k : kV g X nL w2 (pc + 3) lv (r.toList ++ st)) : kV g X nL w pc lv st0 := by
  have hrc := kRc.of C hc hi
  refine v_run (mc := gcc g - w.2.1) (ms := gcs g - w.2.2) (a0 := (Value.ref a :: As).toArray) (fun H locs ls a1 h z1 z2 => ?_) k
  obtain ⟨hx, hb, hml, hown, hts, hG, -, -, ⟨r1, r2, r3, r4⟩, -⟩ := C
  have c1 := a1.2.2.2.1.2.1
  have c2 := a1.2.2.2.1.2.2
  obtain ⟨l1, l2, l3, l4, l5, l6, l7, l8⟩ := L
  obtain ⟨hS, hfc, kC, hkC, hkind⟩ := hG.1.1 ci _ hc
  refine va_runSU (As := As) (C := Cn) ⟨hfc, kC, hkC, hkind⟩ ⟨hx, hb, hml, hown, hts⟩ hM ⟨⟨rfl, rfl, by rw [r1]; exact hR.1, by rw [r2]; exact hR.2, pay_in hts (lw_meth l6), List.mem_cons_self⟩, hts _ l1, hts _ l2, hts _ l3, hts _ l4, hts _ l5, hts _ l6, l7.1, fun sig hs => ?_⟩ ⟨Pk_blind, hrc H a1, Pk_at hG a1⟩ rfl hn h.1 hst (lv_room hw) hdg ?_
  · have h2 := l7.2
    rw [hs] at h2
    exact (Option.some.inj h2).symm
  · rw [r3, r4]; exact ⟨by omega, by omega⟩
theorem c_callPi (C : kOk g X cc nL own rt fr lo rv w1) {index : Nat} {Cn : String} {y : MethodName} {b : ByteArray} {mL n : Nat} {ret : Option FieldType} (L : kLP own index Cn y b mL ret n) {a ci N : Nat} {T : u_T} (hc : kcl[ci]? = some (Cn, T, N)) (hi : oIs w a ci = true) {fr2 lo2 : Nat} {As st0 : List Value} {f : Option (Int32 × Wd)} (hM : ∀ r w2, f = some (r, w2) → kMt (xl X) g y (ws_ y b mL ret) fr2 lo2 w (.ref a :: As) (some (.int r)) w2) (hR : fr2 + 1 ≤ fr ∧ 8 + (mL + 11) + lo2 ≤ lo) (hn : As.length = n) (hst : st0 = As.reverse ++ .ref a :: st) (hw : (st.map fun v => v.category).sum ≤ 8) (hdg : decode cc pc = .ok (.invokespecial index, 3)) {A : Int32 → Wd → Option β} (hF : kb f A = some z) (k : ∀ r w2, A r w2 = some z → kV g X nL w2 (pc + 3) lv (.int r :: st)) : kV g X nL w pc lv st0 := by
  obtain ⟨r, w2, h1, h2⟩ := kb_of hF
  exact v_callP C L hc hi (hM r w2 h1) hR hn hst hw hdg (k r w2 h2)
theorem c_callPr (C : kOk g X cc nL own rt fr lo rv w1) {index : Nat} {Cn : String} {y : MethodName} {b : ByteArray} {mL n : Nat} {ret : Option FieldType} (L : kLP own index Cn y b mL ret n) {a ci N : Nat} {T : u_T} (hc : kcl[ci]? = some (Cn, T, N)) (hi : oIs w a ci = true) {fr2 lo2 : Nat} {As st0 : List Value} {f : Option (Nat × Wd)} (hM : ∀ r w2, f = some (r, w2) → kMt (xl X) g y (ws_ y b mL ret) fr2 lo2 w (.ref a :: As) (some (.ref r)) w2) (hR : fr2 + 1 ≤ fr ∧ 8 + (mL + 11) + lo2 ≤ lo) (hn : As.length = n) (hst : st0 = As.reverse ++ .ref a :: st) (hw : (st.map fun v => v.category).sum ≤ 8) (hdg : decode cc pc = .ok (.invokespecial index, 3)) {A : Nat → Wd → Option β} (hF : kb f A = some z) (k : ∀ r w2, A r w2 = some z → kV g X nL w2 (pc + 3) lv (.ref r :: st)) : kV g X nL w pc lv st0 := by
  obtain ⟨r, w2, h1, h2⟩ := kb_of hF
  exact v_callP C L hc hi (hM r w2 h1) hR hn hst hw hdg (k r w2 h2)
/-- a private method of the class's own, the receiver of a subclass -/
def kLQ (own : String) (index : Nat) (y : MethodName) (b : ByteArray) (mL : Nat) (ret : Option FieldType) (n : Nat) : Prop :=
  Cond.methodLink own index y ∈ lw_all ∧ Cond.sameMethod y.cls y.cls y.name y.desc ∈ lw_all ∧ Cond.privateMethod y ∈ lw_tbl ∧ Cond.instanceMethod y ∈ lw_all ∧ Cond.initialized y.cls ∈ lw_all ∧ Cond.code y b mL ret ∈ lw_all ∧ kD y n
theorem v_callQ (C : kOk g X cc nL own rt fr lo rv w1) {index : Nat} {Cn : String} {y : MethodName} {b : ByteArray} {mL n : Nat} {ret : Option FieldType} (L : kLQ own index y b mL ret n) {fr2 lo2 : Nat} {a : Nat} {As : List Value} {r : Option Value} {w2 : Wd} {st0 : List Value} (hrc : kRc g X w Cn a) (hM : kMt (xl X) g y (ws_ y b mL ret) fr2 lo2 w (.ref a :: As) r w2) (hR : fr2 + 1 ≤ fr ∧ 8 + (mL + 11) + lo2 ≤ lo) (hn : As.length = n) (hst : st0 = As.reverse ++ .ref a :: st) (hw : (st.map fun v => v.category).sum ≤ 8) (hdg : decode cc pc = .ok (.invokevirtual index, 3))
    (k : kV g X nL w2 (pc + 3) lv (r.toList ++ st)) : kV g X nL w pc lv st0 := by
  refine v_run (mc := gcc g - w.2.1) (ms := gcs g - w.2.2) (a0 := (Value.ref a :: As).toArray) (fun H locs ls a1 h z1 z2 => ?_) k
  obtain ⟨hx, hb, hml, hown, hts, hG, -, -, ⟨r1, r2, r3, r4⟩, -⟩ := C
  have c1 := a1.2.2.2.1.2.1
  have c2 := a1.2.2.2.1.2.2
  obtain ⟨l1, l2, l3, l4, l5, l6, l7⟩ := L
  have hK : Back (xl X) (xR X) (xp X) (xe X) (xb X) (xs X) (xa X) y 3 8 (PreOf (xR X) (gcc g - w.2.1) (gcs g - w.2.2) (Pk g w (.ref a :: As))) (PostOf (Qk g r w2) (gcc g - w.2.1) (gcs g - w.2.2) (kfree g)) :=
    back_of (bytes := b) (maxL := mL) (ret := ret) hM Pk_blind rfl rfl (by rw [r1]; exact hR.1) (by rw [r2]; exact hR.2) (pay_in hts (lw_meth l6)) List.mem_cons_self (fun a' U hW => word_at hW (Or.inl (by first | rfl | simp [Cond.onTables, Cond.keeps, Cond.steady])) (hts _ l5))
  obtain ⟨cellB, hcB, hoB, hclB⟩ := hrc H a1
  intro T hT Y
  obtain ⟨cn, ck, q1, hcn, hck, hni, hf, hn1⟩ := Cond.sameMethod_found (hts _ l2)
  obtain ⟨mk, methM, hnamed, hmethM, hstM, habM⟩ := Cond.instanceMethod_spec (hts _ l4)
  obtain ⟨methM', cM, hmethM', -, -, -, -, -, -, hsigM⟩ := Cond.code_spec hnamed (hts _ l6)
  cases hmethM.symm.trans hmethM'
  have hcls : cn = mk.cls := Option.some.inj (hcn.symm.trans (findClass_of_methodNamed hnamed))
  rw [hcls] at hck
  have hselP : selectMethod (xe X).platform (xs X).vm cellB.cls mk = .method mk := selectMethod_private hmethM (Cond.privateMethod_at (va_Nw.use (A := xa X) rfl (hG.2.1 _ l3 rfl)) mk methM hnamed hmethM)
  have hlen : As.length = methM.sig.parameters.length := by
    have h2 := l7.2.2
    rw [hsigM] at h2
    exact hn.trans (Option.some.inj h2).symm
  obtain ⟨vm₁, X₁, hstep₁⟩ := Y.invokevirtualUp hx hown (hts _ l1) (hts _ l2) ⟨l7.1, l7.2.1⟩ hnamed hmethM hstM (a := a) (cell := cellB) (by rw [hT]; exact hcB)
    (fun z h => by rw [h] at hoB; cases hoB) hselP hmethM habM hck hni (g := F0 (xm X) pc ls st0) rfl (argsL := As) (rest := st) hlen hst (by rw [hb]; exact hdg)
  obtain ⟨v, B, X', hpost, hsteps⟩ := hK (xm X) (xh X) (xc X) ⟨T.setVm vm₁, locs, _, _⟩ { F0 (xm X) pc ls st0 with stack := st } (.invokevirtual index) mk (Value.ref a :: As).toArray X₁ rfl (h.1.trans hml.symm) (by rw [hb]; exact hdg) (lv_room hw) (X₁.named hnamed)
    ⟨by rw [r3]; show w.2.1 - (xs X).heap.size + (gcc g - w.2.1) ≤ _; omega, by rw [r4]; show w.2.2 - khs (xs X).heap + (gcs g - w.2.2) ≤ _; omega, Pk_at hG a1 (T.setVm vm₁) hT X₁.warmed⟩
  obtain ⟨U', q2, c2', s2⟩ := B
  obtain ⟨g', mk', t, L, e1, e2, hq, h1, hL, h2, h3⟩ := hpost
  dsimp only [Pt.U, Pt.locs, Pt.cells, Pt.slots] at X' e1 e2 h1 h2 h3 hsteps
  subst h1; subst h2; subst h3
  exact ⟨v, (T.setVm vm₁).calling g' mk' (Value.ref a :: As).toArray, t, U', L, hT, X', hL, e1, e2, hq, fun target ht => hstep₁ _ fun acts => by rw [doInvoke_state]; exact hsteps.trans ht⟩
theorem c_callQi (C : kOk g X cc nL own rt fr lo rv w1) {index : Nat} {Cn : String} {y : MethodName} {b : ByteArray} {mL n : Nat} {ret : Option FieldType} (L : kLQ own index y b mL ret n) {a : Nat} (hrc : kRc g X w Cn a) {fr2 lo2 : Nat} {As st0 : List Value} {f : Option (Int32 × Wd)} (hM : ∀ r w2, f = some (r, w2) → kMt (xl X) g y (ws_ y b mL ret) fr2 lo2 w (.ref a :: As) (some (.int r)) w2) (hR : fr2 + 1 ≤ fr ∧ 8 + (mL + 11) + lo2 ≤ lo) (hn : As.length = n) (hst : st0 = As.reverse ++ .ref a :: st) (hw : (st.map fun v => v.category).sum ≤ 8) (hdg : decode cc pc = .ok (.invokevirtual index, 3)) {A : Int32 → Wd → Option β} (hF : kb f A = some z) (k : ∀ r w2, A r w2 = some z → kV g X nL w2 (pc + 3) lv (.int r :: st)) : kV g X nL w pc lv st0 := by
  obtain ⟨r, w2, h1, h2⟩ := kb_of hF
  exact v_callQ C L hrc (hM r w2 h1) hR hn hst hw hdg (k r w2 h2)
theorem c_callQv (C : kOk g X cc nL own rt fr lo rv w1) {index : Nat} {Cn : String} {y : MethodName} {b : ByteArray} {mL n : Nat} {ret : Option FieldType} (L : kLQ own index y b mL ret n) {a : Nat} (hrc : kRc g X w Cn a) {fr2 lo2 : Nat} {As st0 : List Value} {f : Option (Unit × Wd)} (hM : ∀ r w2, f = some (r, w2) → kMt (xl X) g y (ws_ y b mL ret) fr2 lo2 w (.ref a :: As) none w2) (hR : fr2 + 1 ≤ fr ∧ 8 + (mL + 11) + lo2 ≤ lo) (hn : As.length = n) (hst : st0 = As.reverse ++ .ref a :: st) (hw : (st.map fun v => v.category).sum ≤ 8) (hdg : decode cc pc = .ok (.invokevirtual index, 3)) {A : Unit → Wd → Option β} (hF : kb f A = some z) (k : ∀ r w2, A r w2 = some z → kV g X nL w2 (pc + 3) lv st) : kV g X nL w pc lv st0 := by
  obtain ⟨r, w2, h1, h2⟩ := kb_of hF
  exact v_callQ C L hrc (hM r w2 h1) hR hn hst hw hdg (k r w2 h2)
theorem v_cpB (C : kOk g X cc nL own rt fr lo rv w1) (_ : ∀ U, gX g U → SX g U) {index src dst : Nat} {sp dp n : Int32} (hq : Cond.methodLink own index arraycopyName ∈ lw_all) (hR : 1 ≤ fr ∧ 60 ≤ lo) (hw : (st.map fun v => v.category).sum ≤ 8) (hdg : decode cc pc = .ok (.invokestatic index, 3)) {A : Wd → Option β} (hF : kob (aCpB g w src sp dst dp n) A = some z) (kk : ∀ w2, A w2 = some z → kV g X nL w2 (pc + 3) lv st) : kV g X nL w pc lv (.int n :: .int dp :: .ref dst :: .int sp :: .ref src :: st) := by
  obtain ⟨w2, h1, h2⟩ := kob_of hF
  obtain ⟨x, g1, h3⟩ := kob_of h1
  obtain ⟨f, g2, h4⟩ := kob_of h3
  obtain ⟨y, g3, h5⟩ := kob_of h4
  obtain ⟨f2, g4, h6⟩ := kob_of h5
  obtain ⟨⟨⟨i1, i2, i3, i4, i5⟩, i6⟩, h8⟩ := k_ite h6
  cases h8
  have kk := kk _ h2
  obtain ⟨n0, rfl⟩ : ∃ n0, x = (n0, .inl f) := ⟨x.1, xI_of g2⟩
  obtain ⟨n1, rfl⟩ : ∃ n1, y = (n1, .inl f2) := ⟨y.1, xI_of g4⟩
  have hs := aC_of g1
  have hd := aC_of g3
  intro H locs ls a1 b hl
  obtain ⟨hx, hb, hml, hown, hts, hG, -, -, ⟨r1, r2, r3, r4⟩, -⟩ := C
  have hK := hG.1
  have nn : ∀ z : Int32, ¬ z < 0 → z.toInt = (z.toNatClampNeg : Int) := by
    intro z hz
    have hz0 : (0 : Int) ≤ z.toInt := by
      have := Int32.not_lt.mp hz
      simpa using Int32.le_iff_toInt_le.mp this
    show z.toInt = ((z.toInt.toNat : Nat) : Int)
    omega
  intro T hT Y
  have hc0 : H[src]? = some (vp_cell (gA g 2) (n0, .inl f)) := (a1.1 src _ hs).1
  have hc1 : H[dst]? = some (vp_cell (gA g 2) (n1, .inl f2)) := (a1.1 dst _ hd).1
  have haB := (a1.1 dst _ hd).2
  have ht2 : (kty g)[2]? = some (gA g 2, .byte) := kty_at rfl
  obtain ⟨-, k0, hk0, cm0, hkk0⟩ := (hK.2 2 _ ht2).1 n0 (fun j => .int (f j))
  obtain ⟨-, k1, hk1, cm1, hkk1⟩ := (hK.2 2 _ ht2).1 n1 (fun j => .int (f2 j))
  obtain ⟨vm', X', step⟩ := Y.arraycopy hx hown (hts _ hq) (hts _ q476) (hts _ q475) (hts _ q94) (src := src) (dst := dst) (cs := vp_cell (gA g 2) (n0, .inl f)) (cd := vp_cell (gA g 2) (n1, .inl f2)) (srcPos := sp) (destPos := dp) (n := n) (by rw [hT]; exact hc0) (by rw [hT]; exact hc1)
    (fun _ h => by cases h) (fun _ h => by cases h) (fun h => by cases h) (fun h => by cases h) hk0 hk1 hkk0 hkk1 rfl i1 i2 i3
    (by rw [nn sp i1, nn n i3]; show ¬ _ > ((arrV (gA g 2) n0 (fun j => .int (f j))).slots.size : Int); rw [arrV_size]; omega)
    (by rw [nn dp i2, nn n i3]; show ¬ _ > ((arrV (gA g 2) n1 (fun j => .int (f2 j))).slots.size : Int); rw [arrV_size]; omega)
    (fun vm₁ _ i hi => by
      have e : (vp_cell (gA g 2) (n0, .inl f)).slots.getD (sp.toNatClampNeg + i) .null = .int (f (sp.toNatClampNeg + i)) := by
        show (arrV (gA g 2) n0 (fun j => .int (f j))).slots.getD _ _ = _
        rw [Array.getD_eq_getD_getElem?, arrV_read _ _ (by omega)]
        rfl
      refine ⟨?_, ?_⟩
      · rw [e]
        exact (List.all_eq_true.mp i6) i (List.mem_range.mpr hi)
      · rw [e]
        exact trivial)
    (g := F0 (xm X) pc ls (.int n :: .int dp :: .ref dst :: .int sp :: .ref src :: st)) rfl (by rw [hml]; exact hl.1) (rest := st) rfl (by rw [hb]; exact hdg) (by rw [r1]; exact hR.1) (by
      rw [r2]
      have : nativeFrameWords "java/lang/System" "arraycopy" 5 + 11 ≤ 40 := by decide
      show 2 * 0 + _ + _ ≤ _
      omega)
  have e1 : copied (vp_cell (gA g 2) (n0, .inl f)) (vp_cell (gA g 2) (n1, .inl f2)) sp dp n = vp_cell (gA g 2) (n1, .inl (va_cpy f f2 sp.toNatClampNeg dp.toNatClampNeg n.toNatClampNeg)) := by
    exact va_copied (fun z => .int z) (gA g 2) (gA g 2) f f2 i4
  rw [e1] at X' step
  have hlt : dst < H.size := (Array.getElem?_eq_some_iff.mp hc1).1
  have hheap : ((T.setVm vm').setCell dst (vp_cell (gA g 2) (n1, .inl (va_cpy f f2 sp.toNatClampNeg dp.toNatClampNeg n.toNatClampNeg)))).heap = H.setIfInBounds dst (vp_cell (gA g 2) (n1, .inl (va_cpy f f2 sp.toNatClampNeg dp.toNatClampNeg n.toNatClampNeg))) := by rw [← hT]; rfl
  have oq : ∀ q : Nat, q ≠ dst → (H.setIfInBounds dst (vp_cell (gA g 2) (n1, .inl (va_cpy f f2 sp.toNatClampNeg dp.toNatClampNeg n.toNatClampNeg))))[q]? = H[q]? := fun q hq => by simp [Array.getElem?_setIfInBounds, Ne.symm hq]
  have es : (H.setIfInBounds dst (vp_cell (gA g 2) (n1, .inl (va_cpy f f2 sp.toNatClampNeg dp.toNatClampNeg n.toNatClampNeg))))[dst]? = some (vp_cell (gA g 2) (n1, .inl (va_cpy f f2 sp.toNatClampNeg dp.toNatClampNeg n.toNatClampNeg))) := by simp [Array.getElem?_setIfInBounds, hlt]
  obtain ⟨t, b1, b2⟩ := kk _ _ ls (a1.set haB es (by simp) oq (fun c hc' => by
      cases hc1.symm.trans hc'
      exact ⟨_, es, (arrV_size _ _ _).trans (arrV_size _ _ _).symm⟩)) (fun q hq => by
      rcases List.mem_append.mp hq with h | h
      · exact b q h
      · obtain ⟨z, -, hz⟩ := List.mem_map.mp h
        rw [← hz]
        exact haB) hl _ hheap X'
  exact ⟨t, step t b1, b2⟩
end KL
