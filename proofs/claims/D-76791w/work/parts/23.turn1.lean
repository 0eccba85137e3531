set_option maxRecDepth 100000
def Ftq (g : GT) (a : Nat) : Option Int32 := if a = gT g 0 then some 0 else if a = gT g 1 then some 1 else if a = gT g 2 then some 3 else if a = gT g 3 then some 2 else none
def Ftt (g : GT) (a : Nat) : Option Int32 := if a = gT g 0 then some 0 else if a = gT g 1 then some 1 else if a = gT g 2 then some (-1) else if a = gT g 3 then some 2 else none
def Ftl (g : GT) (a : Nat) (x : Int32) : Option Int32 := if a = gT g 0 then some 0 else if a = gT g 1 then some ((1 : Int32) + x) else if a = gT g 2 then some ((2 : Int32) - x) else if a = gT g 3 then some 3 else none
def Fto (g : GT) (a : Nat) : Option Nat := if a = gT g 0 then some (gT g 0) else if a = gT g 1 then some (gT g 2) else if a = gT g 2 then some (gT g 1) else if a = gT g 3 then some (gT g 3) else none
def Ftn (g : GT) (a : Nat) : Option Int32 := if a = gT g 0 then some 0 else if a = gT g 1 then some 1 else if a = gT g 2 then some 2 else if a = gT g 3 then some 3 else none
section KT0
variable {g : GT} {X : CxT} {cc : ByteArray} {nL : Nat} {own : String} {rt : Option FieldType} {fr lo : Nat} {rv : Option Value} {w1 w : Wd} {pc : Nat} {lv : List (Option Value)} {st : List Value} {β : Type} {z : β}
theorem kRcT (C : kOk g X cc nL own rt fr lo rv w1) (hX : ∀ U, gX g U → SX g U) (k : Nat) (hk : k < 4) : kRc g X w (ktc k) (gT g k) := by
  intro H a1
  obtain ⟨cell, h1, h2, h3, h4⟩ := ((hX _ C.2.2.2.2.2.1.2.2.1).2.2.2.2.1 k hk).1
  exact ⟨cell, by rw [a1.2.2.2.2 _ (Nat.not_le.mp h4)]; exact h1, h2, h3⟩
theorem v_tnum (C : kOk g X cc nL own rt fr lo rv w1) (hX : ∀ U, gX g U → SX g U) {index a : Nat} (hq : Cond.fieldLink own index "CardLoom$Turning" "number" "I" ∈ lw_all ∨ ∃ host, Cond.fieldLinkNest own index "CardLoom$Turning" "number" "I" host ∈ lw_tbl) (hdg : decode cc pc = .ok (.getfield index, 3)) {A : Int32 → Option β} (hF : kob (Ftn g a) A = some z) (kk : ∀ x, A x = some z → kV g X nL w (pc + 3) lv (.int x :: st)) : kV g X nL w pc lv (.ref a :: st) := by
  have key : ∀ k, k < 4 → a = gT g k → A (Int32.ofNat k) = some z → kV g X nL w pc lv (.ref a :: st) := by
    intro k hk ha hA
    subst ha
    obtain ⟨cf, kc, fi, f, cell, h1, h2, h3, h4, h5, h6⟩ := ((hX _ C.2.2.2.2.2.1.2.2.1).2.2.2.2.1 k hk).2
    have kk := kk _ hA
    intro H locs ls a1 b h
    have hc : H[gT g k]? = some cell := by rw [a1.2.2.2.2 _ (Nat.not_le.mp h6)]; exact h3
    rcases hq with hq | ⟨host, hq⟩
    · exact W.getf C.1 C.2.1 C.2.2.2.1 (C.2.2.2.2.1 _ hq) h1 h2 hc h4 h5 rfl rfl hdg (kk H locs ls a1 b h)
    · exact va_Wgetf C.1 C.2.1 C.2.2.2.1 (va_Nw.use rfl (C.2.2.2.2.2.1.2.1 _ hq rfl)) h1 h2 hc h4 h5 rfl rfl hdg (kk H locs ls a1 b h)
  obtain ⟨x, h1, h2⟩ := kob_of hF
  unfold Ftn at h1
  by_cases c0 : a = gT g 0
  · rw [if_pos c0] at h1; cases h1; exact key 0 (by decide) c0 h2
  · rw [if_neg c0] at h1
    by_cases c1 : a = gT g 1
    · rw [if_pos c1] at h1; cases h1; exact key 1 (by decide) c1 h2
    · rw [if_neg c1] at h1
      by_cases c2 : a = gT g 2
      · rw [if_pos c2] at h1; cases h1; exact key 2 (by decide) c2 h2
      · rw [if_neg c2] at h1
        by_cases c3 : a = gT g 3
        · rw [if_pos c3] at h1; cases h1; exact key 3 (by decide) c3 h2
        · rw [if_neg c3] at h1; cases h1
theorem any_T (C : kOk g X cc nL own rt fr lo rv w1) (hX : ∀ U, gX g U → SX g U) {a : Nat} (h : kisT g a = true) : ∀ H, kRp g w H → va_Any "CardLoom$Turning" (xs X) H a := by
  have key : ∀ k, k < 4 → Cond.castable (ktc k) "CardLoom$Turning" ∈ lw_tbl → ∀ H, kRp g w H → va_Any "CardLoom$Turning" (xs X) H (gT g k) := by
    intro k hk hw H a1
    obtain ⟨cell, h1, h2, h3⟩ := kRcT C hX k hk H a1
    obtain ⟨kC, hkC, -⟩ := Vm.findClass_spec h3
    refine ⟨cell, h1, h2, ⟨kC, hkC⟩, fun comp h4 => ?_⟩
    obtain ⟨c1, t1, f1, f2, f3⟩ := Cond.castable_spec (va_Nw.use (A := xa X) rfl (C.2.2.2.2.2.1.2.1 _ hw rfl))
    cases h4.symm.trans f2
    cases h3.symm.trans f1
    exact f3
  simp only [kisT, Bool.or_eq_true, decide_eq_true_eq] at h
  rcases h with ((h | h) | h) | h
  · rw [h]; exact key 0 (by decide) q2788
  · rw [h]; exact key 1 (by decide) q2789
  · rw [h]; exact key 2 (by decide) q2790
  · rw [h]; exact key 3 (by decide) q2791
theorem any_same (C : kOk g X cc nL own rt fr lo rv w1) {a ci N : Nat} {Cn : String} {Tt : u_T} (hc : kcl[ci]? = some (Cn, Tt, N)) (h : oIs w a ci = true) : ∀ H, kRp g w H → va_Any Cn (xs X) H a := by
  obtain ⟨fs, h3⟩ := oIs_of h
  intro H a1
  exact va_rAny C.2.2.2.2.2.1.1 (kP1 a1 h3) (q0 := 0) rfl hc (fun comp c0 h1 h2 => by
    cases h1.symm.trans h2
    have hca : ClassAt (xs X) Cn ((gD g).1 ci) := (C.2.2.2.2.2.1.1.1 ci _ hc).2
    cases h1.symm.trans hca.1
    exact va_assign hca)
end KT0
section KT1
variable {g : GT} {X : CxT} {cc : ByteArray} {nL : Nat} {own : String} {rt : Option FieldType} {fr lo : Nat} {rv : Option Value} {w1 w : Wd} {pc : Nat} {lv : List (Option Value)} {st : List Value} {β : Type} {z : β}
theorem v_tquarters (C : kOk g X cc nL own rt fr lo rv w1) (hX : ∀ U, gX g U → SX g U) {index a : Nat} (hq : Cond.methodLink own index (⟨"CardLoom$Turning", "quarters", "()I"⟩ : MethodName) ∈ lw_all) (hR : 2 ≤ fr ∧ 125 ≤ lo) (hw : (st.map fun v => v.category).sum ≤ 8) (hdg : decode cc pc = .ok (.invokevirtual index, 3)) {A : Int32 → Option β} (hF : kob (Ftq g a) A = some z) (kk : ∀ x, A x = some z → kV g X nL w (pc + 3) lv (.int x :: st)) : kV g X nL w pc lv (.ref a :: st) := by
  obtain ⟨v, h1, h2⟩ := kob_of hF
  unfold Ftq at h1
  by_cases c0 : a = gT g 0
  · rw [if_pos c0] at h1; cases h1; subst c0
    exact v_callB C (Cn := ktc 0) (owner := "CardLoom$Turning") (x := (⟨"CardLoom$Turning", "quarters", "()I"⟩ : MethodName)) (y := yX14_quarters) (b := cX14_quarters) (mL := 1) (ret := (some .int)) (n := 0) (As := []) (r := some (.int _)) ⟨hq, q925, q926, q927, q928, Or.inl q924, by decide, by decide, by decide +kernel⟩ (kRcT C hX 0 (by decide)) (fr2 := 1) (lo2 := 100) (bX14_quarters (xl X) g hX 0 (gT g 0) w _ w rfl) (by omega) rfl rfl hw hdg (kk _ h2)
  · rw [if_neg c0] at h1
    by_cases c1 : a = gT g 1
    · rw [if_pos c1] at h1; cases h1; subst c1
      exact v_callB C (Cn := ktc 1) (owner := "CardLoom$Turning") (x := (⟨"CardLoom$Turning", "quarters", "()I"⟩ : MethodName)) (y := yX7_quarters) (b := cX7_quarters) (mL := 1) (ret := (some .int)) (n := 0) (As := []) (r := some (.int _)) ⟨hq, q925, q929, q930, q931, Or.inl q924, by decide, by decide, by decide +kernel⟩ (kRcT C hX 1 (by decide)) (fr2 := 1) (lo2 := 100) (bX7_quarters (xl X) g hX 0 (gT g 1) w _ w rfl) (by omega) rfl rfl hw hdg (kk _ h2)
    · rw [if_neg c1] at h1
      by_cases c2 : a = gT g 2
      · rw [if_pos c2] at h1; cases h1; subst c2
        exact v_callB C (Cn := ktc 2) (owner := "CardLoom$Turning") (x := (⟨"CardLoom$Turning", "quarters", "()I"⟩ : MethodName)) (y := yX8_quarters) (b := cX8_quarters) (mL := 1) (ret := (some .int)) (n := 0) (As := []) (r := some (.int _)) ⟨hq, q925, q932, q933, q934, Or.inl q924, by decide, by decide, by decide +kernel⟩ (kRcT C hX 2 (by decide)) (fr2 := 1) (lo2 := 100) (bX8_quarters (xl X) g hX 0 (gT g 2) w _ w rfl) (by omega) rfl rfl hw hdg (kk _ h2)
      · rw [if_neg c2] at h1
        by_cases c3 : a = gT g 3
        · rw [if_pos c3] at h1; cases h1; subst c3
          exact v_callB C (Cn := ktc 3) (owner := "CardLoom$Turning") (x := (⟨"CardLoom$Turning", "quarters", "()I"⟩ : MethodName)) (y := yX15_quarters) (b := cX15_quarters) (mL := 1) (ret := (some .int)) (n := 0) (As := []) (r := some (.int _)) ⟨hq, q925, q935, q936, q937, Or.inl q924, by decide, by decide, by decide +kernel⟩ (kRcT C hX 3 (by decide)) (fr2 := 1) (lo2 := 100) (bX15_quarters (xl X) g hX 0 (gT g 3) w _ w rfl) (by omega) rfl rfl hw hdg (kk _ h2)
        · rw [if_neg c3] at h1
          cases h1
theorem v_tlean (C : kOk g X cc nL own rt fr lo rv w1) (hX : ∀ U, gX g U → SX g U) {index a : Nat} {x : Int32} (hq : Cond.methodLink own index (⟨"CardLoom$Turning", "lean", "(I)I"⟩ : MethodName) ∈ lw_all) (hR : 2 ≤ fr ∧ 125 ≤ lo) (hw : (st.map fun v => v.category).sum ≤ 8) (hdg : decode cc pc = .ok (.invokevirtual index, 3)) {A : Int32 → Option β} (hF : kob (Ftl g a x) A = some z) (kk : ∀ x, A x = some z → kV g X nL w (pc + 3) lv (.int x :: st)) : kV g X nL w pc lv (.int x :: .ref a :: st) := by
  obtain ⟨v, h1, h2⟩ := kob_of hF
  unfold Ftl at h1
  by_cases c0 : a = gT g 0
  · rw [if_pos c0] at h1; cases h1; subst c0
    exact v_callB C (Cn := ktc 0) (owner := "CardLoom$Turning") (x := (⟨"CardLoom$Turning", "lean", "(I)I"⟩ : MethodName)) (y := yX14_lean) (b := cX14_lean) (mL := 2) (ret := (some .int)) (n := 1) (As := [.int x]) (r := some (.int _)) ⟨hq, q964, q965, q966, q967, Or.inl q963, by decide, by decide, by decide +kernel⟩ (kRcT C hX 0 (by decide)) (fr2 := 1) (lo2 := 100) (bX14_lean (xl X) g hX 0 (gT g 0) x w _ w rfl) (by omega) rfl rfl hw hdg (kk _ h2)
  · rw [if_neg c0] at h1
    by_cases c1 : a = gT g 1
    · rw [if_pos c1] at h1; cases h1; subst c1
      exact v_callB C (Cn := ktc 1) (owner := "CardLoom$Turning") (x := (⟨"CardLoom$Turning", "lean", "(I)I"⟩ : MethodName)) (y := yX7_lean) (b := cX7_lean) (mL := 2) (ret := (some .int)) (n := 1) (As := [.int x]) (r := some (.int _)) ⟨hq, q964, q968, q969, q970, Or.inl q963, by decide, by decide, by decide +kernel⟩ (kRcT C hX 1 (by decide)) (fr2 := 1) (lo2 := 100) (bX7_lean (xl X) g hX 0 (gT g 1) x w _ w rfl) (by omega) rfl rfl hw hdg (kk _ h2)
    · rw [if_neg c1] at h1
      by_cases c2 : a = gT g 2
      · rw [if_pos c2] at h1; cases h1; subst c2
        exact v_callB C (Cn := ktc 2) (owner := "CardLoom$Turning") (x := (⟨"CardLoom$Turning", "lean", "(I)I"⟩ : MethodName)) (y := yX8_lean) (b := cX8_lean) (mL := 2) (ret := (some .int)) (n := 1) (As := [.int x]) (r := some (.int _)) ⟨hq, q964, q971, q972, q973, Or.inl q963, by decide, by decide, by decide +kernel⟩ (kRcT C hX 2 (by decide)) (fr2 := 1) (lo2 := 100) (bX8_lean (xl X) g hX 0 (gT g 2) x w _ w rfl) (by omega) rfl rfl hw hdg (kk _ h2)
      · rw [if_neg c2] at h1
        by_cases c3 : a = gT g 3
        · rw [if_pos c3] at h1; cases h1; subst c3
          exact v_callB C (Cn := ktc 3) (owner := "CardLoom$Turning") (x := (⟨"CardLoom$Turning", "lean", "(I)I"⟩ : MethodName)) (y := yX15_lean) (b := cX15_lean) (mL := 2) (ret := (some .int)) (n := 1) (As := [.int x]) (r := some (.int _)) ⟨hq, q964, q974, q975, q976, Or.inl q963, by decide, by decide, by decide +kernel⟩ (kRcT C hX 3 (by decide)) (fr2 := 1) (lo2 := 100) (bX15_lean (xl X) g hX 0 (gT g 3) x w _ w rfl) (by omega) rfl rfl hw hdg (kk _ h2)
        · rw [if_neg c3] at h1
          cases h1
theorem v_tother (C : kOk g X cc nL own rt fr lo rv w1) (hX : ∀ U, gX g U → SX g U) {index a : Nat} (hq : Cond.methodLink own index (⟨"CardLoom$Turning", "other", "()LCardLoom$Turning;"⟩ : MethodName) ∈ lw_all) (hR : 2 ≤ fr ∧ 125 ≤ lo) (hw : (st.map fun v => v.category).sum ≤ 8) (hdg : decode cc pc = .ok (.invokevirtual index, 3)) {A : Nat → Option β} (hF : kob (Fto g a) A = some z) (kk : ∀ x, A x = some z → kV g X nL w (pc + 3) lv (.ref x :: st)) : kV g X nL w pc lv (.ref a :: st) := by
  obtain ⟨v, h1, h2⟩ := kob_of hF
  unfold Fto at h1
  by_cases c0 : a = gT g 0
  · rw [if_pos c0] at h1; cases h1; subst c0
    exact v_callB C (Cn := ktc 0) (owner := "CardLoom$Turning") (x := (⟨"CardLoom$Turning", "other", "()LCardLoom$Turning;"⟩ : MethodName)) (y := yX1_other) (b := cX1_other) (mL := 1) (ret := (some (.object "CardLoom$Turning"))) (n := 0) (As := []) (r := some (.ref _)) ⟨hq, q644, q645, q643, q659, Or.inr ⟨q643, _, _, _, q659⟩, by decide, by decide, by decide +kernel⟩ (kRcT C hX 0 (by decide)) (fr2 := 1) (lo2 := 100) (bX1_other (xl X) g hX 0 (gT g 0) w _ w rfl) (by omega) rfl rfl hw hdg (kk _ h2)
  · rw [if_neg c0] at h1
    by_cases c1 : a = gT g 1
    · rw [if_pos c1] at h1; cases h1; subst c1
      exact v_callB C (Cn := ktc 1) (owner := "CardLoom$Turning") (x := (⟨"CardLoom$Turning", "other", "()LCardLoom$Turning;"⟩ : MethodName)) (y := yX7_other) (b := cX7_other) (mL := 1) (ret := (some (.object "CardLoom$Turning"))) (n := 0) (As := []) (r := some (.ref _)) ⟨hq, q644, q646, q647, q648, Or.inr ⟨q643, _, _, _, q659⟩, by decide, by decide, by decide +kernel⟩ (kRcT C hX 1 (by decide)) (fr2 := 1) (lo2 := 100) (bX7_other (xl X) g hX 0 (gT g 1) w _ w rfl) (by omega) rfl rfl hw hdg (kk _ h2)
    · rw [if_neg c1] at h1
      by_cases c2 : a = gT g 2
      · rw [if_pos c2] at h1; cases h1; subst c2
        exact v_callB C (Cn := ktc 2) (owner := "CardLoom$Turning") (x := (⟨"CardLoom$Turning", "other", "()LCardLoom$Turning;"⟩ : MethodName)) (y := yX8_other) (b := cX8_other) (mL := 1) (ret := (some (.object "CardLoom$Turning"))) (n := 0) (As := []) (r := some (.ref _)) ⟨hq, q644, q652, q653, q654, Or.inr ⟨q643, _, _, _, q659⟩, by decide, by decide, by decide +kernel⟩ (kRcT C hX 2 (by decide)) (fr2 := 1) (lo2 := 100) (bX8_other (xl X) g hX 0 (gT g 2) w _ w rfl) (by omega) rfl rfl hw hdg (kk _ h2)
      · rw [if_neg c2] at h1
        by_cases c3 : a = gT g 3
        · rw [if_pos c3] at h1; cases h1; subst c3
          exact v_callB C (Cn := ktc 3) (owner := "CardLoom$Turning") (x := (⟨"CardLoom$Turning", "other", "()LCardLoom$Turning;"⟩ : MethodName)) (y := yX1_other) (b := cX1_other) (mL := 1) (ret := (some (.object "CardLoom$Turning"))) (n := 0) (As := []) (r := some (.ref _)) ⟨hq, q644, q658, q643, q659, Or.inr ⟨q643, _, _, _, q659⟩, by decide, by decide, by decide +kernel⟩ (kRcT C hX 3 (by decide)) (fr2 := 1) (lo2 := 100) (bX1_other (xl X) g hX 0 (gT g 3) w _ w rfl) (by omega) rfl rfl hw hdg (kk _ h2)
        · rw [if_neg c3] at h1
          cases h1
end KT1
