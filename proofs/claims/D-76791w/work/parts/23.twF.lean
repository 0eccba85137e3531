set_option maxRecDepth 100000
def FX1_twist (N : Nat) (g : GT) (x0 : Nat) (w : Wd) : Option (Int32 × Wd) :=
  kob (Ftq g x0) (fun v1 => some (v1, w))
set_option maxRecDepth 100000
set_option maxHeartbeats 4000000 in
theorem bX1_twist (l : Launch) (g : GT) (hX : ∀ U, gX g U → SX g U) (N : Nat) (x0 : Nat) (w : Wd) (r : Int32) (w1 : Wd) (hF : FX1_twist N g x0 w = some (r, w1)) : kBd l g yX1_twist cX1_twist 1 (some .int) 2 200 w [.ref x0] (some (.int r)) w1 := by
  refine ⟨by decide, (Nat.le_of_ble_eq_true rfl), [some (.ref x0)], rfl, ?_⟩
  intro X hl hin C
  unfold FX1_twist at hF
  refine v_aload_n C dX1_twist_0 rfl rfl ?_
  refine v_tquarters C hX q923 (by decide) (Nat.le_of_ble_eq_true rfl) dX1_twist_1 hF (fun v1 hF => ?_)
  exact c_iret C dX1_twist_4 hF
set_option maxRecDepth 100000
section KT2
variable {g : GT} {X : CxT} {cc : ByteArray} {nL : Nat} {own : String} {rt : Option FieldType} {fr lo : Nat} {rv : Option Value} {w1 w : Wd} {pc : Nat} {lv : List (Option Value)} {st : List Value} {β : Type} {z : β}
theorem v_ttwist (C : kOk g X cc nL own rt fr lo rv w1) (hX : ∀ U, gX g U → SX g U) {index a : Nat} (hq : Cond.methodLink own index (⟨"CardLoom$Turning", "twist", "()I"⟩ : MethodName) ∈ lw_all) (hR : 3 ≤ fr ∧ 225 ≤ lo) (hw : (st.map fun v => v.category).sum ≤ 8) (hdg : decode cc pc = .ok (.invokevirtual index, 3)) {A : Int32 → Option β} (hF : kob (Ftt g a) A = some z) (kk : ∀ x, A x = some z → kV g X nL w (pc + 3) lv (.int x :: st)) : kV g X nL w pc lv (.ref a :: st) := by
  have hinj := (hX _ C.2.2.2.2.2.1.2.2.1).2.2.2.2.2.2.1
  have n01 : gT g 1 ≠ gT g 0 := fun e => absurd (hinj 1 0 (by decide) (by decide) e) (by decide)
  have n03 : gT g 3 ≠ gT g 0 := fun e => absurd (hinj 3 0 (by decide) (by decide) e) (by decide)
  have n13 : gT g 3 ≠ gT g 1 := fun e => absurd (hinj 3 1 (by decide) (by decide) e) (by decide)
  have n23 : gT g 3 ≠ gT g 2 := fun e => absurd (hinj 3 2 (by decide) (by decide) e) (by decide)
  obtain ⟨v, h1, h2⟩ := kob_of hF
  unfold Ftt at h1
  by_cases c0 : a = gT g 0
  · rw [if_pos c0] at h1; cases h1; subst c0
    exact v_callB C (Cn := ktc 0) (owner := "CardLoom$Turning") (x := (⟨"CardLoom$Turning", "twist", "()I"⟩ : MethodName)) (y := yX1_twist) (b := cX1_twist) (mL := 1) (ret := (some .int)) (n := 0) (As := []) (r := some (.int _)) ⟨hq, q915, q916, q914, q922, Or.inr ⟨q914, _, _, _, q922⟩, by decide, by decide, by decide +kernel⟩ (kRcT C hX 0 (by decide)) (fr2 := 2) (lo2 := 200) (bX1_twist (xl X) g hX 0 (gT g 0) w _ w (by unfold FX1_twist Ftq; simp [kob, n01, n03, n13, n23])) (by omega) rfl rfl hw hdg (kk _ h2)
  · rw [if_neg c0] at h1
    by_cases c1 : a = gT g 1
    · rw [if_pos c1] at h1; cases h1; subst c1
      exact v_callB C (Cn := ktc 1) (owner := "CardLoom$Turning") (x := (⟨"CardLoom$Turning", "twist", "()I"⟩ : MethodName)) (y := yX1_twist) (b := cX1_twist) (mL := 1) (ret := (some .int)) (n := 0) (As := []) (r := some (.int _)) ⟨hq, q915, q917, q914, q922, Or.inr ⟨q914, _, _, _, q922⟩, by decide, by decide, by decide +kernel⟩ (kRcT C hX 1 (by decide)) (fr2 := 2) (lo2 := 200) (bX1_twist (xl X) g hX 0 (gT g 1) w _ w (by unfold FX1_twist Ftq; simp [kob, n01, n03, n13, n23])) (by omega) rfl rfl hw hdg (kk _ h2)
    · rw [if_neg c1] at h1
      by_cases c2 : a = gT g 2
      · rw [if_pos c2] at h1; cases h1; subst c2
        exact v_callB C (Cn := ktc 2) (owner := "CardLoom$Turning") (x := (⟨"CardLoom$Turning", "twist", "()I"⟩ : MethodName)) (y := yX8_twist) (b := cX8_twist) (mL := 1) (ret := (some .int)) (n := 0) (As := []) (r := some (.int _)) ⟨hq, q915, q918, q919, q920, Or.inr ⟨q914, _, _, _, q922⟩, by decide, by decide, by decide +kernel⟩ (kRcT C hX 2 (by decide)) (fr2 := 1) (lo2 := 100) (bX8_twist (xl X) g hX 0 (gT g 2) w _ w rfl) (by omega) rfl rfl hw hdg (kk _ h2)
      · rw [if_neg c2] at h1
        by_cases c3 : a = gT g 3
        · rw [if_pos c3] at h1; cases h1; subst c3
          exact v_callB C (Cn := ktc 3) (owner := "CardLoom$Turning") (x := (⟨"CardLoom$Turning", "twist", "()I"⟩ : MethodName)) (y := yX1_twist) (b := cX1_twist) (mL := 1) (ret := (some .int)) (n := 0) (As := []) (r := some (.int _)) ⟨hq, q915, q921, q914, q922, Or.inr ⟨q914, _, _, _, q922⟩, by decide, by decide, by decide +kernel⟩ (kRcT C hX 3 (by decide)) (fr2 := 2) (lo2 := 200) (bX1_twist (xl X) g hX 0 (gT g 3) w _ w (by unfold FX1_twist Ftq; simp [kob, n01, n03, n13, n23])) (by omega) rfl rfl hw hdg (kk _ h2)
        · rw [if_neg c3] at h1
          cases h1
end KT2
