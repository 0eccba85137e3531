set_option maxRecDepth 100000
/-- what an Asks' object answers: the constant of flat, or the one of returns -/
def Fasks (N : Nat) (g : GT) (a mind : Nat) (w : Wd) : Option (Int32 × Wd) := if a = gT g 9 then FX0_areFlat N g mind w else match w.1 a with
  | some (.inr (11, [.ref x])) => FX0_areAsNow N g x mind w
  | _ => none
section KK
variable {l : Launch} {g : GT} {X : CxT} {cc : ByteArray} {nL : Nat} {own : String} {rt : Option FieldType} {fr lo : Nat} {rv : Option Value} {w1 w : Wd} {pc : Nat} {lv : List (Option Value)} {st : List Value} {β : Type} {z : β}
/-- OWED: a call of Asks.isSo -/
theorem v_asks (C : kOk g X cc nL own rt fr lo rv w1) (hX : ∀ U, gX g U → SX g U) (hl : xl X = l) (N : Nat) {index count a mind : Nat} (hq : Cond.methodLink own index ⟨"CardLoom$Asks", "isSo", "(Ljava/util/ArrayList;)Z"⟩ ∈ lw_all) (hR : 10 ≤ fr ∧ 1000 ≤ lo) (hw : (st.map fun v => v.category).sum ≤ 8) (hdg : decode cc pc = .ok (.invokeinterface index count, 5)) {A : Int32 → Wd → Option β} (hF : kb (Fasks N g a mind w) A = some z) (kk : ∀ x w2, A x w2 = some z → kV g X nL w2 (pc + 5) lv (.int x :: st)) : kV g X nL w pc lv (.ref mind :: .ref a :: st) := by
  sorry
end KK
