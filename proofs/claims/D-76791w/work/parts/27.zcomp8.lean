set_option maxRecDepth 100000
/-- what an Asks' object answers: the constant of flat, or the one of returns -/
def Fasks (N : Nat) (g : GT) (a mind : Nat) (w : Wd) : Option (Int32 × Wd) := if a = gT g 9 then kb (FX0_areFlat N g mind w) (fun r u => if nb r = true then some (r, u) else none) else match w.1 a with
  | some (.inr (11, [.ref x])) => if oIs w x 1 = true then kb (FX0_areAsNow N g x mind w) (fun r u => if nb r = true then some (r, u) else none) else none
  | _ => none
section KK
variable {l : Launch} {g : GT} {X : CxT} {cc : ByteArray} {nL : Nat} {own : String} {rt : Option FieldType} {fr lo : Nat} {rv : Option Value} {w1 w : Wd} {pc : Nat} {lv : List (Option Value)} {st : List Value} {β : Type} {z : β}
/-- a call of Asks.isSo -/
theorem v_asks (C : kOk g X cc nL own rt fr lo rv w1) (hX : ∀ U, gX g U → SX g U) (hl : xl X = l) (N : Nat) {index count a mind : Nat} (hq : Cond.methodLink own index ⟨"CardLoom$Asks", "isSo", "(Ljava/util/ArrayList;)Z"⟩ ∈ lw_all) (hR : 10 ≤ fr ∧ 1000 ≤ lo) (hw : (st.map fun v => v.category).sum ≤ 8) (hdg : decode cc pc = .ok (.invokeinterface index count, 5)) {A : Int32 → Wd → Option β} (hF : kb (Fasks N g a mind w) A = some z) (kk : ∀ x w2, A x w2 = some z → kV g X nL w2 (pc + 5) lv (.int x :: st)) : kV g X nL w pc lv (.ref mind :: .ref a :: st) := by
  obtain ⟨r, w2, h1, h2⟩ := kb_of hF
  have hG := C.2.2.2.2.2.1
  have hS := hX _ hG.2.2.1
  have hts : ∀ w ∈ lw_all, w.before #[] (xs X) = true := fun w hw => pay_in C.2.2.2.2.1 lw_self w hw #[] (xs X) (State.WarmedH.refl _)
  have hi0 := hS.2.2.2.2.2.2.2.2.2.2.2.1
  unfold Fasks at h1
  by_cases h9 : a = gT g 9
  · rw [if_pos h9] at h1
    obtain ⟨r1, u1, f1, f2⟩ := kb_of h1
    obtain ⟨f3, f4⟩ := k_ite f2
    cases f4
    subst h9
    obtain ⟨b, yc, b1, -, -, -, -, b2, -⟩ := (md_12 hS hts).1
    exact v_made C (x := ⟨"CardLoom$Asks", "isSo", "(Ljava/util/ArrayList;)Z"⟩) (n := 1) hq q1080 (by decide) (by decide +kernel) (σ := sg_12) (by decide +kernel) (hS.2.2.2.2.2.2.2.2.2.2.1 _ (List.mem_of_getElem? (i := 12) rfl)) ⟨b, b1, b2⟩ (fun H a1 => by obtain ⟨ce, e1, e2, e3⟩ := hi0.2.2.1; exact ⟨ce, (a1.2.2.2.2 _ hi0.2.2.2.2.2).trans e1, e2, e3⟩) (As := [.ref mind]) (fb_12 hX mind (nb_nar f3) (wX0_areFlat (xl X) g hX N mind w r w2 f1)) (by constructor <;> omega) rfl rfl hw hdg (kk r w2 h2)
  · rw [if_neg h9] at h1
    split at h1
    · rename_i x hat
      obtain ⟨hrc, h1⟩ := k_ite h1
      obtain ⟨r1, u1, f1, f2⟩ := kb_of h1
      obtain ⟨f3, f4⟩ := k_ite f2
      cases f4
      obtain ⟨b, yc, b1, -, -, -, -, b2, -⟩ := (md_11 hS hG hts).1
      exact v_made C (x := ⟨"CardLoom$Asks", "isSo", "(Ljava/util/ArrayList;)Z"⟩) (n := 1) hq q1080 (by decide) (by decide +kernel) (σ := sg_11) (by decide +kernel) (hS.2.2.2.2.2.2.2.2.2.2.1 _ (List.mem_of_getElem? (i := 11) rfl)) ⟨b, b1, b2⟩ (fun H a1 => ⟨_, (a1.1 a _ hat).1, rfl, rfl⟩) (As := [.ref mind]) (fb_11 hX x hat mind (nb_nar f3) hrc (wX0_areAsNow (xl X) g hX N x mind w r w2 f1)) (by constructor <;> omega) rfl rfl hw hdg (kk r w2 h2)
    · cases h1
end KK
