set_option maxRecDepth 100000
/-- one step of a law's object, fl answering for its parts -/
def FlawB (g : GT) (fl : Wd → Nat → Int32 → Int32 → Int32 → Option Nat) (w : Wd) (a : Nat) (c p n : Int32) : Option Nat := if a = gT g 7 ∨ a = gT g 8 then some (gT g 0) else match w.1 a with
  | some (.inr (2, [.ref t])) => some t
  | some (.inr (3, [.int k, .ref x, .ref y])) => (FX0_lambda_inTurn_1 0 g fl k x y c p n w).map (fun q => q.1)
  | some (.inr (4, [.int k, .ref x, .ref y])) => (FX0_lambda_byCards_2 0 g fl k x y c p n w).map (fun q => q.1)
  | some (.inr (5, [.int k, .ref x, .ref y])) => (FX0_lambda_eachOf_3 0 g fl k x y c p n w).map (fun q => q.1)
  | some (.inr (6, [.ref x, .int k])) => (FX0_lambda_later_4 0 g fl x k c p n w).map (fun q => q.1)
  | some (.inr (7, [.ref x])) => (FX0_lambda_slanting_5 0 g fl x c p n w).map (fun q => q.1)
  | some (.inr (8, [.ref x])) => (FX0_lambda_reversed_6 0 g fl x c p n w).map (fun q => q.1)
  | some (.inr (9, [.ref x])) => (FX0_lambda_mirrored_7 0 g fl x c p n w).map (fun q => q.1)
  | some (.inr (10, [.ref x, .ref y])) => (FX0_lambda_first_8 0 g fl x y c p n w).map (fun q => q.1)
  | _ => none
/-- what a law's object answers: sites 0, 1: idle; 2 always, 3 inTurn, 4 byCards, 5 eachOf, 6 later, 7 slanting, 8 reversed, 9 mirrored, 10 first -/
def Flaw (g : GT) (w : Wd) (d : Nat) (a : Nat) (c p n : Int32) : Option Nat := match d with
  | 0 => none
  | d + 1 => FlawB g (fun w a c p n => Flaw g w d a c p n) w a c p n
theorem kp_X0_lambda_inTurn_1 {N : Nat} {g : GT} {fl : Wd → Nat → Int32 → Int32 → Int32 → Option Nat} {x y : Nat} {k : Int32} {c p n : Int32} {w w1 : Wd} {r : Nat} (h : FX0_lambda_inTurn_1 N g fl k x y c p n w = some (r, w1)) : w1 = w := by
  unfold FX0_lambda_inTurn_1 kob at h
  repeat' (first | (cases h; rfl; done) | (cases h; done) | split at h | dsimp only at h)
theorem kp_X0_lambda_byCards_2 {N : Nat} {g : GT} {fl : Wd → Nat → Int32 → Int32 → Int32 → Option Nat} {x y : Nat} {k : Int32} {c p n : Int32} {w w1 : Wd} {r : Nat} (h : FX0_lambda_byCards_2 N g fl k x y c p n w = some (r, w1)) : w1 = w := by
  unfold FX0_lambda_byCards_2 kob at h
  repeat' (first | (cases h; rfl; done) | (cases h; done) | split at h | dsimp only at h)
theorem kp_X0_lambda_eachOf_3 {N : Nat} {g : GT} {fl : Wd → Nat → Int32 → Int32 → Int32 → Option Nat} {x y : Nat} {k : Int32} {c p n : Int32} {w w1 : Wd} {r : Nat} (h : FX0_lambda_eachOf_3 N g fl k x y c p n w = some (r, w1)) : w1 = w := by
  unfold FX0_lambda_eachOf_3 kob at h
  repeat' (first | (cases h; rfl; done) | (cases h; done) | split at h | dsimp only at h)
theorem kp_X0_lambda_later_4 {N : Nat} {g : GT} {fl : Wd → Nat → Int32 → Int32 → Int32 → Option Nat} {x : Nat} {k : Int32} {c p n : Int32} {w w1 : Wd} {r : Nat} (h : FX0_lambda_later_4 N g fl x k c p n w = some (r, w1)) : w1 = w := by
  unfold FX0_lambda_later_4 kob at h
  repeat' (first | (cases h; rfl; done) | (cases h; done) | split at h | dsimp only at h)
theorem kp_X0_lambda_slanting_5 {N : Nat} {g : GT} {fl : Wd → Nat → Int32 → Int32 → Int32 → Option Nat} {x : Nat} {c p n : Int32} {w w1 : Wd} {r : Nat} (h : FX0_lambda_slanting_5 N g fl x c p n w = some (r, w1)) : w1 = w := by
  unfold FX0_lambda_slanting_5 kob at h
  repeat' (first | (cases h; rfl; done) | (cases h; done) | split at h | dsimp only at h)
theorem kp_X0_lambda_reversed_6 {N : Nat} {g : GT} {fl : Wd → Nat → Int32 → Int32 → Int32 → Option Nat} {x : Nat} {c p n : Int32} {w w1 : Wd} {r : Nat} (h : FX0_lambda_reversed_6 N g fl x c p n w = some (r, w1)) : w1 = w := by
  unfold FX0_lambda_reversed_6 kob at h
  repeat' (first | (cases h; rfl; done) | (cases h; done) | split at h | dsimp only at h)
theorem kp_X0_lambda_mirrored_7 {N : Nat} {g : GT} {fl : Wd → Nat → Int32 → Int32 → Int32 → Option Nat} {x : Nat} {c p n : Int32} {w w1 : Wd} {r : Nat} (h : FX0_lambda_mirrored_7 N g fl x c p n w = some (r, w1)) : w1 = w := by
  unfold FX0_lambda_mirrored_7 kob at h
  repeat' (first | (cases h; rfl; done) | (cases h; done) | split at h | dsimp only at h)
theorem kp_X0_lambda_first_8 {N : Nat} {g : GT} {fl : Wd → Nat → Int32 → Int32 → Int32 → Option Nat} {x y : Nat} {c p n : Int32} {w w1 : Wd} {r : Nat} (h : FX0_lambda_first_8 N g fl x y c p n w = some (r, w1)) : w1 = w := by
  unfold FX0_lambda_first_8 kob at h
  repeat' (first | (cases h; rfl; done) | (cases h; done) | split at h | dsimp only at h)
theorem map1_of {α β : Type} {f : Option (α × β)} {r : α} (h : f.map (fun q => q.1) = some r) : ∃ s, f = some (r, s) := by
  cases f with
  | none => cases h
  | some q => cases h; exact ⟨q.2, rfl⟩
theorem kFb.le {l : Launch} {g : GT} {i nl fr lo fr2 lo2 : Nat} {w w1 : Wd} {as : List Value} {r : Option Value} (h : kFb l g i nl fr lo w as r w1) (h1 : fr ≤ fr2) (h2 : lo ≤ lo2) : kFb l g i nl fr2 lo2 w as r w1 := fun R p e below s sargs len hx hts hf hl => h R p e below s sargs len hx hts (by omega) (by omega)
theorem law_ok {l : Launch} {g : GT} (hX : ∀ U, gX g U → SX g U) : ∀ (d : Nat) (w : Wd) (a : Nat) (c p n : Int32) (t : Nat), (∃ U, gX g U) → Flaw g w d a c p n = some t → kLaw l g w (3 * d) (300 * d) a c p n t := by
  intro d
  induction d with
  | zero => intro w a c p n t _ h; cases h
  | succ d ih =>
    intro w a c p n t hU h
    obtain ⟨U, hU0⟩ := hU
    have hS := hX U hU0
    have hi0 := hS.2.2.2.2.2.2.2.2.2.2.2.1
    have h : FlawB g (fun w a c p n => Flaw g w d a c p n) w a c p n = some t := h
    have hfl : ∀ w a c p n t, (fun w a c p n => Flaw g w d a c p n) w a c p n = some t → kLaw l g w (3 * d) (300 * d) a c p n t := fun w a c p n t q => ih w a c p n t ⟨U, hU0⟩ q
    generalize (fun w a c p n => Flaw g w d a c p n) = fl at h hfl
    unfold FlawB at h
    by_cases h78 : a = gT g 7 ∨ a = gT g 8
    · rw [if_pos h78] at h
      cases h
      rcases h78 with rfl | rfl
      · obtain ⟨ce, e1, e2, e3⟩ := hi0.1
        exact ⟨0, by omega, fun H a1 => ⟨ce, (a1.2.2.2.2 _ hi0.2.2.2.1).trans e1, e2, e3⟩, (fb_0 hX c p n (wX0_idle l g hX 0 c p n w _ _ rfl)).le (by omega) (by omega)⟩
      · obtain ⟨ce, e1, e2, e3⟩ := hi0.2.1
        exact ⟨1, by omega, fun H a1 => ⟨ce, (a1.2.2.2.2 _ hi0.2.2.2.2.1).trans e1, e2, e3⟩, (fb_1 hX c p n (wX0_idle l g hX 0 c p n w _ _ rfl)).le (by omega) (by omega)⟩
    · rw [if_neg h78] at h
      split at h
      · rename_i t0 hq
        cases h
        exact ⟨2, by omega, fun H a1 => ⟨_, (a1.1 a _ hq).1, rfl, rfl⟩, (fb_2 hX t hq c p n (wX0_lambda_always_0 l g hX 0 t c p n w _ _ rfl)).le (by omega) (by omega)⟩
      · rename_i k x y hq
        obtain ⟨w1, h1⟩ := map1_of h
        cases kp_X0_lambda_inTurn_1 h1
        exact ⟨3, by omega, fun H a1 => ⟨_, (a1.1 a _ hq).1, rfl, rfl⟩, (fb_3 hX k x y hq c p n (wX0_lambda_inTurn_1 l g hX 0 fl (3 * d) (300 * d) hfl k x y c p n w t w h1)).le (by omega) (by omega)⟩
      · rename_i k x y hq
        obtain ⟨w1, h1⟩ := map1_of h
        cases kp_X0_lambda_byCards_2 h1
        exact ⟨4, by omega, fun H a1 => ⟨_, (a1.1 a _ hq).1, rfl, rfl⟩, (fb_4 hX k x y hq c p n (wX0_lambda_byCards_2 l g hX 0 fl (3 * d) (300 * d) hfl k x y c p n w t w h1)).le (by omega) (by omega)⟩
      · rename_i k x y hq
        obtain ⟨w1, h1⟩ := map1_of h
        cases kp_X0_lambda_eachOf_3 h1
        exact ⟨5, by omega, fun H a1 => ⟨_, (a1.1 a _ hq).1, rfl, rfl⟩, (fb_5 hX k x y hq c p n (wX0_lambda_eachOf_3 l g hX 0 fl (3 * d) (300 * d) hfl k x y c p n w t w h1)).le (by omega) (by omega)⟩
      · rename_i x k hq
        obtain ⟨w1, h1⟩ := map1_of h
        cases kp_X0_lambda_later_4 h1
        exact ⟨6, by omega, fun H a1 => ⟨_, (a1.1 a _ hq).1, rfl, rfl⟩, (fb_6 hX x k hq c p n (wX0_lambda_later_4 l g hX 0 fl (3 * d) (300 * d) hfl x k c p n w t w h1)).le (by omega) (by omega)⟩
      · rename_i x hq
        obtain ⟨w1, h1⟩ := map1_of h
        cases kp_X0_lambda_slanting_5 h1
        exact ⟨7, by omega, fun H a1 => ⟨_, (a1.1 a _ hq).1, rfl, rfl⟩, (fb_7 hX x hq c p n (wX0_lambda_slanting_5 l g hX 0 fl (3 * d) (300 * d) hfl x c p n w t w h1)).le (by omega) (by omega)⟩
      · rename_i x hq
        obtain ⟨w1, h1⟩ := map1_of h
        cases kp_X0_lambda_reversed_6 h1
        exact ⟨8, by omega, fun H a1 => ⟨_, (a1.1 a _ hq).1, rfl, rfl⟩, (fb_8 hX x hq c p n (wX0_lambda_reversed_6 l g hX 0 fl (3 * d) (300 * d) hfl x c p n w t w h1)).le (by omega) (by omega)⟩
      · rename_i x hq
        obtain ⟨w1, h1⟩ := map1_of h
        cases kp_X0_lambda_mirrored_7 h1
        exact ⟨9, by omega, fun H a1 => ⟨_, (a1.1 a _ hq).1, rfl, rfl⟩, (fb_9 hX x hq c p n (wX0_lambda_mirrored_7 l g hX 0 fl (3 * d) (300 * d) hfl x c p n w t w h1)).le (by omega) (by omega)⟩
      · rename_i x y hq
        obtain ⟨w1, h1⟩ := map1_of h
        cases kp_X0_lambda_first_8 h1
        exact ⟨10, by omega, fun H a1 => ⟨_, (a1.1 a _ hq).1, rfl, rfl⟩, (fb_10 hX x y hq c p n (wX0_lambda_first_8 l g hX 0 fl (3 * d) (300 * d) hfl x y c p n w t w h1)).le (by omega) (by omega)⟩
      · cases h
