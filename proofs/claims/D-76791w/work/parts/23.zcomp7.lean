set_option maxRecDepth 100000
/-- a lambda's object: site i, what it captured -/
def lNew (g : GT) (w : Wd) (i : Nat) (vs : List Value) : Option (Nat × Wd) := if w.2.1 + 1 ≤ gcc g ∧ w.2.2 + vs.length ≤ gcs g then some (w.2.1, (kup w.1 w.2.1 (some (.inr (i, vs))), w.2.1 + 1, w.2.2 + vs.length)) else none
/-- what a law's object answers: sites 0, 1: idle; 2 always, 3 inTurn, 4 byCards, 5 eachOf, 6 later, 7 slanting, 8 reversed, 9 mirrored, 10 first -/
def Flaw (g : GT) (w : Wd) : Nat → Nat → Int32 → Int32 → Int32 → Option Nat
  | 0, _, _, _, _ => none
  | d + 1, a, c, p, n => if a = gT g 7 ∨ a = gT g 8 then some (gT g 0) else match w.1 a with
    | some (.inr (2, [.ref t])) => some t
    | some (.inr (3, [.int k, .ref x, .ref y])) => if ¬ k = 0 then (if p / k - p / k / 2 * 2 = 0 then Flaw g w d x c p n else Flaw g w d y c p n) else none
    | some (.inr (4, [.int k, .ref x, .ref y])) => if c < k then Flaw g w d x c p n else Flaw g w d y c p n
    | some (.inr (5, [.int k, .ref x, .ref y])) => if ¬ k = 0 then (if p - p / k * k = 0 then Flaw g w d y c p n else Flaw g w d x c p n) else none
    | some (.inr (6, [.ref x, .int k])) => Flaw g w d x c (p + k) n
    | some (.inr (7, [.ref x])) => Flaw g w d x c (p + c) n
    | some (.inr (8, [.ref x])) => kob (Flaw g w d x c p n) (fun t => Fto g t)
    | some (.inr (9, [.ref x])) => Flaw g w d x (n - 1 - c) p n
    | some (.inr (10, [.ref x, .ref y])) => kob (Flaw g w d x c p n) (fun t => if t = gT g 0 then Flaw g w d y c p n else some t)
    | _ => none
/-- an array of int arrays -/
def aSQ7 (g : GT) (w : Wd) (a : Nat) (i : Int32) (v : Nat) : Option Wd := if aIs g w 0 v = true then aSQ g w 7 a i (some v) else none
/-- rows of a new grid: n arrays of k zeros behind the outer one -/
def aRows (g : GT) (k : Nat) : Nat → Wd → Wd
  | 0, w => w
  | n + 1, w => let u := aRows g k n w; (kup u.1 u.2.1 (some (.inl (.inl (gA g 0, k, .inl (fun _ => 0))))), u.2.1 + 1, u.2.2 + k)
def aNew2 (g : GT) (w : Wd) (n k : Int32) : Option (Nat × Wd) := if ¬ n < 0 ∧ ¬ k < 0 ∧ n.toNatClampNeg ≤ 100 ∧ k.toNatClampNeg ≤ 100 ∧ w.2.1 + 10201 ≤ gcc g ∧ w.2.2 + 10201 ≤ gcs g then
    some (w.2.1, aRows g k.toNatClampNeg n.toNatClampNeg (kup w.1 w.2.1 (some (.inl (.inl (gA g 7, n.toNatClampNeg, .inr (.inr (.inr (.inr (fun j => some (w.2.1 + 1 + j))))))))), w.2.1 + 1, w.2.2 + n.toNatClampNeg)) else none
section KK
variable {g : GT} {X : CxT} {cc : ByteArray} {nL : Nat} {own : String} {rt : Option FieldType} {fr lo : Nat} {rv : Option Value} {w1 w : Wd} {pc : Nat} {lv : List (Option Value)} {st : List Value} {β : Type} {z : β}
theorem v_aQl7 (C : kOk g X cc nL own rt fr lo rv w1) {a : Nat} {i : Int32} (hdg : decode cc pc = .ok (.aaload, 1)) {A : Option Nat → Option β} (hF : kob (aQ g w 7 a i) A = some z) (kk : ∀ x, A x = some z → kV g X nL w (pc + 1) lv (va_rf x :: st)) : kV g X nL w pc lv (.int i :: .ref a :: st) := by
  obtain ⟨x, h1, h2⟩ := kob_of hF
  obtain ⟨q, h3, h4⟩ := kob_of h1
  obtain ⟨f, h5, h6⟩ := kob_of h4
  obtain ⟨h7, h8⟩ := k_ite h6
  cases h8
  have h9 := aC_of h3
  obtain ⟨n, rfl⟩ : ∃ n, q = (n, .inr (.inr (.inr (.inr f)))) := ⟨q.1, xQ_of h5⟩
  have hin := kin_vp h7
  have hlt : i.toNatClampNeg < n := Nat.not_le.mp fun q => hin (Or.inr q)
  intro H locs ls a1 b h
  have ht7 : (kty g)[7]? = some (gA g 7, .array .int) := kty_at rfl
  exact W.aald (v := va_rf (f i.toNatClampNeg)) (ty := .array .int) C.1 C.2.1 (a1.1 a _ h9).1 ((C.2.2.2.2.2.1.1.2 7 _ ht7).1 n (fun j => va_rf (f j))) rfl (fun q => by cases q) (by show ¬ (i < 0 ∨ (arrV _ _ _).slots.size ≤ _); rw [arrV_size]; exact hin) (by show (arrV _ _ _).slots[_]? = _; rw [arrV_read _ _ hlt]) rfl rfl hdg (kk _ h2 H locs ls a1 b h)
/-- OWED: a call of Law.of -/
theorem v_law (C : kOk g X cc nL own rt fr lo rv w1) (hX : ∀ U, gX g U → SX g U) {index count a : Nat} {c9 p9 n9 : Int32} (hq : Cond.methodLink own index ⟨"CardLoom$Law", "of", "(III)LCardLoom$Turning;"⟩ ∈ lw_all) (hR : 40 ≤ fr ∧ 4000 ≤ lo) (hw : (st.map fun v => v.category).sum ≤ 8) (hdg : decode cc pc = .ok (.invokeinterface index count, 5)) {A : Nat → Option β} (hF : kob (Flaw g w 10 a c9 p9 n9) A = some z) (kk : ∀ x, A x = some z → kV g X nL w (pc + 5) lv (.ref x :: st)) : kV g X nL w pc lv (.int n9 :: .int p9 :: .int c9 :: .ref a :: st) := by
  sorry
/-- OWED: a lambda is made; one that captures nothing -/
theorem v_lmk (C : kOk g X cc nL "CardLoom" rt fr lo rv w1) (hX : ∀ U, gX g U → SX g U) (i : Nat) {index : Nat} {vs st0 : List Value} (hst : st0 = vs.reverse ++ st) (hdg : decode cc pc = .ok (.invokedynamic index, 5)) {A : Nat → Wd → Option β} (hF : kb (lNew g w i vs) A = some z) (kk : ∀ a w2, A a w2 = some z → kV g X nL w2 (pc + 5) lv (.ref a :: st)) : kV g X nL w pc lv st0 := by
  sorry
theorem v_lco (C : kOk g X cc nL "CardLoom" rt fr lo rv w1) (hX : ∀ U, gX g U → SX g U) (i : Nat) {index : Nat} (hdg : decode cc pc = .ok (.invokedynamic index, 5)) (kk : kV g X nL w (pc + 5) lv (.ref (gT g i) :: st)) : kV g X nL w pc lv st := by
  sorry
/-- OWED: a grid -/
theorem v_multi (C : kOk g X cc nL own rt fr lo rv w1) (hX : ∀ U, gX g U → SX g U) {index : Nat} {n k : Int32} (hq : Cond.classLink own index "[[I" ∈ lw_all) (hdg : decode cc pc = .ok (.multianewarray index 2, 4)) {A : Nat → Wd → Option β} (hF : kb (aNew2 g w n k) A = some z) (kk : ∀ a w2, A a w2 = some z → kV g X nL w2 (pc + 4) lv (.ref a :: st)) : kV g X nL w pc lv (.int k :: .int n :: st) := by
  sorry
theorem v_anew7 (C : kOk g X cc nL own rt fr lo rv w1) (hX : ∀ U, gX g U → SX g U) {index : Nat} {n : Int32} (hq : Cond.classLink own index "[I" ∈ lw_all) (hdg : decode cc pc = .ok (.anewarray index, 3)) {A : Nat → Wd → Option β} (hF : kb (aNew g w 7 n (.inr (.inr (.inr (.inr (fun _ => none)))))) A = some z) (kk : ∀ a w2, A a w2 = some z → kV g X nL w2 (pc + 3) lv (.ref a :: st)) : kV g X nL w pc lv (.int n :: st) := by
  sorry
end KK
