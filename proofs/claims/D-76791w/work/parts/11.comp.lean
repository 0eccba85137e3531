/-! the component's words: cells as F reads and writes them, and their rows -/
set_option maxRecDepth 100000
def kob {α β : Type} (f : Option α) (A : α → Option β) : Option β := match f with
  | some x => A x
  | none => none
theorem kob_of {α β : Type} {f : Option α} {A : α → Option β} {z : β} (h : kob f A = some z) : ∃ x, f = some x ∧ A x = some z := by
  cases f with
  | none => cases h
  | some q => exact ⟨q, rfl, h⟩
def oC (w : Wd) (a ci : Nat) : Option (List Value) := match w.1 a with
  | some (.inl (.inr q)) => if q.1 = ci then some q.2 else none
  | _ => none
theorem oC_of {w : Wd} {a ci : Nat} {fs : List Value} (h : oC w a ci = some fs) : w.1 a = some (.inl (.inr (ci, fs))) := by
  unfold oC at h
  split at h
  · rename_i q hq
    split at h
    · rename_i hc
      cases h
      rw [hq, ← hc]
    · cases h
  · cases h
theorem oC_eq {w : Wd} {a ci : Nat} {fs : List Value} (h : w.1 a = some (.inl (.inr (ci, fs)))) : oC w a ci = some fs := by
  unfold oC
  rw [h]
  simp
def vI (v : Option Value) : Option Int32 := match v with
  | some (.int x) => some x
  | _ => none
def vR (v : Option Value) : Option Nat := match v with
  | some (.ref x) => some x
  | _ => none
def vN (v : Option Value) : Option (Option Nat) := match v with
  | some (.ref x) => some (some x)
  | some .null => some none
  | _ => none
theorem vI_of {v : Option Value} {x : Int32} (h : vI v = some x) : v = some (.int x) := by
  unfold vI at h
  split at h
  · cases h; rfl
  · cases h
theorem vR_of {v : Option Value} {x : Nat} (h : vR v = some x) : v = some (.ref x) := by
  unfold vR at h
  split at h
  · cases h; rfl
  · cases h
theorem vN_of {v : Option Value} {x : Option Nat} (h : vN v = some x) : v = some (va_rf x) := by
  unfold vN at h
  split at h
  · cases h; rfl
  · cases h; rfl
  · cases h
def oI (w : Wd) (a ci k : Nat) : Option Int32 := kob (oC w a ci) (fun fs => vI fs[k]?)
def oR (w : Wd) (a ci k : Nat) : Option Nat := kob (oC w a ci) (fun fs => vR fs[k]?)
def oN (w : Wd) (a ci k : Nat) : Option (Option Nat) := kob (oC w a ci) (fun fs => vN fs[k]?)
def oP (w : Wd) (a ci k : Nat) (v : Value) : Option Wd := kob (oC w a ci) (fun fs => if k < fs.length then some (kup w.1 a (some (.inl (.inr (ci, fs.set k v)))), w.2) else none)
def oNew (g : GT) (w : Wd) (ci : Nat) (fs : List Value) (N : Nat) : Option (Nat × Wd) := if w.2.1 + 1 ≤ gcc g ∧ w.2.2 + N ≤ gcs g then some (w.2.1, (kup w.1 w.2.1 (some (.inl (.inr (ci, fs)))), w.2.1 + 1, w.2.2 + N)) else none
def oIs (w : Wd) (a ci : Nat) : Bool := (oC w a ci).isSome
theorem oIs_of {w : Wd} {a ci : Nat} (h : oIs w a ci = true) : ∃ fs, w.1 a = some (.inl (.inr (ci, fs))) := by
  obtain ⟨fs, hf⟩ := Option.isSome_iff_exists.mp h
  exact ⟨fs, oC_of hf⟩
/-- arrays: t is the kind's number -/
def aC (g : GT) (w : Wd) (t a : Nat) : Option vp_A := match w.1 a with
  | some (.inl (.inl q)) => if q.1 = gA g t then some q.2 else none
  | _ => none
theorem aC_of {g : GT} {w : Wd} {t a : Nat} {x : vp_A} (h : aC g w t a = some x) : w.1 a = some (.inl (.inl (gA g t, x))) := by
  unfold aC at h
  split at h
  · rename_i q hq
    split at h
    · rename_i hc
      cases h
      rw [hq, ← hc]
    · cases h
  · cases h
theorem aC_eq {g : GT} {w : Wd} {t a : Nat} {x : vp_A} (h : w.1 a = some (.inl (.inl (gA g t, x)))) : aC g w t a = some x := by
  unfold aC
  rw [h]
  simp
def aL (g : GT) (w : Wd) (t a : Nat) : Option Int32 := kob (aC g w t a) (fun x => some (Int32.ofNat x.1))
def xI (x : vp_A) : Option (Nat → Int32) := match x.2 with
  | .inl f => some f
  | _ => none
def xJ (x : vp_A) : Option (Nat → Int64) := match x.2 with
  | .inr (.inl f) => some f
  | _ => none
def xQ' (x : vp_A) : Option (Nat → Option Nat) := match x.2 with
  | .inr (.inr (.inr (.inr f))) => some f
  | _ => none
theorem xI_of {x : vp_A} {f : Nat → Int32} (h : xI x = some f) : x = (x.1, .inl f) := by
  obtain ⟨n, f1 | f1 | f1 | f1 | f1⟩ := x <;> cases h
  rfl
theorem xJ_of {x : vp_A} {f : Nat → Int64} (h : xJ x = some f) : x = (x.1, .inr (.inl f)) := by
  obtain ⟨n, f1 | f1 | f1 | f1 | f1⟩ := x <;> cases h
  rfl
theorem xQ_of {x : vp_A} {f : Nat → Option Nat} (h : xQ' x = some f) : x = (x.1, .inr (.inr (.inr (.inr f)))) := by
  obtain ⟨n, f1 | f1 | f1 | f1 | f1⟩ := x <;> cases h
  rfl
def aI (g : GT) (w : Wd) (t a : Nat) (i : Int32) : Option Int32 := kob (aC g w t a) (fun x => kob (xI x) (fun f => if kin i x.1 = true then some (f i.toNatClampNeg) else none))
def aJ (g : GT) (w : Wd) (t a : Nat) (i : Int32) : Option Int64 := kob (aC g w t a) (fun x => kob (xJ x) (fun f => if kin i x.1 = true then some (f i.toNatClampNeg) else none))
def aQ (g : GT) (w : Wd) (t a : Nat) (i : Int32) : Option (Option Nat) := kob (aC g w t a) (fun x => kob (xQ' x) (fun f => if kin i x.1 = true then some (f i.toNatClampNeg) else none))
def aSI (g : GT) (w : Wd) (t a : Nat) (i v : Int32) : Option Wd := kob (aC g w t a) (fun x => kob (xI x) (fun f => if kin i x.1 = true then some (kup w.1 a (some (.inl (.inl (gA g t, x.1, .inl (upd f i.toNatClampNeg v))))), w.2) else none))
def aSJ (g : GT) (w : Wd) (t a : Nat) (i : Int32) (v : Int64) : Option Wd := kob (aC g w t a) (fun x => kob (xJ x) (fun f => if kin i x.1 = true then some (kup w.1 a (some (.inl (.inl (gA g t, x.1, .inr (.inl (vp_updL f i.toNatClampNeg v)))))), w.2) else none))
def aSQ (g : GT) (w : Wd) (t a : Nat) (i : Int32) (v : Option Nat) : Option Wd := kob (aC g w t a) (fun x => kob (xQ' x) (fun f => if kin i x.1 = true then some (kup w.1 a (some (.inl (.inl (gA g t, x.1, .inr (.inr (.inr (.inr (va_up f i.toNatClampNeg v)))))))), w.2) else none))
def aNew (g : GT) (w : Wd) (t : Nat) (n : Int32) (x : (Nat → Int32) ⊕ (Nat → Int64) ⊕ (Nat → UInt32) ⊕ (Nat → UInt64) ⊕ (Nat → Option Nat)) : Option (Nat × Wd) := if ¬ n < 0 ∧ n.toNatClampNeg ≤ 1000000 ∧ w.2.1 + 1 ≤ gcc g ∧ w.2.2 + n.toNatClampNeg ≤ gcs g then some (w.2.1, (kup w.1 w.2.1 (some (.inl (.inl (gA g t, n.toNatClampNeg, x)))), w.2.1 + 1, w.2.2 + n.toNatClampNeg)) else none
theorem kty_at {g : GT} {t : Nat} {ty : FieldType} (h : ktys[t]? = some (t, ty)) : (kty g)[t]? = some (gA g t, ty) := by
  show (ktys.map _)[t]? = _
  rw [List.getElem?_map, h]
  rfl
section KC
variable {g : GT} {X : CxT} {cc : ByteArray} {nL : Nat} {own : String} {rt : Option FieldType} {fr lo : Nat} {rv : Option Value} {w1 w : Wd} {pc : Nat} {lv : List (Option Value)} {st : List Value} {β : Type} {z : β}
theorem v_getI (C : kOk g X cc nL own rt fr lo rv w1) {ci N index a : Nat} {Cn : String} {T : u_T} {ty : Nat → FieldType} (L : kCl ci Cn T N ty) (k : Nat) (hk : k < N) (hq : kFl own index (T k)) (hdg : decode cc pc = .ok (.getfield index, 3)) {A : Int32 → Option β} (hF : kob (oI w a ci k) A = some z) (kk : ∀ x, A x = some z → kV g X nL w (pc + 3) lv (.int x :: st)) : kV g X nL w pc lv (.ref a :: st) := by
  obtain ⟨x, h1, h2⟩ := kob_of hF
  obtain ⟨fs, h3, h4⟩ := kob_of h1
  exact v_get C L k hk hq (oC_of h3) (vI_of h4) hdg (kk x h2)
theorem v_getR (C : kOk g X cc nL own rt fr lo rv w1) {ci N index a : Nat} {Cn : String} {T : u_T} {ty : Nat → FieldType} (L : kCl ci Cn T N ty) (k : Nat) (hk : k < N) (hq : kFl own index (T k)) (hdg : decode cc pc = .ok (.getfield index, 3)) {A : Nat → Option β} (hF : kob (oR w a ci k) A = some z) (kk : ∀ x, A x = some z → kV g X nL w (pc + 3) lv (.ref x :: st)) : kV g X nL w pc lv (.ref a :: st) := by
  obtain ⟨x, h1, h2⟩ := kob_of hF
  obtain ⟨fs, h3, h4⟩ := kob_of h1
  exact v_get C L k hk hq (oC_of h3) (vR_of h4) hdg (kk x h2)
theorem v_getQ (C : kOk g X cc nL own rt fr lo rv w1) {ci N index a : Nat} {Cn : String} {T : u_T} {ty : Nat → FieldType} (L : kCl ci Cn T N ty) (k : Nat) (hk : k < N) (hq : kFl own index (T k)) (hdg : decode cc pc = .ok (.getfield index, 3)) {A : Option Nat → Option β} (hF : kob (oN w a ci k) A = some z) (kk : ∀ x, A x = some z → kV g X nL w (pc + 3) lv (va_rf x :: st)) : kV g X nL w pc lv (.ref a :: st) := by
  obtain ⟨x, h1, h2⟩ := kob_of hF
  obtain ⟨fs, h3, h4⟩ := kob_of h1
  exact v_get C L k hk hq (oC_of h3) (vN_of h4) hdg (kk x h2)
theorem v_putW (C : kOk g X cc nL own rt fr lo rv w1) {ci N index a : Nat} {Cn : String} {T : u_T} {ty : Nat → FieldType} {v : Value} (L : kCl ci Cn T N ty) (k : Nat) (hk : k < N) (hq : kFl own index (T k)) (hfin : (T k).2.2.2 = false) (hn : narrow (ty k) v = v) (hfit : fits (ty k) v = true) (hdg : decode cc pc = .ok (.putfield index, 3)) {A : Wd → Option β} (hF : kob (oP w a ci k v) A = some z) (kk : ∀ w2, A w2 = some z → kV g X nL w2 (pc + 3) lv st) : kV g X nL w pc lv (v :: .ref a :: st) := by
  obtain ⟨x, h1, h2⟩ := kob_of hF
  obtain ⟨fs, h3, h4⟩ := kob_of h1
  obtain ⟨h5, h6⟩ := k_ite h4
  cases h6
  exact v_put C L k hk hq (oC_of h3) h5 hfin hn hfit hdg (kk _ h2)
theorem v_putFW (C : kOk g X cc nL own rt fr lo rv w1) (hin2 : (xh X).name = "<init>") {ci N index a : Nat} {Cn : String} {T : u_T} {ty : Nat → FieldType} {v : Value} (L : kCl ci Cn T N ty) (k : Nat) (hk : k < N) (hq : Cond.fieldLink own index (T k).1 (T k).2.1 (T k).2.2.1 ∈ lw_all) (hfin : (T k).2.2.2 = true) (hdecl : (T k).1 = own) (hn : narrow (ty k) v = v) (hfit : fits (ty k) v = true) (hdg : decode cc pc = .ok (.putfield index, 3)) {A : Wd → Option β} (hF : kob (oP w a ci k v) A = some z) (kk : ∀ w2, A w2 = some z → kV g X nL w2 (pc + 3) lv st) : kV g X nL w pc lv (v :: .ref a :: st) := by
  obtain ⟨x, h1, h2⟩ := kob_of hF
  obtain ⟨fs, h3, h4⟩ := kob_of h1
  obtain ⟨h5, h6⟩ := k_ite h4
  cases h6
  exact v_putF C L hin2 k hk hq (oC_of h3) h5 hfin hdecl hn hfit hdg (kk _ h2)
theorem v_newW (C : kOk g X cc nL own rt fr lo rv w1) {ci N index : Nat} {Cn : String} {T : u_T} {ty : Nat → FieldType} (L : kCl ci Cn T N ty) (hq : Cond.classLink own index Cn ∈ lw_all) (hq2 : Cond.instantiable Cn N ∈ lw_all) (hq3 : Cond.initialized Cn ∈ lw_all) {fs : List Value} (hfs : ∀ j, j < N → defaultValue (ty j) = vp_V fs j) (hdg : decode cc pc = .ok (.new index, 3)) {A : Nat → Wd → Option β} (hF : kb (oNew g w ci fs N) A = some z) (kk : ∀ a w2, A a w2 = some z → kV g X nL w2 (pc + 3) lv (.ref a :: st)) : kV g X nL w pc lv st := by
  obtain ⟨a, w2, h1, h2⟩ := kb_of hF
  obtain ⟨h3, h4⟩ := k_ite h1
  cases h4
  exact v_new C L hq hq2 hq3 hfs hdg h3 (kk _ _ h2)
theorem v_aL (C : kOk g X cc nL own rt fr lo rv w1) {a t : Nat} {ty : FieldType} (ht : ktys[t]? = some (t, ty)) (hdg : decode cc pc = .ok (.arraylength, 1)) {A : Int32 → Option β} (hF : kob (aL g w t a) A = some z) (kk : ∀ x, A x = some z → kV g X nL w (pc + 1) lv (.int x :: st)) : kV g X nL w pc lv (.ref a :: st) := by
  obtain ⟨x, h1, h2⟩ := kob_of hF
  obtain ⟨q, h3, h4⟩ := kob_of h1
  exact v_alen C (aC_of h3) (kty_at ht) (Option.some.inj h4) hdg (kk x h2)
theorem v_aIi (C : kOk g X cc nL own rt fr lo rv w1) {a : Nat} {i : Int32} (hdg : decode cc pc = .ok (.iaload, 1)) {A : Int32 → Option β} (hF : kob (aI g w 0 a i) A = some z) (kk : ∀ x, A x = some z → kV g X nL w (pc + 1) lv (.int x :: st)) : kV g X nL w pc lv (.int i :: .ref a :: st) := by
  obtain ⟨x, h1, h2⟩ := kob_of hF
  obtain ⟨q, h3, h4⟩ := kob_of h1
  obtain ⟨f, h5, h6⟩ := kob_of h4
  obtain ⟨h7, h8⟩ := k_ite h6
  cases h8
  have h9 := aC_of h3
  rw [xI_of h5] at h9
  exact v_iald C h9 (kty_at rfl) h7 hdg (kk _ h2)
theorem v_aIb (C : kOk g X cc nL own rt fr lo rv w1) {a : Nat} {i : Int32} (hdg : decode cc pc = .ok (.baload, 1)) {A : Int32 → Option β} (hF : kob (aI g w 2 a i) A = some z) (kk : ∀ x, A x = some z → kV g X nL w (pc + 1) lv (.int x :: st)) : kV g X nL w pc lv (.int i :: .ref a :: st) := by
  obtain ⟨x, h1, h2⟩ := kob_of hF
  obtain ⟨q, h3, h4⟩ := kob_of h1
  obtain ⟨f, h5, h6⟩ := kob_of h4
  obtain ⟨h7, h8⟩ := k_ite h6
  cases h8
  have h9 := aC_of h3
  rw [xI_of h5] at h9
  exact v_bald C h9 (kty_at rfl) h7 hdg (kk _ h2)
theorem v_aJl (C : kOk g X cc nL own rt fr lo rv w1) {a : Nat} {i : Int32} (hdg : decode cc pc = .ok (.laload, 1)) {A : Int64 → Option β} (hF : kob (aJ g w 3 a i) A = some z) (kk : ∀ x, A x = some z → kV g X nL w (pc + 1) lv (.long x :: st)) : kV g X nL w pc lv (.int i :: .ref a :: st) := by
  obtain ⟨x, h1, h2⟩ := kob_of hF
  obtain ⟨q, h3, h4⟩ := kob_of h1
  obtain ⟨f, h5, h6⟩ := kob_of h4
  obtain ⟨h7, h8⟩ := k_ite h6
  cases h8
  have h9 := aC_of h3
  rw [xJ_of h5] at h9
  exact v_lald C h9 (kty_at rfl) h7 hdg (kk _ h2)
theorem v_aQl (C : kOk g X cc nL own rt fr lo rv w1) {a t : Nat} {E : String} (ht : ktys[t]? = some (t, .object E)) {i : Int32} (hdg : decode cc pc = .ok (.aaload, 1)) {A : Option Nat → Option β} (hF : kob (aQ g w t a i) A = some z) (kk : ∀ x, A x = some z → kV g X nL w (pc + 1) lv (va_rf x :: st)) : kV g X nL w pc lv (.int i :: .ref a :: st) := by
  obtain ⟨x, h1, h2⟩ := kob_of hF
  obtain ⟨q, h3, h4⟩ := kob_of h1
  obtain ⟨f, h5, h6⟩ := kob_of h4
  obtain ⟨h7, h8⟩ := k_ite h6
  cases h8
  have h9 := aC_of h3
  rw [xQ_of h5] at h9
  exact fun H locs ls a1 b h => va_aldq C.1 C.2.1 C.2.2.2.2.2.1.1 (kP1 a1 h9) 0 t rfl (kty_at ht) (kin_vp h7) hdg (kk _ h2 H locs ls a1 b h)
theorem v_aSi (C : kOk g X cc nL own rt fr lo rv w1) {a : Nat} {i v : Int32} (hdg : decode cc pc = .ok (.iastore, 1)) {A : Wd → Option β} (hF : kob (aSI g w 0 a i v) A = some z) (kk : ∀ w2, A w2 = some z → kV g X nL w2 (pc + 1) lv st) : kV g X nL w pc lv (.int v :: .int i :: .ref a :: st) := by
  obtain ⟨x, h1, h2⟩ := kob_of hF
  obtain ⟨q, h3, h4⟩ := kob_of h1
  obtain ⟨f, h5, h6⟩ := kob_of h4
  obtain ⟨h7, h8⟩ := k_ite h6
  cases h8
  have h9 := aC_of h3
  rw [xI_of h5] at h9
  exact v_iast C h9 (kty_at rfl) h7 hdg (kk _ h2)
theorem v_aSb (C : kOk g X cc nL own rt fr lo rv w1) {a : Nat} {i v : Int32} (hdg : decode cc pc = .ok (.bastore, 1)) {A : Wd → Option β} (hF : kob (aSI g w 2 a i (vp_nar .byte v)) A = some z) (kk : ∀ w2, A w2 = some z → kV g X nL w2 (pc + 1) lv st) : kV g X nL w pc lv (.int v :: .int i :: .ref a :: st) := by
  obtain ⟨x, h1, h2⟩ := kob_of hF
  obtain ⟨q, h3, h4⟩ := kob_of h1
  obtain ⟨f, h5, h6⟩ := kob_of h4
  obtain ⟨h7, h8⟩ := k_ite h6
  cases h8
  have h9 := aC_of h3
  rw [xI_of h5] at h9
  exact v_bast C h9 (kty_at rfl) h7 hdg (kk _ h2)
theorem v_aSl (C : kOk g X cc nL own rt fr lo rv w1) {a : Nat} {i : Int32} {v : Int64} (hdg : decode cc pc = .ok (.lastore, 1)) {A : Wd → Option β} (hF : kob (aSJ g w 3 a i v) A = some z) (kk : ∀ w2, A w2 = some z → kV g X nL w2 (pc + 1) lv st) : kV g X nL w pc lv (.long v :: .int i :: .ref a :: st) := by
  obtain ⟨x, h1, h2⟩ := kob_of hF
  obtain ⟨q, h3, h4⟩ := kob_of h1
  obtain ⟨f, h5, h6⟩ := kob_of h4
  obtain ⟨h7, h8⟩ := k_ite h6
  cases h8
  have h9 := aC_of h3
  rw [xJ_of h5] at h9
  exact v_last C h9 (kty_at rfl) h7 hdg (kk _ h2)
/-- a reference into an array of references; what is stored may be stored there -/
theorem v_aSq (C : kOk g X cc nL own rt fr lo rv w1) {a t v : Nat} {E : String} (ht : ktys[t]? = some (t, .object E)) {i : Int32} (hel : ∀ H, kRp g w H → va_Any E (xs X) H v) (hdg : decode cc pc = .ok (.aastore, 1)) {A : Wd → Option β} (hF : kob (aSQ g w t a i (some v)) A = some z) (kk : ∀ w2, A w2 = some z → kV g X nL w2 (pc + 1) lv st) : kV g X nL w pc lv (.ref v :: .int i :: .ref a :: st) := by
  obtain ⟨x, h1, h2⟩ := kob_of hF
  obtain ⟨q, h3, h4⟩ := kob_of h1
  obtain ⟨f, h5, h6⟩ := kob_of h4
  obtain ⟨h7, h8⟩ := k_ite h6
  cases h8
  have h9 := aC_of h3
  obtain ⟨n, hq⟩ : ∃ n, q = (n, .inr (.inr (.inr (.inr f)))) := ⟨q.1, xQ_of h5⟩
  subst hq
  have kk := kk _ h2
  intro H locs ls a1 b h
  obtain ⟨hx, hb, hml, hown, hts, hG, -⟩ := C
  have hK := hG.1
  have hcell : H[a]? = some (vp_cell (gA g t) (n, .inr (.inr (.inr (.inr f))))) := (a1.1 a _ h9).1
  have haB := (a1.1 a _ h9).2
  obtain ⟨cellV, g1, g2, ⟨kC, hkC⟩, g3⟩ := hel H a1
  obtain ⟨kA, comp, k1, k2, k3, -⟩ := (hK.2 t _ (kty_at ht)).2
  obtain ⟨kE, hkE, -⟩ := Vm.findClass_spec k3
  have hin := kin_vp h7
  have hlt : i.toNatClampNeg < n := Nat.not_le.mp fun q => hin (Or.inr q)
  refine W.aast hx hb hcell (fun q h => by cases h) (fun h => by cases h) k1 k2 rfl hkE ⟨fun q => hin (Or.inl q), by show _ < (arrV _ _ _).slots.size; rw [arrV_size]; exact hlt⟩ g1 (fun q h => by rw [h] at g2; cases g2) hkC (g3 _ k3) rfl rfl hdg fun H1 e z oq => ?_
  have e2 : H1[a]? = some (vp_cell (gA g t) (n, .inr (.inr (.inr (.inr (va_up f i.toNatClampNeg (some v))))))) := by
    rw [e]
    rw [vp_cell_q, vp_cell_q, arrV_store]
    congr 2
    funext q
    by_cases hq : q = i.toNatClampNeg
    · subst hq
      simp [updV, va_up, va_rf]
    · simp [updV, va_up, hq]
  refine kk H1 _ ls (a1.set haB e2 z oq (fun c hc' => ?_)) (fun q hq => ?_) h
  · cases hcell.symm.trans hc'
    exact ⟨_, e2, by rw [vp_cell_q, vp_cell_q, arrV_size, arrV_size]⟩
  · rcases List.mem_append.mp hq with z | z
    · exact b q z
    · cases List.mem_singleton.mp z
      exact haB
end KC
set_option maxRecDepth 100000
abbrev kBs (g : GT) : Nat → Prop := fun q => gB g ≤ q
section KD
variable {g : GT} {X : CxT} {cc : ByteArray} {nL : Nat} {own : String} {rt : Option FieldType} {fr lo : Nat} {rv : Option Value} {w1 w : Wd} {pc : Nat} {lv : List (Option Value)} {st : List Value} {β : Type} {z : β}
/-- a static that was there at the law's start -/
theorem v_gets (C : kOk g X cc nL own rt fr lo rv w1) {Cn n d ref : String} {v : Value} {index : Nat} (hZ : va_Z Cn n d v (kBs g) (xs X) (gH g)) (hq : Cond.fieldLink own index ref n d ∈ lw_all) (hsame : ref = Cn ∨ Cond.sameField ref Cn n d ∈ lw_all) (hdg : decode cc pc = .ok (.getstatic index, 3)) (kk : kV g X nL w (pc + 3) lv (v :: st)) : kV g X nL w pc lv st := by
  intro H locs ls a1 b h
  obtain ⟨cf, kf, fi, f, a, cell, h1, h2, h3, h4, h5, h6, h7, h8⟩ := hZ
  have h9 : (xs X).fieldFound? ref n d = some (cf, kf, fi, f) := by
    rcases hsame with rfl | hs
    · exact h1
    · exact u_same (C.2.2.2.2.1 _ hs) _ h1
  exact W.gets C.1 C.2.1 C.2.2.2.1 (C.2.2.2.2.1 _ hq) h9 h2 h3 h4 (by rw [a1.2.2.2.2 a (Nat.not_le.mp h8)]; exact h5) (fun e => by rw [e] at h6; cases h6) h7 rfl hdg (kk H locs ls a1 b h)
/-- a cast that holds -/
theorem v_castI (C : kOk g X cc nL own rt fr lo rv w1) {ci N index a : Nat} {nm : String} {T : u_T} (hc : kcl[ci]? = some (nm, T, N)) (hq : Cond.classLink own index nm ∈ lw_all) (hdg : decode cc pc = .ok (.checkcast index, 3)) {f : Option β} (hF : (if oIs w a ci = true then f else none) = some z) (kk : f = some z → kV g X nL w (pc + 3) lv (.ref a :: st)) : kV g X nL w pc lv (.ref a :: st) := by
  obtain ⟨h1, h2⟩ := k_ite hF
  obtain ⟨fs, h3⟩ := oIs_of h1
  intro H locs ls a1 b h
  exact va_castS C.1 C.2.1 C.2.2.2.1 (C.2.2.2.2.1 _ hq) (C.2.2.2.2.2.1.1.1 ci _ hc).2 (k_recv C.2.2.2.2.2.1 a1 hc h3) hdg (kk h2 H locs ls a1 b h)
theorem v_castY (C : kOk g X cc nL own rt fr lo rv w1) {ci N index a : Nat} {nm Cn : String} {T : u_T} (hc : kcl[ci]? = some (Cn, T, N)) (hq : Cond.classLink own index nm ∈ lw_all) (hw : Cond.castable Cn nm ∈ lw_tbl) (hdg : decode cc pc = .ok (.checkcast index, 3)) {f : Option β} (hF : (if oIs w a ci = true then f else none) = some z) (kk : f = some z → kV g X nL w (pc + 3) lv (.ref a :: st)) : kV g X nL w pc lv (.ref a :: st) := by
  obtain ⟨h1, h2⟩ := k_ite hF
  obtain ⟨fs, h3⟩ := oIs_of h1
  intro H locs ls a1 b h
  exact va_castY C.1 C.2.1 C.2.2.2.1 (C.2.2.2.2.1 _ hq) (C.2.2.2.2.2.1.2.1 _ hw rfl) (k_recv C.2.2.2.2.2.1 a1 hc h3) hdg (kk h2 H locs ls a1 b h)
theorem v_ifnull (C : kOk g X cc nL own rt fr lo rv w1) {x : Nat} {off : Int} (hdg : decode cc pc = .ok (.ifnull off, 3)) (k : kV g X nL w (pc + 3) lv st) : kV g X nL w pc lv (.ref x :: st) := fun H locs ls a b h => lv_ifnull C.1 C.2.1 hdg (k H locs ls a b h)
theorem v_ifnullN (C : kOk g X cc nL own rt fr lo rv w1) {off : Int} {tgt : Nat} (hdg : decode cc pc = .ok (.ifnull off, 3)) (ht : (pc : Int) + off = (tgt : Int)) (k : kV g X nL w tgt lv st) : kV g X nL w pc lv (.null :: st) := fun H locs ls a b h => lv_ifnullN C.1 C.2.1 hdg ht (k H locs ls a b h)
theorem v_ifnonnull (C : kOk g X cc nL own rt fr lo rv w1) {x : Nat} {off : Int} {tgt : Nat} (hdg : decode cc pc = .ok (.ifnonnull off, 3)) (ht : (pc : Int) + off = (tgt : Int)) (k : kV g X nL w tgt lv st) : kV g X nL w pc lv (.ref x :: st) := fun H locs ls a b h => lv_ifnonnull C.1 C.2.1 hdg ht (k H locs ls a b h)
theorem v_ifnonnullN (C : kOk g X cc nL own rt fr lo rv w1) {off : Int} (hdg : decode cc pc = .ok (.ifnonnull off, 3)) (k : kV g X nL w (pc + 3) lv st) : kV g X nL w pc lv (.null :: st) := fun H locs ls a b h => lv_ifnonnullN C.1 C.2.1 hdg (k H locs ls a b h)
theorem v_acmp_eq (C : kOk g X cc nL own rt fr lo rv w1) {rx ry : Option Nat} {vx vy : Value} (hx : vx = va_rf rx) (hy : vy = va_rf ry) {off : Int} {tgt : Nat} (hdg : decode cc pc = .ok (.if_acmp .eq off, 3)) (ht : (pc : Int) + off = (tgt : Int)) {f1 f2 : Option β} (hF : (if rx = ry then f1 else f2) = some z) (k1 : rx = ry → f1 = some z → kV g X nL w tgt lv st) (k2 : ¬ rx = ry → f2 = some z → kV g X nL w (pc + 3) lv st) : kV g X nL w pc lv (vy :: vx :: st) := by
  subst hx; subst hy
  exact fun H locs ls a b h => lv_acmp_eq C.1 C.2.1 hdg ht (fun q => k1 q (by rw [if_pos q] at hF; exact hF) H locs ls a b h) (fun q => k2 q (by rw [if_neg q] at hF; exact hF) H locs ls a b h)
theorem v_acmp_ne (C : kOk g X cc nL own rt fr lo rv w1) {rx ry : Option Nat} {vx vy : Value} (hx : vx = va_rf rx) (hy : vy = va_rf ry) {off : Int} {tgt : Nat} (hdg : decode cc pc = .ok (.if_acmp .ne off, 3)) (ht : (pc : Int) + off = (tgt : Int)) {f1 f2 : Option β} (hF : (if rx = ry then f1 else f2) = some z) (k1 : rx = ry → f1 = some z → kV g X nL w (pc + 3) lv st) (k2 : ¬ rx = ry → f2 = some z → kV g X nL w tgt lv st) : kV g X nL w pc lv (vy :: vx :: st) := by
  subst hx; subst hy
  exact fun H locs ls a b h => lv_acmp_ne C.1 C.2.1 hdg ht (fun q => k2 q (by rw [if_neg q] at hF; exact hF) H locs ls a b h) (fun q => k1 q (by rw [if_pos q] at hF; exact hF) H locs ls a b h)
/-- a new array of references -/
theorem v_anew (C : kOk g X cc nL own rt fr lo rv w1) {index t : Nat} {E : String} (ht : ktys[t]? = some (t, .object E)) (hq : Cond.classLink own index E ∈ lw_all) (hao : va_AO E (xs X)) {n : Int32} (hdg : decode cc pc = .ok (.anewarray index, 3)) {A : Nat → Wd → Option β} (hF : kb (aNew g w t n (.inr (.inr (.inr (.inr (fun _ => none)))))) A = some z) (kk : ∀ a w2, A a w2 = some z → kV g X nL w2 (pc + 3) lv (.ref a :: st)) : kV g X nL w pc lv (.int n :: st) := by
  obtain ⟨a, w2, h1, h2⟩ := kb_of hF
  obtain ⟨⟨h3, h4, h5, h6⟩, h7⟩ := k_ite h1
  cases h7
  have kk := kk _ _ h2
  intro H locs ls a1 b h
  obtain ⟨hx, hb, hml, hown, hts, hG, -, -, ⟨-, -, hRc, hRs⟩, -⟩ := C
  refine kW_tight a1 (fun z1 z2 => ?_)
  refine W.anew hx hb hown (hts _ hq) (va_AO.use hao) rfl hdg rfl h3 (by omega) (by rw [hRc]; omega) (by rw [hRs]; omega) fun cA kA comp f1 f2 f3 f4 => ?_
  obtain ⟨kA', comp', k1, k2, k3, k4⟩ := (hG.1.2 t _ (kty_at ht)).2
  cases k4.symm.trans f1
  have hs1 : H.size = w.2.1 := a1.2.1
  have e1 : (H.push ({ cls := gA g t, slots := Array.replicate n.toNatClampNeg .null, vm := .none } : Cell))[H.size]? = some (arrV (gA g t) n.toNatClampNeg (fun _ => .null)) := by rw [Array.getElem?_push_size, ← arrV_new]
  have a2 := a1.push (e := .inl (.inl (gA g t, n.toNatClampNeg, .inr (.inr (.inr (.inr (fun _ => none))))))) (c := arrV (gA g t) n.toNatClampNeg (fun _ => .null)) e1 (by simp) e1 (fun q hq => by rw [Array.getElem?_push, if_neg (by omega)]) (n := n.toNatClampNeg) (arrV_size _ _ _) ⟨h5, h6⟩
  refine kW_tight a2 (fun z3 z4 => ?_)
  rw [hs1]
  exact kk _ locs ls a2 b h
/-- a new array of numbers -/
theorem v_newaW (C : kOk g X cc nL own rt fr lo rv w1) {atype : ArrayType} (hq : Cond.arrayClass (newarray.typeOf atype) ∈ lw_all) {ty : FieldType} (hty : newarray.typeOf atype = ty) {t : Nat} (ht : ktys[t]? = some (t, ty)) (hra : va_RA (xs X) (gA g t) ty = ((xs X).vm.findClass ("[" ++ ty.toString) = some (gA g t))) {n : Int32} {x : (Nat → Int32) ⊕ (Nat → Int64) ⊕ (Nat → UInt32) ⊕ (Nat → UInt64) ⊕ (Nat → Option Nat)} (hx0 : ∀ (cA : ClassId) (N : Nat), vp_cell cA (N, x) = arrV cA N (fun _ => defaultValue ty)) (hb8 : componentBytes ty ≤ 8) (hdg : decode cc pc = .ok (.newarray atype, 2)) {A : Nat → Wd → Option β} (hF : kb (aNew g w t n x) A = some z) (kk : ∀ a w2, A a w2 = some z → kV g X nL w2 (pc + 2) lv (.ref a :: st)) : kV g X nL w pc lv (.int n :: st) := by
  obtain ⟨a, w2, h1, h2⟩ := kb_of hF
  obtain ⟨⟨h3, h4, h5, h6⟩, h7⟩ := k_ite h1
  cases h7
  refine v_newa C hq hty (kty_at ht) hra (fun cA => hx0 cA _) h3 rfl ?_ hdg ⟨h5, h6⟩ (kk _ _ h2)
  have := Nat.mul_le_mul h4 hb8
  omega
end KD
section KE
variable {g : GT} {X : CxT} {cc : ByteArray} {nL : Nat} {own : String} {rt : Option FieldType} {fr lo : Nat} {rv : Option Value} {w1 w : Wd} {pc : Nat} {lv : List (Option Value)} {st : List Value}
theorem v_run5 {a0 : Array Value} {w2 : Wd} {r : Option Value} {st0 : List Value} {mc ms : Nat}
    (hr : ∀ (H : Heap) (locs : List Loc) (ls : Array Slot), kRp g w H → lv_has ls nL (lvE 0 lv) → (xs X).heap.size ≤ w.2.1 → khs (xs X).heap ≤ w.2.2 →
      va_Run5 (xp X) (xl X) (xe X) (xR X) (xs X) (xm X) (xa X) (xb X) (xh X) (xc X) H locs (w.2.1 - (xs X).heap.size) (w.2.2 - khs (xs X).heap) mc ms (F0 (xm X) pc ls st0) st (Qk g r w2 a0) (kfree g))
    (k : kV g X nL w2 (pc + 5) lv (r.toList ++ st)) : kV g X nL w pc lv st0 := by
  intro H locs ls a b h
  refine kW_tight a (fun z1 z2 => ?_)
  intro T hT X0
  obtain ⟨v, st₀, t, T', L, h0, X', hL, e1, e2, ⟨hv, hR⟩, stp⟩ := hr H locs ls a h z1 z2 T hT X0
  cases hv
  have hR' : kRp g w2 T'.heap := by rw [e1]; exact hR
  obtain ⟨t2, a1, b1⟩ := kW_tight hR' (fun _ _ => k T'.heap (locs ++ L) ls hR' (fun q hq => by
    rcases List.mem_append.mp hq with z | z
    · exact b q z
    · exact hL q z) h) T' rfl X'
  exact ⟨t2, stp t2 a1, b1⟩
/-- the receiver is an object of the class -/
abbrev kRc (g : GT) (X : CxT) (w : Wd) (Cn : String) (a : Nat) : Prop := ∀ H, kRp g w H → ∃ cell : Cell, H[a]? = some cell ∧ cell.vm.isStatics = false ∧ (xs X).vm.findClass Cn = some cell.cls
theorem kRc.of (C : kOk g X cc nL own rt fr lo rv w1) {a ci N : Nat} {Cn : String} {T : u_T} (hc : kcl[ci]? = some (Cn, T, N)) (h : oIs w a ci = true) : kRc g X w Cn a := by
  obtain ⟨fs, h3⟩ := oIs_of h
  exact fun H a1 => k_recv C.2.2.2.2.2.1 a1 hc h3
/-- a nest mate's static method -/
def kLN (own : String) (index : Nat) (y : MethodName) (b : ByteArray) (mL : Nat) (ret : Option FieldType) (n : Nat) : Prop :=
  (∃ host, Cond.methodLinkNest own index y host ∈ lw_tbl) ∧ Cond.static y ∈ lw_all ∧ Cond.initialized y.cls ∈ lw_all ∧ Cond.code y b mL ret ∈ lw_all ∧ kD y n
theorem v_callN (C : kOk g X cc nL own rt fr lo rv w1) {index : Nat} {y : MethodName} {b : ByteArray} {mL n : Nat} {ret : Option FieldType} (L : kLN own index y b mL ret n) {fr2 lo2 : Nat} {As : List Value} {r : Option Value} {w2 : Wd} {st0 : List Value} (hM : kMt (xl X) g y (ws_ y b mL ret) fr2 lo2 w As r w2) (hR : fr2 + 1 ≤ fr ∧ 8 + (mL + 11) + lo2 ≤ lo) (hn : As.length = n) (hst : st0 = As.reverse ++ st) (hw : (st.map fun v => v.category).sum ≤ 8) (hdg : decode cc pc = .ok (.invokestatic index, 3))
    (k : kV g X nL w2 (pc + 3) lv (r.toList ++ st)) : kV g X nL w pc lv st0 := by
  refine v_run (mc := gcc g - w.2.1) (ms := gcs g - w.2.2) (a0 := As.toArray) (fun H locs ls a h z1 z2 => ?_) k
  obtain ⟨hx, hb, hml, hown, hts, hG, -, -, ⟨r1, r2, r3, r4⟩, -⟩ := C
  obtain ⟨⟨host, l1⟩, l2, l3, l4, l5⟩ := L
  have c1 := a.2.2.2.1.2.1
  have c2 := a.2.2.2.1.2.2
  refine va_runSN (As := As) ⟨hx, hb, hml, hown, hts⟩ hM ⟨va_cnB n hts (lw_meth l4) rfl rfl rfl (hG.2.1 _ l1 rfl) (hts _ l3) l5 ?_, hts _ l2, trivial⟩ ⟨Pk_blind, Pk_at hG a⟩ rfl hn h.1 hst (lv_room hw) hdg ?_
  · rw [r1, r2]; exact hR
  · rw [r3, r4]; exact ⟨by omega, by omega⟩
/-- a nest mate's private constructor -/
def kLIN (own : String) (index : Nat) (y : MethodName) (b : ByteArray) (mL : Nat) (n : Nat) : Prop :=
  (∃ host, Cond.methodLinkNest own index y host ∈ lw_tbl) ∧ Cond.instanceMethod y ∈ lw_all ∧ Cond.initialized y.cls ∈ lw_all ∧ Cond.code y b mL none ∈ lw_all ∧ y.name = "<init>" ∧ kD y n
theorem v_callIN (C : kOk g X cc nL own rt fr lo rv w1) {index : Nat} {y : MethodName} {b : ByteArray} {mL n : Nat} (L : kLIN own index y b mL n) {fr2 lo2 : Nat} {a : Nat} {As : List Value} {w2 : Wd} {st0 : List Value} (hM : kMt (xl X) g y (ws_ y b mL none) fr2 lo2 w (.ref a :: As) none w2) (hR : fr2 + 1 ≤ fr ∧ 8 + (mL + 11) + lo2 ≤ lo) (hn : As.length = n) (hst : st0 = As.reverse ++ .ref a :: st) (hw : (st.map fun v => v.category).sum ≤ 8) (hdg : decode cc pc = .ok (.invokespecial index, 3))
    (k : kV g X nL w2 (pc + 3) lv st) : kV g X nL w pc lv st0 := by
  refine v_run (mc := gcc g - w.2.1) (ms := gcs g - w.2.2) (a0 := (Value.ref a :: As).toArray) (r := none) (fun H locs ls a1 h z1 z2 => ?_) k
  obtain ⟨hx, hb, hml, hown, hts, hG, -, -, ⟨r1, r2, r3, r4⟩, -⟩ := C
  obtain ⟨⟨host, l1⟩, l2, l3, l4, l5, l6⟩ := L
  have c1 := a1.2.2.2.1.2.1
  have c2 := a1.2.2.2.1.2.2
  refine va_runIN (As := As) ⟨hx, hb, hml, hown, hts⟩ hM ⟨va_cnB n hts (lw_meth l4) rfl rfl rfl (hG.2.1 _ l1 rfl) (hts _ l3) l6 ?_, l5, hts _ l2⟩ ⟨Pk_blind, Pk_at hG a1⟩ rfl hn h.1 hst (lv_room hw) hdg ?_
  · rw [r1, r2]; exact hR
  · rw [r3, r4]; exact ⟨by omega, by omega⟩
/-- a virtual call whose method is another class's -/
def kLU (own : String) (index : Nat) (Cn owner : String) (x y : MethodName) (b : ByteArray) (mL : Nat) (ret : Option FieldType) (n : Nat) : Prop :=
  Cond.methodLink own index x ∈ lw_all ∧ Cond.sameMethod x.cls owner x.name x.desc ∈ lw_all ∧ Cond.selects Cn x y ∈ lw_all ∧ Cond.instanceMethod y ∈ lw_all ∧ Cond.initialized y.cls ∈ lw_all ∧ Cond.code y b mL ret ∈ lw_all ∧
  (Cond.declares ⟨owner, x.name, x.desc⟩ ∈ lw_tbl ∨ (Cond.instanceMethod ⟨owner, x.name, x.desc⟩ ∈ lw_all ∧ ∃ b0 m0 r0, Cond.code ⟨owner, x.name, x.desc⟩ b0 m0 r0 ∈ lw_all)) ∧ owner ≠ "java/lang/invoke/MethodHandle" ∧ owner ≠ "java/lang/invoke/VarHandle" ∧ (parseMethodDescriptor x.desc).map (fun d => d.parameters.length) = some n
theorem v_callU (C : kOk g X cc nL own rt fr lo rv w1) {index : Nat} {Cn owner : String} {x y : MethodName} {b : ByteArray} {mL n : Nat} {ret : Option FieldType} (L : kLU own index Cn owner x y b mL ret n) {fr2 lo2 : Nat} {a : Nat} {As : List Value} {r : Option Value} {w2 : Wd} {st0 : List Value} (hrc : kRc g X w Cn a) (hM : kMt (xl X) g y (ws_ y b mL ret) fr2 lo2 w (.ref a :: As) r w2) (hR : fr2 + 1 ≤ fr ∧ 8 + (mL + 11) + lo2 ≤ lo) (hn : As.length = n) (hst : st0 = As.reverse ++ .ref a :: st) (hw : (st.map fun v => v.category).sum ≤ 8) (hdg : decode cc pc = .ok (.invokevirtual index, 3))
    (k : kV g X nL w2 (pc + 3) lv (r.toList ++ st)) : kV g X nL w pc lv st0 := by
  refine v_run (mc := gcc g - w.2.1) (ms := gcs g - w.2.2) (a0 := (Value.ref a :: As).toArray) (fun H locs ls a1 h z1 z2 => ?_) k
  obtain ⟨hx, hb, hml, hown, hts, hG, -, -, ⟨r1, r2, r3, r4⟩, -⟩ := C
  obtain ⟨l1, l2, l3, l4, l5, l6, l7, l8, l9, l10⟩ := L
  have c1 := a1.2.2.2.1.2.1
  have c2 := a1.2.2.2.1.2.2
  have hdecl : va_Decl (xs X) ⟨owner, x.name, x.desc⟩ := by
    rcases l7 with q | ⟨q, b0, m0, r0, q2⟩
    · exact va_Decl.abs (hG.2.1 _ q rfl)
    · exact va_Decl.of (hts _ q) (hts _ q2)
  refine va_runU (As := As) (C := Cn) (owner := owner) (x := x) (n := n) (bytes := b) (maxL := mL) (ret := ret) ⟨hx, hb, hml, hown, hts⟩ hM ⟨⟨rfl, rfl, ?_, ?_, pay_in hts (lw_meth l6), List.mem_cons_self⟩, hts _ l6, hts _ l5, ⟨l8, l9⟩, ?_, hts _ l1, hts _ l2, hdecl, hts _ l3, hts _ l4⟩ ⟨Pk_blind, hrc H a1, Pk_at hG a1⟩ rfl hn h.1 hst (lv_room hw) hdg ?_
  · rw [r1]; exact hR.1
  · rw [r2]; exact hR.2
  · intro sig hs
    rw [hs] at l10
    exact (Option.some.inj l10).symm
  · rw [r3, r4]; exact ⟨by omega, by omega⟩
/-- a call through an interface -/
def kLF (own : String) (index : Nat) (Cn : String) (x y : MethodName) (b : ByteArray) (mL : Nat) (ret : Option FieldType) (n : Nat) : Prop :=
  Cond.methodLink own index x ∈ lw_all ∧ Cond.selects Cn x y ∈ lw_all ∧ Cond.instanceMethod y ∈ lw_all ∧ Cond.initialized y.cls ∈ lw_all ∧ Cond.code y b mL ret ∈ lw_all ∧ x.cls ≠ "java/lang/invoke/MethodHandle" ∧ x.cls ≠ "java/lang/invoke/VarHandle" ∧ (parseMethodDescriptor x.desc).map (fun d => d.parameters.length) = some n
theorem v_callF (C : kOk g X cc nL own rt fr lo rv w1) {index count : Nat} {Cn : String} {x y : MethodName} {b : ByteArray} {mL n : Nat} {ret : Option FieldType} (L : kLF own index Cn x y b mL ret n) (hFw : va_Fw Cn x y (xs X)) {cC : ClassId} (hat : ClassAt (xs X) Cn cC) {fr2 lo2 : Nat} {a : Nat} {As : List Value} {r : Option Value} {w2 : Wd} {st0 : List Value} (hrc : kRc g X w Cn a) (hM : kMt (xl X) g y (ws_ y b mL ret) fr2 lo2 w (.ref a :: As) r w2) (hR : fr2 + 1 ≤ fr ∧ 8 + (mL + 11) + lo2 ≤ lo) (hn : As.length = n) (hst : st0 = As.reverse ++ .ref a :: st) (hw : (st.map fun v => v.category).sum ≤ 8) (hdg : decode cc pc = .ok (.invokeinterface index count, 5))
    (k : kV g X nL w2 (pc + 5) lv (r.toList ++ st)) : kV g X nL w pc lv st0 := by
  refine v_run5 (mc := gcc g - w.2.1) (ms := gcs g - w.2.2) (a0 := (Value.ref a :: As).toArray) (fun H locs ls a1 h z1 z2 => ?_) k
  obtain ⟨hx, hb, hml, hown, hts, hG, -, -, ⟨r1, r2, r3, r4⟩, -⟩ := C
  obtain ⟨l1, l2, l3, l4, l5, l6, l7, l8⟩ := L
  have c1 := a1.2.2.2.1.2.1
  have c2 := a1.2.2.2.1.2.2
  refine va_runF (As := As) hat ⟨hx, hb, hml, hown, hts⟩ hM (va_cwF n hts (lw_app (fun w hw => by
      simp only [List.mem_cons, List.not_mem_nil, or_false] at hw
      rcases hw with rfl | rfl | rfl | rfl
      · exact l1
      · exact l2
      · exact l3
      · exact l4) (lw_meth l5)) rfl rfl rfl hFw ⟨l6, l7, l8⟩ ?_) ⟨Pk_blind, hrc H a1, Pk_at hG a1⟩ rfl hn h.1 hst (lv_room hw) hdg ?_
  · rw [r1, r2]; exact hR
  · rw [r3, r4]; exact ⟨by omega, by omega⟩
theorem c_iret {v r : Int32} {w2 : Wd} (C : kOk g X cc nL own (some .int) fr lo (some (.int r)) w2) (hdg : decode cc pc = .ok (.ireturn, 1)) (hF : some (v, w) = some (r, w2)) : kV g X nL w pc lv [.int v] := by
  cases hF
  exact v_iret C hdg
theorem c_zret {ty : FieldType} {v r : Int32} {w2 : Wd} (C : kOk g X cc nL own (some ty) fr lo (some (.int r)) w2) (hn : narrow ty (.int v) = .int v) (hdg : decode cc pc = .ok (.ireturn, 1)) (hF : some (v, w) = some (r, w2)) : kV g X nL w pc lv [.int v] := by
  cases hF
  exact v_zret C hn hdg
theorem c_vret {r : Unit} {w2 : Wd} (C : kOk g X cc nL own none fr lo none w2) (hdg : decode cc pc = .ok (.return_, 1)) (hF : some ((), w) = some (r, w2)) : kV g X nL w pc lv [] := by
  cases hF
  exact v_vret C hdg
theorem v_aret {v : Value} {rt0 : FieldType} (C : kOk g X cc nL own (some rt0) fr lo (some v) w) (hrt : (∃ n, rt0 = .object n) ∨ ∃ t, rt0 = .array t) (hv : v = .null ∨ ∃ a, v = .ref a) (hdg : decode cc pc = .ok (.areturn, 1)) : kV g X nL w pc lv [v] := by
  intro H locs ls a b h
  obtain ⟨hx, hb, -, -, -, -, hlk, hr, -, hQ⟩ := C
  refine W_post hQ ?_
  refine W.widen (Nat.sub_le_sub_right a.2.2.2.1.2.1 _) (Nat.sub_le_sub_right a.2.2.2.1.2.2 _) ?_
  exact W.aret hx hb hr hrt hv (fun t ht _ => ⟨rfl, by rw [ht]; exact a⟩) b hdg hlk
theorem c_aret {v r : Nat} {w2 : Wd} {rt0 : FieldType} (C : kOk g X cc nL own (some rt0) fr lo (some (.ref r)) w2) (hrt : (∃ n, rt0 = .object n) ∨ ∃ t, rt0 = .array t) (hdg : decode cc pc = .ok (.areturn, 1)) (hF : some (v, w) = some (r, w2)) : kV g X nL w pc lv [.ref v] := by
  cases hF
  exact v_aret C hrt (Or.inr ⟨_, rfl⟩) hdg
theorem c_qret {v : Value} {q r : Option Nat} {w2 : Wd} {rt0 : FieldType} (C : kOk g X cc nL own (some rt0) fr lo (some (va_rf r)) w2) (hq : v = va_rf q) (hrt : (∃ n, rt0 = .object n) ∨ ∃ t, rt0 = .array t) (hdg : decode cc pc = .ok (.areturn, 1)) (hF : some (q, w) = some (r, w2)) : kV g X nL w pc lv [v] := by
  cases hF
  subst hq
  exact v_aret C hrt (by cases q with | none => exact Or.inl rfl | some a => exact Or.inr ⟨a, rfl⟩) hdg
theorem c_callSi (C : kOk g X cc nL own rt fr lo rv w1) {index : Nat} {y : MethodName} {b : ByteArray} {mL n : Nat} {ret : Option FieldType} (L : kLS own index y b mL ret n) {fr2 lo2 : Nat} {As st0 : List Value} {f : Option (Int32 × Wd)} (hM : ∀ r w2, f = some (r, w2) → kMt (xl X) g y (ws_ y b mL ret) fr2 lo2 w (As) (some (.int r)) w2) (hR : fr2 + 1 ≤ fr ∧ 8 + (mL + 11) + lo2 ≤ lo) (hn : As.length = n) (hst : st0 = As.reverse ++ st) (hw : (st.map fun v => v.category).sum ≤ 8) (hdg : decode cc pc = .ok (.invokestatic index, 3)) {β : Type} {A : Int32 → Wd → Option β} {z : β} (hF : kb f A = some z) (k : ∀ r w2, A r w2 = some z → kV g X nL w2 (pc + 3) lv (.int r :: st)) : kV g X nL w pc lv st0 := by
  obtain ⟨r, w2, h1, h2⟩ := kb_of hF
  exact v_callS C L (hM r w2 h1) hR hn hst hw hdg (k r w2 h2)
theorem c_callSr (C : kOk g X cc nL own rt fr lo rv w1) {index : Nat} {y : MethodName} {b : ByteArray} {mL n : Nat} {ret : Option FieldType} (L : kLS own index y b mL ret n) {fr2 lo2 : Nat} {As st0 : List Value} {f : Option (Nat × Wd)} (hM : ∀ r w2, f = some (r, w2) → kMt (xl X) g y (ws_ y b mL ret) fr2 lo2 w (As) (some (.ref r)) w2) (hR : fr2 + 1 ≤ fr ∧ 8 + (mL + 11) + lo2 ≤ lo) (hn : As.length = n) (hst : st0 = As.reverse ++ st) (hw : (st.map fun v => v.category).sum ≤ 8) (hdg : decode cc pc = .ok (.invokestatic index, 3)) {β : Type} {A : Nat → Wd → Option β} {z : β} (hF : kb f A = some z) (k : ∀ r w2, A r w2 = some z → kV g X nL w2 (pc + 3) lv (.ref r :: st)) : kV g X nL w pc lv st0 := by
  obtain ⟨r, w2, h1, h2⟩ := kb_of hF
  exact v_callS C L (hM r w2 h1) hR hn hst hw hdg (k r w2 h2)
theorem c_callSq (C : kOk g X cc nL own rt fr lo rv w1) {index : Nat} {y : MethodName} {b : ByteArray} {mL n : Nat} {ret : Option FieldType} (L : kLS own index y b mL ret n) {fr2 lo2 : Nat} {As st0 : List Value} {f : Option (Option Nat × Wd)} (hM : ∀ r w2, f = some (r, w2) → kMt (xl X) g y (ws_ y b mL ret) fr2 lo2 w (As) (some (va_rf r)) w2) (hR : fr2 + 1 ≤ fr ∧ 8 + (mL + 11) + lo2 ≤ lo) (hn : As.length = n) (hst : st0 = As.reverse ++ st) (hw : (st.map fun v => v.category).sum ≤ 8) (hdg : decode cc pc = .ok (.invokestatic index, 3)) {β : Type} {A : Option Nat → Wd → Option β} {z : β} (hF : kb f A = some z) (k : ∀ r w2, A r w2 = some z → kV g X nL w2 (pc + 3) lv (va_rf r :: st)) : kV g X nL w pc lv st0 := by
  obtain ⟨r, w2, h1, h2⟩ := kb_of hF
  exact v_callS C L (hM r w2 h1) hR hn hst hw hdg (k r w2 h2)
theorem c_callSl (C : kOk g X cc nL own rt fr lo rv w1) {index : Nat} {y : MethodName} {b : ByteArray} {mL n : Nat} {ret : Option FieldType} (L : kLS own index y b mL ret n) {fr2 lo2 : Nat} {As st0 : List Value} {f : Option (Int64 × Wd)} (hM : ∀ r w2, f = some (r, w2) → kMt (xl X) g y (ws_ y b mL ret) fr2 lo2 w (As) (some (.long r)) w2) (hR : fr2 + 1 ≤ fr ∧ 8 + (mL + 11) + lo2 ≤ lo) (hn : As.length = n) (hst : st0 = As.reverse ++ st) (hw : (st.map fun v => v.category).sum ≤ 8) (hdg : decode cc pc = .ok (.invokestatic index, 3)) {β : Type} {A : Int64 → Wd → Option β} {z : β} (hF : kb f A = some z) (k : ∀ r w2, A r w2 = some z → kV g X nL w2 (pc + 3) lv (.long r :: st)) : kV g X nL w pc lv st0 := by
  obtain ⟨r, w2, h1, h2⟩ := kb_of hF
  exact v_callS C L (hM r w2 h1) hR hn hst hw hdg (k r w2 h2)
theorem c_callSv (C : kOk g X cc nL own rt fr lo rv w1) {index : Nat} {y : MethodName} {b : ByteArray} {mL n : Nat} {ret : Option FieldType} (L : kLS own index y b mL ret n) {fr2 lo2 : Nat} {As st0 : List Value} {f : Option (Unit × Wd)} (hM : ∀ r w2, f = some (r, w2) → kMt (xl X) g y (ws_ y b mL ret) fr2 lo2 w (As) (none) w2) (hR : fr2 + 1 ≤ fr ∧ 8 + (mL + 11) + lo2 ≤ lo) (hn : As.length = n) (hst : st0 = As.reverse ++ st) (hw : (st.map fun v => v.category).sum ≤ 8) (hdg : decode cc pc = .ok (.invokestatic index, 3)) {β : Type} {A : Unit → Wd → Option β} {z : β} (hF : kb f A = some z) (k : ∀ r w2, A r w2 = some z → kV g X nL w2 (pc + 3) lv (st)) : kV g X nL w pc lv st0 := by
  obtain ⟨r, w2, h1, h2⟩ := kb_of hF
  exact v_callS C L (hM r w2 h1) hR hn hst hw hdg (k r w2 h2)
theorem c_callNi (C : kOk g X cc nL own rt fr lo rv w1) {index : Nat} {y : MethodName} {b : ByteArray} {mL n : Nat} {ret : Option FieldType} (L : kLN own index y b mL ret n) {fr2 lo2 : Nat} {As st0 : List Value} {f : Option (Int32 × Wd)} (hM : ∀ r w2, f = some (r, w2) → kMt (xl X) g y (ws_ y b mL ret) fr2 lo2 w (As) (some (.int r)) w2) (hR : fr2 + 1 ≤ fr ∧ 8 + (mL + 11) + lo2 ≤ lo) (hn : As.length = n) (hst : st0 = As.reverse ++ st) (hw : (st.map fun v => v.category).sum ≤ 8) (hdg : decode cc pc = .ok (.invokestatic index, 3)) {β : Type} {A : Int32 → Wd → Option β} {z : β} (hF : kb f A = some z) (k : ∀ r w2, A r w2 = some z → kV g X nL w2 (pc + 3) lv (.int r :: st)) : kV g X nL w pc lv st0 := by
  obtain ⟨r, w2, h1, h2⟩ := kb_of hF
  exact v_callN C L (hM r w2 h1) hR hn hst hw hdg (k r w2 h2)
theorem c_callNr (C : kOk g X cc nL own rt fr lo rv w1) {index : Nat} {y : MethodName} {b : ByteArray} {mL n : Nat} {ret : Option FieldType} (L : kLN own index y b mL ret n) {fr2 lo2 : Nat} {As st0 : List Value} {f : Option (Nat × Wd)} (hM : ∀ r w2, f = some (r, w2) → kMt (xl X) g y (ws_ y b mL ret) fr2 lo2 w (As) (some (.ref r)) w2) (hR : fr2 + 1 ≤ fr ∧ 8 + (mL + 11) + lo2 ≤ lo) (hn : As.length = n) (hst : st0 = As.reverse ++ st) (hw : (st.map fun v => v.category).sum ≤ 8) (hdg : decode cc pc = .ok (.invokestatic index, 3)) {β : Type} {A : Nat → Wd → Option β} {z : β} (hF : kb f A = some z) (k : ∀ r w2, A r w2 = some z → kV g X nL w2 (pc + 3) lv (.ref r :: st)) : kV g X nL w pc lv st0 := by
  obtain ⟨r, w2, h1, h2⟩ := kb_of hF
  exact v_callN C L (hM r w2 h1) hR hn hst hw hdg (k r w2 h2)
theorem c_callNq (C : kOk g X cc nL own rt fr lo rv w1) {index : Nat} {y : MethodName} {b : ByteArray} {mL n : Nat} {ret : Option FieldType} (L : kLN own index y b mL ret n) {fr2 lo2 : Nat} {As st0 : List Value} {f : Option (Option Nat × Wd)} (hM : ∀ r w2, f = some (r, w2) → kMt (xl X) g y (ws_ y b mL ret) fr2 lo2 w (As) (some (va_rf r)) w2) (hR : fr2 + 1 ≤ fr ∧ 8 + (mL + 11) + lo2 ≤ lo) (hn : As.length = n) (hst : st0 = As.reverse ++ st) (hw : (st.map fun v => v.category).sum ≤ 8) (hdg : decode cc pc = .ok (.invokestatic index, 3)) {β : Type} {A : Option Nat → Wd → Option β} {z : β} (hF : kb f A = some z) (k : ∀ r w2, A r w2 = some z → kV g X nL w2 (pc + 3) lv (va_rf r :: st)) : kV g X nL w pc lv st0 := by
  obtain ⟨r, w2, h1, h2⟩ := kb_of hF
  exact v_callN C L (hM r w2 h1) hR hn hst hw hdg (k r w2 h2)
theorem c_callNl (C : kOk g X cc nL own rt fr lo rv w1) {index : Nat} {y : MethodName} {b : ByteArray} {mL n : Nat} {ret : Option FieldType} (L : kLN own index y b mL ret n) {fr2 lo2 : Nat} {As st0 : List Value} {f : Option (Int64 × Wd)} (hM : ∀ r w2, f = some (r, w2) → kMt (xl X) g y (ws_ y b mL ret) fr2 lo2 w (As) (some (.long r)) w2) (hR : fr2 + 1 ≤ fr ∧ 8 + (mL + 11) + lo2 ≤ lo) (hn : As.length = n) (hst : st0 = As.reverse ++ st) (hw : (st.map fun v => v.category).sum ≤ 8) (hdg : decode cc pc = .ok (.invokestatic index, 3)) {β : Type} {A : Int64 → Wd → Option β} {z : β} (hF : kb f A = some z) (k : ∀ r w2, A r w2 = some z → kV g X nL w2 (pc + 3) lv (.long r :: st)) : kV g X nL w pc lv st0 := by
  obtain ⟨r, w2, h1, h2⟩ := kb_of hF
  exact v_callN C L (hM r w2 h1) hR hn hst hw hdg (k r w2 h2)
theorem c_callNv (C : kOk g X cc nL own rt fr lo rv w1) {index : Nat} {y : MethodName} {b : ByteArray} {mL n : Nat} {ret : Option FieldType} (L : kLN own index y b mL ret n) {fr2 lo2 : Nat} {As st0 : List Value} {f : Option (Unit × Wd)} (hM : ∀ r w2, f = some (r, w2) → kMt (xl X) g y (ws_ y b mL ret) fr2 lo2 w (As) (none) w2) (hR : fr2 + 1 ≤ fr ∧ 8 + (mL + 11) + lo2 ≤ lo) (hn : As.length = n) (hst : st0 = As.reverse ++ st) (hw : (st.map fun v => v.category).sum ≤ 8) (hdg : decode cc pc = .ok (.invokestatic index, 3)) {β : Type} {A : Unit → Wd → Option β} {z : β} (hF : kb f A = some z) (k : ∀ r w2, A r w2 = some z → kV g X nL w2 (pc + 3) lv (st)) : kV g X nL w pc lv st0 := by
  obtain ⟨r, w2, h1, h2⟩ := kb_of hF
  exact v_callN C L (hM r w2 h1) hR hn hst hw hdg (k r w2 h2)
theorem c_callVi (C : kOk g X cc nL own rt fr lo rv w1) {index : Nat} {y : MethodName} {b : ByteArray} {mL n : Nat} {ret : Option FieldType} (L : kLV own index y b mL ret n) {a ci N : Nat} {T : u_T} (hc : kcl[ci]? = some (y.cls, T, N)) (hi : oIs w a ci = true) {fr2 lo2 : Nat} {As st0 : List Value} {f : Option (Int32 × Wd)} (hM : ∀ r w2, f = some (r, w2) → kMt (xl X) g y (ws_ y b mL ret) fr2 lo2 w (.ref a :: As) (some (.int r)) w2) (hR : fr2 + 1 ≤ fr ∧ 8 + (mL + 11) + lo2 ≤ lo) (hn : As.length = n) (hst : st0 = As.reverse ++ .ref a :: st) (hw : (st.map fun v => v.category).sum ≤ 8) (hdg : decode cc pc = .ok (.invokevirtual index, 3)) {β : Type} {A : Int32 → Wd → Option β} {z : β} (hF : kb f A = some z) (k : ∀ r w2, A r w2 = some z → kV g X nL w2 (pc + 3) lv (.int r :: st)) : kV g X nL w pc lv st0 := by
  obtain ⟨r, w2, h1, h2⟩ := kb_of hF
  exact v_callV C L hc (oIs_of hi).choose_spec (hM r w2 h1) hR hn hst hw hdg (k r w2 h2)
theorem c_callVr (C : kOk g X cc nL own rt fr lo rv w1) {index : Nat} {y : MethodName} {b : ByteArray} {mL n : Nat} {ret : Option FieldType} (L : kLV own index y b mL ret n) {a ci N : Nat} {T : u_T} (hc : kcl[ci]? = some (y.cls, T, N)) (hi : oIs w a ci = true) {fr2 lo2 : Nat} {As st0 : List Value} {f : Option (Nat × Wd)} (hM : ∀ r w2, f = some (r, w2) → kMt (xl X) g y (ws_ y b mL ret) fr2 lo2 w (.ref a :: As) (some (.ref r)) w2) (hR : fr2 + 1 ≤ fr ∧ 8 + (mL + 11) + lo2 ≤ lo) (hn : As.length = n) (hst : st0 = As.reverse ++ .ref a :: st) (hw : (st.map fun v => v.category).sum ≤ 8) (hdg : decode cc pc = .ok (.invokevirtual index, 3)) {β : Type} {A : Nat → Wd → Option β} {z : β} (hF : kb f A = some z) (k : ∀ r w2, A r w2 = some z → kV g X nL w2 (pc + 3) lv (.ref r :: st)) : kV g X nL w pc lv st0 := by
  obtain ⟨r, w2, h1, h2⟩ := kb_of hF
  exact v_callV C L hc (oIs_of hi).choose_spec (hM r w2 h1) hR hn hst hw hdg (k r w2 h2)
theorem c_callVq (C : kOk g X cc nL own rt fr lo rv w1) {index : Nat} {y : MethodName} {b : ByteArray} {mL n : Nat} {ret : Option FieldType} (L : kLV own index y b mL ret n) {a ci N : Nat} {T : u_T} (hc : kcl[ci]? = some (y.cls, T, N)) (hi : oIs w a ci = true) {fr2 lo2 : Nat} {As st0 : List Value} {f : Option (Option Nat × Wd)} (hM : ∀ r w2, f = some (r, w2) → kMt (xl X) g y (ws_ y b mL ret) fr2 lo2 w (.ref a :: As) (some (va_rf r)) w2) (hR : fr2 + 1 ≤ fr ∧ 8 + (mL + 11) + lo2 ≤ lo) (hn : As.length = n) (hst : st0 = As.reverse ++ .ref a :: st) (hw : (st.map fun v => v.category).sum ≤ 8) (hdg : decode cc pc = .ok (.invokevirtual index, 3)) {β : Type} {A : Option Nat → Wd → Option β} {z : β} (hF : kb f A = some z) (k : ∀ r w2, A r w2 = some z → kV g X nL w2 (pc + 3) lv (va_rf r :: st)) : kV g X nL w pc lv st0 := by
  obtain ⟨r, w2, h1, h2⟩ := kb_of hF
  exact v_callV C L hc (oIs_of hi).choose_spec (hM r w2 h1) hR hn hst hw hdg (k r w2 h2)
theorem c_callVl (C : kOk g X cc nL own rt fr lo rv w1) {index : Nat} {y : MethodName} {b : ByteArray} {mL n : Nat} {ret : Option FieldType} (L : kLV own index y b mL ret n) {a ci N : Nat} {T : u_T} (hc : kcl[ci]? = some (y.cls, T, N)) (hi : oIs w a ci = true) {fr2 lo2 : Nat} {As st0 : List Value} {f : Option (Int64 × Wd)} (hM : ∀ r w2, f = some (r, w2) → kMt (xl X) g y (ws_ y b mL ret) fr2 lo2 w (.ref a :: As) (some (.long r)) w2) (hR : fr2 + 1 ≤ fr ∧ 8 + (mL + 11) + lo2 ≤ lo) (hn : As.length = n) (hst : st0 = As.reverse ++ .ref a :: st) (hw : (st.map fun v => v.category).sum ≤ 8) (hdg : decode cc pc = .ok (.invokevirtual index, 3)) {β : Type} {A : Int64 → Wd → Option β} {z : β} (hF : kb f A = some z) (k : ∀ r w2, A r w2 = some z → kV g X nL w2 (pc + 3) lv (.long r :: st)) : kV g X nL w pc lv st0 := by
  obtain ⟨r, w2, h1, h2⟩ := kb_of hF
  exact v_callV C L hc (oIs_of hi).choose_spec (hM r w2 h1) hR hn hst hw hdg (k r w2 h2)
theorem c_callVv (C : kOk g X cc nL own rt fr lo rv w1) {index : Nat} {y : MethodName} {b : ByteArray} {mL n : Nat} {ret : Option FieldType} (L : kLV own index y b mL ret n) {a ci N : Nat} {T : u_T} (hc : kcl[ci]? = some (y.cls, T, N)) (hi : oIs w a ci = true) {fr2 lo2 : Nat} {As st0 : List Value} {f : Option (Unit × Wd)} (hM : ∀ r w2, f = some (r, w2) → kMt (xl X) g y (ws_ y b mL ret) fr2 lo2 w (.ref a :: As) (none) w2) (hR : fr2 + 1 ≤ fr ∧ 8 + (mL + 11) + lo2 ≤ lo) (hn : As.length = n) (hst : st0 = As.reverse ++ .ref a :: st) (hw : (st.map fun v => v.category).sum ≤ 8) (hdg : decode cc pc = .ok (.invokevirtual index, 3)) {β : Type} {A : Unit → Wd → Option β} {z : β} (hF : kb f A = some z) (k : ∀ r w2, A r w2 = some z → kV g X nL w2 (pc + 3) lv (st)) : kV g X nL w pc lv st0 := by
  obtain ⟨r, w2, h1, h2⟩ := kb_of hF
  exact v_callV C L hc (oIs_of hi).choose_spec (hM r w2 h1) hR hn hst hw hdg (k r w2 h2)
theorem c_callUi (C : kOk g X cc nL own rt fr lo rv w1) {index : Nat} {y : MethodName} {b : ByteArray} {mL n : Nat} {ret : Option FieldType} {Cn owner : String} {x : MethodName} (L : kLU own index Cn owner x y b mL ret n) {a : Nat} (hrc : kRc g X w Cn a) {fr2 lo2 : Nat} {As st0 : List Value} {f : Option (Int32 × Wd)} (hM : ∀ r w2, f = some (r, w2) → kMt (xl X) g y (ws_ y b mL ret) fr2 lo2 w (.ref a :: As) (some (.int r)) w2) (hR : fr2 + 1 ≤ fr ∧ 8 + (mL + 11) + lo2 ≤ lo) (hn : As.length = n) (hst : st0 = As.reverse ++ .ref a :: st) (hw : (st.map fun v => v.category).sum ≤ 8) (hdg : decode cc pc = .ok (.invokevirtual index, 3)) {β : Type} {A : Int32 → Wd → Option β} {z : β} (hF : kb f A = some z) (k : ∀ r w2, A r w2 = some z → kV g X nL w2 (pc + 3) lv (.int r :: st)) : kV g X nL w pc lv st0 := by
  obtain ⟨r, w2, h1, h2⟩ := kb_of hF
  exact v_callU C L hrc (hM r w2 h1) hR hn hst hw hdg (k r w2 h2)
theorem c_callUr (C : kOk g X cc nL own rt fr lo rv w1) {index : Nat} {y : MethodName} {b : ByteArray} {mL n : Nat} {ret : Option FieldType} {Cn owner : String} {x : MethodName} (L : kLU own index Cn owner x y b mL ret n) {a : Nat} (hrc : kRc g X w Cn a) {fr2 lo2 : Nat} {As st0 : List Value} {f : Option (Nat × Wd)} (hM : ∀ r w2, f = some (r, w2) → kMt (xl X) g y (ws_ y b mL ret) fr2 lo2 w (.ref a :: As) (some (.ref r)) w2) (hR : fr2 + 1 ≤ fr ∧ 8 + (mL + 11) + lo2 ≤ lo) (hn : As.length = n) (hst : st0 = As.reverse ++ .ref a :: st) (hw : (st.map fun v => v.category).sum ≤ 8) (hdg : decode cc pc = .ok (.invokevirtual index, 3)) {β : Type} {A : Nat → Wd → Option β} {z : β} (hF : kb f A = some z) (k : ∀ r w2, A r w2 = some z → kV g X nL w2 (pc + 3) lv (.ref r :: st)) : kV g X nL w pc lv st0 := by
  obtain ⟨r, w2, h1, h2⟩ := kb_of hF
  exact v_callU C L hrc (hM r w2 h1) hR hn hst hw hdg (k r w2 h2)
theorem c_callUq (C : kOk g X cc nL own rt fr lo rv w1) {index : Nat} {y : MethodName} {b : ByteArray} {mL n : Nat} {ret : Option FieldType} {Cn owner : String} {x : MethodName} (L : kLU own index Cn owner x y b mL ret n) {a : Nat} (hrc : kRc g X w Cn a) {fr2 lo2 : Nat} {As st0 : List Value} {f : Option (Option Nat × Wd)} (hM : ∀ r w2, f = some (r, w2) → kMt (xl X) g y (ws_ y b mL ret) fr2 lo2 w (.ref a :: As) (some (va_rf r)) w2) (hR : fr2 + 1 ≤ fr ∧ 8 + (mL + 11) + lo2 ≤ lo) (hn : As.length = n) (hst : st0 = As.reverse ++ .ref a :: st) (hw : (st.map fun v => v.category).sum ≤ 8) (hdg : decode cc pc = .ok (.invokevirtual index, 3)) {β : Type} {A : Option Nat → Wd → Option β} {z : β} (hF : kb f A = some z) (k : ∀ r w2, A r w2 = some z → kV g X nL w2 (pc + 3) lv (va_rf r :: st)) : kV g X nL w pc lv st0 := by
  obtain ⟨r, w2, h1, h2⟩ := kb_of hF
  exact v_callU C L hrc (hM r w2 h1) hR hn hst hw hdg (k r w2 h2)
theorem c_callUl (C : kOk g X cc nL own rt fr lo rv w1) {index : Nat} {y : MethodName} {b : ByteArray} {mL n : Nat} {ret : Option FieldType} {Cn owner : String} {x : MethodName} (L : kLU own index Cn owner x y b mL ret n) {a : Nat} (hrc : kRc g X w Cn a) {fr2 lo2 : Nat} {As st0 : List Value} {f : Option (Int64 × Wd)} (hM : ∀ r w2, f = some (r, w2) → kMt (xl X) g y (ws_ y b mL ret) fr2 lo2 w (.ref a :: As) (some (.long r)) w2) (hR : fr2 + 1 ≤ fr ∧ 8 + (mL + 11) + lo2 ≤ lo) (hn : As.length = n) (hst : st0 = As.reverse ++ .ref a :: st) (hw : (st.map fun v => v.category).sum ≤ 8) (hdg : decode cc pc = .ok (.invokevirtual index, 3)) {β : Type} {A : Int64 → Wd → Option β} {z : β} (hF : kb f A = some z) (k : ∀ r w2, A r w2 = some z → kV g X nL w2 (pc + 3) lv (.long r :: st)) : kV g X nL w pc lv st0 := by
  obtain ⟨r, w2, h1, h2⟩ := kb_of hF
  exact v_callU C L hrc (hM r w2 h1) hR hn hst hw hdg (k r w2 h2)
theorem c_callUv (C : kOk g X cc nL own rt fr lo rv w1) {index : Nat} {y : MethodName} {b : ByteArray} {mL n : Nat} {ret : Option FieldType} {Cn owner : String} {x : MethodName} (L : kLU own index Cn owner x y b mL ret n) {a : Nat} (hrc : kRc g X w Cn a) {fr2 lo2 : Nat} {As st0 : List Value} {f : Option (Unit × Wd)} (hM : ∀ r w2, f = some (r, w2) → kMt (xl X) g y (ws_ y b mL ret) fr2 lo2 w (.ref a :: As) (none) w2) (hR : fr2 + 1 ≤ fr ∧ 8 + (mL + 11) + lo2 ≤ lo) (hn : As.length = n) (hst : st0 = As.reverse ++ .ref a :: st) (hw : (st.map fun v => v.category).sum ≤ 8) (hdg : decode cc pc = .ok (.invokevirtual index, 3)) {β : Type} {A : Unit → Wd → Option β} {z : β} (hF : kb f A = some z) (k : ∀ r w2, A r w2 = some z → kV g X nL w2 (pc + 3) lv (st)) : kV g X nL w pc lv st0 := by
  obtain ⟨r, w2, h1, h2⟩ := kb_of hF
  exact v_callU C L hrc (hM r w2 h1) hR hn hst hw hdg (k r w2 h2)
theorem c_callFi (C : kOk g X cc nL own rt fr lo rv w1) {index : Nat} {y : MethodName} {b : ByteArray} {mL n : Nat} {ret : Option FieldType} {count : Nat} {Cn : String} {x : MethodName} (L : kLF own index Cn x y b mL ret n) (hFw : va_Fw Cn x y (xs X)) {cC : ClassId} (hat : ClassAt (xs X) Cn cC) {a : Nat} (hrc : kRc g X w Cn a) {fr2 lo2 : Nat} {As st0 : List Value} {f : Option (Int32 × Wd)} (hM : ∀ r w2, f = some (r, w2) → kMt (xl X) g y (ws_ y b mL ret) fr2 lo2 w (.ref a :: As) (some (.int r)) w2) (hR : fr2 + 1 ≤ fr ∧ 8 + (mL + 11) + lo2 ≤ lo) (hn : As.length = n) (hst : st0 = As.reverse ++ .ref a :: st) (hw : (st.map fun v => v.category).sum ≤ 8) (hdg : decode cc pc = .ok (.invokeinterface index count, 5)) {β : Type} {A : Int32 → Wd → Option β} {z : β} (hF : kb f A = some z) (k : ∀ r w2, A r w2 = some z → kV g X nL w2 (pc + 5) lv (.int r :: st)) : kV g X nL w pc lv st0 := by
  obtain ⟨r, w2, h1, h2⟩ := kb_of hF
  exact v_callF C L hFw hat hrc (hM r w2 h1) hR hn hst hw hdg (k r w2 h2)
theorem c_callFr (C : kOk g X cc nL own rt fr lo rv w1) {index : Nat} {y : MethodName} {b : ByteArray} {mL n : Nat} {ret : Option FieldType} {count : Nat} {Cn : String} {x : MethodName} (L : kLF own index Cn x y b mL ret n) (hFw : va_Fw Cn x y (xs X)) {cC : ClassId} (hat : ClassAt (xs X) Cn cC) {a : Nat} (hrc : kRc g X w Cn a) {fr2 lo2 : Nat} {As st0 : List Value} {f : Option (Nat × Wd)} (hM : ∀ r w2, f = some (r, w2) → kMt (xl X) g y (ws_ y b mL ret) fr2 lo2 w (.ref a :: As) (some (.ref r)) w2) (hR : fr2 + 1 ≤ fr ∧ 8 + (mL + 11) + lo2 ≤ lo) (hn : As.length = n) (hst : st0 = As.reverse ++ .ref a :: st) (hw : (st.map fun v => v.category).sum ≤ 8) (hdg : decode cc pc = .ok (.invokeinterface index count, 5)) {β : Type} {A : Nat → Wd → Option β} {z : β} (hF : kb f A = some z) (k : ∀ r w2, A r w2 = some z → kV g X nL w2 (pc + 5) lv (.ref r :: st)) : kV g X nL w pc lv st0 := by
  obtain ⟨r, w2, h1, h2⟩ := kb_of hF
  exact v_callF C L hFw hat hrc (hM r w2 h1) hR hn hst hw hdg (k r w2 h2)
theorem c_callFq (C : kOk g X cc nL own rt fr lo rv w1) {index : Nat} {y : MethodName} {b : ByteArray} {mL n : Nat} {ret : Option FieldType} {count : Nat} {Cn : String} {x : MethodName} (L : kLF own index Cn x y b mL ret n) (hFw : va_Fw Cn x y (xs X)) {cC : ClassId} (hat : ClassAt (xs X) Cn cC) {a : Nat} (hrc : kRc g X w Cn a) {fr2 lo2 : Nat} {As st0 : List Value} {f : Option (Option Nat × Wd)} (hM : ∀ r w2, f = some (r, w2) → kMt (xl X) g y (ws_ y b mL ret) fr2 lo2 w (.ref a :: As) (some (va_rf r)) w2) (hR : fr2 + 1 ≤ fr ∧ 8 + (mL + 11) + lo2 ≤ lo) (hn : As.length = n) (hst : st0 = As.reverse ++ .ref a :: st) (hw : (st.map fun v => v.category).sum ≤ 8) (hdg : decode cc pc = .ok (.invokeinterface index count, 5)) {β : Type} {A : Option Nat → Wd → Option β} {z : β} (hF : kb f A = some z) (k : ∀ r w2, A r w2 = some z → kV g X nL w2 (pc + 5) lv (va_rf r :: st)) : kV g X nL w pc lv st0 := by
  obtain ⟨r, w2, h1, h2⟩ := kb_of hF
  exact v_callF C L hFw hat hrc (hM r w2 h1) hR hn hst hw hdg (k r w2 h2)
theorem c_callFl (C : kOk g X cc nL own rt fr lo rv w1) {index : Nat} {y : MethodName} {b : ByteArray} {mL n : Nat} {ret : Option FieldType} {count : Nat} {Cn : String} {x : MethodName} (L : kLF own index Cn x y b mL ret n) (hFw : va_Fw Cn x y (xs X)) {cC : ClassId} (hat : ClassAt (xs X) Cn cC) {a : Nat} (hrc : kRc g X w Cn a) {fr2 lo2 : Nat} {As st0 : List Value} {f : Option (Int64 × Wd)} (hM : ∀ r w2, f = some (r, w2) → kMt (xl X) g y (ws_ y b mL ret) fr2 lo2 w (.ref a :: As) (some (.long r)) w2) (hR : fr2 + 1 ≤ fr ∧ 8 + (mL + 11) + lo2 ≤ lo) (hn : As.length = n) (hst : st0 = As.reverse ++ .ref a :: st) (hw : (st.map fun v => v.category).sum ≤ 8) (hdg : decode cc pc = .ok (.invokeinterface index count, 5)) {β : Type} {A : Int64 → Wd → Option β} {z : β} (hF : kb f A = some z) (k : ∀ r w2, A r w2 = some z → kV g X nL w2 (pc + 5) lv (.long r :: st)) : kV g X nL w pc lv st0 := by
  obtain ⟨r, w2, h1, h2⟩ := kb_of hF
  exact v_callF C L hFw hat hrc (hM r w2 h1) hR hn hst hw hdg (k r w2 h2)
theorem c_callFv (C : kOk g X cc nL own rt fr lo rv w1) {index : Nat} {y : MethodName} {b : ByteArray} {mL n : Nat} {ret : Option FieldType} {count : Nat} {Cn : String} {x : MethodName} (L : kLF own index Cn x y b mL ret n) (hFw : va_Fw Cn x y (xs X)) {cC : ClassId} (hat : ClassAt (xs X) Cn cC) {a : Nat} (hrc : kRc g X w Cn a) {fr2 lo2 : Nat} {As st0 : List Value} {f : Option (Unit × Wd)} (hM : ∀ r w2, f = some (r, w2) → kMt (xl X) g y (ws_ y b mL ret) fr2 lo2 w (.ref a :: As) (none) w2) (hR : fr2 + 1 ≤ fr ∧ 8 + (mL + 11) + lo2 ≤ lo) (hn : As.length = n) (hst : st0 = As.reverse ++ .ref a :: st) (hw : (st.map fun v => v.category).sum ≤ 8) (hdg : decode cc pc = .ok (.invokeinterface index count, 5)) {β : Type} {A : Unit → Wd → Option β} {z : β} (hF : kb f A = some z) (k : ∀ r w2, A r w2 = some z → kV g X nL w2 (pc + 5) lv (st)) : kV g X nL w pc lv st0 := by
  obtain ⟨r, w2, h1, h2⟩ := kb_of hF
  exact v_callF C L hFw hat hrc (hM r w2 h1) hR hn hst hw hdg (k r w2 h2)
theorem c_callI (C : kOk g X cc nL own rt fr lo rv w1) {index : Nat} {y : MethodName} {b : ByteArray} {mL n : Nat} (L : kLI own index y b mL n) {a : Nat} {fr2 lo2 : Nat} {As st0 : List Value} {f : Option (Unit × Wd)} (hM : ∀ r w2, f = some (r, w2) → kMt (xl X) g y (ws_ y b mL none) fr2 lo2 w (.ref a :: As) none w2) (hR : fr2 + 1 ≤ fr ∧ 8 + (mL + 11) + lo2 ≤ lo) (hn : As.length = n) (hst : st0 = As.reverse ++ .ref a :: st) (hw : (st.map fun v => v.category).sum ≤ 8) (hdg : decode cc pc = .ok (.invokespecial index, 3)) {β : Type} {A : Unit → Wd → Option β} {z : β} (hF : kb f A = some z) (k : ∀ r w2, A r w2 = some z → kV g X nL w2 (pc + 3) lv st) : kV g X nL w pc lv st0 := by
  obtain ⟨r, w2, h1, h2⟩ := kb_of hF
  exact v_callI C L (hM r w2 h1) hR hn hst hw hdg (k r w2 h2)
theorem c_callIN (C : kOk g X cc nL own rt fr lo rv w1) {index : Nat} {y : MethodName} {b : ByteArray} {mL n : Nat} (L : kLIN own index y b mL n) {a : Nat} {fr2 lo2 : Nat} {As st0 : List Value} {f : Option (Unit × Wd)} (hM : ∀ r w2, f = some (r, w2) → kMt (xl X) g y (ws_ y b mL none) fr2 lo2 w (.ref a :: As) none w2) (hR : fr2 + 1 ≤ fr ∧ 8 + (mL + 11) + lo2 ≤ lo) (hn : As.length = n) (hst : st0 = As.reverse ++ .ref a :: st) (hw : (st.map fun v => v.category).sum ≤ 8) (hdg : decode cc pc = .ok (.invokespecial index, 3)) {β : Type} {A : Unit → Wd → Option β} {z : β} (hF : kb f A = some z) (k : ∀ r w2, A r w2 = some z → kV g X nL w2 (pc + 3) lv st) : kV g X nL w pc lv st0 := by
  obtain ⟨r, w2, h1, h2⟩ := kb_of hF
  exact v_callIN C L (hM r w2 h1) hR hn hst hw hdg (k r w2 h2)
end KE
set_option maxRecDepth 100000
abbrev kifl : List (String × MethodName × MethodName) := [("java/util/ArrayList$Itr", ⟨"java/util/Iterator", "hasNext", "()Z"⟩, ⟨"java/util/ArrayList$Itr", "hasNext", "()Z"⟩), ("java/util/ArrayList$Itr", ⟨"java/util/Iterator", "next", "()Ljava/lang/Object;"⟩, ⟨"java/util/ArrayList$Itr", "next", "()Ljava/lang/Object;"⟩), ("java/util/TreeMap$ValueIterator", ⟨"java/util/Iterator", "hasNext", "()Z"⟩, ⟨"java/util/TreeMap$PrivateEntryIterator", "hasNext", "()Z"⟩), ("java/util/TreeMap$ValueIterator", ⟨"java/util/Iterator", "next", "()Ljava/lang/Object;"⟩, ⟨"java/util/TreeMap$ValueIterator", "next", "()Ljava/lang/Object;"⟩), ("java/util/TreeMap$KeyIterator", ⟨"java/util/Iterator", "hasNext", "()Z"⟩, ⟨"java/util/TreeMap$PrivateEntryIterator", "hasNext", "()Z"⟩), ("java/util/TreeMap$KeyIterator", ⟨"java/util/Iterator", "next", "()Ljava/lang/Object;"⟩, ⟨"java/util/TreeMap$KeyIterator", "next", "()Ljava/lang/Object;"⟩), ("java/util/TreeMap$Values", ⟨"java/util/Collection", "iterator", "()Ljava/util/Iterator;"⟩, ⟨"java/util/TreeMap$Values", "iterator", "()Ljava/util/Iterator;"⟩), ("CardLoom$ByTwist", ⟨"java/util/Comparator", "compare", "(Ljava/lang/Object;Ljava/lang/Object;)I"⟩, ⟨"CardLoom$ByTwist", "compare", "(Ljava/lang/Object;Ljava/lang/Object;)I"⟩), ("CardLoom$ByOften", ⟨"java/util/Comparator", "compare", "(Ljava/lang/Object;Ljava/lang/Object;)I"⟩, ⟨"CardLoom$ByOften", "compare", "(Ljava/lang/Object;Ljava/lang/Object;)I"⟩), ("CardLoom$Colour", ⟨"java/lang/Comparable", "compareTo", "(Ljava/lang/Object;)I"⟩, ⟨"CardLoom$Colour", "compareTo", "(Ljava/lang/Object;)I"⟩), ("CardLoom$1", ⟨"CardLoom$Drafting", "least", "(II)I"⟩, ⟨"CardLoom$1", "least", "(II)I"⟩), ("CardLoom$1", ⟨"CardLoom$Drafting", "best", "(II)LCardLoom$Turning;"⟩, ⟨"CardLoom$1", "best", "(II)LCardLoom$Turning;"⟩), ("java/util/TreeMap", ⟨"java/util/NavigableMap", "navigableKeySet", "()Ljava/util/NavigableSet;"⟩, ⟨"java/util/TreeMap", "navigableKeySet", "()Ljava/util/NavigableSet;"⟩), ("java/util/TreeMap$KeySet", ⟨"java/util/NavigableSet", "iterator", "()Ljava/util/Iterator;"⟩, ⟨"java/util/TreeMap$KeySet", "iterator", "()Ljava/util/Iterator;"⟩)]
abbrev klam : List (Nat × MethodName × Nat × Nat × Lambda.Shape) := [(0, ⟨"CardLoom", "<init>", "()V"⟩, 27, 19, { iface := "CardLoom$Law", name := "of", sam := { parameters := [.int, .int, .int], returnType := some (.object "CardLoom$Turning") }, captured := [], kind := 6, implClass := "CardLoom", implName := "idle", implDesc := { parameters := [.int, .int, .int], returnType := some (.object "CardLoom$Turning") }, implItf := false, inst := { parameters := [.int, .int, .int], returnType := some (.object "CardLoom$Turning") } }), (1, ⟨"CardLoom", "<init>", "()V"⟩, 90, 19, { iface := "CardLoom$Law", name := "of", sam := { parameters := [.int, .int, .int], returnType := some (.object "CardLoom$Turning") }, captured := [], kind := 6, implClass := "CardLoom", implName := "idle", implDesc := { parameters := [.int, .int, .int], returnType := some (.object "CardLoom$Turning") }, implItf := false, inst := { parameters := [.int, .int, .int], returnType := some (.object "CardLoom$Turning") } }), (2, ⟨"CardLoom", "always", "(LCardLoom$Turning;)LCardLoom$Law;"⟩, 1, 67, { iface := "CardLoom$Law", name := "of", sam := { parameters := [.int, .int, .int], returnType := some (.object "CardLoom$Turning") }, captured := [(.object "CardLoom$Turning")], kind := 6, implClass := "CardLoom", implName := "lambda$always$0", implDesc := { parameters := [(.object "CardLoom$Turning"), .int, .int, .int], returnType := some (.object "CardLoom$Turning") }, implItf := false, inst := { parameters := [.int, .int, .int], returnType := some (.object "CardLoom$Turning") } }), (3, ⟨"CardLoom", "inTurn", "(ILCardLoom$Law;LCardLoom$Law;)LCardLoom$Law;"⟩, 3, 70, { iface := "CardLoom$Law", name := "of", sam := { parameters := [.int, .int, .int], returnType := some (.object "CardLoom$Turning") }, captured := [.int, (.object "CardLoom$Law"), (.object "CardLoom$Law")], kind := 6, implClass := "CardLoom", implName := "lambda$inTurn$1", implDesc := { parameters := [.int, (.object "CardLoom$Law"), (.object "CardLoom$Law"), .int, .int, .int], returnType := some (.object "CardLoom$Turning") }, implItf := false, inst := { parameters := [.int, .int, .int], returnType := some (.object "CardLoom$Turning") } }), (4, ⟨"CardLoom", "byCards", "(ILCardLoom$Law;LCardLoom$Law;)LCardLoom$Law;"⟩, 3, 73, { iface := "CardLoom$Law", name := "of", sam := { parameters := [.int, .int, .int], returnType := some (.object "CardLoom$Turning") }, captured := [.int, (.object "CardLoom$Law"), (.object "CardLoom$Law")], kind := 6, implClass := "CardLoom", implName := "lambda$byCards$2", implDesc := { parameters := [.int, (.object "CardLoom$Law"), (.object "CardLoom$Law"), .int, .int, .int], returnType := some (.object "CardLoom$Turning") }, implItf := false, inst := { parameters := [.int, .int, .int], returnType := some (.object "CardLoom$Turning") } }), (5, ⟨"CardLoom", "eachOf", "(ILCardLoom$Law;LCardLoom$Law;)LCardLoom$Law;"⟩, 3, 74, { iface := "CardLoom$Law", name := "of", sam := { parameters := [.int, .int, .int], returnType := some (.object "CardLoom$Turning") }, captured := [.int, (.object "CardLoom$Law"), (.object "CardLoom$Law")], kind := 6, implClass := "CardLoom", implName := "lambda$eachOf$3", implDesc := { parameters := [.int, (.object "CardLoom$Law"), (.object "CardLoom$Law"), .int, .int, .int], returnType := some (.object "CardLoom$Turning") }, implItf := false, inst := { parameters := [.int, .int, .int], returnType := some (.object "CardLoom$Turning") } }), (6, ⟨"CardLoom", "later", "(ILCardLoom$Law;)LCardLoom$Law;"⟩, 2, 75, { iface := "CardLoom$Law", name := "of", sam := { parameters := [.int, .int, .int], returnType := some (.object "CardLoom$Turning") }, captured := [(.object "CardLoom$Law"), .int], kind := 6, implClass := "CardLoom", implName := "lambda$later$4", implDesc := { parameters := [(.object "CardLoom$Law"), .int, .int, .int, .int], returnType := some (.object "CardLoom$Turning") }, implItf := false, inst := { parameters := [.int, .int, .int], returnType := some (.object "CardLoom$Turning") } }), (7, ⟨"CardLoom", "slanting", "(LCardLoom$Law;)LCardLoom$Law;"⟩, 1, 78, { iface := "CardLoom$Law", name := "of", sam := { parameters := [.int, .int, .int], returnType := some (.object "CardLoom$Turning") }, captured := [(.object "CardLoom$Law")], kind := 6, implClass := "CardLoom", implName := "lambda$slanting$5", implDesc := { parameters := [(.object "CardLoom$Law"), .int, .int, .int], returnType := some (.object "CardLoom$Turning") }, implItf := false, inst := { parameters := [.int, .int, .int], returnType := some (.object "CardLoom$Turning") } }), (8, ⟨"CardLoom", "reversed", "(LCardLoom$Law;)LCardLoom$Law;"⟩, 1, 81, { iface := "CardLoom$Law", name := "of", sam := { parameters := [.int, .int, .int], returnType := some (.object "CardLoom$Turning") }, captured := [(.object "CardLoom$Law")], kind := 6, implClass := "CardLoom", implName := "lambda$reversed$6", implDesc := { parameters := [(.object "CardLoom$Law"), .int, .int, .int], returnType := some (.object "CardLoom$Turning") }, implItf := false, inst := { parameters := [.int, .int, .int], returnType := some (.object "CardLoom$Turning") } }), (9, ⟨"CardLoom", "mirrored", "(LCardLoom$Law;)LCardLoom$Law;"⟩, 1, 82, { iface := "CardLoom$Law", name := "of", sam := { parameters := [.int, .int, .int], returnType := some (.object "CardLoom$Turning") }, captured := [(.object "CardLoom$Law")], kind := 6, implClass := "CardLoom", implName := "lambda$mirrored$7", implDesc := { parameters := [(.object "CardLoom$Law"), .int, .int, .int], returnType := some (.object "CardLoom$Turning") }, implItf := false, inst := { parameters := [.int, .int, .int], returnType := some (.object "CardLoom$Turning") } }), (10, ⟨"CardLoom", "first", "(LCardLoom$Law;LCardLoom$Law;)LCardLoom$Law;"⟩, 2, 83, { iface := "CardLoom$Law", name := "of", sam := { parameters := [.int, .int, .int], returnType := some (.object "CardLoom$Turning") }, captured := [(.object "CardLoom$Law"), (.object "CardLoom$Law")], kind := 6, implClass := "CardLoom", implName := "lambda$first$8", implDesc := { parameters := [(.object "CardLoom$Law"), (.object "CardLoom$Law"), .int, .int, .int], returnType := some (.object "CardLoom$Turning") }, implItf := false, inst := { parameters := [.int, .int, .int], returnType := some (.object "CardLoom$Turning") } }), (11, ⟨"CardLoom", "returns", "()I"⟩, 15, 275, { iface := "CardLoom$Asks", name := "isSo", sam := { parameters := [.object "java/util/ArrayList"], returnType := some .boolean }, captured := [.object "CardLoom"], kind := 5, implClass := "CardLoom", implName := "areAsNow", implDesc := { parameters := [.object "java/util/ArrayList"], returnType := some .boolean }, implItf := false, inst := { parameters := [.object "java/util/ArrayList"], returnType := some .boolean } }), (12, ⟨"CardLoom", "flat", "()I"⟩, 14, 282, { iface := "CardLoom$Asks", name := "isSo", sam := { parameters := [.object "java/util/ArrayList"], returnType := some .boolean }, captured := [], kind := 6, implClass := "CardLoom", implName := "areFlat", implDesc := { parameters := [.object "java/util/ArrayList"], returnType := some .boolean }, implItf := false, inst := { parameters := [.object "java/util/ArrayList"], returnType := some .boolean } })]
abbrev ktc : Nat → String
  | 0 => "CardLoom$Turning$1"
  | 1 => "CardLoom$Turning$2"
  | 2 => "CardLoom$Turning$3"
  | _ => "CardLoom$Turning$4"
def gO (g : GT) (k : Nat) : Option Nat := match gT g k with
  | 0 => none
  | n + 1 => some n
def kSv (g : GT) (q : Nat ⊕ Int32 ⊕ Nat) : Value := match q with
  | .inl k => .ref (gT g k)
  | .inr (.inl n) => .int n
  | .inr (.inr k) => va_rf (gO g k)
abbrev kstat : List (String × String × String × (Nat ⊕ Int32 ⊕ Nat)) := [("java/util/ArrayList", "DEFAULTCAPACITY_EMPTY_ELEMENTDATA", "[Ljava/lang/Object;", .inl 4), ("CardLoom$Turning", "IDLE", "LCardLoom$Turning;", .inl 0), ("CardLoom$Turning", "FORWARD", "LCardLoom$Turning;", .inl 1), ("CardLoom$Turning", "BACK", "LCardLoom$Turning;", .inl 2), ("CardLoom$Turning", "HALF", "LCardLoom$Turning;", .inl 3), ("java/util/BitSet", "$assertionsDisabled", "Z", .inr (.inl 1)), ("java/lang/String", "COMPACT_STRINGS", "Z", .inr (.inl 1)), ("java/util/TreeSet", "PRESENT", "Ljava/lang/Object;", .inl 6), ("jdk/internal/util/Preconditions", "SIOOBE_FORMATTER", "Ljava/util/function/BiFunction;", .inr (.inr 14)), ("java/lang/Throwable", "UNASSIGNED_STACK", "[Ljava/lang/StackTraceElement;", .inr (.inr 15)), ("java/lang/Throwable", "SUPPRESSED_SENTINEL", "Ljava/util/List;", .inr (.inr 16))]
/-- the shape of a law's lambda, of an asking one -/
abbrev kLd : MethodDescriptor := { parameters := [.int, .int, .int], returnType := some (.object "CardLoom$Turning") }
abbrev kQd : MethodDescriptor := { parameters := [.object "java/util/ArrayList"], returnType := some .boolean }
/-- a lambda's site, as the tables have it -/
def kLs (x : MethodName) (pc index : Nat) (σ : Lambda.Shape) (lk : Linked) (c : ClassId) (U : State) : Prop :=
  ∃ (m : MethodId) (k : Class) (cf : ClassFile) (i0 p0 : Nat), U.methodNamed? x = some m ∧ U.vm.classes[m.cls]? = some k ∧ k.cf = some cf ∧ Lambda.shapeOf? cf index = some σ ∧ (k.callSites.find? fun y => y.1 == m.idx && y.2.1 == pc) = some (i0, p0, lk) ∧
    Lambda.isMade { classPath := fun _ => none } U.vm m.cls σ c = true ∧ U.lambdaCallable σ c = true
/-- what the start says of statics, constants, mirrors, interfaces -/
def SX (g : GT) (U : State) : Prop :=
  (∀ q ∈ kstat, va_Z q.1 q.2.1 q.2.2.1 (kSv g q.2.2.2) (kBs g) U (gH g)) ∧
  (∀ E ∈ ["java/lang/Object", "CardLoom$Turning", "CardLoom$Colour"], va_AO E U) ∧
  (∀ q ∈ kifl, va_Fw q.1 q.2.1 q.2.2 U) ∧
  va_Mi "[Ljava/lang/Object;" (gT g 5) U ∧
  (∀ k, k < 4 → va_O (ktc k) (gT g k) (kBs g) U (gH g) ∧ va_OF "CardLoom$Turning" "number" "I" (.int (Int32.ofNat k)) (gT g k) (kBs g) U (gH g)) ∧
  (∃ cell, (gH g)[gT g 4]? = some cell ∧ U.isArrayOf cell (.object "java/lang/Object") ∧ cell.slots.size.toInt32 = 0 ∧ gT g 4 < gB g) ∧
  (∀ i j, i < 4 → j < 4 → gT g i = gT g j → i = j) ∧
  vk_S 2 [0, 4] [[], [105, 102, 98, 104]] (fun i => gT g (10 + 2 * i)) (fun i => gT g (11 + 2 * i)) (kBs g) U (gH g) ∧
  vk_R "CardLoom" 47 "" (gT g 10) U ∧ vk_R "CardLoom$Reader" 81 "ifbh" (gT g 12) U ∧
  (∀ q ∈ klam, kLs q.2.1 q.2.2.1 q.2.2.2.1 q.2.2.2.2 (if q.1 = 0 then .constant (gT g 7) else if q.1 = 1 then .constant (gT g 8) else if q.1 = 12 then .constant (gT g 9) else .makes (gL g q.1)) (gL g q.1) U) ∧
  ((∃ c : Cell, (gH g)[gT g 7]? = some c ∧ c.cls = gL g 0 ∧ c.vm = .none) ∧ (∃ c : Cell, (gH g)[gT g 8]? = some c ∧ c.cls = gL g 1 ∧ c.vm = .none) ∧ (∃ c : Cell, (gH g)[gT g 9]? = some c ∧ c.cls = gL g 12 ∧ c.vm = .none) ∧ gT g 7 < gB g ∧ gT g 8 < gB g ∧ gT g 9 < gB g) ∧
  (Cond.arrayOver (.array .int)).before #[] U = true ∧
  (Cond.methodLink "java/util/TreeSet" 69 ⟨"java/util/NavigableMap", "put", "(Ljava/lang/Object;Ljava/lang/Object;)Ljava/lang/Object;"⟩).before #[] U = true ∧ (Cond.interfaceMethod "java/util/NavigableMap" "java/util/Map" "put" "(Ljava/lang/Object;Ljava/lang/Object;)Ljava/lang/Object;").before #[] U = true ∧ (Cond.declares ⟨"java/util/Map", "put", "(Ljava/lang/Object;Ljava/lang/Object;)Ljava/lang/Object;"⟩).before #[] U = true ∧ (Cond.publicMethod ⟨"java/util/TreeMap", "put", "(Ljava/lang/Object;Ljava/lang/Object;)Ljava/lang/Object;"⟩).before #[] U = true ∧ (Cond.unhidden "java/util/TreeMap" "put" "(Ljava/lang/Object;Ljava/lang/Object;)Ljava/lang/Object;").before #[] U = true ∧ (Cond.castable "java/util/TreeMap" "java/util/NavigableMap").before #[] U = true
def kmn {β : Type} (r : Option Nat) (f1 : Option β) (f2 : Nat → Option β) : Option β := match r with
  | none => f1
  | some a => f2 a
theorem k_mn0 {β : Type} {f1 : Option β} {f2 : Nat → Option β} {z : β} (h : kmn none f1 f2 = some z) : f1 = some z := h
theorem k_mn1 {β : Type} {a : Nat} {f1 : Option β} {f2 : Nat → Option β} {z : β} (h : kmn (some a) f1 f2 = some z) : f2 a = some z := h
theorem va_rf_cat (r : Option Nat) : (va_rf r).category = 1 := by cases r <;> rfl
theorem nb_fit {r : Int32} (h : nb r = true) : fits .boolean (.int r) = true := by
  simp only [nb, Bool.or_eq_true, beq_iff_eq] at h
  rcases h with rfl | rfl <;> rfl
def kisRef : FieldType → Bool
  | .object _ => true
  | .array _ => true
  | _ => false
theorem nar_rf {ty : FieldType} (r : Option Nat) (h : kisRef ty = true) : narrow ty (va_rf r) = va_rf r := by
  cases ty <;> first | (cases r <;> rfl; done) | exact absurd h (by simp [kisRef])
theorem fit_rf {ty : FieldType} (r : Option Nat) (h : kisRef ty = true) : fits ty (va_rf r) = true := by
  cases ty <;> first | (cases r <;> rfl; done) | exact absurd h (by simp [kisRef])
def aIs (g : GT) (w : Wd) (t a : Nat) : Bool := (aC g w t a).isSome
theorem aIs_of {g : GT} {w : Wd} {t a : Nat} (h : aIs g w t a = true) : ∃ x, w.1 a = some (.inl (.inl (gA g t, x))) := by
  obtain ⟨x, hx⟩ := Option.isSome_iff_exists.mp h
  exact ⟨x, aC_of hx⟩
/-- a length, where the array may be the shared empty one -/
def aLe (g : GT) (w : Wd) (a : Nat) : Option Int32 := if a = gT g 4 then some 0 else aL g w 4 a
/-- what may stand in an Object[]: its class is told by the tables -/
def kOk4 (ci : Nat) : Bool := ci == 2 || ci == 3 || ci == 9 || ci == 10
def kisO (g : GT) (w : Wd) (v : Nat) : Bool := match w.1 v with
  | some (.inl (.inr q)) => kOk4 q.1
  | some (.inl (.inl q)) => decide (q.1 = gA g 5)
  | _ => false
def kisT (g : GT) (v : Nat) : Bool := decide (v = gT g 0) || decide (v = gT g 1) || decide (v = gT g 2) || decide (v = gT g 3)
def aCpQ (g : GT) (w : Wd) (src : Nat) (sp : Int32) (dst : Nat) (dp n : Int32) : Option Wd := kob (aC g w 4 src) (fun x => kob (xQ' x) (fun f => kob (aC g w 4 dst) (fun y => kob (xQ' y) (fun h => if (¬ sp < 0 ∧ ¬ dp < 0 ∧ ¬ n < 0 ∧ sp.toNatClampNeg + n.toNatClampNeg ≤ x.1 ∧ dp.toNatClampNeg + n.toNatClampNeg ≤ y.1) ∧ (List.range n.toNatClampNeg).all (fun i => match f (sp.toNatClampNeg + i) with | none => true | some v => kisO g w v) = true then some (kup w.1 dst (some (.inl (.inl (gA g 4, y.1, .inr (.inr (.inr (.inr (va_cpy f h sp.toNatClampNeg dp.toNatClampNeg n.toNatClampNeg)))))))), w.2) else none))))
section KG
variable {g : GT} {X : CxT} {cc : ByteArray} {nL : Nat} {own : String} {rt : Option FieldType} {fr lo : Nat} {rv : Option Value} {w1 w : Wd} {pc : Nat} {lv : List (Option Value)} {st : List Value} {β : Type} {z : β}
theorem v_aload_nQ (C : kOk g X cc nL own rt fr lo rv w1) {k : Fin 4} {i : Nat} {r : Option Nat} (hdg : decode cc pc = .ok (.aload_n k, 1)) (hi : (k : Nat) = i) (hl : lv[i]? = some (some (va_rf r))) (kk : kV g X nL w (pc + 1) lv (va_rf r :: st)) : kV g X nL w pc lv st := by
  cases r with
  | none => exact v_aload_nN C hdg hi hl kk
  | some a => exact v_aload_n C hdg hi hl kk
theorem v_aloadQ (C : kOk g X cc nL own rt fr lo rv w1) {i : Nat} {r : Option Nat} (hdg : decode cc pc = .ok (.aload i, 2)) (hl : lv[i]? = some (some (va_rf r))) (kk : kV g X nL w (pc + 2) lv (va_rf r :: st)) : kV g X nL w pc lv st := by
  cases r with
  | none => exact v_aloadN C hdg hl kk
  | some a => exact v_aload C hdg hl kk
theorem v_astore_nQ (C : kOk g X cc nL own rt fr lo rv w1) {k : Fin 4} {i : Nat} {r : Option Nat} {lv' : List (Option Value)} (hdg : decode cc pc = .ok (.astore_n k, 1)) (hi : (k : Nat) = i) (hn : i < nL) (hc : lvK lv i = true) (hl : lv.set i (some (va_rf r)) = lv') (kk : kV g X nL w (pc + 1) lv' st) : kV g X nL w pc lv (va_rf r :: st) := by
  cases r with
  | none => exact v_astore_nN C hdg hi hn hc hl kk
  | some a => exact v_astore_n C hdg hi hn hc hl kk
theorem v_astoreQ (C : kOk g X cc nL own rt fr lo rv w1) {i : Nat} {r : Option Nat} {lv' : List (Option Value)} (hdg : decode cc pc = .ok (.astore i, 2)) (hn : i < nL) (hc : lvK lv i = true) (hl : lv.set i (some (va_rf r)) = lv') (kk : kV g X nL w (pc + 2) lv' st) : kV g X nL w pc lv (va_rf r :: st) := by
  cases r with
  | none => exact v_astoreN C hdg hn hc hl kk
  | some a => exact v_astore C hdg hn hc hl kk
theorem v_castN (C : kOk g X cc nL own rt fr lo rv w1) {index : Nat} {P : Prop} (_ : P) (hdg : decode cc pc = .ok (.checkcast index, 3)) (kk : kV g X nL w (pc + 3) lv (.null :: st)) : kV g X nL w pc lv (.null :: st) := fun H locs ls a b h => lv_castN C.1 C.2.1 hdg (kk H locs ls a b h)
theorem v_castA (C : kOk g X cc nL own rt fr lo rv w1) {t a index : Nat} {E nm : String} (ht : ktys[t]? = some (t, .object E)) (hnm : nm = "[" ++ (FieldType.object E).toString) (hq : Cond.classLink own index nm ∈ lw_all) (hdg : decode cc pc = .ok (.checkcast index, 3)) {f : Option β} (hF : (if aIs g w t a = true then f else none) = some z) (kk : f = some z → kV g X nL w (pc + 3) lv (.ref a :: st)) : kV g X nL w pc lv (.ref a :: st) := by
  obtain ⟨h1, h2⟩ := k_ite hF
  obtain ⟨x, h3⟩ := aIs_of h1
  intro H locs ls a1 b h
  obtain ⟨kA, comp, k1, k2, k3, k4⟩ := (C.2.2.2.2.2.1.1.2 t _ (kty_at ht)).2
  exact va_castA C.1 C.2.1 C.2.2.2.1 (C.2.2.2.2.1 _ hq) (kP1 a1 h3) 0 rfl (by rw [hnm]; exact k4) hdg (kk h2 H locs ls a1 b h)
theorem v_aLe (C : kOk g X cc nL own rt fr lo rv w1) (hX : ∀ U, gX g U → SX g U) {a : Nat} (hdg : decode cc pc = .ok (.arraylength, 1)) {A : Int32 → Option β} (hF : kob (aLe g w a) A = some z) (kk : ∀ x, A x = some z → kV g X nL w (pc + 1) lv (.int x :: st)) : kV g X nL w pc lv (.ref a :: st) := by
  by_cases ha : a = gT g 4
  · obtain ⟨x, h1, h2⟩ := kob_of hF
    unfold aLe at h1
    rw [if_pos ha] at h1
    cases h1
    obtain ⟨cell, e1, e2, e3, e4⟩ := (hX _ C.2.2.2.2.2.1.2.2.1).2.2.2.2.2.1
    have kk := kk _ h2
    intro H locs ls a1 b h
    exact W.alen C.1 C.2.1 (by rw [ha, a1.2.2.2.2 _ e4]; exact e1) e2 (by rw [e3]) rfl rfl hdg (kk H locs ls a1 b h)
  · unfold aLe at hF
    rw [if_neg ha] at hF
    exact v_aL C (t := 4) rfl hdg hF kk
theorem any_obj (C : kOk g X cc nL own rt fr lo rv w1) {a ci N : Nat} {Cn E : String} {T : u_T} {fs : List Value} (hc : kcl[ci]? = some (Cn, T, N)) (hw : Cond.castable Cn E ∈ lw_tbl) (h : w.1 a = some (.inl (.inr (ci, fs)))) : ∀ H, kRp g w H → va_Any E (xs X) H a := fun H a1 =>
  va_rAny C.2.2.2.2.2.1.1 (kP1 a1 h) (q0 := 0) rfl hc (fun comp c0 h1 h2 => by
    obtain ⟨c1, t1, f1, f2, f3⟩ := Cond.castable_spec (va_Nw.use (A := xa X) rfl (C.2.2.2.2.2.1.2.1 _ hw rfl))
    cases h1.symm.trans f2
    cases h2.symm.trans f1
    exact f3)
theorem any_O (C : kOk g X cc nL own rt fr lo rv w1) {a : Nat} (h : kisO g w a = true) : ∀ H, kRp g w H → va_Any "java/lang/Object" (xs X) H a := by
  unfold kisO at h
  split at h
  · rename_i q hq
    obtain ⟨ci, fs⟩ := q
    simp only [kOk4, Bool.or_eq_true, beq_iff_eq] at h
    rcases h with ((h | h) | h) | h
    · subst h; exact any_obj C (Cn := "CardLoom$Card") rfl q2761 hq
    · subst h; exact any_obj C (Cn := "CardLoom$Row") rfl q2767 hq
    · subst h; exact any_obj C (Cn := "CardLoom$Colour") rfl q2753 hq
    · subst h; exact any_obj C (Cn := "CardLoom$Often") rfl q2774 hq
  · rename_i q hq
    obtain ⟨cA, x⟩ := q
    have hA : cA = gA g 5 := of_decide_eq_true h
    subst hA
    intro H a1
    have hcell : H[a]? = some (vp_cell (gA g 5) x) := (a1.1 a _ hq).1
    obtain ⟨kA, comp, k1, k2, k3, k4⟩ := (C.2.2.2.2.2.1.1.2 5 _ (kty_at rfl)).2
    have hcls : (vp_cell (gA g 5) x).cls = gA g 5 := by
      obtain ⟨n, f | f | f | f | f⟩ := x <;> rfl
    have hvm : (vp_cell (gA g 5) x).vm = .none := by
      obtain ⟨n, f | f | f | f | f⟩ := x <;> rfl
    refine ⟨_, hcell, by rw [hvm]; rfl, ⟨kA, by rw [hcls]; exact k1⟩, fun comp h1 => ?_⟩
    obtain ⟨c1, t1, f1, f2, f3⟩ := Cond.castable_spec (va_Nw.use (A := xa X) rfl (C.2.2.2.2.2.1.2.1 _ q2801 rfl))
    cases h1.symm.trans f2
    rw [hcls]
    have e : c1 = gA g 5 := Option.some.inj (f1.symm.trans k4)
    rw [← e]
    exact f3
  · cases h
theorem v_ldcM (C : kOk g X cc nL own rt fr lo rv w1) {Cn : String} {index mi : Nat} (hq : Cond.classLink own index Cn ∈ lw_all) (hM : va_Mi Cn mi (xs X)) (hdg : decode cc pc = .ok (.ldc index, 2)) (kk : kV g X nL w (pc + 2) lv (.ref mi :: st)) : kV g X nL w pc lv st := fun H locs ls a b h => va_ldcM C.1 C.2.1 C.2.2.2.1 (C.2.2.2.2.1 _ hq) hM hdg (kk H locs ls a b h)
theorem v_getClass (C : kOk g X cc nL own rt fr lo rv w1) (hX : ∀ U, gX g U → SX g U) {a index : Nat} (hq : Cond.methodLink own index ⟨"java/lang/Object", "getClass", "()Ljava/lang/Class;"⟩ ∈ lw_all) (hR : 1 ≤ fr ∧ 22 ≤ lo) (hw : (st.map fun v => v.category).sum ≤ 8) (hdg : decode cc pc = .ok (.invokevirtual index, 3)) {f : Option β} (hF : (if aIs g w 4 a = true then f else none) = some z) (kk : f = some z → kV g X nL w (pc + 3) lv (.ref (gT g 5) :: st)) : kV g X nL w pc lv (.ref a :: st) := by
  obtain ⟨h1, h2⟩ := k_ite hF
  obtain ⟨x, h3⟩ := aIs_of h1
  have kk := kk h2
  intro H locs ls a1 b h
  obtain ⟨hx, hb, hml, hown, hts, hG, -, -, ⟨r1, r2, r3, r4⟩, -⟩ := C
  have hcell : H[a]? = some (vp_cell (gA g 4) x) := (a1.1 a _ h3).1
  obtain ⟨kA, comp, k1, k2, k3, k4⟩ := (hG.1.2 4 _ (kty_at rfl)).2
  have hcls : (vp_cell (gA g 4) x).cls = gA g 4 := by
    obtain ⟨n, f | f | f | f | f⟩ := x <;> rfl
  have hvm : (vp_cell (gA g 4) x).vm = .none := by
    obtain ⟨n, f | f | f | f | f⟩ := x <;> rfl
  exact va_getC hx hb (by rw [hml]; exact h.1.symm) hown (hts _ hq) (va_Nw.use rfl (hG.2.1 _ q2794 rfl)) (hts _ q2793) (hts _ q429) (hts _ q464) (hX _ hG.2.2.1).2.2.2.1 ⟨_, hcell, by rw [hvm]; rfl, by rw [hcls]; exact k4⟩ (by rw [r1]; exact hR.1) (by rw [r2]; omega) hdg (kk H locs ls a1 b h)
theorem v_aSqN (C : kOk g X cc nL own rt fr lo rv w1) {a t : Nat} {E : String} (ht : ktys[t]? = some (t, .object E)) {i : Int32} (hdg : decode cc pc = .ok (.aastore, 1)) {A : Wd → Option β} (hF : kob (aSQ g w t a i none) A = some z) (kk : ∀ w2, A w2 = some z → kV g X nL w2 (pc + 1) lv st) : kV g X nL w pc lv (.null :: .int i :: .ref a :: st) := by
  obtain ⟨x, h1, h2⟩ := kob_of hF
  obtain ⟨q, h3, h4⟩ := kob_of h1
  obtain ⟨f, h5, h6⟩ := kob_of h4
  obtain ⟨h7, h8⟩ := k_ite h6
  cases h8
  have h9 := aC_of h3
  obtain ⟨n, hq⟩ : ∃ n, q = (n, .inr (.inr (.inr (.inr f)))) := ⟨q.1, xQ_of h5⟩
  subst hq
  have kk := kk _ h2
  intro H locs ls a1 b h
  obtain ⟨hx, hb, hml, hown, hts, hG, -⟩ := C
  have hK := hG.1
  have hcell : H[a]? = some (vp_cell (gA g t) (n, .inr (.inr (.inr (.inr f))))) := (a1.1 a _ h9).1
  have haB := (a1.1 a _ h9).2
  have hin := kin_vp h7
  refine va_WaastN hx hb hcell ((hK.2 t _ (kty_at ht)).1 n (fun j => va_rf (f j))) (fun q => by cases q) (by show ¬ (i < 0 ∨ (arrV _ _ _).slots.size ≤ _); rw [arrV_size]; exact hin) rfl rfl hdg fun H1 e z oq => ?_
  have e2 : H1[a]? = some (vp_cell (gA g t) (n, .inr (.inr (.inr (.inr (va_up f i.toNatClampNeg none)))))) := by
    rw [e]
    rw [vp_cell_q, vp_cell_q, arrV_store]
    congr 2
    funext q
    by_cases hq : q = i.toNatClampNeg
    · subst hq
      simp [updV, va_up, va_rf]
    · simp [updV, va_up, hq]
  refine kk H1 _ ls (a1.set haB e2 z oq (fun c hc' => ?_)) (fun q hq => ?_) h
  · cases hcell.symm.trans hc'
    exact ⟨_, e2, by rw [vp_cell_q, vp_cell_q, arrV_size, arrV_size]⟩
  · rcases List.mem_append.mp hq with z | z
    · exact b q z
    · cases List.mem_singleton.mp z
      exact haB
theorem v_cpQ (C : kOk g X cc nL own rt fr lo rv w1) (_ : ∀ U, gX g U → SX g U) {index src dst : Nat} {sp dp n : Int32} (hq : Cond.methodLink own index arraycopyName ∈ lw_all) (hR : 1 ≤ fr ∧ 60 ≤ lo) (hw : (st.map fun v => v.category).sum ≤ 8) (hdg : decode cc pc = .ok (.invokestatic index, 3)) {A : Wd → Option β} (hF : kob (aCpQ g w src sp dst dp n) A = some z) (kk : ∀ w2, A w2 = some z → kV g X nL w2 (pc + 3) lv st) : kV g X nL w pc lv (.int n :: .int dp :: .ref dst :: .int sp :: .ref src :: st) := by
  obtain ⟨w2, h1, h2⟩ := kob_of hF
  obtain ⟨x, g1, h3⟩ := kob_of h1
  obtain ⟨f, g2, h4⟩ := kob_of h3
  obtain ⟨y, g3, h5⟩ := kob_of h4
  obtain ⟨f2, g4, h6⟩ := kob_of h5
  obtain ⟨⟨⟨i1, i2, i3, i4, i5⟩, i6⟩, h8⟩ := k_ite h6
  cases h8
  have kk := kk _ h2
  obtain ⟨n0, rfl⟩ : ∃ n0, x = (n0, .inr (.inr (.inr (.inr f)))) := ⟨x.1, xQ_of g2⟩
  obtain ⟨n1, rfl⟩ : ∃ n1, y = (n1, .inr (.inr (.inr (.inr f2)))) := ⟨y.1, xQ_of g4⟩
  have hs := aC_of g1
  have hd := aC_of g3
  have hel : ∀ H, kRp g w H → ∀ i : Nat, i < n.toNatClampNeg → ∀ v : Nat, f (sp.toNatClampNeg + i) = some v → va_Any "java/lang/Object" (xs X) H v := by
    intro H a1 i hi v hv
    have := (List.all_eq_true.mp i6) i (List.mem_range.mpr hi)
    rw [hv] at this
    exact any_O C this H a1
  intro H locs ls a1 b hl
  obtain ⟨hx, hb, hml, hown, hts, hG, -, -, ⟨r1, r2, r3, r4⟩, -⟩ := C
  have hK := hG.1
  have nn : ∀ z : Int32, ¬ z < 0 → z.toInt = (z.toNatClampNeg : Int) := by
    intro z hz
    have hz0 : (0 : Int) ≤ z.toInt := by
      have := Int32.not_lt.mp hz
      simpa using Int32.le_iff_toInt_le.mp this
    show z.toInt = ((z.toInt.toNat : Nat) : Int)
    omega
  intro T hT Y
  have hc0 : H[src]? = some (vp_cell (gA g 4) (n0, .inr (.inr (.inr (.inr f))))) := (a1.1 src _ hs).1
  have hc1 : H[dst]? = some (vp_cell (gA g 4) (n1, .inr (.inr (.inr (.inr f2))))) := (a1.1 dst _ hd).1
  have haB := (a1.1 dst _ hd).2
  have ht4 : (kty g)[4]? = some (gA g 4, .object "java/lang/Object") := kty_at rfl
  obtain ⟨-, k0, hk0, cm0, hkk0⟩ := (hK.2 4 _ ht4).1 n0 (fun j => va_rf (f j))
  obtain ⟨-, k1, hk1, cm1, hkk1⟩ := (hK.2 4 _ ht4).1 n1 (fun j => va_rf (f2 j))
  obtain ⟨vm', X', step⟩ := Y.arraycopy hx hown (hts _ hq) (hts _ q476) (hts _ q475) (hts _ q94) (src := src) (dst := dst) (cs := vp_cell (gA g 4) (n0, .inr (.inr (.inr (.inr f))))) (cd := vp_cell (gA g 4) (n1, .inr (.inr (.inr (.inr f2))))) (srcPos := sp) (destPos := dp) (n := n) (by rw [hT]; exact hc0) (by rw [hT]; exact hc1)
    (fun _ h => by cases h) (fun _ h => by cases h) (fun h => by cases h) (fun h => by cases h) hk0 hk1 hkk0 hkk1 rfl i1 i2 i3
    (by rw [nn sp i1, nn n i3]; show ¬ _ > ((arrV (gA g 4) n0 (fun j => va_rf (f j))).slots.size : Int); rw [arrV_size]; omega)
    (by rw [nn dp i2, nn n i3]; show ¬ _ > ((arrV (gA g 4) n1 (fun j => va_rf (f2 j))).slots.size : Int); rw [arrV_size]; omega)
    (fun vm₁ hal i hi => by
      have e : (vp_cell (gA g 4) (n0, .inr (.inr (.inr (.inr f))))).slots.getD (sp.toNatClampNeg + i) .null = va_rf (f (sp.toNatClampNeg + i)) := by
        show (arrV (gA g 4) n0 (fun j => va_rf (f j))).slots.getD _ _ = _
        rw [Array.getD_eq_getD_getElem?, arrV_read _ _ (by omega)]
        rfl
      rw [e]
      cases hy : f (sp.toNatClampNeg + i) with
      | none => exact ⟨rfl, trivial⟩
      | some v =>
        obtain ⟨cellV, e1, e2, ⟨kC, hkC⟩, hasg⟩ := hel H a1 i hi v hy
        obtain ⟨kA, comp, q1, q2, q3, -⟩ := (hK.2 4 _ ht4).2
        cases hk1.symm.trans q1
        cases hkk1.symm.trans q2
        obtain ⟨kE, hkE, -⟩ := Vm.findClass_spec q3
        obtain ⟨kC', hkC', -⟩ := hal.2.2 _ _ hkC
        obtain ⟨kE', hkE', -⟩ := hal.2.2 _ _ hkE
        refine ⟨rfl, cellV, (show T.heap[v]? = some cellV by rw [hT]; exact e1), (fun q h => by rw [h] at e2; cases e2), ⟨kC', hkC'⟩, ?_, ?_⟩
        · exact ⟨kE', hkE'⟩
        · show vm₁.assignable _ _ = true
          rw [hal.assignable]
          exact hasg _ q3)
    (g := F0 (xm X) pc ls (.int n :: .int dp :: .ref dst :: .int sp :: .ref src :: st)) rfl (by rw [hml]; exact hl.1) (rest := st) rfl (by rw [hb]; exact hdg) (by rw [r1]; exact hR.1) (by
      rw [r2]
      have : nativeFrameWords "java/lang/System" "arraycopy" 5 + 11 ≤ 40 := by decide
      show 2 * 0 + _ + _ ≤ _
      omega)
  have e1 : copied (vp_cell (gA g 4) (n0, .inr (.inr (.inr (.inr f))))) (vp_cell (gA g 4) (n1, .inr (.inr (.inr (.inr f2))))) sp dp n = vp_cell (gA g 4) (n1, .inr (.inr (.inr (.inr (va_cpy f f2 sp.toNatClampNeg dp.toNatClampNeg n.toNatClampNeg))))) := by
    rw [vp_cell_q, vp_cell_q, vp_cell_q]
    exact va_copied (fun z => va_rf z) (gA g 4) (gA g 4) f f2 i4
  rw [e1] at X' step
  have hlt : dst < H.size := (Array.getElem?_eq_some_iff.mp hc1).1
  have hheap : ((T.setVm vm').setCell dst (vp_cell (gA g 4) (n1, .inr (.inr (.inr (.inr (va_cpy f f2 sp.toNatClampNeg dp.toNatClampNeg n.toNatClampNeg))))))).heap = H.setIfInBounds dst (vp_cell (gA g 4) (n1, .inr (.inr (.inr (.inr (va_cpy f f2 sp.toNatClampNeg dp.toNatClampNeg n.toNatClampNeg)))))) := by rw [← hT]; rfl
  have oq : ∀ q : Nat, q ≠ dst → (H.setIfInBounds dst (vp_cell (gA g 4) (n1, .inr (.inr (.inr (.inr (va_cpy f f2 sp.toNatClampNeg dp.toNatClampNeg n.toNatClampNeg)))))))[q]? = H[q]? := fun q hq => by simp [Array.getElem?_setIfInBounds, Ne.symm hq]
  have es : (H.setIfInBounds dst (vp_cell (gA g 4) (n1, .inr (.inr (.inr (.inr (va_cpy f f2 sp.toNatClampNeg dp.toNatClampNeg n.toNatClampNeg)))))))[dst]? = some (vp_cell (gA g 4) (n1, .inr (.inr (.inr (.inr (va_cpy f f2 sp.toNatClampNeg dp.toNatClampNeg n.toNatClampNeg)))))) := by simp [Array.getElem?_setIfInBounds, hlt]
  obtain ⟨t, b1, b2⟩ := kk _ _ ls (a1.set haB es (by simp) oq (fun c hc' => by
      cases hc1.symm.trans hc'
      exact ⟨_, es, by rw [vp_cell_q, vp_cell_q, arrV_size, arrV_size]⟩)) (fun q hq => by
      rcases List.mem_append.mp hq with h | h
      · exact b q h
      · obtain ⟨z, -, hz⟩ := List.mem_map.mp h
        rw [← hz]
        exact haB) hl _ hheap X'
  exact ⟨t, step t b1, b2⟩
end KG

