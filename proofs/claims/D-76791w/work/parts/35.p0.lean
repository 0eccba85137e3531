/-! THE PURE PART, 0: small numbers, going on, cells, worlds -/
set_option maxRecDepth 100000
abbrev n32 (i : Nat) : Int32 := Int32.ofNat i
theorem n32_i {i : Nat} (h : i < 2147483648) : (n32 i).toInt = i := Int32.toInt_ofNat_of_lt h
theorem n32_n {i : Nat} (h : i < 2147483648) : (n32 i).toNatClampNeg = i := Int32.toNatClampNeg_ofNat_of_lt h
theorem n32_lt {i j : Nat} (h : i < 2147483648) (h' : j < 2147483648) : (n32 i < n32 j) ↔ i < j := by
  rw [Int32.lt_iff_toInt_lt, n32_i h, n32_i h']; omega
theorem n32_le {i j : Nat} (h : i < 2147483648) (h' : j < 2147483648) : (n32 i ≤ n32 j) ↔ i ≤ j := by
  rw [Int32.le_iff_toInt_le, n32_i h, n32_i h']; omega
theorem n32_eq {i j : Nat} (h : i < 2147483648) (h' : j < 2147483648) : (n32 i = n32 j) ↔ i = j := by
  rw [← Int32.toInt_inj, n32_i h, n32_i h']; omega
theorem n32_nn {i : Nat} (h : i < 2147483648) : ¬ n32 i < 0 := by
  rw [Int32.lt_iff_toInt_lt, n32_i h]
  have : (0 : Int32).toInt = 0 := by decide
  omega
theorem n32_add (i j : Nat) : n32 i + n32 j = n32 (i + j) := (Int32.ofNat_add i j).symm
theorem n32_s (i : Nat) : n32 i + 1 = n32 (i + 1) := (Int32.ofNat_add i 1).symm
theorem n32_p {i : Nat} (h : 0 < i) : n32 i - 1 = n32 (i - 1) := by
  have e : n32 i = n32 (i - 1) + 1 := by rw [n32_s]; congr 1; omega
  rw [e, Int32.add_sub_cancel]
theorem n32_sub {i j : Nat} (h : j ≤ i) : n32 i - n32 j = n32 (i - j) := by
  have e : n32 i = n32 (i - j) + n32 j := by rw [n32_add]; congr 1; omega
  rw [e, Int32.add_sub_cancel]
theorem n32_mul (i j : Nat) : n32 i * n32 j = n32 (i * j) := (Int32.ofNat_mul i j).symm
theorem kin_n {i n : Nat} (h : i < 2147483648) : kin (n32 i) n = decide (i < n) := by
  unfold kin
  rw [n32_n h, decide_eq_false (n32_nn h)]
  by_cases hc : i < n
  · have : ¬ n ≤ i := by omega
    simp [hc, this]
  · have : n ≤ i := by omega
    simp [hc, this]
theorem n32_of (x : Int32) (h : ¬ x < 0) : ∃ i, i < 2147483648 ∧ x = n32 i := by
  refine ⟨x.toNatClampNeg, ?_, ?_⟩
  · have := Int32.toInt_lt x
    have h2 : x.toNatClampNeg = x.toInt.toNat := rfl
    omega
  · have h1 : 0 ≤ x.toInt := by
      rw [Int32.lt_iff_toInt_lt] at h
      have : (0 : Int32).toInt = 0 := by decide
      omega
    have hl := Int32.toInt_lt x
    have h2 : x.toNatClampNeg = x.toInt.toNat := rfl
    rw [← Int32.toInt_inj, n32_i (by omega)]
    omega
/-- what lies between 0 and n - 1 -/
theorem n32_in (x : Int32) {n : Nat} (hn : n < 2147483648) : (x < 0 ∨ (¬ x < 0 ∧ n32 n - 1 < x)) ∨ ∃ i, i < n ∧ x = n32 i := by
  by_cases h : x < 0
  · exact .inl (.inl h)
  obtain ⟨i, hi, rfl⟩ := n32_of x h
  by_cases hc : i < n
  · exact .inr ⟨i, hc, rfl⟩
  · refine .inl (.inr ⟨h, ?_⟩)
    by_cases h0 : n = 0
    · subst h0
      rw [Int32.lt_iff_toInt_lt, n32_i hi]
      have : (n32 0 - 1).toInt = -1 := by decide
      omega
    · rw [n32_p (by omega), n32_lt (by omega) hi]
      omega
/-! going on -/
def kY {β : Type} (f : Option β) (Q : β → Prop) : Prop := ∃ z, f = some z ∧ Q z
theorem kb_s {α S β : Type} {r : α} {s : S} {A : α → S → Option β} : kb (some (r, s)) A = A r s := rfl
theorem kob_s {α β : Type} {x : α} {A : α → Option β} : kob (some x) A = A x := rfl
theorem z32 : n32 0 = 0 := by decide
theorem kY_some {β : Type} {z : β} {Q : β → Prop} (h : Q z) : kY (some z) Q := ⟨z, rfl, h⟩
theorem kY_kb {α S β : Type} {f : Option (α × S)} {A : α → S → Option β} {Q : β → Prop} (h : kY f (fun q => kY (A q.1 q.2) Q)) : kY (kb f A) Q := by
  obtain ⟨z, rfl, h2⟩ := h
  exact h2
theorem kY_kbe {α S β : Type} {f : Option (α × S)} {r : α} {s : S} {A : α → S → Option β} {Q : β → Prop} (h : f = some (r, s)) (h2 : kY (A r s) Q) : kY (kb f A) Q := by
  subst h; exact h2
theorem kY_kob {α β : Type} {f : Option α} {x : α} {A : α → Option β} {Q : β → Prop} (h : f = some x) (h2 : kY (A x) Q) : kY (kob f A) Q := by
  subst h; exact h2
theorem kY_pos {β : Type} {c : Prop} {d : Decidable c} {f1 f2 : Option β} {Q : β → Prop} (h : c) (h2 : kY f1 Q) : kY (@ite _ c d f1 f2) Q := by
  rw [if_pos h]; exact h2
theorem kY_neg {β : Type} {c : Prop} {d : Decidable c} {f1 f2 : Option β} {Q : β → Prop} (h : ¬ c) (h2 : kY f2 Q) : kY (@ite _ c d f1 f2) Q := by
  rw [if_neg h]; exact h2
theorem kY_mono {β : Type} {f : Option β} {Q Q2 : β → Prop} (h : kY f Q) (h2 : ∀ z, Q z → Q2 z) : kY f Q2 := by
  obtain ⟨z, e, q⟩ := h
  exact ⟨z, e, h2 z q⟩
theorem kY_eq {β : Type} {f : Option β} {z : β} (h : f = some z) : kY f (fun q => q = z) := ⟨z, h, rfl⟩
theorem kY_of {β : Type} {f : Option β} {z : β} (h : kY f (fun q => q = z)) : f = some z := by
  obtain ⟨q, e, h2⟩ := h
  rw [e, h2]
theorem kY_e {β : Type} {f : Option β} {z : β} {Q : β → Prop} (h : f = some z) (h2 : Q z) : kY f Q := ⟨z, h, h2⟩
/-- a loop of n turns and a last look -/
theorem kloop_go {α β : Type} {body : (α → Option β) → α → Option β} {Q : β → Prop} (I : Nat → α → Prop) (n : Nat)
    (step : ∀ i, i < n → ∀ (k : α → Option β) (a : α), I i a → (∀ a', I (i + 1) a' → kY (k a') Q) → kY (body k a) Q)
    (last : ∀ (k : α → Option β) (a : α), I n a → kY (body k a) Q) : ∀ N a, n < N → I 0 a → kY (kloop body N a) Q := by
  have main : ∀ m i N a, n - i = m → i ≤ n → m < N → I i a → kY (kloop body N a) Q := by
    intro m
    induction m with
    | zero =>
      intro i N a h1 h2 h3 h4
      obtain ⟨N, rfl⟩ : ∃ M, N = M + 1 := ⟨N - 1, by omega⟩
      have : i = n := by omega
      subst this
      exact last _ a h4
    | succ m ih =>
      intro i N a h1 h2 h3 h4
      obtain ⟨N, rfl⟩ : ∃ M, N = M + 1 := ⟨N - 1, by omega⟩
      exact step i (by omega) _ a h4 (fun a' h' => ih (i + 1) N a' (by omega) (by omega) (by omega) h')
  intro N a h1 h2
  exact main n 0 N a (by omega) (by omega) h1 h2
/-- the same for a loop that ends somewhere on its own: m bounds its turns -/
theorem kloop_un {α β : Type} {body : (α → Option β) → α → Option β} {Q : β → Prop} (I : Nat → α → Prop)
    (step : ∀ i (k : α → Option β) (a : α), I i a → (∀ j a', j < i → I j a' → kY (k a') Q) → kY (body k a) Q) : ∀ N m a, m < N → I m a → kY (kloop body N a) Q := by
  intro N
  induction N with
  | zero => intro m a h; omega
  | succ N ih =>
    intro m a h1 h2
    exact step m _ a h2 (fun j a' hj h' => ih j a' (by omega) h')
/-! cells -/
abbrev cO (ci : Nat) (fs : List Value) : kE := .inl (.inr (ci, fs))
abbrev cI (g : GT) (t n : Nat) (f : Nat → Int32) : kE := .inl (.inl (gA g t, n, .inl f))
abbrev cJ (g : GT) (t n : Nat) (f : Nat → Int64) : kE := .inl (.inl (gA g t, n, .inr (.inl f)))
abbrev cQ (g : GT) (t n : Nat) (f : Nat → Option Nat) : kE := .inl (.inl (gA g t, n, .inr (.inr (.inr (.inr f)))))
abbrev wU (w : Wd) (a : Nat) (e : kE) : Wd := (kup w.1 a (some e), w.2)
abbrev wN (w : Wd) (e : kE) (N : Nat) : Wd := (kup w.1 w.2.1 (some e), w.2.1 + 1, w.2.2 + N)
theorem oI_e {w : Wd} {a ci k : Nat} {fs : List Value} {v : Int32} (h : w.1 a = some (cO ci fs)) (hv : fs[k]? = some (.int v)) : oI w a ci k = some v := by
  unfold oI
  rw [oC_eq h]
  show vI fs[k]? = _
  rw [hv]; rfl
theorem oR_e {w : Wd} {a ci k : Nat} {fs : List Value} {v : Nat} (h : w.1 a = some (cO ci fs)) (hv : fs[k]? = some (.ref v)) : oR w a ci k = some v := by
  unfold oR
  rw [oC_eq h]
  show vR fs[k]? = _
  rw [hv]; rfl
theorem oN_e {w : Wd} {a ci k : Nat} {fs : List Value} {v : Option Nat} (h : w.1 a = some (cO ci fs)) (hv : fs[k]? = some (va_rf v)) : oN w a ci k = some v := by
  unfold oN
  rw [oC_eq h]
  show vN fs[k]? = _
  rw [hv]; cases v <;> rfl
theorem oP_e {w : Wd} {a ci k : Nat} {fs : List Value} {v : Value} (h : w.1 a = some (cO ci fs)) (hv : k < fs.length) : oP w a ci k v = some (wU w a (cO ci (fs.set k v))) := by
  unfold oP
  rw [oC_eq h]
  show (if k < fs.length then _ else none) = _
  rw [if_pos hv]
theorem oIs_e {w : Wd} {a ci : Nat} {fs : List Value} (h : w.1 a = some (cO ci fs)) : oIs w a ci = true := by
  unfold oIs
  rw [oC_eq h]; rfl
theorem aL_e {g : GT} {w : Wd} {t a : Nat} {x : vp_A} (h : w.1 a = some (.inl (.inl (gA g t, x)))) : aL g w t a = some (n32 x.1) := by
  unfold aL
  rw [aC_eq h]; rfl
theorem aIs_e {g : GT} {w : Wd} {t a : Nat} {x : vp_A} (h : w.1 a = some (.inl (.inl (gA g t, x)))) : aIs g w t a = true := by
  unfold aIs
  rw [aC_eq h]; rfl
theorem aI_e {g : GT} {w : Wd} {t a n i : Nat} {f : Nat → Int32} (h : w.1 a = some (cI g t n f)) (hi : i < n) (hn : n < 2147483648) : aI g w t a (n32 i) = some (f i) := by
  unfold aI
  rw [aC_eq h]
  show (if kin (n32 i) n = true then some (f (n32 i).toNatClampNeg) else none) = _
  rw [kin_n (by omega), n32_n (by omega), if_pos (by simpa using hi)]
theorem aQ_e {g : GT} {w : Wd} {t a n i : Nat} {f : Nat → Option Nat} (h : w.1 a = some (cQ g t n f)) (hi : i < n) (hn : n < 2147483648) : aQ g w t a (n32 i) = some (f i) := by
  unfold aQ
  rw [aC_eq h]
  show (if kin (n32 i) n = true then some (f (n32 i).toNatClampNeg) else none) = _
  rw [kin_n (by omega), n32_n (by omega), if_pos (by simpa using hi)]
theorem aJ_e {g : GT} {w : Wd} {t a n i : Nat} {f : Nat → Int64} (h : w.1 a = some (cJ g t n f)) (hi : i < n) (hn : n < 2147483648) : aJ g w t a (n32 i) = some (f i) := by
  unfold aJ
  rw [aC_eq h]
  show (if kin (n32 i) n = true then some (f (n32 i).toNatClampNeg) else none) = _
  rw [kin_n (by omega), n32_n (by omega), if_pos (by simpa using hi)]
theorem aSI_e {g : GT} {w : Wd} {t a n i : Nat} {v : Int32} {f : Nat → Int32} (h : w.1 a = some (cI g t n f)) (hi : i < n) (hn : n < 2147483648) : aSI g w t a (n32 i) v = some (wU w a (cI g t n (upd f i v))) := by
  unfold aSI
  rw [aC_eq h]
  show (if kin (n32 i) n = true then some (kup w.1 a (some (.inl (.inl (gA g t, n, .inl (upd f (n32 i).toNatClampNeg v))))), w.2) else none) = _
  rw [kin_n (by omega), n32_n (by omega), if_pos (by simpa using hi)]
theorem aSQ_e {g : GT} {w : Wd} {t a n i : Nat} {v : Option Nat} {f : Nat → Option Nat} (h : w.1 a = some (cQ g t n f)) (hi : i < n) (hn : n < 2147483648) : aSQ g w t a (n32 i) v = some (wU w a (cQ g t n (va_up f i v))) := by
  unfold aSQ
  rw [aC_eq h]
  show (if kin (n32 i) n = true then some (kup w.1 a (some (.inl (.inl (gA g t, n, .inr (.inr (.inr (.inr (va_up f (n32 i).toNatClampNeg v)))))))), w.2) else none) = _
  rw [kin_n (by omega), n32_n (by omega), if_pos (by simpa using hi)]
theorem aSJ_e {g : GT} {w : Wd} {t a n i : Nat} {v : Int64} {f : Nat → Int64} (h : w.1 a = some (cJ g t n f)) (hi : i < n) (hn : n < 2147483648) : aSJ g w t a (n32 i) v = some (wU w a (cJ g t n (vp_updL f i v))) := by
  unfold aSJ
  rw [aC_eq h]
  show (if kin (n32 i) n = true then some (kup w.1 a (some (.inl (.inl (gA g t, n, .inr (.inl (vp_updL f (n32 i).toNatClampNeg v)))))), w.2) else none) = _
  rw [kin_n (by omega), n32_n (by omega), if_pos (by simpa using hi)]
/-- room for k cells, eleven slots to a cell -/
def Rm (g : GT) (w : Wd) (k : Nat) : Prop := w.2.1 + k ≤ gcc g ∧ w.2.2 + 11 * k ≤ gcs g
theorem oNew_e {g : GT} {w : Wd} {ci N : Nat} {fs : List Value} (h : Rm g w 1) (hN : N ≤ 11) : oNew g w ci fs N = some (w.2.1, wN w (cO ci fs) N) := by
  unfold oNew
  rw [if_pos ⟨h.1, by have := h.2; omega⟩]
theorem lNew_e {g : GT} {w : Wd} {i : Nat} {vs : List Value} (h : Rm g w 1) (hN : vs.length ≤ 11) : lNew g w i vs = some (w.2.1, wN w (.inr (i, vs)) vs.length) := by
  unfold lNew
  rw [if_pos ⟨h.1, by have := h.2; omega⟩]
theorem aNew_e {g : GT} {w : Wd} {t n k : Nat} {x : (Nat → Int32) ⊕ (Nat → Int64) ⊕ (Nat → UInt32) ⊕ (Nat → UInt64) ⊕ (Nat → Option Nat)} (h : Rm g w k) (hk : 1 ≤ k) (hn : n ≤ 11 * k) (h3 : n ≤ 1000000) : aNew g w t (n32 n) x = some (w.2.1, wN w (.inl (.inl (gA g t, n, x))) n) := by
  unfold aNew
  rw [n32_n (by omega), if_pos ⟨n32_nn (by omega), h3, by have := h.1; omega, by have := h.2; omega⟩]
/-! worlds -/
/-- nothing lies beyond the size, nothing below the law's first address -/
def Wf (g : GT) (w : Wd) : Prop := (∀ a, w.2.1 ≤ a → w.1 a = none) ∧ (∀ a, a < gB g → w.1 a = none) ∧ gB g ≤ w.2.1
/-- from w to w1: at most k cells more, of w's own addresses only S may have changed -/
def Nx (g : GT) (S : Nat → Prop) (k : Nat) (w w1 : Wd) : Prop := w.2.1 ≤ w1.2.1 ∧ w1.2.1 ≤ w.2.1 + k ∧ w1.2.2 ≤ w.2.2 + 11 * k ∧ Wf g w1 ∧ (∀ a, a < w.2.1 → ¬ S a → w1.1 a = w.1 a) ∧ ∀ a q, w.1 a = some (.inr q) → w1.1 a = w.1 a
theorem Wf.lt {g : GT} {w : Wd} (h : Wf g w) {a : Nat} {e : kE} (ha : w.1 a = some e) : a < w.2.1 := by
  rcases Nat.lt_or_ge a w.2.1 with h1 | h1
  · exact h1
  · rw [h.1 a h1] at ha; cases ha
theorem Wf.ge {g : GT} {w : Wd} (h : Wf g w) {a : Nat} {e : kE} (ha : w.1 a = some e) : gB g ≤ a := by
  rcases Nat.lt_or_ge a (gB g) with h1 | h1
  · rw [h.2.1 a h1] at ha; cases ha
  · exact h1
theorem Wf.ne {g : GT} {w : Wd} (h : Wf g w) {a : Nat} {e : kE} (ha : w.1 a = some e) : a ≠ w.2.1 := by
  have := h.lt ha; omega
theorem Nx.refl {g : GT} {S : Nat → Prop} {w : Wd} (h : Wf g w) (k : Nat) : Nx g S k w w := ⟨Nat.le_refl _, by omega, by omega, h, fun _ _ _ => rfl, fun _ _ _ => rfl⟩
theorem Nx.trans {g : GT} {S T U : Nat → Prop} {k j m : Nat} {w w1 w2 : Wd} (h : Nx g S k w w1) (h2 : Nx g T j w1 w2) (hk : k + j ≤ m) (hU : ∀ a, a < w.2.1 → S a ∨ T a → U a) : Nx g U m w w2 := by
  obtain ⟨a1, a2, a3, a4, a5, a6⟩ := h
  obtain ⟨b1, b2, b3, b4, b5, b6⟩ := h2
  refine ⟨by omega, by omega, by omega, b4, fun a ha hn => ?_, fun a q hq => ?_⟩
  · rw [b5 a (by omega) (fun q => hn (hU a ha (.inr q))), a5 a ha (fun q => hn (hU a ha (.inl q)))]
  · rw [b6 a q (by rw [a6 a q hq, hq]), a6 a q hq]
theorem Nx.mono {g : GT} {S U : Nat → Prop} {k m : Nat} {w w1 : Wd} (h : Nx g S k w w1) (hk : k ≤ m) (hU : ∀ a, a < w.2.1 → S a → U a) : Nx g U m w w1 := by
  obtain ⟨a1, a2, a3, a4, a5, a6⟩ := h
  exact ⟨a1, by omega, by omega, a4, fun a ha hn => a5 a ha (fun q => hn (hU a ha q)), a6⟩
theorem Nx.wf {g : GT} {S : Nat → Prop} {k : Nat} {w w1 : Wd} (h : Nx g S k w w1) : Wf g w1 := h.2.2.2.1
theorem Nx.at {g : GT} {S : Nat → Prop} {k : Nat} {w w1 : Wd} (h : Nx g S k w w1) (hw : Wf g w) {a : Nat} {e : kE} (ha : w.1 a = some e) (hS : ¬ S a) : w1.1 a = some e := by
  rw [h.2.2.2.2.1 a (hw.lt ha) hS, ha]
theorem Nx.at_ {g : GT} {S : Nat → Prop} {k : Nat} {w w1 : Wd} (h : Nx g S k w w1) {a : Nat} (ha : a < w.2.1) (hS : ¬ S a) : w1.1 a = w.1 a := h.2.2.2.2.1 a ha hS
theorem Nx.rm {g : GT} {S : Nat → Prop} {k m : Nat} {w w1 : Wd} (h : Nx g S k w w1) {j : Nat} (hR : Rm g w m) (hj : k + j ≤ m) : Rm g w1 j := by
  obtain ⟨a1, a2, a3, a4, a5⟩ := h
  exact ⟨by have := hR.1; omega, by have := hR.2; omega⟩
theorem Rm.le {g : GT} {w : Wd} {k j : Nat} (h : Rm g w k) (hj : j ≤ k) : Rm g w j := ⟨by have := h.1; omega, by have := h.2; omega⟩
theorem Nx_U {g : GT} {w : Wd} {a : Nat} {e0 : va_E} {e : kE} (h : Wf g w) (ha : w.1 a = some (.inl e0)) : Nx g (fun q => q = a) 0 w (wU w a e) := by
  have h1 := h.lt ha
  have h2 := h.ge ha
  exact ⟨Nat.le_refl _, by simp, by simp, ⟨fun b hb => (kup_n (by simp at hb; omega)).trans (h.1 b hb), fun b hb => (kup_n (by omega)).trans (h.2.1 b hb), h.2.2⟩, fun b _ hb => kup_n hb, fun b q hq => kup_n (by intro h3; subst h3; rw [ha] at hq; cases hq)⟩
theorem Nx_N {g : GT} {w : Wd} {e : kE} {N : Nat} {S : Nat → Prop} (h : Wf g w) (k : Nat) (hk : 1 ≤ k) (hN : N ≤ 11 * k) : Nx g S k w (wN w e N) :=
  ⟨by simp, by simp; omega, by simp; omega, ⟨fun b hb => (kup_n (by simp at hb; omega)).trans (h.1 b (by simp at hb; omega)), fun b hb => (kup_n (by have := h.2.2; omega)).trans (h.2.1 b hb), by have := h.2.2; simp; omega⟩, fun b hb _ => kup_n (by omega), fun b q hq => kup_n (h.ne hq)⟩
theorem wU_s {w : Wd} {a : Nat} {e : kE} : (wU w a e).1 a = some e := kup_s
theorem wU_n {w : Wd} {a b : Nat} {e : kE} (h : b ≠ a) : (wU w a e).1 b = w.1 b := kup_n h
theorem wN_s {w : Wd} {N : Nat} {e : kE} : (wN w e N).1 w.2.1 = some e := kup_s
theorem wN_n {w : Wd} {N b : Nat} {e : kE} (h : b ≠ w.2.1) : (wN w e N).1 b = w.1 b := kup_n h
theorem wU_U {w : Wd} {a : Nat} {e e2 : kE} : wU (wU w a e) a e2 = wU w a e2 := by
  refine Prod.ext (funext fun b => ?_) rfl
  by_cases hb : b = a
  · subst hb; simp [kup]
  · simp [kup, hb]
/-- what the start says of the known addresses -/
def Gk (g : GT) : Prop := (∀ k, k ≤ 13 → gT g k < gB g) ∧ (∀ i j, i < 4 → j < 4 → gT g i = gT g j → i = j)
theorem Gk.no {g : GT} {w : Wd} (h : Gk g) (hw : Wf g w) {k : Nat} (hk : k ≤ 13) : w.1 (gT g k) = none := hw.2.1 _ (h.1 k hk)
theorem Gk.ne {g : GT} {w : Wd} (h : Gk g) (hw : Wf g w) {k a : Nat} {e : kE} (hk : k ≤ 13) (ha : w.1 a = some e) : a ≠ gT g k := by
  have := hw.ge ha
  have := h.1 k hk
  omega
