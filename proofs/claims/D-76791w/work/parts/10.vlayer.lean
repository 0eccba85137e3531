abbrev kcl : List vw_C := [(RX3, TX3, 41), (RX0, TX0, 14), (RX6, TX6, 4), (RX9, TX9, 4), (RX4, TX4, 3), (RX5, TX5, 7), (RX11, TX11, 3), (RX10, TX10, 1), (RX13, TX10, 0), (RX2, TX2, 1), (RX12, TX12, 4), (RJ2, TJ2, 3), (RJ15, TJ15, 4), (RJ19, TJ19, 3), (RJ21, TJ21, 4), (RJ18, TJ18, 9), (RJ27, TJ27, 6), (RJ30, TJ30, 1), (RJ34, TJ34, 4), (RJ33, TJ33, 4), (RJ29, TJ29, 1), (RJ35, TJ35, 1), (RJ37, TJ37, 4), (RJ9, TJ9, 4), (RJ23, TJ23, 8), (RJ38, TJ38, 6), (RJ40, TJ40, 6)]
abbrev ktys : List (Nat × FieldType) := [(0, .int), (1, .boolean), (2, .byte), (3, .long), (4, .object "java/lang/Object"), (5, .object "CardLoom$Turning"), (6, .object "CardLoom$Colour"), (7, .array .int)]
/-- words that don't ride in the lists -/
def kx : Cond → Bool
  | .fieldLinkNest .. => true
  | .methodLinkNest .. => true
  | .declares _ => true
  | .castable _ _ => true
  | .privateMethod _ => true
  | _ => false
/-! THE kV LAYER: the machine at a frame over an abstract heap, with exact sizes -/
set_option maxRecDepth 100000
abbrev kE : Type := va_E ⊕ (Nat × List Value)
/-- classes (D), array classes, the law's first new address, the heap at the law's entry, lambda classes, what else the tables say, known addresses -/
abbrev GT : Type := va_G × (Nat → ClassId) × Nat × Heap × (Nat → ClassId) × (State → Prop) × (Nat → Nat)
abbrev gD (g : GT) : va_G := g.1
abbrev gA (g : GT) : Nat → ClassId := g.2.1
abbrev gB (g : GT) : Nat := g.2.2.1
abbrev gH (g : GT) : Heap := g.2.2.2.1
abbrev gL (g : GT) : Nat → ClassId := g.2.2.2.2.1
abbrev gX (g : GT) : State → Prop := g.2.2.2.2.2.1
abbrev gT (g : GT) : Nat → Nat := g.2.2.2.2.2.2
abbrev Wd : Type := (Nat → Option kE) × Nat × Nat
def khs (H : Heap) : Nat := (H.toList.map (fun c => c.slots.size)).sum
def gcc (g : GT) : Nat := gB g + 603072
def gcs (g : GT) : Nat := khs (gH g) + 7194730
def kat (g : GT) (a : Nat) (e : kE) (H : Heap) : Prop := match e with
  | .inl v => va_at (gD g) kcl (a, v) H
  | .inr q => H[a]? = some { cls := gL g q.1, slots := q.2.toArray, vm := .none }
def kRp (g : GT) (w : Wd) (H : Heap) : Prop := (∀ a e, w.1 a = some e → kat g a e H ∧ gB g ≤ a) ∧ H.size = w.2.1 ∧ khs H = w.2.2 ∧ (gB g ≤ w.2.1 ∧ w.2.1 ≤ gcc g ∧ w.2.2 ≤ gcs g) ∧ ∀ q, q < gB g → H[q]? = (gH g)[q]?
abbrev kty (g : GT) : List (ClassId × FieldType) := ktys.map (fun q => (gA g q.1, q.2))
/-- what the tables say, whatever has been linked since -/
def kGF (g : GT) (U : State) : Prop := va_K (gD g) kcl (kty g) U ∧ (∀ w ∈ lw_tbl, kx w = true → va_Nw w U) ∧ gX g U ∧ ∀ s u : State, s.WarmedH u.vm → gX g s → gX g u
theorem kNw_warmP {x : MethodName} {s U : State} (hW : s.WarmedH U.vm) (hZ : va_Nw (.privateMethod x) s) : va_Nw (.privateMethod x) U := va_tabs rfl (rfl : (s.setVm U.vm).vm = U.vm) (by rw [Cond.privateMethod_setVm hW.alike]; exact hZ)
theorem kx_warm {w : Cond} (hk : kx w = true) {s U : State} (hW : s.WarmedH U.vm) (h : va_Nw w s) : va_Nw w U := by
  cases w <;> first | exact va_Nw.warmF hW h | exact va_Nw.warmM hW h | exact va_Nw.warmD hW h | exact va_Nw.warmC hW h | exact kNw_warmP hW h | exact absurd hk (by simp [kx])
theorem kGF.warm {g : GT} {s U : State} (h : kGF g s) (hW : s.WarmedH U.vm) : kGF g U := ⟨va_K.moved hW.alike h.1, fun w hw hk => kx_warm hk hW (h.2.1 w hw hk), h.2.2.2 s U hW h.2.2.1, h.2.2.2⟩
theorem kat.kept {g : GT} {a : Nat} {e : kE} {H H1 : Heap} (h : kat g a e H) (hq : H1[a]? = H[a]?) : kat g a e H1 := by
  cases e with
  | inl v => exact va_at.kept (q := (a, v)) h hq
  | inr q => exact hq.trans h
theorem kat.lt {g : GT} {a : Nat} {e : kE} {H : Heap} (h : kat g a e H) : a < H.size := by
  cases e with
  | inl v => exact va_at.lt (q := (a, v)) h
  | inr q => exact (Array.getElem?_eq_some_iff.mp h).1
def kup {α : Type} (h : Nat → α) (a : Nat) (e : α) : Nat → α := fun b => if b = a then e else h b
theorem kup_s {α : Type} {h : Nat → α} {a : Nat} {e : α} : kup h a e a = e := if_pos rfl
theorem kup_n {α : Type} {h : Nat → α} {a b : Nat} {e : α} (hn : b ≠ a) : kup h a e b = h b := if_neg hn
theorem khs_map {H H1 : Heap} (hz : H1.size = H.size) (hq : ∀ (q : Nat) (c : Cell), H[q]? = some c → ∃ c1, H1[q]? = some c1 ∧ c1.slots.size = c.slots.size) : khs H1 = khs H := by
  unfold khs
  congr 1
  apply List.ext_getElem?
  intro i
  rw [List.getElem?_map, List.getElem?_map, Array.getElem?_toList, Array.getElem?_toList]
  cases hc : H[i]? with
  | some c =>
    obtain ⟨c1, h1, h2⟩ := hq i c hc
    rw [h1]
    simp [h2]
  | none =>
    have h1 : H.size ≤ i := by simpa using hc
    have h2 : H1[i]? = none := by simp; omega
    rw [h2]
theorem khs_push (H : Heap) (c : Cell) : khs (H.push c) = khs H + c.slots.size := by simp [khs]
theorem khs_old {A B : Heap} (hz : A.size ≤ B.size) (hq : ∀ (q : Nat) (c : Cell), A[q]? = some c → ∃ c1, B[q]? = some c1 ∧ c1.slots.size = c.slots.size) : khs B = khs A + ((B.toList.drop A.size).map (fun c => c.slots.size)).sum := by
  have h1 : (B.toList.take A.size).map (fun c => c.slots.size) = A.toList.map (fun c => c.slots.size) := by
    apply List.ext_getElem?
    intro i
    rw [List.getElem?_map, List.getElem?_map, List.getElem?_take, Array.getElem?_toList, Array.getElem?_toList]
    by_cases hi : i < A.size
    · rw [if_pos hi]
      have hc : A[i]? = some A[i] := by simp [hi]
      obtain ⟨c1, h1, h2⟩ := hq i _ hc
      rw [h1, hc]
      simp [h2]
    · rw [if_neg hi]
      have : A[i]? = none := by simp; omega
      rw [this]
  unfold khs
  rw [← h1, ← List.sum_append, ← List.map_append, List.take_append_drop]
/-- one cell is another, the rest stays -/
theorem kRp.set {g : GT} {w : Wd} {H H1 : Heap} (h : kRp g w H) {a : Nat} {e : kE} (ha : gB g ≤ a) (he : kat g a e H1) (hz : H1.size = H.size) (ho : ∀ q, q ≠ a → H1[q]? = H[q]?) (hc : ∀ c, H[a]? = some c → ∃ c1, H1[a]? = some c1 ∧ c1.slots.size = c.slots.size) : kRp g (kup w.1 a (some e), w.2) H1 := by
  obtain ⟨h1, h2, h3, h4, h5⟩ := h
  refine ⟨fun b f hb => ?_, hz.trans h2, (khs_map hz fun q c hq => ?_).trans h3, h4, fun q hq => (ho q (by omega)).trans (h5 q hq)⟩
  · by_cases hba : b = a
    · subst hba
      have : some e = some f := by rw [← hb]; exact kup_s.symm
      cases this
      exact ⟨he, ha⟩
    · have hz := h1 b f (by rw [← hb]; exact (kup_n hba).symm)
      exact ⟨hz.1.kept (ho b hba), hz.2⟩
  · by_cases hqa : q = a
    · subst hqa
      exact hc c hq
    · exact ⟨c, by rw [ho q hqa]; exact hq, rfl⟩
/-- a new cell -/
theorem kRp.push {g : GT} {w : Wd} {H H1 : Heap} (h : kRp g w H) {e : kE} {c : Cell} (he : kat g H.size e H1) (hz : H1.size = H.size + 1) (hn : H1[H.size]? = some c) (ho : ∀ q, q < H.size → H1[q]? = H[q]?) {n : Nat} (hc : c.slots.size = n) (hr : w.2.1 + 1 ≤ gcc g ∧ w.2.2 + n ≤ gcs g) : kRp g (kup w.1 w.2.1 (some e), w.2.1 + 1, w.2.2 + n) H1 := by
  obtain ⟨h1, h2, h3, h4, h5⟩ := h
  have hH1 : H1 = H.push c := by
    apply Array.ext_getElem?
    intro i
    rw [Array.getElem?_push]
    by_cases hi : i = H.size
    · rw [if_pos hi, hi, hn]
    · rw [if_neg hi]
      by_cases hl : i < H.size
      · exact ho i hl
      · have e1 : H1[i]? = none := by simp; omega
        have e2 : H[i]? = none := by simp; omega
        rw [e1, e2]
  refine ⟨fun b f hb => ?_, by show H1.size = w.2.1 + 1; omega, ?_, ⟨?_, hr.1, hr.2⟩, fun q hq => (ho q (by omega)).trans (h5 q hq)⟩
  · by_cases hba : b = w.2.1
    · subst hba
      have : some e = some f := by rw [← hb]; exact kup_s.symm
      cases this
      exact ⟨by rw [← h2]; exact he, h4.1⟩
    · have hbb := h1 b f (by rw [← hb]; exact (kup_n hba).symm)
      exact ⟨hbb.1.kept (ho b hbb.1.lt), hbb.2⟩
  · show khs H1 = w.2.2 + n
    rw [hH1, khs_push, h3, hc]
  · show gB g ≤ w.2.1 + 1
    omega
abbrev CxT : Type := Program × Launch × Env × Room × State × MethodId × Array Value × List Frame × Method × Code × (State → Prop)
abbrev xp (X : CxT) : Program := X.1
abbrev xl (X : CxT) : Launch := X.2.1
abbrev xe (X : CxT) : Env := X.2.2.1
abbrev xR (X : CxT) : Room := X.2.2.2.1
abbrev xs (X : CxT) : State := X.2.2.2.2.1
abbrev xm (X : CxT) : MethodId := X.2.2.2.2.2.1
abbrev xa (X : CxT) : Array Value := X.2.2.2.2.2.2.1
abbrev xb (X : CxT) : List Frame := X.2.2.2.2.2.2.2.1
abbrev xh (X : CxT) : Method := X.2.2.2.2.2.2.2.2.1
abbrev xc (X : CxT) : Code := X.2.2.2.2.2.2.2.2.2.1
abbrev xQ (X : CxT) : State → Prop := X.2.2.2.2.2.2.2.2.2.2
def Pk (g : GT) (w : Wd) (as : List Value) : Array Value → State → Prop := va_Pc as (fun U => kRp g w U.heap ∧ kGF g U)
def Qk (g : GT) (r : Option Value) (w : Wd) : Array Value → State → Outcome → State → Prop := fun _ _ o t => o = .returned r ∧ kRp g w t.heap
def kfree (g : GT) : Addr → Prop := fun q => gB g ≤ q
/-- a method's contract: from the heap w it answers r and leaves w1 -/
def kMt (l : Launch) (g : GT) (y : MethodName) (ws : List Cond) (fr lo : Nat) (w : Wd) (as : List Value) (r : Option Value) (w1 : Wd) : Prop :=
  Met l y ws ({ frames := fr, cells := gcc g - w.2.1, slots := gcs g - w.2.2, locals := lo }) (Pk g w as) (Qk g r w1) (gcc g - w.2.1) (gcs g - w.2.2) (kfree g)
/-- what stands in a method's body -/
def kOk (g : GT) (X : CxT) (cc : ByteArray) (nL : Nat) (own : String) (ret : Option FieldType) (fr lo : Nat) (r : Option Value) (w1 : Wd) : Prop :=
  (xp X).tables.exec = Jvm.exec ∧ (xc X).code = cc ∧ (xc X).maxLocals = nL ∧ (xs X).vm.findClass own = some (xm X).cls ∧ (∀ w ∈ lw_all, w.before (xa X) (xs X) = true) ∧ kGF g (xs X) ∧ (xh X).locks = false ∧ (xh X).sig.returnType = ret ∧
  ((xR X).frames = fr ∧ (xR X).locals = lo ∧ (xR X).cells = gcc g - (xs X).heap.size ∧ (xR X).slots = gcs g - khs (xs X).heap) ∧ ∀ t, MQ (xb X) (Qk g r w1) (xa X) (xs X) (gcc g - (xs X).heap.size) (gcs g - khs (xs X).heap) (kfree g) t → xQ X t
/-- the method's name and its place in the tables -/
abbrev kHin (X : CxT) (y : MethodName) : Prop := (xh X).name = y.name ∧ (xs X).methodNamed? y = some (xm X)
theorem W_post {p : Program} {l : Launch} {e : Env} {R : Room} {s : State} {m : MethodId} {args : Array Value} {below : List Frame} {meth : Method} {c : Code} {H : Heap} {locs : List Loc} {cells slots : Nat} {Q Q' : State → Prop} {f : JFrame} (h : ∀ t, Q t → Q' t) (k : W p l e R s m args below meth c H locs cells slots Q f) : W p l e R s m args below meth c H locs cells slots Q' f := by
  intro T hT X
  obtain ⟨t, a, b⟩ := k T hT X
  exact ⟨t, a, h t b⟩
def lvE : Nat → List (Option Value) → List (Nat × Value)
  | _, [] => []
  | n, none :: r => lvE (n + 1) r
  | n, some v :: r => (n, v) :: lvE (n + 1) r
def kV (g : GT) (X : CxT) (nL : Nat) (w : Wd) (pc : Nat) (lv : List (Option Value)) (st : List Value) : Prop :=
  ∀ (H : Heap) (locs : List Loc) (ls : Array Slot), kRp g w H → (∀ q ∈ locs, gB g ≤ q.base) → lv_has ls nL (lvE 0 lv) →
    W (xp X) (xl X) (xe X) (xR X) (xs X) (xm X) (xa X) (xb X) (xh X) (xc X) H locs (w.2.1 - (xs X).heap.size) (w.2.2 - khs (xs X).heap) (xQ X) (F0 (xm X) pc ls st)
/-- the counts, by the heap itself -/
theorem kW_tight {g : GT} {w : Wd} {p : Program} {l : Launch} {e : Env} {R : Room} {s : State} {m : MethodId} {args : Array Value} {below : List Frame} {meth : Method} {c : Code} {H : Heap} {locs : List Loc} {cells slots : Nat} {Q : State → Prop} {f : JFrame} (hR : kRp g w H) (k : s.heap.size ≤ w.2.1 → khs s.heap ≤ w.2.2 → W p l e R s m args below meth c H locs (w.2.1 - s.heap.size) (w.2.2 - khs s.heap) Q f) : W p l e R s m args below meth c H locs cells slots Q f := by
  intro T hT X
  obtain ⟨a1, a2, a3, a4, a5, a6⟩ := X.same
  have b2 : s.heap.size ≤ T.heap.size := a2
  have hh := khs_old (A := s.heap) (B := T.heap) b2 (fun q c hq => by
    obtain ⟨c', h1, -, h2, -⟩ := a6 q c hq
    exact ⟨c', h1, h2⟩)
  have e1 : T.heap.size = w.2.1 := by rw [hT]; exact hR.2.1
  have e2 : khs T.heap = w.2.2 := by rw [hT]; exact hR.2.2.1
  refine k (by omega) (by omega) T hT { X with same := ⟨a1, a2, ?_, a4, ?_, a6⟩ }
  · show T.heap.size ≤ _
    omega
  · show ((T.heap.toList.drop s.heap.size).map (fun c => c.slots.size)).sum ≤ _
    omega
theorem kMt.ofV {l : Launch} {g : GT} {y : MethodName} {cc : ByteArray} {nL : Nat} {ret : Option FieldType} {fr lo : Nat} {w : Wd} {as : List Value} {r : Option Value} {w1 : Wd} {lv : List (Option Value)} {own : String} (hy : plainName y.cls = true) (ho : y.cls = own) (hl : (lg_sl as).length ≤ nL) (hv : lv_args 0 as = lvE 0 lv)
    (k : ∀ X : CxT, xl X = l → kHin X y → kOk g X cc nL own ret fr lo r w1 → kV g X nL w 0 lv []) : kMt l g y (ws_ y cc nL ret) fr lo w as r w1 := by
  unfold kMt
  refine Met.ofW (cc := cc) (maxL := nL) (ret := ret) hy rfl ?_
  intro p e s m args below meth c s₁ B hml hp
  obtain ⟨rfl, hR, hG⟩ := hp
  have hts := atoms_spec (ws := ws_ y cc nL ret) B.pre
  have hts : ∀ w ∈ lw_all, w.before _ s = true := fun w h => hts w (List.mem_cons_of_mem _ h)
  have e1 : s.heap.size = w.2.1 := hR.2.1
  have e2 : khs s.heap = w.2.2 := hR.2.2.1
  have hle := lv_entry as (n := nL) hl
  rw [hv] at hle
  rw [lg_entry_eq]
  have := k (p, l, e, (headSpec (ws_ y cc nL ret) ({ frames := fr, cells := gcc g - w.2.1, slots := gcs g - w.2.2, locals := lo })).room, s, m, as.toArray, below, meth, c, MQ below (Qk g r w1) as.toArray s (gcc g - w.2.1) (gcs g - w.2.2) (kfree g)) rfl ⟨(name_of_methodNamed B.named B.method).1, B.named⟩
    ⟨B.exec, B.bytes, hml, by rw [← ho]; exact findClass_of_methodNamed B.named, hts, hG, B.notSynchronized, B.returns, ⟨rfl, rfl, by show gcc g - w.2.1 = _; rw [← e1], by show gcs g - w.2.2 = _; rw [← e2]⟩, fun t ht => by have ht : MQ below (Qk g r w1) as.toArray s (gcc g - s.heap.size) (gcs g - khs s.heap) (kfree g) t := ht; rw [e1, e2] at ht; exact ht⟩ s.heap [] _ hR (fun q h => by cases h) hle
  have z1 : w.2.1 - s.heap.size = 0 := by omega
  have z2 : w.2.2 - khs s.heap = 0 := by omega
  have this : W p l e _ s m as.toArray below meth c s.heap [] (w.2.1 - s.heap.size) (w.2.2 - khs s.heap) _ _ := this
  rw [z1, z2] at this
  exact this
set_option maxRecDepth 100000
section KV
variable {g : GT} {X : CxT} {cc : ByteArray} {nL : Nat} {own : String} {rt : Option FieldType} {fr lo : Nat} {rv : Option Value} {w1 w : Wd} {pc : Nat} {lv : List (Option Value)} {st : List Value}
theorem v_iadd (C : kOk g X cc nL own rt fr lo rv w1) {x y : Int32} (hdg : decode cc pc = .ok (.iadd, 1))      (k : kV g X nL w (pc + 1) lv ((.int (x + y) :: st))) : kV g X nL w pc lv ((.int y :: .int x :: st)) := fun H locs ls a b h => lv_iadd C.1 C.2.1 hdg (k H locs ls a b h)
theorem v_isub (C : kOk g X cc nL own rt fr lo rv w1) {x y : Int32} (hdg : decode cc pc = .ok (.isub, 1))      (k : kV g X nL w (pc + 1) lv ((.int (x - y) :: st))) : kV g X nL w pc lv ((.int y :: .int x :: st)) := fun H locs ls a b h => lv_isub C.1 C.2.1 hdg (k H locs ls a b h)
theorem v_imul (C : kOk g X cc nL own rt fr lo rv w1) {x y : Int32} (hdg : decode cc pc = .ok (.imul, 1))      (k : kV g X nL w (pc + 1) lv ((.int (x * y) :: st))) : kV g X nL w pc lv ((.int y :: .int x :: st)) := fun H locs ls a b h => lv_imul C.1 C.2.1 hdg (k H locs ls a b h)
theorem v_iand (C : kOk g X cc nL own rt fr lo rv w1) {x y : Int32} (hdg : decode cc pc = .ok (.iand, 1))      (k : kV g X nL w (pc + 1) lv ((.int (x &&& y) :: st))) : kV g X nL w pc lv ((.int y :: .int x :: st)) := fun H locs ls a b h => lv_iand C.1 C.2.1 hdg (k H locs ls a b h)
theorem v_ior (C : kOk g X cc nL own rt fr lo rv w1) {x y : Int32} (hdg : decode cc pc = .ok (.ior, 1))      (k : kV g X nL w (pc + 1) lv ((.int (x ||| y) :: st))) : kV g X nL w pc lv ((.int y :: .int x :: st)) := fun H locs ls a b h => lv_ior C.1 C.2.1 hdg (k H locs ls a b h)
theorem v_ixor (C : kOk g X cc nL own rt fr lo rv w1) {x y : Int32} (hdg : decode cc pc = .ok (.ixor, 1))      (k : kV g X nL w (pc + 1) lv ((.int (x ^^^ y) :: st))) : kV g X nL w pc lv ((.int y :: .int x :: st)) := fun H locs ls a b h => lv_ixor C.1 C.2.1 hdg (k H locs ls a b h)
theorem v_ineg (C : kOk g X cc nL own rt fr lo rv w1) {x : Int32} (hdg : decode cc pc = .ok (.ineg, 1))      (k : kV g X nL w (pc + 1) lv ((.int (-x) :: st))) : kV g X nL w pc lv ((.int x :: st)) := fun H locs ls a b h => lv_ineg C.1 C.2.1 hdg (k H locs ls a b h)
theorem v_ladd (C : kOk g X cc nL own rt fr lo rv w1) {x y : Int64} (hdg : decode cc pc = .ok (.ladd, 1))      (k : kV g X nL w (pc + 1) lv ((.long (x + y) :: st))) : kV g X nL w pc lv ((.long y :: .long x :: st)) := fun H locs ls a b h => lv_ladd C.1 C.2.1 hdg (k H locs ls a b h)
theorem v_lsub (C : kOk g X cc nL own rt fr lo rv w1) {x y : Int64} (hdg : decode cc pc = .ok (.lsub, 1))      (k : kV g X nL w (pc + 1) lv ((.long (x - y) :: st))) : kV g X nL w pc lv ((.long y :: .long x :: st)) := fun H locs ls a b h => lv_lsub C.1 C.2.1 hdg (k H locs ls a b h)
theorem v_land (C : kOk g X cc nL own rt fr lo rv w1) {x y : Int64} (hdg : decode cc pc = .ok (.land, 1))      (k : kV g X nL w (pc + 1) lv ((.long (x &&& y) :: st))) : kV g X nL w pc lv ((.long y :: .long x :: st)) := fun H locs ls a b h => lv_land C.1 C.2.1 hdg (k H locs ls a b h)
theorem v_lor (C : kOk g X cc nL own rt fr lo rv w1) {x y : Int64} (hdg : decode cc pc = .ok (.lor, 1))      (k : kV g X nL w (pc + 1) lv ((.long (x ||| y) :: st))) : kV g X nL w pc lv ((.long y :: .long x :: st)) := fun H locs ls a b h => lv_lor C.1 C.2.1 hdg (k H locs ls a b h)
theorem v_lxor (C : kOk g X cc nL own rt fr lo rv w1) {x y : Int64} (hdg : decode cc pc = .ok (.lxor, 1))      (k : kV g X nL w (pc + 1) lv ((.long (x ^^^ y) :: st))) : kV g X nL w pc lv ((.long y :: .long x :: st)) := fun H locs ls a b h => lv_lxor C.1 C.2.1 hdg (k H locs ls a b h)
theorem v_ishl (C : kOk g X cc nL own rt fr lo rv w1) {x y : Int32} (hdg : decode cc pc = .ok (.ishl, 1))      (k : kV g X nL w (pc + 1) lv ((.int (x <<< (y &&& 31)) :: st))) : kV g X nL w pc lv ((.int y :: .int x :: st)) := fun H locs ls a b h => lv_ishl C.1 C.2.1 hdg (k H locs ls a b h)
theorem v_ishr (C : kOk g X cc nL own rt fr lo rv w1) {x y : Int32} (hdg : decode cc pc = .ok (.ishr, 1))      (k : kV g X nL w (pc + 1) lv ((.int (x >>> (y &&& 31)) :: st))) : kV g X nL w pc lv ((.int y :: .int x :: st)) := fun H locs ls a b h => lv_ishr C.1 C.2.1 hdg (k H locs ls a b h)
theorem v_iushr (C : kOk g X cc nL own rt fr lo rv w1) {x y v : Int32} (hdg : decode cc pc = .ok (.iushr, 1)) (hv : (x.toUInt32 >>> (y.toUInt32 &&& Int32.toUInt32 31)).toInt32 = v)     (k : kV g X nL w (pc + 1) lv ((.int v :: st))) : kV g X nL w pc lv ((.int y :: .int x :: st)) := fun H locs ls a b h => lv_iushr C.1 C.2.1 hdg hv (k H locs ls a b h)
theorem v_lshl (C : kOk g X cc nL own rt fr lo rv w1) {x v : Int64} {y : Int32} (hdg : decode cc pc = .ok (.lshl, 1)) (hv : x <<< (y.toInt64 &&& 63) = v)     (k : kV g X nL w (pc + 1) lv ((.long v :: st))) : kV g X nL w pc lv ((.int y :: .long x :: st)) := fun H locs ls a b h => lv_lshl C.1 C.2.1 hdg hv (k H locs ls a b h)
theorem v_lushr (C : kOk g X cc nL own rt fr lo rv w1) {x v : Int64} {y : Int32} (hdg : decode cc pc = .ok (.lushr, 1)) (hv : (x.toUInt64 >>> (y.toInt64.toUInt64 &&& Int64.toUInt64 63)).toInt64 = v)     (k : kV g X nL w (pc + 1) lv ((.long v :: st))) : kV g X nL w pc lv ((.int y :: .long x :: st)) := fun H locs ls a b h => lv_lushr C.1 C.2.1 hdg hv (k H locs ls a b h)
theorem v_lshr (C : kOk g X cc nL own rt fr lo rv w1) {x v : Int64} {y : Int32} (hdg : decode cc pc = .ok (.lshr, 1)) (hv : x >>> (y.toInt64 &&& 63) = v)     (k : kV g X nL w (pc + 1) lv ((.long v :: st))) : kV g X nL w pc lv ((.int y :: .long x :: st)) := fun H locs ls a b h => lv_lshr C.1 C.2.1 hdg hv (k H locs ls a b h)
theorem v_i2l (C : kOk g X cc nL own rt fr lo rv w1) {x : Int32} {v : Int64} (hdg : decode cc pc = .ok (.i2l, 1)) (hv : x.toInt64 = v)     (k : kV g X nL w (pc + 1) lv ((.long v :: st))) : kV g X nL w pc lv ((.int x :: st)) := fun H locs ls a b h => lv_i2l C.1 C.2.1 hdg hv (k H locs ls a b h)
theorem v_l2i (C : kOk g X cc nL own rt fr lo rv w1) {x : Int64} {v : Int32} (hdg : decode cc pc = .ok (.l2i, 1)) (hv : x.toInt32 = v)     (k : kV g X nL w (pc + 1) lv ((.int v :: st))) : kV g X nL w pc lv ((.long x :: st)) := fun H locs ls a b h => lv_l2i C.1 C.2.1 hdg hv (k H locs ls a b h)
theorem v_i2b (C : kOk g X cc nL own rt fr lo rv w1) {x : Int32} {v : Int32} (hdg : decode cc pc = .ok (.i2b, 1)) (hv : x.toInt8.toInt32 = v)     (k : kV g X nL w (pc + 1) lv ((.int v :: st))) : kV g X nL w pc lv ((.int x :: st)) := fun H locs ls a b h => lv_i2b C.1 C.2.1 hdg hv (k H locs ls a b h)
theorem v_i2c (C : kOk g X cc nL own rt fr lo rv w1) {x : Int32} {v : Int32} (hdg : decode cc pc = .ok (.i2c, 1)) (hv : (x.toUInt32 % 65536).toInt32 = v)     (k : kV g X nL w (pc + 1) lv ((.int v :: st))) : kV g X nL w pc lv ((.int x :: st)) := fun H locs ls a b h => lv_i2c C.1 C.2.1 hdg hv (k H locs ls a b h)
theorem v_dup (C : kOk g X cc nL own rt fr lo rv w1) {va : Value} (hdg : decode cc pc = .ok (.dup, 1)) (hva : va.category = 1)     (k : kV g X nL w (pc + 1) lv ((va :: va :: st))) : kV g X nL w pc lv ((va :: st)) := fun H locs ls a b h => lv_dup C.1 C.2.1 hdg hva (k H locs ls a b h)
theorem v_pop (C : kOk g X cc nL own rt fr lo rv w1) {va : Value} (hdg : decode cc pc = .ok (.pop, 1)) (hva : va.category = 1)     (k : kV g X nL w (pc + 1) lv ((st))) : kV g X nL w pc lv ((va :: st)) := fun H locs ls a b h => lv_pop C.1 C.2.1 hdg hva (k H locs ls a b h)
theorem v_dup_x1 (C : kOk g X cc nL own rt fr lo rv w1) {va vb : Value} (hdg : decode cc pc = .ok (.dup_x1, 1)) (hva : va.category = 1) (hvb : vb.category = 1)     (k : kV g X nL w (pc + 1) lv ((va :: vb :: va :: st))) : kV g X nL w pc lv ((va :: vb :: st)) := fun H locs ls a b h => lv_dup_x1 C.1 C.2.1 hdg hva hvb (k H locs ls a b h)
theorem v_dup_x2 (C : kOk g X cc nL own rt fr lo rv w1) {va vb vd : Value} (hdg : decode cc pc = .ok (.dup_x2, 1)) (hva : va.category = 1) (hvb : vb.category = 1) (hvd : vd.category = 1)     (k : kV g X nL w (pc + 1) lv ((va :: vb :: vd :: va :: st))) : kV g X nL w pc lv ((va :: vb :: vd :: st)) := fun H locs ls a b h => lv_dup_x2 C.1 C.2.1 hdg hva hvb hvd (k H locs ls a b h)
theorem v_dup2_11 (C : kOk g X cc nL own rt fr lo rv w1) {va vb : Value} (hdg : decode cc pc = .ok (.dup2, 1)) (hva : va.category = 1) (hvb : vb.category = 1)     (k : kV g X nL w (pc + 1) lv ((va :: vb :: va :: vb :: st))) : kV g X nL w pc lv ((va :: vb :: st)) := fun H locs ls a b h => lv_dup2_11 C.1 C.2.1 hdg hva hvb (k H locs ls a b h)
theorem v_dup2_2 (C : kOk g X cc nL own rt fr lo rv w1) {va : Value} (hdg : decode cc pc = .ok (.dup2, 1)) (hva : va.category = 2)     (k : kV g X nL w (pc + 1) lv ((va :: va :: st))) : kV g X nL w pc lv ((va :: st)) := fun H locs ls a b h => lv_dup2_2 C.1 C.2.1 hdg hva (k H locs ls a b h)
theorem v_pop2_2 (C : kOk g X cc nL own rt fr lo rv w1) {va : Value} (hdg : decode cc pc = .ok (.pop2, 1)) (hva : va.category = 2)     (k : kV g X nL w (pc + 1) lv ((st))) : kV g X nL w pc lv ((va :: st)) := fun H locs ls a b h => lv_pop2_2 C.1 C.2.1 hdg hva (k H locs ls a b h)
theorem v_iconst (C : kOk g X cc nL own rt fr lo rv w1) {n : Int} {v : Int32} (hdg : decode cc pc = .ok (.iconst n, 1)) (hv : Int32.ofInt n = v)     (k : kV g X nL w (pc + 1) lv ((.int v :: st))) : kV g X nL w pc lv ((st)) := fun H locs ls a b h => lv_iconst C.1 C.2.1 hdg hv (k H locs ls a b h)
theorem v_bipush (C : kOk g X cc nL own rt fr lo rv w1) {n : Int} {v : Int32} (hdg : decode cc pc = .ok (.bipush n, 2)) (hv : (Int8.ofInt n).toInt32 = v)     (k : kV g X nL w (pc + 2) lv ((.int v :: st))) : kV g X nL w pc lv ((st)) := fun H locs ls a b h => lv_bipush C.1 C.2.1 hdg hv (k H locs ls a b h)
theorem v_sipush (C : kOk g X cc nL own rt fr lo rv w1) {n : Int} {v : Int32} (hdg : decode cc pc = .ok (.sipush n, 3)) (hv : (Int16.ofInt n).toInt32 = v)     (k : kV g X nL w (pc + 3) lv ((.int v :: st))) : kV g X nL w pc lv ((st)) := fun H locs ls a b h => lv_sipush C.1 C.2.1 hdg hv (k H locs ls a b h)
theorem v_lconst (C : kOk g X cc nL own rt fr lo rv w1) {n : Fin 2} {v : Int64} (hdg : decode cc pc = .ok (.lconst n, 1)) (hv : Int64.ofNat (n : Nat) = v)     (k : kV g X nL w (pc + 1) lv ((.long v :: st))) : kV g X nL w pc lv ((st)) := fun H locs ls a b h => lv_lconst C.1 C.2.1 hdg hv (k H locs ls a b h)
theorem v_idiv (C : kOk g X cc nL own rt fr lo rv w1) {x y : Int32} (hdg : decode cc pc = .ok (.idiv, 1)) (hne : ¬ y = 0)     (k : kV g X nL w (pc + 1) lv ((.int (x / y) :: st))) : kV g X nL w pc lv ((.int y :: .int x :: st)) := fun H locs ls a b h => lv_idiv C.1 C.2.1 hdg hne (k H locs ls a b h)
theorem v_irem (C : kOk g X cc nL own rt fr lo rv w1) {x y : Int32} (hdg : decode cc pc = .ok (.irem, 1)) (hne : ¬ y = 0)     (k : kV g X nL w (pc + 1) lv ((.int (x - x / y * y) :: st))) : kV g X nL w pc lv ((.int y :: .int x :: st)) := fun H locs ls a b h => lv_irem C.1 C.2.1 hdg hne (k H locs ls a b h)
theorem v_null (C : kOk g X cc nL own rt fr lo rv w1) (hdg : decode cc pc = .ok (.aconst_null, 1)) (k : kV g X nL w (pc + 1) lv ((.null :: st))) : kV g X nL w pc lv (st) := fun H locs ls a b h => lv_null C.1 C.2.1 hdg (k H locs ls a b h)
theorem v_if_eq (C : kOk g X cc nL own rt fr lo rv w1) {x : Int32} {off : Int} {tgt : Nat} (hdg : decode cc pc = .ok (.ifCond .eq off, 3)) (ht : (pc : Int) + off = (tgt : Int))     {β : Type} {f1 f2 : Option β} {z : β} (hF : (if x = 0 then f1 else f2) = some z) (k1 : x = 0 → f1 = some z → kV g X nL w tgt lv st) (k2 : ¬ x = 0 → f2 = some z → kV g X nL w (pc + 3) lv st) : kV g X nL w pc lv ((.int x :: st)) := fun H locs ls a b h => lv_if_eq C.1 C.2.1 hdg ht (fun q => k1 q (by rw [if_pos q] at hF; exact hF) H locs ls a b h) (fun q => k2 q (by rw [if_neg q] at hF; exact hF) H locs ls a b h)
theorem v_if_ne (C : kOk g X cc nL own rt fr lo rv w1) {x : Int32} {off : Int} {tgt : Nat} (hdg : decode cc pc = .ok (.ifCond .ne off, 3)) (ht : (pc : Int) + off = (tgt : Int))     {β : Type} {f1 f2 : Option β} {z : β} (hF : (if x = 0 then f1 else f2) = some z) (k1 : x = 0 → f1 = some z → kV g X nL w (pc + 3) lv st) (k2 : ¬ x = 0 → f2 = some z → kV g X nL w tgt lv st) : kV g X nL w pc lv ((.int x :: st)) := fun H locs ls a b h => lv_if_ne C.1 C.2.1 hdg ht (fun q => k2 q (by rw [if_neg q] at hF; exact hF) H locs ls a b h) (fun q => k1 q (by rw [if_pos q] at hF; exact hF) H locs ls a b h)
theorem v_if_lt (C : kOk g X cc nL own rt fr lo rv w1) {x : Int32} {off : Int} {tgt : Nat} (hdg : decode cc pc = .ok (.ifCond .lt off, 3)) (ht : (pc : Int) + off = (tgt : Int))     {β : Type} {f1 f2 : Option β} {z : β} (hF : (if x < 0 then f1 else f2) = some z) (k1 : x < 0 → f1 = some z → kV g X nL w tgt lv st) (k2 : ¬ x < 0 → f2 = some z → kV g X nL w (pc + 3) lv st) : kV g X nL w pc lv ((.int x :: st)) := fun H locs ls a b h => lv_if_lt C.1 C.2.1 hdg ht (fun q => k1 q (by rw [if_pos q] at hF; exact hF) H locs ls a b h) (fun q => k2 q (by rw [if_neg q] at hF; exact hF) H locs ls a b h)
theorem v_if_ge (C : kOk g X cc nL own rt fr lo rv w1) {x : Int32} {off : Int} {tgt : Nat} (hdg : decode cc pc = .ok (.ifCond .ge off, 3)) (ht : (pc : Int) + off = (tgt : Int))     {β : Type} {f1 f2 : Option β} {z : β} (hF : (if 0 ≤ x then f1 else f2) = some z) (k1 : 0 ≤ x → f1 = some z → kV g X nL w tgt lv st) (k2 : ¬ 0 ≤ x → f2 = some z → kV g X nL w (pc + 3) lv st) : kV g X nL w pc lv ((.int x :: st)) := fun H locs ls a b h => lv_if_ge C.1 C.2.1 hdg ht (fun q => k1 q (by rw [if_pos q] at hF; exact hF) H locs ls a b h) (fun q => k2 q (by rw [if_neg q] at hF; exact hF) H locs ls a b h)
theorem v_if_gt (C : kOk g X cc nL own rt fr lo rv w1) {x : Int32} {off : Int} {tgt : Nat} (hdg : decode cc pc = .ok (.ifCond .gt off, 3)) (ht : (pc : Int) + off = (tgt : Int))     {β : Type} {f1 f2 : Option β} {z : β} (hF : (if 0 < x then f1 else f2) = some z) (k1 : 0 < x → f1 = some z → kV g X nL w tgt lv st) (k2 : ¬ 0 < x → f2 = some z → kV g X nL w (pc + 3) lv st) : kV g X nL w pc lv ((.int x :: st)) := fun H locs ls a b h => lv_if_gt C.1 C.2.1 hdg ht (fun q => k1 q (by rw [if_pos q] at hF; exact hF) H locs ls a b h) (fun q => k2 q (by rw [if_neg q] at hF; exact hF) H locs ls a b h)
theorem v_if_le (C : kOk g X cc nL own rt fr lo rv w1) {x : Int32} {off : Int} {tgt : Nat} (hdg : decode cc pc = .ok (.ifCond .le off, 3)) (ht : (pc : Int) + off = (tgt : Int))     {β : Type} {f1 f2 : Option β} {z : β} (hF : (if x ≤ 0 then f1 else f2) = some z) (k1 : x ≤ 0 → f1 = some z → kV g X nL w tgt lv st) (k2 : ¬ x ≤ 0 → f2 = some z → kV g X nL w (pc + 3) lv st) : kV g X nL w pc lv ((.int x :: st)) := fun H locs ls a b h => lv_if_le C.1 C.2.1 hdg ht (fun q => k1 q (by rw [if_pos q] at hF; exact hF) H locs ls a b h) (fun q => k2 q (by rw [if_neg q] at hF; exact hF) H locs ls a b h)
theorem v_icmp_eq (C : kOk g X cc nL own rt fr lo rv w1) {x y : Int32} {off : Int} {tgt : Nat} (hdg : decode cc pc = .ok (.if_icmp .eq off, 3)) (ht : (pc : Int) + off = (tgt : Int))     {β : Type} {f1 f2 : Option β} {z : β} (hF : (if x = y then f1 else f2) = some z) (k1 : x = y → f1 = some z → kV g X nL w tgt lv st) (k2 : ¬ x = y → f2 = some z → kV g X nL w (pc + 3) lv st) : kV g X nL w pc lv ((.int y :: .int x :: st)) := fun H locs ls a b h => lv_icmp_eq C.1 C.2.1 hdg ht (fun q => k1 q (by rw [if_pos q] at hF; exact hF) H locs ls a b h) (fun q => k2 q (by rw [if_neg q] at hF; exact hF) H locs ls a b h)
theorem v_icmp_ne (C : kOk g X cc nL own rt fr lo rv w1) {x y : Int32} {off : Int} {tgt : Nat} (hdg : decode cc pc = .ok (.if_icmp .ne off, 3)) (ht : (pc : Int) + off = (tgt : Int))     {β : Type} {f1 f2 : Option β} {z : β} (hF : (if x = y then f1 else f2) = some z) (k1 : x = y → f1 = some z → kV g X nL w (pc + 3) lv st) (k2 : ¬ x = y → f2 = some z → kV g X nL w tgt lv st) : kV g X nL w pc lv ((.int y :: .int x :: st)) := fun H locs ls a b h => lv_icmp_ne C.1 C.2.1 hdg ht (fun q => k2 q (by rw [if_neg q] at hF; exact hF) H locs ls a b h) (fun q => k1 q (by rw [if_pos q] at hF; exact hF) H locs ls a b h)
theorem v_icmp_lt (C : kOk g X cc nL own rt fr lo rv w1) {x y : Int32} {off : Int} {tgt : Nat} (hdg : decode cc pc = .ok (.if_icmp .lt off, 3)) (ht : (pc : Int) + off = (tgt : Int))     {β : Type} {f1 f2 : Option β} {z : β} (hF : (if x < y then f1 else f2) = some z) (k1 : x < y → f1 = some z → kV g X nL w tgt lv st) (k2 : ¬ x < y → f2 = some z → kV g X nL w (pc + 3) lv st) : kV g X nL w pc lv ((.int y :: .int x :: st)) := fun H locs ls a b h => lv_icmp_lt C.1 C.2.1 hdg ht (fun q => k1 q (by rw [if_pos q] at hF; exact hF) H locs ls a b h) (fun q => k2 q (by rw [if_neg q] at hF; exact hF) H locs ls a b h)
theorem v_icmp_ge (C : kOk g X cc nL own rt fr lo rv w1) {x y : Int32} {off : Int} {tgt : Nat} (hdg : decode cc pc = .ok (.if_icmp .ge off, 3)) (ht : (pc : Int) + off = (tgt : Int))     {β : Type} {f1 f2 : Option β} {z : β} (hF : (if y ≤ x then f1 else f2) = some z) (k1 : y ≤ x → f1 = some z → kV g X nL w tgt lv st) (k2 : ¬ y ≤ x → f2 = some z → kV g X nL w (pc + 3) lv st) : kV g X nL w pc lv ((.int y :: .int x :: st)) := fun H locs ls a b h => lv_icmp_ge C.1 C.2.1 hdg ht (fun q => k1 q (by rw [if_pos q] at hF; exact hF) H locs ls a b h) (fun q => k2 q (by rw [if_neg q] at hF; exact hF) H locs ls a b h)
theorem v_icmp_gt (C : kOk g X cc nL own rt fr lo rv w1) {x y : Int32} {off : Int} {tgt : Nat} (hdg : decode cc pc = .ok (.if_icmp .gt off, 3)) (ht : (pc : Int) + off = (tgt : Int))     {β : Type} {f1 f2 : Option β} {z : β} (hF : (if y < x then f1 else f2) = some z) (k1 : y < x → f1 = some z → kV g X nL w tgt lv st) (k2 : ¬ y < x → f2 = some z → kV g X nL w (pc + 3) lv st) : kV g X nL w pc lv ((.int y :: .int x :: st)) := fun H locs ls a b h => lv_icmp_gt C.1 C.2.1 hdg ht (fun q => k1 q (by rw [if_pos q] at hF; exact hF) H locs ls a b h) (fun q => k2 q (by rw [if_neg q] at hF; exact hF) H locs ls a b h)
theorem v_icmp_le (C : kOk g X cc nL own rt fr lo rv w1) {x y : Int32} {off : Int} {tgt : Nat} (hdg : decode cc pc = .ok (.if_icmp .le off, 3)) (ht : (pc : Int) + off = (tgt : Int))     {β : Type} {f1 f2 : Option β} {z : β} (hF : (if x ≤ y then f1 else f2) = some z) (k1 : x ≤ y → f1 = some z → kV g X nL w tgt lv st) (k2 : ¬ x ≤ y → f2 = some z → kV g X nL w (pc + 3) lv st) : kV g X nL w pc lv ((.int y :: .int x :: st)) := fun H locs ls a b h => lv_icmp_le C.1 C.2.1 hdg ht (fun q => k1 q (by rw [if_pos q] at hF; exact hF) H locs ls a b h) (fun q => k2 q (by rw [if_neg q] at hF; exact hF) H locs ls a b h)
theorem v_goto (C : kOk g X cc nL own rt fr lo rv w1) {off : Int} {tgt : Nat} (hdg : decode cc pc = .ok (.goto off, 3)) (ht : (pc : Int) + off = (tgt : Int)) (k : kV g X nL w tgt lv st) : kV g X nL w pc lv st := fun H locs ls a b h => lv_goto C.1 C.2.1 hdg ht (k H locs ls a b h)
theorem lvE_mem : ∀ (ps : List (Option Value)) (n i : Nat) (v : Value), ps[i]? = some (some v) → (n + i, v) ∈ lvE n ps
  | [], n, i, v, h => by simp at h
  | none :: r, n, i, v, h => by
    cases i with
    | zero => simp at h
    | succ i =>
      have := lvE_mem r (n + 1) i v (by simpa using h)
      rw [show n + (i + 1) = n + 1 + i by omega]
      exact this
  | some u :: r, n, i, v, h => by
    cases i with
    | zero =>
      have : u = v := by simpa using h
      subst this
      exact List.mem_cons_self
    | succ i =>
      have := lvE_mem r (n + 1) i v (by simpa using h)
      rw [show n + (i + 1) = n + 1 + i by omega]
      exact List.mem_cons_of_mem _ this
theorem lvE_of : ∀ (ps : List (Option Value)) (n : Nat) (q : Nat × Value), q ∈ lvE n ps → ∃ i, q.1 = n + i ∧ ps[i]? = some (some q.2)
  | [], n, q, h => by cases h
  | none :: r, n, q, h => by
    obtain ⟨i, h1, h2⟩ := lvE_of r (n + 1) q h
    exact ⟨i + 1, by omega, by simpa using h2⟩
  | some u :: r, n, q, h => by
    rcases List.mem_cons.mp h with h | h
    · subst h
      exact ⟨0, rfl, rfl⟩
    · obtain ⟨i, h1, h2⟩ := lvE_of r (n + 1) q h
      exact ⟨i + 1, by omega, by simpa using h2⟩
def lvK (ps : List (Option Value)) (i : Nat) : Bool := match i with
  | 0 => true
  | j + 1 => match ps[j]? with
    | some (some v) => v.category != 2
    | _ => true
theorem lvE_set {ls : Array Slot} {nL : Nat} {ps : List (Option Value)} {i : Nat} {v : Value} (hi : lvK ps i = true) (h : lv_has ls nL ((i, v) :: (lvE 0 ps).filter (fun q => !(q.1 == i) && !(q.1 + 1 == i && q.2.category == 2)))) : lv_has ls nL (lvE 0 (ps.set i (some v))) := by
  refine ⟨h.1, h.2.1, fun q hq => h.2.2 q ?_⟩
  obtain ⟨j, h1, h2⟩ := lvE_of _ 0 q hq
  rw [Nat.zero_add] at h1
  obtain ⟨a, u⟩ := q
  simp only at h1 h2
  subst h1
  by_cases ha : a = i
  · subst ha
    rw [List.getElem?_set] at h2
    split at h2
    · split at h2
      · cases h2
        exact List.mem_cons_self
      · cases h2
    · exact absurd rfl ‹_›
  · rw [List.getElem?_set_ne (Ne.symm ha)] at h2
    refine List.mem_cons_of_mem _ (List.mem_filter.mpr ⟨by have := lvE_mem ps 0 a u h2; rwa [Nat.zero_add] at this, ?_⟩)
    have e1 : (a == i) = false := by simpa using ha
    simp only [e1, Bool.not_false, Bool.true_and, Bool.not_eq_true', Bool.and_eq_false_iff]
    by_cases hb : a + 1 = i
    · right
      subst hb
      simp only [lvK, h2] at hi
      simpa [bne_iff_ne] using hi
    · left
      simpa using hb
theorem v_iload_n (C : kOk g X cc nL own rt fr lo rv w1) {k : Fin 4} {i : Nat} {x : Int32} (hdg : decode cc pc = .ok (.iload_n k, 1)) (hi : (k : Nat) = i) (hl : lv[i]? = some (some (.int x))) (kk : kV g X nL w (pc + 1) lv (.int x :: st)) : kV g X nL w pc lv st := fun H locs ls a b h => lv_iload_n C.1 C.2.1 hdg hi (h.2.2 _ (by have := lvE_mem lv 0 i _ hl; rwa [Nat.zero_add] at this)) (kk H locs ls a b h)
theorem v_iload (C : kOk g X cc nL own rt fr lo rv w1) {i : Nat} {x : Int32} (hdg : decode cc pc = .ok (.iload i, 2)) (hl : lv[i]? = some (some (.int x))) (kk : kV g X nL w (pc + 2) lv (.int x :: st)) : kV g X nL w pc lv st := fun H locs ls a b h => lv_iload C.1 C.2.1 hdg (h.2.2 _ (by have := lvE_mem lv 0 i _ hl; rwa [Nat.zero_add] at this)) (kk H locs ls a b h)
theorem v_lload_n (C : kOk g X cc nL own rt fr lo rv w1) {k : Fin 4} {i : Nat} {x : Int64} (hdg : decode cc pc = .ok (.lload_n k, 1)) (hi : (k : Nat) = i) (hl : lv[i]? = some (some (.long x))) (kk : kV g X nL w (pc + 1) lv (.long x :: st)) : kV g X nL w pc lv st := fun H locs ls a b h => lv_lload_n C.1 C.2.1 hdg hi (h.2.2 _ (by have := lvE_mem lv 0 i _ hl; rwa [Nat.zero_add] at this)) (kk H locs ls a b h)
theorem v_lload (C : kOk g X cc nL own rt fr lo rv w1) {i : Nat} {x : Int64} (hdg : decode cc pc = .ok (.lload i, 2)) (hl : lv[i]? = some (some (.long x))) (kk : kV g X nL w (pc + 2) lv (.long x :: st)) : kV g X nL w pc lv st := fun H locs ls a b h => lv_lload C.1 C.2.1 hdg (h.2.2 _ (by have := lvE_mem lv 0 i _ hl; rwa [Nat.zero_add] at this)) (kk H locs ls a b h)
theorem v_aload_n (C : kOk g X cc nL own rt fr lo rv w1) {k : Fin 4} {i : Nat} {x : Nat} (hdg : decode cc pc = .ok (.aload_n k, 1)) (hi : (k : Nat) = i) (hl : lv[i]? = some (some (.ref x))) (kk : kV g X nL w (pc + 1) lv (.ref x :: st)) : kV g X nL w pc lv st := fun H locs ls a b h => lv_aload_n C.1 C.2.1 hdg hi (h.2.2 _ (by have := lvE_mem lv 0 i _ hl; rwa [Nat.zero_add] at this)) (kk H locs ls a b h)
theorem v_aload (C : kOk g X cc nL own rt fr lo rv w1) {i : Nat} {x : Nat} (hdg : decode cc pc = .ok (.aload i, 2)) (hl : lv[i]? = some (some (.ref x))) (kk : kV g X nL w (pc + 2) lv (.ref x :: st)) : kV g X nL w pc lv st := fun H locs ls a b h => lv_aload C.1 C.2.1 hdg (h.2.2 _ (by have := lvE_mem lv 0 i _ hl; rwa [Nat.zero_add] at this)) (kk H locs ls a b h)
theorem v_aload_nN (C : kOk g X cc nL own rt fr lo rv w1) {k : Fin 4} {i : Nat} (hdg : decode cc pc = .ok (.aload_n k, 1)) (hi : (k : Nat) = i) (hl : lv[i]? = some (some .null)) (kk : kV g X nL w (pc + 1) lv (.null :: st)) : kV g X nL w pc lv st := fun H locs ls a b h => lv_aload_nN C.1 C.2.1 hdg hi (h.2.2 _ (by have := lvE_mem lv 0 i _ hl; rwa [Nat.zero_add] at this)) (kk H locs ls a b h)
theorem v_aloadN (C : kOk g X cc nL own rt fr lo rv w1) {i : Nat} (hdg : decode cc pc = .ok (.aload i, 2)) (hl : lv[i]? = some (some .null)) (kk : kV g X nL w (pc + 2) lv (.null :: st)) : kV g X nL w pc lv st := fun H locs ls a b h => lv_aloadN C.1 C.2.1 hdg (h.2.2 _ (by have := lvE_mem lv 0 i _ hl; rwa [Nat.zero_add] at this)) (kk H locs ls a b h)
theorem v_istore_n (C : kOk g X cc nL own rt fr lo rv w1) {k : Fin 4} {i : Nat} {x : Int32} {lv' : List (Option Value)} (hdg : decode cc pc = .ok (.istore_n k, 1)) (hi : (k : Nat) = i) (hn : i < nL) (hc : lvK lv i = true) (hl : lv.set i (some (.int x)) = lv') (kk : kV g X nL w (pc + 1) lv' st) : kV g X nL w pc lv (.int x :: st) := fun H locs ls a b h => lv_istore_n C.1 C.2.1 hdg hi h hn rfl (fun ls' h' => kk H locs ls' a b (by rw [← hl]; exact lvE_set hc h'))
theorem v_istore (C : kOk g X cc nL own rt fr lo rv w1) {i : Nat} {x : Int32} {lv' : List (Option Value)} (hdg : decode cc pc = .ok (.istore i, 2)) (hn : i < nL) (hc : lvK lv i = true) (hl : lv.set i (some (.int x)) = lv') (kk : kV g X nL w (pc + 2) lv' st) : kV g X nL w pc lv (.int x :: st) := fun H locs ls a b h => lv_istore C.1 C.2.1 hdg h hn rfl (fun ls' h' => kk H locs ls' a b (by rw [← hl]; exact lvE_set hc h'))
theorem v_astore_n (C : kOk g X cc nL own rt fr lo rv w1) {k : Fin 4} {i : Nat} {x : Nat} {lv' : List (Option Value)} (hdg : decode cc pc = .ok (.astore_n k, 1)) (hi : (k : Nat) = i) (hn : i < nL) (hc : lvK lv i = true) (hl : lv.set i (some (.ref x)) = lv') (kk : kV g X nL w (pc + 1) lv' st) : kV g X nL w pc lv (.ref x :: st) := fun H locs ls a b h => lv_astore_n C.1 C.2.1 hdg hi h hn rfl (fun ls' h' => kk H locs ls' a b (by rw [← hl]; exact lvE_set hc h'))
theorem v_astore (C : kOk g X cc nL own rt fr lo rv w1) {i : Nat} {x : Nat} {lv' : List (Option Value)} (hdg : decode cc pc = .ok (.astore i, 2)) (hn : i < nL) (hc : lvK lv i = true) (hl : lv.set i (some (.ref x)) = lv') (kk : kV g X nL w (pc + 2) lv' st) : kV g X nL w pc lv (.ref x :: st) := fun H locs ls a b h => lv_astore C.1 C.2.1 hdg h hn rfl (fun ls' h' => kk H locs ls' a b (by rw [← hl]; exact lvE_set hc h'))
theorem v_astore_nN (C : kOk g X cc nL own rt fr lo rv w1) {k : Fin 4} {i : Nat} {lv' : List (Option Value)} (hdg : decode cc pc = .ok (.astore_n k, 1)) (hi : (k : Nat) = i) (hn : i < nL) (hc : lvK lv i = true) (hl : lv.set i (some (.null)) = lv') (kk : kV g X nL w (pc + 1) lv' st) : kV g X nL w pc lv (.null :: st) := fun H locs ls a b h => lv_astore_nN C.1 C.2.1 hdg hi h hn rfl (fun ls' h' => kk H locs ls' a b (by rw [← hl]; exact lvE_set hc h'))
theorem v_astoreN (C : kOk g X cc nL own rt fr lo rv w1) {i : Nat} {lv' : List (Option Value)} (hdg : decode cc pc = .ok (.astore i, 2)) (hn : i < nL) (hc : lvK lv i = true) (hl : lv.set i (some (.null)) = lv') (kk : kV g X nL w (pc + 2) lv' st) : kV g X nL w pc lv (.null :: st) := fun H locs ls a b h => lv_astoreN C.1 C.2.1 hdg h hn rfl (fun ls' h' => kk H locs ls' a b (by rw [← hl]; exact lvE_set hc h'))
theorem v_iinc (C : kOk g X cc nL own rt fr lo rv w1) {i : Nat} {n : Int} {x v : Int32} {lv' : List (Option Value)} (hdg : decode cc pc = .ok (.iinc i n, 3)) (hx : lv[i]? = some (some (.int x))) (hv : x + Int32.ofInt n = v) (hn : i < nL) (hc : lvK lv i = true) (hl : lv.set i (some (.int v)) = lv') (kk : kV g X nL w (pc + 3) lv' st) : kV g X nL w pc lv st := by
  intro H locs ls a b h
  have hm := lvE_mem lv 0 i _ hx
  rw [Nat.zero_add] at hm
  obtain ⟨k, hk⟩ := List.getElem?_of_mem hm
  exact lv_iinc C.1 C.2.1 hdg h (k := k) hk hv hn rfl (fun ls' h' => kk H locs ls' a b (by rw [← hl]; exact lvE_set hc h'))
theorem v_iret {v : Int32} (C : kOk g X cc nL own (some .int) fr lo (some (.int v)) w) (hdg : decode cc pc = .ok (.ireturn, 1)) : kV g X nL w pc lv [.int v] := by
  intro H locs ls a b h
  obtain ⟨hx, hb, -, -, -, -, hlk, hr, -, hQ⟩ := C
  refine W_post hQ ?_
  refine W.widen (Nat.sub_le_sub_right a.2.2.2.1.2.1 _) (Nat.sub_le_sub_right a.2.2.2.1.2.2 _) ?_
  exact W.iret hx hb hr (fun t ht _ => ⟨rfl, by rw [ht]; exact a⟩) b hdg hlk
theorem v_vret (C : kOk g X cc nL own (none) fr lo (none) w) (hdg : decode cc pc = .ok (.return_, 1)) : kV g X nL w pc lv [] := by
  intro H locs ls a b h
  obtain ⟨hx, hb, -, -, -, -, hlk, hr, -, hQ⟩ := C
  refine W_post hQ ?_
  refine W.widen (Nat.sub_le_sub_right a.2.2.2.1.2.1 _) (Nat.sub_le_sub_right a.2.2.2.1.2.2 _) ?_
  exact W.vret hx hb hr (fun t ht _ => ⟨rfl, by rw [ht]; exact a⟩) b hdg hlk
theorem v_zret {v : Int32} {ty : FieldType} (C : kOk g X cc nL own (some ty) fr lo (some (.int v)) w) (hn : narrow ty (.int v) = .int v) (hdg : decode cc pc = .ok (.ireturn, 1)) : kV g X nL w pc lv [.int v] := by
  intro H locs ls a b h
  obtain ⟨hx, hb, -, -, -, -, hlk, hr, -, hQ⟩ := C
  refine W_post hQ ?_
  refine W.widen (Nat.sub_le_sub_right a.2.2.2.1.2.1 _) (Nat.sub_le_sub_right a.2.2.2.1.2.2 _) ?_
  exact W.zret hx hb hr hn (fun t ht _ => ⟨rfl, by rw [ht]; exact a⟩) b hdg hlk
end KV
/-! rows over the heap -/
set_option maxRecDepth 100000
def kCl (ci : Nat) (Cn : String) (T : u_T) (N : Nat) (ty : Nat → FieldType) : Prop := kcl[ci]? = some (Cn, T, N) ∧ (∀ w ∈ u_ws Cn T N, w ∈ lw_all) ∧ (∀ k, k < N → parseFieldDescriptor (T k).2.2.1 = some (ty k)) ∧ (∀ a, a < N → ∀ b, b < N → a ≠ b → (T a).2.1 ≠ (T b).2.1)
/-- an index is in range -/
def kin (i : Int32) (n : Nat) : Bool := !(decide (i < 0) || decide (n ≤ i.toNatClampNeg))
theorem kin_vp {i : Int32} {n : Nat} (h : kin i n = true) : vp_in i n := by
  unfold kin at h
  unfold vp_in
  simpa [not_or] using h
theorem kin_of {i : Int32} {n : Nat} (h : vp_in i n) : kin i n = true := by
  unfold vp_in at h
  unfold kin
  simpa [not_or] using h
theorem k_ite {β : Type} {c : Prop} {d : Decidable c} {f : Option β} {z : β} (h : (@ite _ c d f none) = some z) : c ∧ f = some z := by
  by_cases hc : c
  · rw [if_pos hc] at h; exact ⟨hc, h⟩
  · rw [if_neg hc] at h; cases h
theorem kP1 {g : GT} {w : Wd} {H : Heap} (a : kRp g w H) {q : Nat} {e : va_E} (h : w.1 q = some (.inl e)) : va_P (gD g) kcl [(q, e)] H := by
  intro k x hx
  match k, hx with
  | 0, hx => cases hx; exact (a.1 q _ h).1
  | k + 1, hx => simp at hx
/-- a field's link: plain, by a nest mate, inherited -/
def kFl (own : String) (index : Nat) (f : String × String × String × Bool) : Prop := Cond.fieldLink own index f.1 f.2.1 f.2.2.1 ∈ lw_all ∨ (∃ host, Cond.fieldLinkNest own index f.1 f.2.1 f.2.2.1 host ∈ lw_tbl) ∨ (∃ ref, Cond.fieldLink own index ref f.2.1 f.2.2.1 ∈ lw_all ∧ Cond.sameField ref f.1 f.2.1 f.2.2.1 ∈ lw_all)
theorem kFl.p {own : String} {index : Nat} {f : String × String × String × Bool} (h : Cond.fieldLink own index f.1 f.2.1 f.2.2.1 ∈ lw_all) : kFl own index f := Or.inl h
theorem kFl.n {own : String} {index : Nat} {f : String × String × String × Bool} {host : String} (h : Cond.fieldLinkNest own index f.1 f.2.1 f.2.2.1 host ∈ lw_tbl) : kFl own index f := Or.inr (Or.inl ⟨host, h⟩)
theorem kFl.i {own : String} {index : Nat} {f : String × String × String × Bool} {ref : String} (h : Cond.fieldLink own index ref f.2.1 f.2.2.1 ∈ lw_all) (h2 : Cond.sameField ref f.1 f.2.1 f.2.2.1 ∈ lw_all) : kFl own index f := Or.inr (Or.inr ⟨ref, h, h2⟩)
section KH
variable {g : GT} {X : CxT} {cc : ByteArray} {nL : Nat} {own : String} {rt : Option FieldType} {fr lo : Nat} {rv : Option Value} {w1 w : Wd} {pc : Nat} {lv : List (Option Value)} {st : List Value}
theorem v_get (C : kOk g X cc nL own rt fr lo rv w1) {ci N index a : Nat} {Cn : String} {T : u_T} {ty : Nat → FieldType} {fs : List Value} {v : Value} (L : kCl ci Cn T N ty) (k : Nat) (hk : k < N) (hq : kFl own index (T k)) (ha : w.1 a = some (.inl (.inr (ci, fs)))) (hv : fs[k]? = some v) (hdg : decode cc pc = .ok (.getfield index, 3))
    (kk : kV g X nL w (pc + 3) lv (v :: st)) : kV g X nL w pc lv (.ref a :: st) := by
  intro H locs ls a1 b h
  rcases hq with hq | ⟨host, hq⟩ | ⟨ref, hq, hq2⟩
  · exact va_get C.1 C.2.1 C.2.2.2.2.1 L.2.1 C.2.2.2.1 C.2.2.2.2.2.1.1 (kP1 a1 ha) 0 rfl L.1 k hk (C.2.2.2.2.1 _ hq) (fun _ h => h) hv hdg (kk H locs ls a1 b h)
  · exact va_getN C.1 C.2.1 C.2.2.2.2.1 L.2.1 C.2.2.2.1 C.2.2.2.2.2.1.1 (kP1 a1 ha) 0 rfl L.1 k hk (va_Nw.use rfl (C.2.2.2.2.2.1.2.1 _ hq rfl)) (fun _ h => h) hv hdg (kk H locs ls a1 b h)
  · exact va_get C.1 C.2.1 C.2.2.2.2.1 L.2.1 C.2.2.2.1 C.2.2.2.2.2.1.1 (kP1 a1 ha) 0 rfl L.1 k hk (C.2.2.2.2.1 _ hq) (u_same (C.2.2.2.2.1 _ hq2)) hv hdg (kk H locs ls a1 b h)
theorem v_put (C : kOk g X cc nL own rt fr lo rv w1) {ci N index a : Nat} {Cn : String} {T : u_T} {ty : Nat → FieldType} {fs : List Value} {v : Value} (L : kCl ci Cn T N ty) (k : Nat) (hk : k < N) (hq : kFl own index (T k)) (ha : w.1 a = some (.inl (.inr (ci, fs)))) (hl : k < fs.length) (hfin : (T k).2.2.2 = false) (hn : narrow (ty k) v = v) (hfit : fits (ty k) v = true) (hdg : decode cc pc = .ok (.putfield index, 3))
    (kk : kV g X nL (kup w.1 a (some (.inl (.inr (ci, fs.set k v)))), w.2) (pc + 3) lv st) : kV g X nL w pc lv (v :: .ref a :: st) := by
  intro H locs ls a1 b h
  obtain ⟨hx, hb, hml, hown, hts, hG, -⟩ := C
  obtain ⟨hc, hin, hty, hnm⟩ := L
  have hK := hG.1
  have hap := va_apart (own := own) hts hin ty hty hnm hK hc
  obtain ⟨⟨r, h1, cell, q1, q2, q3, q4⟩, haB⟩ := a1.1 a _ ha
  have hr : r = (Cn, T, N) := Option.some.inj (h1.symm.trans hc)
  subst hr
  obtain ⟨hS, hfc, kC, hkC, hkind⟩ := hK.1 ci _ hc
  obtain ⟨cf, kf, fi, f, hi, hsl⟩ := hS k hk
  have hlay := hts _ (hin _ (u_in_lay hk))
  unfold u_lay at hlay
  rw [if_neg (by rw [hfin]; decide)] at hlay
  have hst := (u_facts hfc hkC (u_lays hts hin hk) hi).1
  have h6 := u_store hfc hkC hkind hlay hi (hty k hk) hn hfit
  have fin : ∀ H' : Heap, H'[a]? = some (cell.setSlot f.slot v) → H'.size = H.size → (∀ q, q ≠ a → H'[q]? = H[q]?) → W (xp X) (xl X) (xe X) (xR X) (xs X) (xm X) (xa X) (xb X) (xh X) (xc X) H' (locs ++ [⟨a, f.slot⟩]) (w.2.1 - (xs X).heap.size) (w.2.2 - khs (xs X).heap) (xQ X) (F0 (xm X) (pc + 3) ls st) := by
    intro H' e1 e2 e3
    rw [hsl] at e1 ⊢
    refine kk H' _ ls (a1.set haB ⟨_, hc, t_OB.to (V := updV (vp_V fs) k v) ⟨_, e1, q2, q3, t_set q4 hap hk v⟩ (fun j _ => vp_updV_set hl v j)⟩ e2 e3 (fun c hc' => ?_)) (fun q hq => ?_) h
    · cases q1.symm.trans hc'
      exact ⟨_, e1, by simp [Cell.setSlot]⟩
    · rcases List.mem_append.mp hq with z | z
      · exact b q z
      · cases List.mem_singleton.mp z
        exact haB
  rcases hq with hq | ⟨host, hq⟩ | ⟨ref, hq, hq2⟩
  · exact W.putK hx hb (f := f) ⟨hown, hts _ hq, ⟨_, _, _, hi⟩, hst⟩ (by rw [q2]; exact h6) q1 q3 (by rw [hsl]; exact k2_hasslot (q4 k hk)) rfl rfl hdg fin
  · exact va_WputK hx hb (f := f) hown (va_Nw.use rfl (hG.2.1 _ hq rfl)) hi hst (by rw [q2]; exact h6) q1 q3 (by rw [hsl]; exact k2_hasslot (q4 k hk)) rfl rfl hdg fin
  · exact W.putK hx hb (f := f) ⟨hown, hts _ hq, ⟨_, _, _, u_same (hts _ hq2) _ hi⟩, hst⟩ (by rw [q2]; exact h6) q1 q3 (by rw [hsl]; exact k2_hasslot (q4 k hk)) rfl rfl hdg fin
/-- a final field, in the constructor -/
theorem v_putF (C : kOk g X cc nL own rt fr lo rv w1) {ci N index a : Nat} {Cn : String} {T : u_T} {ty : Nat → FieldType} {fs : List Value} {v : Value} (L : kCl ci Cn T N ty) (hin2 : (xh X).name = "<init>") (k : Nat) (hk : k < N) (hq : Cond.fieldLink own index (T k).1 (T k).2.1 (T k).2.2.1 ∈ lw_all) (ha : w.1 a = some (.inl (.inr (ci, fs)))) (hl : k < fs.length) (hfin : (T k).2.2.2 = true) (hdecl : (T k).1 = own) (hn : narrow (ty k) v = v) (hfit : fits (ty k) v = true) (hdg : decode cc pc = .ok (.putfield index, 3))
    (kk : kV g X nL (kup w.1 a (some (.inl (.inr (ci, fs.set k v)))), w.2) (pc + 3) lv st) : kV g X nL w pc lv (v :: .ref a :: st) := by
  intro H locs ls a1 b h
  obtain ⟨hx, hb, hml, hown, hts, hG, -⟩ := C
  obtain ⟨hc, hin, hty, hnm⟩ := L
  have hK := hG.1
  have hap := va_apart (own := own) hts hin ty hty hnm hK hc
  obtain ⟨⟨r, h1, cell, q1, q2, q3, q4⟩, haB⟩ := a1.1 a _ ha
  have hr : r = (Cn, T, N) := Option.some.inj (h1.symm.trans hc)
  subst hr
  obtain ⟨hS, hfc, kC, hkC, hkind⟩ := hK.1 ci _ hc
  obtain ⟨cf, kf, fi, f, hi, hsl⟩ := hS k hk
  have hlay := hts _ (hin _ (u_in_lay hk))
  unfold u_lay at hlay
  rw [if_pos hfin] at hlay
  have hst := (u_facts hfc hkC (u_lays hts hin hk) hi).1
  have hcf : (xm X).cls = cf := by
    obtain ⟨_, _, c', _, _, _, -, -, hf', -, -, -, hown2, -⟩ := Cond.laysFinal_spec hlay
    have e1 : c' = cf := by have := hi.symm.trans hf'; simp at this; exact this.1.symm
    rw [hdecl] at hown2
    rw [← e1]; exact Option.some.inj (hown.symm.trans hown2)
  have h6 := u_fits hfc hkC hkind (Or.inr hlay) hi (hty k hk) hn hfit
  refine W.putFinK hx hb hown (hts _ hq) hi hst hcf hin2 (by rw [q2]; exact h6) q1 q3 (by rw [hsl]; exact k2_hasslot (q4 k hk)) rfl rfl hdg fun H' e1 e2 e3 => ?_
  rw [hsl] at e1 ⊢
  refine kk H' _ ls (a1.set haB ⟨_, hc, t_OB.to (V := updV (vp_V fs) k v) ⟨_, e1, q2, q3, t_set q4 hap hk v⟩ (fun j _ => vp_updV_set hl v j)⟩ e2 e3 (fun c hc' => ?_)) (fun q hq => ?_) h
  · cases q1.symm.trans hc'
    exact ⟨_, e1, by simp [Cell.setSlot]⟩
  · rcases List.mem_append.mp hq with z | z
    · exact b q z
    · cases List.mem_singleton.mp z
      exact haB
/-- a new object -/
theorem v_new (C : kOk g X cc nL own rt fr lo rv w1) {ci N index : Nat} {Cn : String} {T : u_T} {ty : Nat → FieldType} (L : kCl ci Cn T N ty) (hq : Cond.classLink own index Cn ∈ lw_all) (hq2 : Cond.instantiable Cn N ∈ lw_all) (hq3 : Cond.initialized Cn ∈ lw_all) {fs : List Value} (hfs : ∀ j, j < N → defaultValue (ty j) = vp_V fs j) (hdg : decode cc pc = .ok (.new index, 3)) (hr : w.2.1 + 1 ≤ gcc g ∧ w.2.2 + N ≤ gcs g)
    (kk : kV g X nL (kup w.1 w.2.1 (some (.inl (.inr (ci, fs)))), w.2.1 + 1, w.2.2 + N) (pc + 3) lv (.ref w.2.1 :: st)) : kV g X nL w pc lv st := by
  intro H locs ls a1 b h
  obtain ⟨hx, hb, hml, hown, hts, hG, -, -, ⟨-, -, hRc, hRs⟩, -⟩ := C
  obtain ⟨hc, hin, hty, hnm⟩ := L
  have hKn := hG.1.1 ci _ hc
  refine kW_tight a1 (fun z1 z2 => ?_)
  refine W.newc hx hb hown (hts _ hq) (hts _ hq2) (hts _ hq3) rfl hdg (by rw [hRc]; omega) (by rw [hRs]; omega) fun cC' kC h1 h2 h3 h4 => ?_
  cases hKn.2.1.symm.trans h1
  have e1 : (H.push (blank ((gD g).1 ci) kC))[H.size]? = some (blank ((gD g).1 ci) kC) := by simp
  have a2 := a1.push (e := .inl (.inr (ci, fs))) (c := blank ((gD g).1 ci) kC) ⟨_, hc, (u_born ty hts hin hKn h2 e1 hty).to hfs⟩ (by simp) e1 (fun q hq => by rw [Array.getElem?_push, if_neg (by omega)]) (n := N) (by simp [blank, h4]) hr
  have k2 := kk _ locs ls a2 b h
  rw [show w.2.1 = H.size from a1.2.1.symm] at k2
  refine kW_tight a2 (fun z3 z4 => ?_)
  rw [show w.2.1 = H.size from a1.2.1.symm]
  exact k2
/-- an array's length -/
theorem v_alen (C : kOk g X cc nL own rt fr lo rv w1) {a t0 : Nat} {cA : ClassId} {x : vp_A} (ha : w.1 a = some (.inl (.inl (cA, x)))) {ty : FieldType} (ht : (kty g)[t0]? = some (cA, ty)) {v : Int32} (hv : Int32.ofNat x.1 = v) (hdg : decode cc pc = .ok (.arraylength, 1))
    (kk : kV g X nL w (pc + 1) lv (.int v :: st)) : kV g X nL w pc lv (.ref a :: st) := fun H locs ls a1 b h =>
  va_alen C.1 C.2.1 C.2.2.2.2.2.1.1 (kP1 a1 ha) 0 t0 rfl ht hv hdg (kk H locs ls a1 b h)
theorem v_iald (C : kOk g X cc nL own rt fr lo rv w1) {a t0 : Nat} {cA : ClassId} {n : Nat} {f : Nat → Int32} (ha : w.1 a = some (.inl (.inl (cA, n, .inl f)))) (ht : (kty g)[t0]? = some (cA, .int)) {i : Int32} (hin : kin i n = true) (hdg : decode cc pc = .ok (.iaload, 1))
    (kk : kV g X nL w (pc + 1) lv (.int (f i.toNatClampNeg) :: st)) : kV g X nL w pc lv (.int i :: .ref a :: st) := fun H locs ls a1 b h =>
  va_iald C.1 C.2.1 C.2.2.2.2.2.1.1 (kP1 a1 ha) 0 t0 rfl ht (kin_vp hin) hdg (kk H locs ls a1 b h)
theorem v_bald (C : kOk g X cc nL own rt fr lo rv w1) {a t0 : Nat} {cA : ClassId} {n : Nat} {f : Nat → Int32} (ha : w.1 a = some (.inl (.inl (cA, n, .inl f)))) (ht : (kty g)[t0]? = some (cA, .byte)) {i : Int32} (hin : kin i n = true) (hdg : decode cc pc = .ok (.baload, 1))
    (kk : kV g X nL w (pc + 1) lv (.int (f i.toNatClampNeg) :: st)) : kV g X nL w pc lv (.int i :: .ref a :: st) := fun H locs ls a1 b h =>
  va_bald C.1 C.2.1 C.2.2.2.2.2.1.1 (kP1 a1 ha) 0 t0 rfl ht (kin_vp hin) hdg (kk H locs ls a1 b h)
theorem v_zald (C : kOk g X cc nL own rt fr lo rv w1) {a t0 : Nat} {cA : ClassId} {n : Nat} {f : Nat → Int32} (ha : w.1 a = some (.inl (.inl (cA, n, .inl f)))) (ht : (kty g)[t0]? = some (cA, .boolean)) {i : Int32} (hin : kin i n = true) (hdg : decode cc pc = .ok (.baload, 1))
    (kk : kV g X nL w (pc + 1) lv (.int (f i.toNatClampNeg) :: st)) : kV g X nL w pc lv (.int i :: .ref a :: st) := fun H locs ls a1 b h =>
  va_zald C.1 C.2.1 C.2.2.2.2.2.1.1 (kP1 a1 ha) 0 t0 rfl ht (kin_vp hin) hdg (kk H locs ls a1 b h)
theorem v_lald (C : kOk g X cc nL own rt fr lo rv w1) {a t0 : Nat} {cA : ClassId} {n : Nat} {f : Nat → Int64} (ha : w.1 a = some (.inl (.inl (cA, n, .inr (.inl f))))) (ht : (kty g)[t0]? = some (cA, .long)) {i : Int32} (hin : kin i n = true) (hdg : decode cc pc = .ok (.laload, 1))
    (kk : kV g X nL w (pc + 1) lv (.long (f i.toNatClampNeg) :: st)) : kV g X nL w pc lv (.int i :: .ref a :: st) := fun H locs ls a1 b h =>
  va_lald C.1 C.2.1 C.2.2.2.2.2.1.1 (kP1 a1 ha) 0 t0 rfl ht (kin_vp hin) hdg (kk H locs ls a1 b h)
theorem v_iast (C : kOk g X cc nL own rt fr lo rv w1) {a t0 : Nat} {cA : ClassId} {n : Nat} {f : Nat → Int32} (ha : w.1 a = some (.inl (.inl (cA, n, .inl f)))) (ht : (kty g)[t0]? = some (cA, .int)) {i : Int32} {x : Int32} (hin : kin i n = true) (hdg : decode cc pc = .ok (.iastore, 1))
    (kk : kV g X nL (kup w.1 a (some (.inl (.inl (cA, n, .inl (upd f i.toNatClampNeg x))))), w.2) (pc + 1) lv st) : kV g X nL w pc lv (.int x :: .int i :: .ref a :: st) := by
  intro H locs ls a1 b h
  obtain ⟨hx, hb, hml, hown, hts, hG, -⟩ := C
  have hK := hG.1
  have hcell : H[a]? = some (vp_cell cA (n, .inl f)) := (a1.1 a _ ha).1
  have haB := (a1.1 a _ ha).2
  refine W.iast hx hb hcell ((hK.2 t0 _ ht).1 n (fun j => .int (f j))) (fun q => by cases q) (by show ¬ (i < 0 ∨ (arrV _ _ _).slots.size ≤ _); rw [arrV_size]; exact kin_vp hin) rfl rfl hdg fun H1 e z oq => ?_
  have e2 : H1[a]? = some (vp_cell cA (n, .inl (upd f i.toNatClampNeg x))) := by
    rw [e]
    rw [vp_cell_i, vp_cell_i, arrV_store]
    congr 2
    funext q
    by_cases hq : q = i.toNatClampNeg
    · subst hq
      simp [updV, upd, vp_nar, vp_updL]
      try rfl
    · simp [updV, upd, vp_updL, hq]
  refine kk H1 _ ls (a1.set haB e2 z oq (fun c hc' => ?_)) (fun q hq => ?_) h
  · cases hcell.symm.trans hc'
    exact ⟨_, e2, by rw [vp_cell_i, vp_cell_i, arrV_size, arrV_size]⟩
  · rcases List.mem_append.mp hq with z | z
    · exact b q z
    · cases List.mem_singleton.mp z
      exact haB
theorem v_bast (C : kOk g X cc nL own rt fr lo rv w1) {a t0 : Nat} {cA : ClassId} {n : Nat} {f : Nat → Int32} (ha : w.1 a = some (.inl (.inl (cA, n, .inl f)))) (ht : (kty g)[t0]? = some (cA, .byte)) {i : Int32} {x : Int32} (hin : kin i n = true) (hdg : decode cc pc = .ok (.bastore, 1))
    (kk : kV g X nL (kup w.1 a (some (.inl (.inl (cA, n, .inl (upd f i.toNatClampNeg (vp_nar .byte x)))))), w.2) (pc + 1) lv st) : kV g X nL w pc lv (.int x :: .int i :: .ref a :: st) := by
  intro H locs ls a1 b h
  obtain ⟨hx, hb, hml, hown, hts, hG, -⟩ := C
  have hK := hG.1
  have hcell : H[a]? = some (vp_cell cA (n, .inl f)) := (a1.1 a _ ha).1
  have haB := (a1.1 a _ ha).2
  refine W.bast hx hb hcell ((hK.2 t0 _ ht).1 n (fun j => .int (f j))) (fun q => by cases q) (by show ¬ (i < 0 ∨ (arrV _ _ _).slots.size ≤ _); rw [arrV_size]; exact kin_vp hin) rfl rfl hdg fun H1 e z oq => ?_
  have e2 : H1[a]? = some (vp_cell cA (n, .inl (upd f i.toNatClampNeg (vp_nar .byte x)))) := by
    rw [e]
    rw [vp_cell_i, vp_cell_i, arrV_store]
    congr 2
    funext q
    by_cases hq : q = i.toNatClampNeg
    · subst hq
      simp [updV, upd, vp_nar, vp_updL]
      try rfl
    · simp [updV, upd, vp_updL, hq]
  refine kk H1 _ ls (a1.set haB e2 z oq (fun c hc' => ?_)) (fun q hq => ?_) h
  · cases hcell.symm.trans hc'
    exact ⟨_, e2, by rw [vp_cell_i, vp_cell_i, arrV_size, arrV_size]⟩
  · rcases List.mem_append.mp hq with z | z
    · exact b q z
    · cases List.mem_singleton.mp z
      exact haB
theorem v_zast (C : kOk g X cc nL own rt fr lo rv w1) {a t0 : Nat} {cA : ClassId} {n : Nat} {f : Nat → Int32} (ha : w.1 a = some (.inl (.inl (cA, n, .inl f)))) (ht : (kty g)[t0]? = some (cA, .boolean)) {i : Int32} {x : Int32} (hin : kin i n = true) (hdg : decode cc pc = .ok (.bastore, 1))
    (kk : kV g X nL (kup w.1 a (some (.inl (.inl (cA, n, .inl (upd f i.toNatClampNeg (vp_nar .boolean x)))))), w.2) (pc + 1) lv st) : kV g X nL w pc lv (.int x :: .int i :: .ref a :: st) := by
  intro H locs ls a1 b h
  obtain ⟨hx, hb, hml, hown, hts, hG, -⟩ := C
  have hK := hG.1
  have hcell : H[a]? = some (vp_cell cA (n, .inl f)) := (a1.1 a _ ha).1
  have haB := (a1.1 a _ ha).2
  refine W.zast hx hb hcell ((hK.2 t0 _ ht).1 n (fun j => .int (f j))) (fun q => by cases q) (by show ¬ (i < 0 ∨ (arrV _ _ _).slots.size ≤ _); rw [arrV_size]; exact kin_vp hin) rfl rfl hdg fun H1 e z oq => ?_
  have e2 : H1[a]? = some (vp_cell cA (n, .inl (upd f i.toNatClampNeg (vp_nar .boolean x)))) := by
    rw [e]
    rw [vp_cell_i, vp_cell_i, arrV_store]
    congr 2
    funext q
    by_cases hq : q = i.toNatClampNeg
    · subst hq
      simp [updV, upd, vp_nar, vp_updL]
      try rfl
    · simp [updV, upd, vp_updL, hq]
  refine kk H1 _ ls (a1.set haB e2 z oq (fun c hc' => ?_)) (fun q hq => ?_) h
  · cases hcell.symm.trans hc'
    exact ⟨_, e2, by rw [vp_cell_i, vp_cell_i, arrV_size, arrV_size]⟩
  · rcases List.mem_append.mp hq with z | z
    · exact b q z
    · cases List.mem_singleton.mp z
      exact haB
theorem v_last (C : kOk g X cc nL own rt fr lo rv w1) {a t0 : Nat} {cA : ClassId} {n : Nat} {f : Nat → Int64} (ha : w.1 a = some (.inl (.inl (cA, n, .inr (.inl f))))) (ht : (kty g)[t0]? = some (cA, .long)) {i : Int32} {x : Int64} (hin : kin i n = true) (hdg : decode cc pc = .ok (.lastore, 1))
    (kk : kV g X nL (kup w.1 a (some (.inl (.inl (cA, n, .inr (.inl (vp_updL f i.toNatClampNeg x)))))), w.2) (pc + 1) lv st) : kV g X nL w pc lv (.long x :: .int i :: .ref a :: st) := by
  intro H locs ls a1 b h
  obtain ⟨hx, hb, hml, hown, hts, hG, -⟩ := C
  have hK := hG.1
  have hcell : H[a]? = some (vp_cell cA (n, .inr (.inl f))) := (a1.1 a _ ha).1
  have haB := (a1.1 a _ ha).2
  refine W.last hx hb hcell ((hK.2 t0 _ ht).1 n (fun j => .long (f j))) (fun q => by cases q) (by show ¬ (i < 0 ∨ (arrV _ _ _).slots.size ≤ _); rw [arrV_size]; exact kin_vp hin) rfl rfl hdg fun H1 e z oq => ?_
  have e2 : H1[a]? = some (vp_cell cA (n, .inr (.inl (vp_updL f i.toNatClampNeg x)))) := by
    rw [e]
    rw [vp_cell_l, vp_cell_l, arrV_store]
    congr 2
    funext q
    by_cases hq : q = i.toNatClampNeg
    · subst hq
      simp [updV, upd, vp_nar, vp_updL]
      try rfl
    · simp [updV, upd, vp_updL, hq]
  refine kk H1 _ ls (a1.set haB e2 z oq (fun c hc' => ?_)) (fun q hq => ?_) h
  · cases hcell.symm.trans hc'
    exact ⟨_, e2, by rw [vp_cell_l, vp_cell_l, arrV_size, arrV_size]⟩
  · rcases List.mem_append.mp hq with z | z
    · exact b q z
    · cases List.mem_singleton.mp z
      exact haB
theorem Pk_blind {g : GT} {w : Wd} {as : List Value} : FrameBlind (Pk g w as) := fun a U f mk q => ⟨q.1, q.2.1, q.2.2.warm (State.WarmedH.refl U)⟩
theorem Pk_at {g : GT} {w : Wd} {as : List Value} {s : State} {H : Heap} (hG : kGF g s) (a : kRp g w H) : ∀ U : State, U.heap = H → s.WarmedH U.vm → Pk g w as as.toArray U := fun U hU hW => ⟨rfl, by rw [hU]; exact a, hG.warm hW⟩
/-- behind a call -/
theorem v_run {a0 : Array Value} {w2 : Wd} {r : Option Value} {st0 : List Value} {mc ms : Nat}
    (hr : ∀ (H : Heap) (locs : List Loc) (ls : Array Slot), kRp g w H → lv_has ls nL (lvE 0 lv) → (xs X).heap.size ≤ w.2.1 → khs (xs X).heap ≤ w.2.2 →
      va_Run (xp X) (xl X) (xe X) (xR X) (xs X) (xm X) (xa X) (xb X) (xh X) (xc X) H locs (w.2.1 - (xs X).heap.size) (w.2.2 - khs (xs X).heap) mc ms (F0 (xm X) pc ls st0) st (Qk g r w2 a0) (kfree g))
    (k : kV g X nL w2 (pc + 3) lv (r.toList ++ st)) : kV g X nL w pc lv st0 := by
  intro H locs ls a b h
  refine kW_tight a (fun z1 z2 => ?_)
  intro T hT X0
  obtain ⟨v, st₀, t, T', L, h0, X', hL, e1, e2, ⟨hv, hR⟩, stp⟩ := hr H locs ls a h z1 z2 T hT X0
  cases hv
  have hR' : kRp g w2 T'.heap := by rw [e1]; exact hR
  obtain ⟨t2, a1, b1⟩ := kW_tight hR' (fun _ _ => k T'.heap (locs ++ L) ls hR' (fun q hq => by
    rcases List.mem_append.mp hq with z | z
    · exact b q z
    · exact hL q z) h) T' rfl X'
  exact ⟨t2, stp t2 a1, b1⟩
def kD (y : MethodName) (n : Nat) : Prop := y.cls ≠ "java/lang/invoke/MethodHandle" ∧ y.cls ≠ "java/lang/invoke/VarHandle" ∧ (parseMethodDescriptor y.desc).map (fun d => d.parameters.length) = some n
def kLS (own : String) (index : Nat) (y : MethodName) (b : ByteArray) (mL : Nat) (ret : Option FieldType) (n : Nat) : Prop :=
  Cond.methodLink own index y ∈ lw_all ∧ Cond.static y ∈ lw_all ∧ Cond.initialized y.cls ∈ lw_all ∧ Cond.code y b mL ret ∈ lw_all ∧ kD y n
def kLV (own : String) (index : Nat) (y : MethodName) (b : ByteArray) (mL : Nat) (ret : Option FieldType) (n : Nat) : Prop :=
  Cond.methodLink own index y ∈ lw_all ∧ Cond.instanceMethod y ∈ lw_all ∧ Cond.selects y.cls y y ∈ lw_all ∧ Cond.initialized y.cls ∈ lw_all ∧ Cond.code y b mL ret ∈ lw_all ∧ kD y n
def kLI (own : String) (index : Nat) (y : MethodName) (b : ByteArray) (mL : Nat) (n : Nat) : Prop :=
  Cond.methodLink own index y ∈ lw_all ∧ Cond.instanceMethod y ∈ lw_all ∧ Cond.initialized y.cls ∈ lw_all ∧ Cond.code y b mL none ∈ lw_all ∧ y.name = "<init>" ∧ kD y n
theorem v_callS (C : kOk g X cc nL own rt fr lo rv w1) {index : Nat} {y : MethodName} {b : ByteArray} {mL n : Nat} {ret : Option FieldType} (L : kLS own index y b mL ret n) {fr2 lo2 : Nat} {As : List Value} {r : Option Value} {w2 : Wd} {st0 : List Value} (hM : kMt (xl X) g y (ws_ y b mL ret) fr2 lo2 w As r w2) (hR : fr2 + 1 ≤ fr ∧ 8 + (mL + 11) + lo2 ≤ lo) (hn : As.length = n) (hst : st0 = As.reverse ++ st) (hw : (st.map fun v => v.category).sum ≤ 8) (hdg : decode cc pc = .ok (.invokestatic index, 3))
    (k : kV g X nL w2 (pc + 3) lv (r.toList ++ st)) : kV g X nL w pc lv st0 := by
  refine v_run (mc := gcc g - w.2.1) (ms := gcs g - w.2.2) (a0 := As.toArray) (fun H locs ls a h z1 z2 => ?_) k
  obtain ⟨hx, hb, hml, hown, hts, hG, -, -, ⟨r1, r2, r3, r4⟩, -⟩ := C
  have c1 := a.2.2.2.1.2.1
  have c2 := a.2.2.2.1.2.2
  refine va_runS (As := As) ⟨hx, hb, hml, hown, hts⟩ hM (va_cwS n hts (lw_S L.1 L.2.1 L.2.2.1 L.2.2.2.1) rfl rfl rfl L.2.2.2.2 ?_) ⟨Pk_blind, Pk_at hG a⟩ rfl hn h.1 hst (lv_room hw) hdg ?_
  · rw [r1, r2]; exact hR
  · rw [r3, r4]; exact ⟨by omega, by omega⟩
theorem k_recv {g : GT} {w : Wd} {H : Heap} {s : State} (hG : kGF g s) (a : kRp g w H) {b ci : Nat} {q : vw_C} {fs : List Value} (hc : kcl[ci]? = some q) (hb : w.1 b = some (.inl (.inr (ci, fs)))) : ∃ cell : Cell, H[b]? = some cell ∧ cell.vm.isStatics = false ∧ s.vm.findClass q.1 = some cell.cls := va_recv hG.1 (kP1 a hb) hc (q0 := 0) rfl
theorem v_callV (C : kOk g X cc nL own rt fr lo rv w1) {index : Nat} {y : MethodName} {b : ByteArray} {mL n : Nat} {ret : Option FieldType} (L : kLV own index y b mL ret n) {fr2 lo2 : Nat} {a : Nat} {As : List Value} {r : Option Value} {w2 : Wd} {st0 : List Value} {ci N : Nat} {T : u_T} {fs : List Value} (hc : kcl[ci]? = some (y.cls, T, N)) (ha : w.1 a = some (.inl (.inr (ci, fs)))) (hM : kMt (xl X) g y (ws_ y b mL ret) fr2 lo2 w (.ref a :: As) r w2) (hR : fr2 + 1 ≤ fr ∧ 8 + (mL + 11) + lo2 ≤ lo) (hn : As.length = n) (hst : st0 = As.reverse ++ .ref a :: st) (hw : (st.map fun v => v.category).sum ≤ 8) (hdg : decode cc pc = .ok (.invokevirtual index, 3))
    (k : kV g X nL w2 (pc + 3) lv (r.toList ++ st)) : kV g X nL w pc lv st0 := by
  refine v_run (mc := gcc g - w.2.1) (ms := gcs g - w.2.2) (a0 := (Value.ref a :: As).toArray) (fun H locs ls a1 h z1 z2 => ?_) k
  obtain ⟨hx, hb, hml, hown, hts, hG, -, -, ⟨r1, r2, r3, r4⟩, -⟩ := C
  have c1 := a1.2.2.2.1.2.1
  have c2 := a1.2.2.2.1.2.2
  refine va_runV (As := As) ⟨hx, hb, hml, hown, hts⟩ hM (cwV n hts (lw_V L.1 L.2.1 L.2.2.1 L.2.2.2.1 L.2.2.2.2.1) rfl rfl rfl ⟨rfl, L.2.2.2.2.2⟩ ?_) ⟨Pk_blind, k_recv hG a1 hc ha, Pk_at hG a1⟩ rfl hn h.1 hst (lv_room hw) hdg ?_
  · rw [r1, r2]; exact hR
  · rw [r3, r4]; exact ⟨by omega, by omega⟩
theorem v_callI (C : kOk g X cc nL own rt fr lo rv w1) {index : Nat} {y : MethodName} {b : ByteArray} {mL n : Nat} (L : kLI own index y b mL n) {fr2 lo2 : Nat} {a : Nat} {As : List Value} {w2 : Wd} {st0 : List Value} (hM : kMt (xl X) g y (ws_ y b mL none) fr2 lo2 w (.ref a :: As) none w2) (hR : fr2 + 1 ≤ fr ∧ 8 + (mL + 11) + lo2 ≤ lo) (hn : As.length = n) (hst : st0 = As.reverse ++ .ref a :: st) (hw : (st.map fun v => v.category).sum ≤ 8) (hdg : decode cc pc = .ok (.invokespecial index, 3))
    (k : kV g X nL w2 (pc + 3) lv st) : kV g X nL w pc lv st0 := by
  refine v_run (mc := gcc g - w.2.1) (ms := gcs g - w.2.2) (a0 := (Value.ref a :: As).toArray) (r := none) (fun H locs ls a1 h z1 z2 => ?_) k
  obtain ⟨hx, hb, hml, hown, hts, hG, -, -, ⟨r1, r2, r3, r4⟩, -⟩ := C
  have c1 := a1.2.2.2.1.2.1
  have c2 := a1.2.2.2.1.2.2
  refine va_runI (As := As) ⟨hx, hb, hml, hown, hts⟩ hM (cwI n hts (lw_meth L.2.2.2.1) rfl rfl rfl (hts _ L.2.2.1) (hts _ L.1) (hts _ L.2.1) L.2.2.2.2.1 L.2.2.2.2.2 ?_) ⟨Pk_blind, Pk_at hG a1⟩ rfl hn h.1 hst (lv_room hw) hdg ?_
  · rw [r1, r2]; exact hR
  · rw [r3, r4]; exact ⟨by omega, by omega⟩
/-- Object's constructor -/
theorem v_objInit (C : kOk g X cc nL own rt fr lo rv w1) {index a : Nat} (hq : Cond.methodLink own index Lib.objectInit ∈ lw_all) (hq2 : Cond.instanceMethod Lib.objectInit ∈ lw_all) (hq3 : Cond.code Lib.objectInit ⟨#[0xb1]⟩ 1 none ∈ lw_all) (hR : 1 ≤ fr ∧ 20 ≤ lo) (hw : (st.map fun v => v.category).sum ≤ 8) (hdg : decode cc pc = .ok (.invokespecial index, 3)) (k : kV g X nL w (pc + 3) lv st) : kV g X nL w pc lv (.ref a :: st) := by
  intro H locs ls a1 b h
  obtain ⟨hx, hb, hml, hown, hts, hG, -, -, ⟨r1, r2, r3, r4⟩, -⟩ := C
  refine W.objInit hx hb hown (hts _ hq) (hts _ hq2) (hts _ hq3) rfl (by rw [hml]; exact h.1) rfl hdg (by rw [r1]; exact hR.1) ?_ (k H locs ls a1 b h)
  rw [r2]
  show 2 * 0 + _ + 12 ≤ _
  omega
/-- a new array of numbers -/
theorem v_newa (C : kOk g X cc nL own rt fr lo rv w1) {atype : ArrayType} (hq : Cond.arrayClass (newarray.typeOf atype) ∈ lw_all) {ty : FieldType} (hty : newarray.typeOf atype = ty) {t0 : Nat} {cA : ClassId} (ht : (kty g)[t0]? = some (cA, ty)) (hra : va_RA (xs X) cA ty = ((xs X).vm.findClass ("[" ++ ty.toString) = some cA)) {n : Int32} {N : Nat} {a0 : vp_A} (ha : ∀ cA : ClassId, vp_cell cA a0 = arrV cA N (fun _ => defaultValue ty)) (hn : ¬ n < 0) (hN : n.toNatClampNeg = N) (hb4 : N * componentBytes ty ≤ 536870912) (hdg : decode cc pc = .ok (.newarray atype, 2)) (hr : w.2.1 + 1 ≤ gcc g ∧ w.2.2 + N ≤ gcs g)
    (kk : kV g X nL (kup w.1 w.2.1 (some (.inl (.inl (cA, a0)))), w.2.1 + 1, w.2.2 + N) (pc + 2) lv (.ref w.2.1 :: st)) : kV g X nL w pc lv (.int n :: st) := by
  subst hty
  intro H locs ls a1 b h
  obtain ⟨hx, hb, hml, hown, hts, hG, -, -, ⟨-, -, hRc, hRs⟩, -⟩ := C
  refine kW_tight a1 (fun z1 z2 => ?_)
  refine va_newaK hx hb (hts _ hq) rfl hdg rfl hn hN hb4 (by rw [hRc]; omega) (by rw [hRs]; omega) a1.2.1 fun H1 cA1 e1 z3 o1 hAr hNm => ?_
  have hfc : (xs X).vm.findClass ("[" ++ (newarray.typeOf atype).toString) = some cA := by rw [← hra]; exact (hG.1.2 t0 _ ht).2
  cases hfc.symm.trans hNm
  have hs1 : H.size = w.2.1 := a1.2.1
  have a2 := a1.push (e := .inl (.inl (cA, a0))) (c := arrV cA N (fun _ => defaultValue (newarray.typeOf atype))) (by
    show H1[H.size]? = some (vp_cell cA a0)
    rw [ha, hs1]; exact e1) (by rw [hs1]; exact z3) (by rw [hs1]; exact e1) (fun q hq => o1 q (by omega)) (n := N) (arrV_size _ _ _) hr
  exact kW_tight a2 (fun _ _ => kk _ locs ls a2 b h)
end KH
section KMa
variable {g : GT} {X : CxT} {cc : ByteArray} {nL : Nat} {own : String} {rt : Option FieldType} {fr lo : Nat} {rv : Option Value} {w1 w : Wd} {pc : Nat} {lv : List (Option Value)} {st : List Value}
def kmax (x y : Int32) : Int32 := if x < y then y else x
def kmin (x y : Int32) : Int32 := if y < x then y else x
theorem v_mmax (C : kOk g X cc nL own rt fr lo rv w1) {index : Nat} {x y : Int32} (hq : Cond.methodLink own index Lib.Math.max.name ∈ lw_all) (hR : 1 ≤ fr ∧ 21 ≤ lo) (hw : (st.map fun v => v.category).sum ≤ 8) (hdg : decode cc pc = .ok (.invokestatic index, 3)) (kk : kV g X nL w (pc + 3) lv (.int (kmax x y) :: st)) : kV g X nL w pc lv (.int y :: .int x :: st) := by
  intro H locs ls a b h
  obtain ⟨hx, hb, hml, hown, hts, -, -, -, ⟨r1, r2, r3, r4⟩, -⟩ := C
  have c1 := a.2.2.2.1.2.1
  have c2 := a.2.2.2.1.2.2
  exact va_mmax hx hb (by rw [hml]; exact h.1.symm) hown (hts _ hq) (hts _ q419) (hts _ q92) (hts _ q420) (by rw [r1]; exact hR.1) (by rw [r2]; omega) (by rw [r3]; omega) (by rw [r4]; omega) hdg (kk H locs ls a b h)
theorem v_mmin (C : kOk g X cc nL own rt fr lo rv w1) {index : Nat} {x y : Int32} (hq : Cond.methodLink own index Lib.Math.min.name ∈ lw_all) (hR : 1 ≤ fr ∧ 21 ≤ lo) (hw : (st.map fun v => v.category).sum ≤ 8) (hdg : decode cc pc = .ok (.invokestatic index, 3)) (kk : kV g X nL w (pc + 3) lv (.int (kmin x y) :: st)) : kV g X nL w pc lv (.int y :: .int x :: st) := by
  intro H locs ls a b h
  obtain ⟨hx, hb, hml, hown, hts, -, -, -, ⟨r1, r2, r3, r4⟩, -⟩ := C
  have c1 := a.2.2.2.1.2.1
  have c2 := a.2.2.2.1.2.2
  exact va_mmin hx hb (by rw [hml]; exact h.1.symm) hown (hts _ hq) (hts _ q472) (hts _ q92) (hts _ q473) (by rw [r1]; exact hR.1) (by rw [r2]; omega) (by rw [r3]; omega) (by rw [r4]; omega) hdg (kk H locs ls a b h)
theorem v_ldcw (C : kOk g X cc nL own rt fr lo rv w1) {index : Nat} {v : Int32} (hq : Jvm.Cond.constant own index v ∈ lw_all) (hdg : decode cc pc = .ok (.ldc_w index, 3)) (kk : kV g X nL w (pc + 3) lv (.int v :: st)) : kV g X nL w pc lv st := fun H locs ls a b h => lv_ldcw C.1 C.2.1 C.2.2.2.1 (C.2.2.2.2.1 _ hq) hdg (kk H locs ls a b h)
theorem v_ldc (C : kOk g X cc nL own rt fr lo rv w1) {index : Nat} {v : Int32} (hq : Jvm.Cond.constant own index v ∈ lw_all) (hdg : decode cc pc = .ok (.ldc index, 2)) (kk : kV g X nL w (pc + 2) lv (.int v :: st)) : kV g X nL w pc lv st := fun H locs ls a b h => lv_ldc C.1 C.2.1 C.2.2.2.1 (C.2.2.2.2.1 _ hq) hdg (kk H locs ls a b h)
def kabs (x : Int32) : Int32 := (if 0 ≤ x then x else 0 - x)
theorem v_mabs (C : kOk g X cc nL own rt fr lo rv w1) {index : Nat} {x : Int32} (hq : Cond.methodLink own index Lib.Math.abs.name ∈ lw_all) (hR : 1 ≤ fr ∧ 21 ≤ lo) (hw : (st.map fun v => v.category).sum ≤ 8) (hdg : decode cc pc = .ok (.invokestatic index, 3)) (kk : kV g X nL w (pc + 3) lv (.int (kabs x) :: st)) : kV g X nL w pc lv (.int x :: st) := by
  intro H locs ls a b h
  obtain ⟨hx, hb, hml, hown, hts, -, -, -, ⟨r1, r2, r3, r4⟩, -⟩ := C
  have c1 := a.2.2.2.1.2.1
  have c2 := a.2.2.2.1.2.2
  exact va_mabs hx hb (by rw [hml]; exact h.1.symm) hown (hts _ hq) (hts _ q2223) (hts _ q92) (hts _ q2224) (by rw [r1]; exact hR.1) (by rw [r2]; omega) (by rw [r3]; omega) (by rw [r4]; omega) hdg (kk H locs ls a b h)
end KMa
/-! THE MODEL's WORLD: scalars by field, arrays by rank -/
set_option maxRecDepth 100000
theorem kc_X3 : kCl 0 RX3 TX3 41 tyX3 := ⟨rfl, in_X3, tyX3_ok, nmX3⟩
abbrev M : Type := (Nat → Int32) × (Nat → Nat → Int32)
def fldM (o : Nat) (σ : M) : List Value := [.int (σ.1 0), .ref (o + 1), .ref (o + 2), .ref (o + 3), .ref (o + 4), .ref (o + 5), .ref (o + 6), .ref (o + 7), .ref (o + 8), .ref (o + 9), .ref (o + 10), .int (σ.1 11), .ref (o + 11), .ref (o + 12), .ref (o + 13), .ref (o + 14), .ref (o + 15), .int (σ.1 17), .int (σ.1 18), .int (σ.1 19), .int (σ.1 20), .int (σ.1 21), .int (σ.1 22), .ref (o + 16), .ref (o + 17), .ref (o + 18), .ref (o + 19), .ref (o + 20), .ref (o + 21), .ref (o + 22), .ref (o + 23), .ref (o + 24), .int (σ.1 32), .ref (o + 25), .ref (o + 26), .ref (o + 27), .ref (o + 28), .int (σ.1 37), .ref (o + 29), .ref (o + 30), .ref (o + 31)]
def lenM (j : Nat) : Nat := match j with
  | 1 => 2
  | 2 => 2
  | 3 => 80
  | 4 => 20
  | 5 => 20
  | 6 => 20
  | 7 => 1000
  | 8 => 1000
  | 9 => 1000
  | 10 => 1000
  | 11 => 160
  | 12 => 160
  | 13 => 160
  | 14 => 160
  | 15 => 80
  | 16 => 80
  | 17 => 80
  | 18 => 80
  | 19 => 80
  | 20 => 40
  | 21 => 10
  | 22 => 10
  | 23 => 10
  | 24 => 10
  | 25 => 80
  | 26 => 36
  | 27 => 80
  | 28 => 60
  | 29 => 4
  | 30 => 4
  | _ => 80
def sS (σ : M) (k : Nat) (v : Int32) : M := (fun i => if i = k then v else σ.1 i, σ.2)
def sA (σ : M) (j i : Nat) (v : Int32) : M := (σ.1, fun a b => if a = j then (if b = i then v else σ.2 j b) else σ.2 a b)
def hM (g : GT) (o : Nat) (σ : M) (h : Nat → Option kE) : Nat → Option kE := fun a => if a = o then some (.inl (.inr (0, fldM o σ))) else if o < a ∧ a ≤ o + 31 then some (.inl (.inl ((if a - o = 29 then gA g 1 else gA g 0), lenM (a - o), .inl (σ.2 (a - o))))) else h a
def wM (g : GT) (o : Nat) (σ : M) (u : Wd) : Wd := (hM g o σ u.1, u.2)
theorem hM_o {g : GT} {o : Nat} {σ : M} {u : Wd} : (wM g o σ u).1 o = some (.inl (.inr (0, fldM o σ))) := if_pos rfl
theorem hM_a {g : GT} {o j : Nat} {σ : M} {u : Wd} (h1 : 0 < j) (h2 : j ≤ 31) (h3 : j ≠ 29) : (wM g o σ u).1 (o + j) = some (.inl (.inl (gA g 0, lenM j, .inl (σ.2 j)))) := by
  show hM g o σ u.1 (o + j) = _
  unfold hM
  rw [if_neg (by omega), if_pos (by omega), show o + j - o = j by omega, if_neg h3]
theorem hM_z {g : GT} {o : Nat} {σ : M} {u : Wd} : (wM g o σ u).1 (o + 29) = some (.inl (.inl (gA g 1, 4, .inl (σ.2 29)))) := by
  show hM g o σ u.1 (o + 29) = _
  unfold hM
  rw [if_neg (by omega), if_pos (by omega), show o + 29 - o = 29 by omega, if_pos rfl]
  rfl
theorem hM_sS {g : GT} {o k : Nat} {σ : M} {u : Wd} {v : Int32} (h : (fldM o σ).set k (.int v) = fldM o (sS σ k v)) : (kup (wM g o σ u).1 o (some (.inl (.inr (0, (fldM o σ).set k (.int v))))), (wM g o σ u).2) = wM g o (sS σ k v) u := by
  rw [h]
  unfold wM
  congr 1
  funext a
  by_cases ha : a = o
  · subst ha
    rw [kup_s]
    simp [hM]
  · rw [kup_n ha]
    simp [hM, ha, sS]
theorem sA_s {σ : M} {j i : Nat} {v : Int32} : (sA σ j i v).2 j = upd (σ.2 j) i v := by
  funext b
  simp [sA, upd]
theorem hM_in {g : GT} {o a : Nat} {σ : M} {h : Nat → Option kE} (hc : o < a ∧ a ≤ o + 31) : hM g o σ h a = some (.inl (.inl ((if a - o = 29 then gA g 1 else gA g 0), lenM (a - o), .inl (σ.2 (a - o))))) := by
  unfold hM
  rw [if_neg (by omega), if_pos hc]
theorem hM_out {g : GT} {o a : Nat} {σ : M} {h : Nat → Option kE} (h1 : ¬ a = o) (hc : ¬ (o < a ∧ a ≤ o + 31)) : hM g o σ h a = h a := by
  unfold hM
  rw [if_neg h1, if_neg hc]
theorem hM_sA {g : GT} {o j i : Nat} {σ : M} {u : Wd} {v : Int32} {e : kE} (h1 : 0 < j) (h2 : j ≤ 31) (he : e = .inl (.inl ((if j = 29 then gA g 1 else gA g 0), lenM j, .inl (upd (σ.2 j) i v)))) : (kup (wM g o σ u).1 (o + j) (some e), (wM g o σ u).2) = wM g o (sA σ j i v) u := by
  unfold wM
  congr 1
  funext a
  show kup (hM g o σ u.1) (o + j) (some e) a = _
  by_cases ha : a = o + j
  · subst ha
    rw [kup_s, he, hM_in (by omega), show o + j - o = j by omega, sA_s]
  · rw [kup_n ha]
    by_cases hb : a = o
    · subst hb
      unfold hM
      rw [if_pos rfl, if_pos rfl]
      rfl
    · by_cases hc : o < a ∧ a ≤ o + 31
      · rw [hM_in hc, hM_in hc]
        have : (sA σ j i v).2 (a - o) = σ.2 (a - o) := by
          have hne : a - o ≠ j := by omega
          funext b
          simp [sA, hne]
        rw [this]
      · rw [hM_out hb hc, hM_out hb hc]
/-- go on with an answer -/
def kb {α S β : Type} (f : Option (α × S)) (A : α → S → Option β) : Option β := match f with
  | some q => A q.1 q.2
  | none => none
theorem kb_of {α S β : Type} {f : Option (α × S)} {A : α → S → Option β} {z : β} (h : kb f A = some z) : ∃ r s, f = some (r, s) ∧ A r s = some z := by
  cases f with
  | none => cases h
  | some q => exact ⟨q.1, q.2, rfl, h⟩
/-- a loop by its body -/
def kloop {α β : Type} (body : (α → Option β) → α → Option β) : Nat → α → Option β
  | 0, _ => none
  | n + 1, a => body (kloop body n) a
theorem kloop_ok {α β : Type} {body : (α → Option β) → α → Option β} {z : β} {P : α → Prop} (h : ∀ self : α → Option β, (∀ a, self a = some z → P a) → ∀ a, body self a = some z → P a) : ∀ n a, kloop body n a = some z → P a
  | 0, _, q => by cases q
  | n + 1, a, q => h (kloop body n) (kloop_ok h n) a q
theorem k_cases {β : Type} {c : Prop} {d : Decidable c} {f1 f2 : Option β} {z : β} (h : (@ite _ c d f1 f2) = some z) : (c ∧ f1 = some z) ∨ (¬ c ∧ f2 = some z) := by
  by_cases hc : c
  · rw [if_pos hc] at h; exact Or.inl ⟨hc, h⟩
  · rw [if_neg hc] at h; exact Or.inr ⟨hc, h⟩
def nb (r : Int32) : Bool := r == 0 || r == 1
theorem nb_nar {r : Int32} (h : nb r = true) : narrow .boolean (.int r) = .int r := by
  simp only [nb, Bool.or_eq_true, beq_iff_eq] at h
  rcases h with rfl | rfl <;> rfl
def lvM : List Bool → List (Option Value) → List (Option Value)
  | true :: b, v :: l => v :: lvM b l
  | false :: b, _ :: l => none :: lvM b l
  | _, _ => []
theorem lvM_of : ∀ (m : List Bool) (l : List (Option Value)) (i : Nat) (v : Value), (lvM m l)[i]? = some (some v) → l[i]? = some (some v)
  | true :: b, u :: l, 0, v, h => h
  | false :: b, u :: l, 0, v, h => by simp [lvM] at h
  | true :: b, u :: l, i + 1, v, h => by have := lvM_of b l i v (by simpa [lvM] using h); simpa using this
  | false :: b, u :: l, i + 1, v, h => by have := lvM_of b l i v (by simpa [lvM] using h); simpa using this
  | [], l, i, v, h => by simp [lvM] at h
  | true :: b, [], i, v, h => by simp [lvM] at h
  | false :: b, [], i, v, h => by simp [lvM] at h
section KM
variable {g : GT} {X : CxT} {cc : ByteArray} {nL : Nat} {own : String} {rt : Option FieldType} {fr lo : Nat} {rv : Option Value} {w1 w : Wd} {pc : Nat} {lv : List (Option Value)} {st : List Value} {o : Nat} {σ : M} {u : Wd}
/-- dead locals are forgotten -/
theorem v_mask (m : List Bool) {lv' : List (Option Value)} (hm : lvM m lv = lv') (k : kV g X nL w pc lv' st) : kV g X nL w pc lv st := by
  subst hm
  intro H locs ls a b h
  refine k H locs ls a b ⟨h.1, h.2.1, fun q hq => ?_⟩
  obtain ⟨i, h1, h2⟩ := lvE_of _ 0 q hq
  have h3 := lvE_mem lv 0 i _ (lvM_of m lv i _ h2)
  rw [← h1] at h3
  exact h.2.2 q h3
theorem m_get (C : kOk g X cc nL own rt fr lo rv w1) {index : Nat} {v : Value} (k : Nat) (hk : k < 41) (hq : Cond.fieldLink own index (TX3 k).1 (TX3 k).2.1 (TX3 k).2.2.1 ∈ lw_all) (hv : (fldM o σ)[k]? = some v) (hdg : decode cc pc = .ok (.getfield index, 3)) (kk : kV g X nL (wM g o σ u) (pc + 3) lv (v :: st)) : kV g X nL (wM g o σ u) pc lv (.ref o :: st) :=
  v_get C kc_X3 k hk (kFl.p hq) hM_o hv hdg kk
theorem m_put (C : kOk g X cc nL own rt fr lo rv w1) (ho : gB g ≤ o) {index : Nat} {x : Int32} (k : Nat) (hk : k < 41) (hq : Cond.fieldLink own index (TX3 k).1 (TX3 k).2.1 (TX3 k).2.2.1 ∈ lw_all) (hfin : (TX3 k).2.2.2 = false) (hn : narrow (tyX3 k) (.int x) = .int x) (hfit : fits (tyX3 k) (.int x) = true) (hs : (fldM o σ).set k (.int x) = fldM o (sS σ k x)) (hdg : decode cc pc = .ok (.putfield index, 3)) (kk : kV g X nL (wM g o (sS σ k x) u) (pc + 3) lv st) : kV g X nL (wM g o σ u) pc lv (.int x :: .ref o :: st) :=
  v_put C kc_X3 k hk (kFl.p hq) hM_o hk hfin hn hfit hdg (by rw [hM_sS hs]; exact kk)
theorem m_ald (C : kOk g X cc nL own rt fr lo rv w1) {j : Nat} (h1 : 0 < j) (h2 : j ≤ 31) (h3 : j ≠ 29) {i : Int32} {n ix : Nat} (hl : lenM j = n) (hin : kin i n = true) (hx : i.toNatClampNeg = ix) (hdg : decode cc pc = .ok (.iaload, 1)) (kk : kV g X nL (wM g o σ u) (pc + 1) lv (.int (σ.2 j ix) :: st)) : kV g X nL (wM g o σ u) pc lv (.int i :: .ref (o + j) :: st) :=
  v_iald C (hM_a h1 h2 h3) (t0 := 0) rfl (by rw [hl]; exact hin) hdg (by rw [hx]; exact kk)
theorem m_zald (C : kOk g X cc nL own rt fr lo rv w1) {i : Int32} {ix : Nat} (hin : kin i 4 = true) (hx : i.toNatClampNeg = ix) (hdg : decode cc pc = .ok (.baload, 1)) (kk : kV g X nL (wM g o σ u) (pc + 1) lv (.int (σ.2 29 ix) :: st)) : kV g X nL (wM g o σ u) pc lv (.int i :: .ref (o + 29) :: st) :=
  v_zald C hM_z (t0 := 1) rfl hin hdg (by rw [hx]; exact kk)
theorem m_ast (C : kOk g X cc nL own rt fr lo rv w1) (ho : gB g ≤ o) {j : Nat} (h1 : 0 < j) (h2 : j ≤ 31) (h3 : j ≠ 29) {i x : Int32} {n ix : Nat} (hl : lenM j = n) (hin : kin i n = true) (hx : i.toNatClampNeg = ix) (hdg : decode cc pc = .ok (.iastore, 1)) (kk : kV g X nL (wM g o (sA σ j ix x) u) (pc + 1) lv st) : kV g X nL (wM g o σ u) pc lv (.int x :: .int i :: .ref (o + j) :: st) :=
  v_iast C (hM_a h1 h2 h3) (t0 := 0) rfl (by rw [hl]; exact hin) hdg (by rw [hM_sA h1 h2 (by rw [if_neg h3]), hx]; exact kk)
theorem m_zast (C : kOk g X cc nL own rt fr lo rv w1) (ho : gB g ≤ o) {i x : Int32} {ix : Nat} (hb : vp_nar .boolean x = x) (hin : kin i 4 = true) (hx : i.toNatClampNeg = ix) (hdg : decode cc pc = .ok (.bastore, 1)) (kk : kV g X nL (wM g o (sA σ 29 ix x) u) (pc + 1) lv st) : kV g X nL (wM g o σ u) pc lv (.int x :: .int i :: .ref (o + 29) :: st) :=
  v_zast C hM_z (t0 := 1) rfl hin hdg (by rw [hb, hM_sA (j := 29) (by omega) (by omega) (by rw [if_pos rfl]; rfl), hx]; exact kk)
theorem m_alen (C : kOk g X cc nL own rt fr lo rv w1) {j : Nat} (h1 : 0 < j) (h2 : j ≤ 31) (h3 : j ≠ 29) {v : Int32} (hv : Int32.ofNat (lenM j) = v) (hdg : decode cc pc = .ok (.arraylength, 1)) (kk : kV g X nL (wM g o σ u) (pc + 1) lv (.int v :: st)) : kV g X nL (wM g o σ u) pc lv (.ref (o + j) :: st) :=
  v_alen C (hM_a h1 h2 h3) (t0 := 0) rfl hv hdg kk
theorem m_callSi (C : kOk g X cc nL own rt fr lo rv w1) {index : Nat} {y : MethodName} {b : ByteArray} {mL n : Nat} {ret : Option FieldType} (L : kLS own index y b mL ret n) {fr2 lo2 : Nat} {As st0 : List Value} {f : Option (Int32 × M)} (hM : ∀ r σ1, f = some (r, σ1) → kMt (xl X) g y (ws_ y b mL ret) fr2 lo2 (wM g o σ u) As (some (.int r)) (wM g o σ1 u)) (hR : fr2 + 1 ≤ fr ∧ 8 + (mL + 11) + lo2 ≤ lo) (hn : As.length = n) (hst : st0 = As.reverse ++ st) (hw : (st.map fun v => v.category).sum ≤ 8) (hdg : decode cc pc = .ok (.invokestatic index, 3)) {β : Type} {A : Int32 → M → Option β} {z : β} (hF : kb f A = some z) (k : ∀ r σ1, A r σ1 = some z → kV g X nL (wM g o σ1 u) (pc + 3) lv (.int r :: st)) : kV g X nL (wM g o σ u) pc lv st0 := by
  obtain ⟨r, s, h1, h2⟩ := kb_of hF
  exact v_callS C L (hM r s h1) hR hn hst hw hdg (k r s h2)
theorem m_callSv (C : kOk g X cc nL own rt fr lo rv w1) {index : Nat} {y : MethodName} {b : ByteArray} {mL n : Nat} {ret : Option FieldType} (L : kLS own index y b mL ret n) {fr2 lo2 : Nat} {As st0 : List Value} {f : Option (Unit × M)} (hM : ∀ r σ1, f = some (r, σ1) → kMt (xl X) g y (ws_ y b mL ret) fr2 lo2 (wM g o σ u) As none (wM g o σ1 u)) (hR : fr2 + 1 ≤ fr ∧ 8 + (mL + 11) + lo2 ≤ lo) (hn : As.length = n) (hst : st0 = As.reverse ++ st) (hw : (st.map fun v => v.category).sum ≤ 8) (hdg : decode cc pc = .ok (.invokestatic index, 3)) {β : Type} {A : Unit → M → Option β} {z : β} (hF : kb f A = some z) (k : ∀ r σ1, A r σ1 = some z → kV g X nL (wM g o σ1 u) (pc + 3) lv st) : kV g X nL (wM g o σ u) pc lv st0 := by
  obtain ⟨r, s, h1, h2⟩ := kb_of hF
  exact v_callS C L (hM r s h1) hR hn hst hw hdg (k r s h2)
theorem m_callVi (C : kOk g X cc nL own rt fr lo rv w1) {index : Nat} {y : MethodName} {b : ByteArray} {mL n : Nat} {ret : Option FieldType} (L : kLV own index y b mL ret n) (hy : y.cls = RX3) {fr2 lo2 : Nat} {As st0 : List Value} {f : Option (Int32 × M)} (hM : ∀ r σ1, f = some (r, σ1) → kMt (xl X) g y (ws_ y b mL ret) fr2 lo2 (wM g o σ u) (.ref o :: As) (some (.int r)) (wM g o σ1 u)) (hR : fr2 + 1 ≤ fr ∧ 8 + (mL + 11) + lo2 ≤ lo) (hn : As.length = n) (hst : st0 = As.reverse ++ .ref o :: st) (hw : (st.map fun v => v.category).sum ≤ 8) (hdg : decode cc pc = .ok (.invokevirtual index, 3)) {β : Type} {A : Int32 → M → Option β} {z : β} (hF : kb f A = some z) (k : ∀ r σ1, A r σ1 = some z → kV g X nL (wM g o σ1 u) (pc + 3) lv (.int r :: st)) : kV g X nL (wM g o σ u) pc lv st0 := by
  obtain ⟨r, s, h1, h2⟩ := kb_of hF
  exact v_callV C L (ci := 0) (T := TX3) (N := 41) (by rw [hy]; rfl) hM_o (hM r s h1) hR hn hst hw hdg (k r s h2)
theorem m_callVv (C : kOk g X cc nL own rt fr lo rv w1) {index : Nat} {y : MethodName} {b : ByteArray} {mL n : Nat} {ret : Option FieldType} (L : kLV own index y b mL ret n) (hy : y.cls = RX3) {fr2 lo2 : Nat} {As st0 : List Value} {f : Option (Unit × M)} (hM : ∀ r σ1, f = some (r, σ1) → kMt (xl X) g y (ws_ y b mL ret) fr2 lo2 (wM g o σ u) (.ref o :: As) none (wM g o σ1 u)) (hR : fr2 + 1 ≤ fr ∧ 8 + (mL + 11) + lo2 ≤ lo) (hn : As.length = n) (hst : st0 = As.reverse ++ .ref o :: st) (hw : (st.map fun v => v.category).sum ≤ 8) (hdg : decode cc pc = .ok (.invokevirtual index, 3)) {β : Type} {A : Unit → M → Option β} {z : β} (hF : kb f A = some z) (k : ∀ r σ1, A r σ1 = some z → kV g X nL (wM g o σ1 u) (pc + 3) lv st) : kV g X nL (wM g o σ u) pc lv st0 := by
  obtain ⟨r, s, h1, h2⟩ := kb_of hF
  exact v_callV C L (ci := 0) (T := TX3) (N := 41) (by rw [hy]; rfl) hM_o (hM r s h1) hR hn hst hw hdg (k r s h2)
theorem m_iret {v r : Int32} {σ1 : M} (C : kOk g X cc nL own (some .int) fr lo (some (.int r)) (wM g o σ1 u)) (hdg : decode cc pc = .ok (.ireturn, 1)) (hF : some (v, σ) = some (r, σ1)) : kV g X nL (wM g o σ u) pc lv [.int v] := by
  cases hF
  exact v_iret C hdg
theorem m_zret {v r : Int32} {σ1 : M} (C : kOk g X cc nL own (some .boolean) fr lo (some (.int r)) (wM g o σ1 u)) (hn : narrow .boolean (.int v) = .int v) (hdg : decode cc pc = .ok (.ireturn, 1)) (hF : some (v, σ) = some (r, σ1)) : kV g X nL (wM g o σ u) pc lv [.int v] := by
  cases hF
  exact v_zret C hn hdg
theorem m_vret {r : Unit} {σ1 : M} (C : kOk g X cc nL own none fr lo none (wM g o σ1 u)) (hdg : decode cc pc = .ok (.return_, 1)) (hF : some ((), σ) = some (r, σ1)) : kV g X nL (wM g o σ u) pc lv [] := by
  cases hF
  exact v_vret C hdg
/-- a switch: a case, the rest -/
def tswOK (offs : Array Int) (lo dflt : Int) (keys : List Int32) : Bool := (List.range offs.size).all (fun j => decide (offs[j]? = some dflt) || keys.any (fun k => decide (k.toInt = lo + j)))
theorem v_tswIn (C : kOk g X cc nL own rt fr lo rv w1) {dflt lo9 hi : Int} {offs : Array Int} {len : Nat} {x : Int32} {off : Int} {tgt : Nat} (k : Int32) (hx : x = k) (hdg : decode cc pc = .ok (.tableswitch dflt lo9 hi offs, len)) (h1 : ¬ k.toInt < lo9) (h2 : ¬ hi < k.toInt) (ho : offs[(k.toInt - lo9).toNat]? = some off) (ht : (pc : Int) + off = (tgt : Int)) (kk : kV g X nL w tgt lv st) : kV g X nL w pc lv (.int x :: st) := by
  subst hx
  exact fun H locs ls a b h => lv_tableIn C.1 C.2.1 hdg h1 h2 ho ht (kk H locs ls a b h)
theorem v_tswOut (C : kOk g X cc nL own rt fr lo rv w1) {dflt lo9 hi : Int} {offs : Array Int} {len : Nat} {x : Int32} {tgt : Nat} (keys : List Int32) (hx : ∀ k ∈ keys, ¬ x = k) (hdg : decode cc pc = .ok (.tableswitch dflt lo9 hi offs, len)) (hk : tswOK offs lo9 dflt keys = true) (hz : (hi - lo9 + 1).toNat = offs.size) (ht : (pc : Int) + dflt = (tgt : Int)) (kk : kV g X nL w tgt lv st) : kV g X nL w pc lv (.int x :: st) := by
  intro H locs ls a b h
  by_cases hr : x.toInt < lo9 ∨ hi < x.toInt
  · exact lv_tableOut C.1 C.2.1 hdg hr ht (kk H locs ls a b h)
  · have h1 : ¬ x.toInt < lo9 := fun z => hr (Or.inl z)
    have h2 : ¬ hi < x.toInt := fun z => hr (Or.inr z)
    have hj : (x.toInt - lo9).toNat < offs.size := by omega
    have := (List.all_eq_true.mp hk) _ (List.mem_range.mpr hj)
    rw [Bool.or_eq_true] at this
    rcases this with q | q
    · exact lv_tableIn C.1 C.2.1 hdg h1 h2 (of_decide_eq_true q) ht (kk H locs ls a b h)
    · obtain ⟨k, hk1, hk2⟩ := List.any_eq_true.mp q
      have hk2 := of_decide_eq_true hk2
      exfalso
      refine hx k hk1 (Int32.toInt_inj.mp ?_)
      omega
end KM
