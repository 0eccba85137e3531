/-! methods that may throw a Wrong; the heap is exact in both cases -/
set_option maxRecDepth 100000
abbrev kRs : Type := Option Value ⊕ Nat
def Qx (g : GT) (res : kRs) (w : Wd) : Array Value → State → Outcome → State → Prop := fun _ _ o t => ∃ r, res = .inl r ∧ o = .returned r ∧ kRp g w t.heap
def Xx (g : GT) (res : kRs) (w : Wd) : Addr → String → State → State → Prop := fun q E _ t => res = .inr q ∧ E = "CardLoom$Wrong" ∧ kRp g w t.heap
/-- a method's contract: from the heap w it answers, or throws the Wrong at q, and leaves w1 -/
def kMx (l : Launch) (g : GT) (y : MethodName) (ws : List Cond) (fr lo : Nat) (w : Wd) (as : List Value) (res : kRs) (w1 : Wd) : Prop :=
  vy_Met l y ws ({ frames := fr, cells := gcc g - w.2.1, slots := gcs g - w.2.2, locals := lo }) (Pk g w as) (Qx g res w1) (Xx g res w1) (gcc g - w.2.1) (gcs g - w.2.2) (kfree g)
/-- a heap that is none -/
def kBad (g : GT) : Wd := (fun _ => none, gcc g + 1, 0)
theorem kBad_no {g : GT} {H : Heap} (h : kRp g (kBad g) H) : False := by
  have := h.2.2.2.1.2.1
  have : gcc g + 1 ≤ gcc g := this
  omega
/-- the thrown object, in the heap -/
def kWr (X : CxT) (H : Heap) (q : Nat) : Prop := ∃ ce : Cell, H[q]? = some ce ∧ ce.vm = .none ∧ (xs X).vm.findClass "CardLoom$Wrong" = some ce.cls
/-- q, thrown here, leaves the method as it may -/
def kTh (g : GT) (X : CxT) (w : Wd) (q : Nat) : Prop := ∀ (H : Heap) (locs : List Loc) (ls : Array Slot) (pc : Nat) (st : List Value), kRp g w H → (∀ z ∈ locs, gB g ≤ z.base) → kWr X H q →
  vx_W (xp X) (xl X) (xe X) (xR X) (xs X) (xm X) (xa X) (xb X) (xh X) (xc X) H locs (w.2.1 - (xs X).heap.size) (w.2.2 - khs (xs X).heap) (xQ X) (F0 (xm X) pc ls st) q
theorem kMx.ofV {l : Launch} {g : GT} {y : MethodName} {cc : ByteArray} {nL : Nat} {ret : Option FieldType} {fr lo : Nat} {w : Wd} {as : List Value} {res : kRs} {w1 : Wd} {lv : List (Option Value)} {own : String} (hy : plainName y.cls = true) (ho : y.cls = own) (hl : (lg_sl as).length ≤ nL) (hv : lv_args 0 as = lvE 0 lv)
    (k : ∀ X : CxT, xl X = l → kHin X y → kOk g X cc nL own ret fr lo none (kBad g) → (∀ r, res = .inl r → kOk g X cc nL own ret fr lo r w1) → (∀ q, res = .inr q → kTh g X w1 q) → kV g X nL w 0 lv []) : kMx l g y (ws_ y cc nL ret) fr lo w as res w1 := by
  unfold kMx
  refine vy_ofW (cc := cc) (maxL := nL) (ret := ret) hy rfl ?_
  intro p e s m args below meth c s₁ B hml htab hp
  obtain ⟨rfl, hR, hG⟩ := hp
  have hts := atoms_spec (ws := ws_ y cc nL ret) B.pre
  have hts : ∀ w ∈ lw_all, w.before _ s = true := fun w h => hts w (List.mem_cons_of_mem _ h)
  have e1 : s.heap.size = w.2.1 := hR.2.1
  have e2 : khs s.heap = w.2.2 := hR.2.2.1
  have hle := lv_entry as (n := nL) hl
  rw [hv] at hle
  rw [lg_entry_eq]
  have base : ∀ (r : Option Value) (w9 : Wd), (∀ t, MQ below (Qk g r w9) as.toArray s (gcc g - s.heap.size) (gcs g - khs s.heap) (kfree g) t → vy_MQ below (Qx g res w1) (Xx g res w1) as.toArray s (gcc g - w.2.1) (gcs g - w.2.2) (kfree g) t) → kOk g (p, l, e, (headSpec (ws_ y cc nL ret) ({ frames := fr, cells := gcc g - w.2.1, slots := gcs g - w.2.2, locals := lo })).room, s, m, as.toArray, below, meth, c, vy_MQ below (Qx g res w1) (Xx g res w1) as.toArray s (gcc g - w.2.1) (gcs g - w.2.2) (kfree g)) cc nL own ret fr lo r w9 := by
    intro r w9 hm
    exact ⟨B.exec, B.bytes, hml, by rw [← ho]; exact findClass_of_methodNamed B.named, hts, hG, B.notSynchronized, B.returns, ⟨rfl, rfl, by show gcc g - w.2.1 = _; rw [← e1], by show gcs g - w.2.2 = _; rw [← e2]⟩, hm⟩
  have := k (p, l, e, (headSpec (ws_ y cc nL ret) ({ frames := fr, cells := gcc g - w.2.1, slots := gcs g - w.2.2, locals := lo })).room, s, m, as.toArray, below, meth, c, vy_MQ below (Qx g res w1) (Xx g res w1) as.toArray s (gcc g - w.2.1) (gcs g - w.2.2) (kfree g)) rfl ⟨(name_of_methodNamed B.named B.method).1, B.named⟩
    (base _ _ fun t ht => by obtain ⟨o, -, -, ⟨-, h⟩, -⟩ := ht; exact (kBad_no h).elim)
    (fun r hr => base _ _ fun t ht => by
      rw [e1, e2] at ht
      obtain ⟨o, h1, h2, ⟨h3, h4⟩, h5⟩ := ht
      exact ⟨o, h1, h2, Or.inl ⟨⟨r, hr, h3, h4⟩, h5⟩⟩)
    (fun q hq H locs ls pc st hR9 hb9 hW9 => by
      obtain ⟨ce, c1, c2, c3⟩ := hW9
      have d1 := hR9.2.2.2.1.2.1
      have d2 := hR9.2.2.2.1.2.2
      exact vy_out (E := "CardLoom$Wrong") (fun x hx => (htab x hx).elim) B.notSynchronized c1 c2 c3 (fun t ht _ => ⟨hq, rfl, by rw [ht]; exact hR9⟩) hb9 (by show w1.2.1 - s.heap.size ≤ _; omega) (by show w1.2.2 - khs s.heap ≤ _; omega)) s.heap [] _ hR (fun q h => by cases h) hle
  have z1 : w.2.1 - s.heap.size = 0 := by omega
  have z2 : w.2.2 - khs s.heap = 0 := by omega
  have this : W p l e _ s m as.toArray below meth c s.heap [] (w.2.1 - s.heap.size) (w.2.2 - khs s.heap) _ _ := this
  rw [z1, z2] at this
  exact this
theorem stand_tight {g : GT} {w : Wd} {p : Program} {l : Launch} {e : Env} {R : Room} {s : State} {m : MethodId} {args : Array Value} {below : List Frame} {meth : Method} {c : Code} {T : State} {locs : List Loc} {cells slots : Nat} (hR : kRp g w T.heap) (X : Stand p l e R s m args below meth c T locs cells slots) : Stand p l e R s m args below meth c T locs (w.2.1 - s.heap.size) (w.2.2 - khs s.heap) := by
  obtain ⟨a1, a2, a3, a4, a5, a6⟩ := X.same
  have b2 : s.heap.size ≤ T.heap.size := a2
  have hh := khs_old (A := s.heap) (B := T.heap) b2 (fun q c hq => by
    obtain ⟨c', h1, -, h2, -⟩ := a6 q c hq
    exact ⟨c', h1, h2⟩)
  have e1 : T.heap.size = w.2.1 := hR.2.1
  have e2 : khs T.heap = w.2.2 := hR.2.2.1
  refine { X with same := ⟨a1, a2, ?_, a4, ?_, a6⟩ }
  · show T.heap.size ≤ _
    omega
  · show ((T.heap.toList.drop s.heap.size).map (fun c => c.slots.size)).sum ≤ _
    omega
/-- what a callee gave, seen as a result -/
def kres {ρ : Type} (val : ρ → Option Value) : ρ ⊕ Nat → kRs
  | .inl v => .inl (val v)
  | .inr q => .inr q
def kbx {α β : Type} (f : Option ((α ⊕ Nat) × Wd)) (A : α → Wd → Option ((β ⊕ Nat) × Wd)) : Option ((β ⊕ Nat) × Wd) := match f with
  | some (.inl v, w) => A v w
  | some (.inr q, w) => some (.inr q, w)
  | none => none
/-- .. and where it is caught -/
def kbc {α β : Type} (f : Option ((α ⊕ Nat) × Wd)) (A : α → Wd → Option β) (B : Nat → Wd → Option β) : Option β := match f with
  | some (.inl v, w) => A v w
  | some (.inr q, w) => B q w
  | none => none
section KX
variable {g : GT} {X : CxT} {cc : ByteArray} {nL : Nat} {own : String} {rt : Option FieldType} {fr lo : Nat} {rv : Option Value} {w1 w : Wd} {pc : Nat} {lv : List (Option Value)} {st : List Value} {β : Type} {z : β}
theorem v_callVX (C : kOk g X cc nL own rt fr lo rv w1) {index : Nat} {y : MethodName} {b : ByteArray} {mL n : Nat} {ret : Option FieldType} (L : kLV own index y b mL ret n) {fr2 lo2 : Nat} {a : Nat} {As : List Value} {res : kRs} {w2 : Wd} {st0 : List Value} {ci N : Nat} {T : u_T} {fs : List Value} (hc : kcl[ci]? = some (y.cls, T, N)) (ha : w.1 a = some (.inl (.inr (ci, fs)))) (hM : kMx (xl X) g y (ws_ y b mL ret) fr2 lo2 w (.ref a :: As) res w2) (hR : fr2 + 1 ≤ fr ∧ 8 + (mL + 11) + lo2 ≤ lo) (hn : As.length = n) (hst : st0 = As.reverse ++ .ref a :: st) (hw : (st.map fun v => v.category).sum ≤ 8) (hdg : decode cc pc = .ok (.invokevirtual index, 3))
    (kr : ∀ r, res = .inl r → kV g X nL w2 (pc + 3) lv (r.toList ++ st))
    (kt : ∀ q, res = .inr q → ∀ (H : Heap) (locs : List Loc) (ls : Array Slot), kRp g w2 H → (∀ z ∈ locs, gB g ≤ z.base) → lv_has ls nL (lvE 0 lv) → kWr X H q → vx_W (xp X) (xl X) (xe X) (xR X) (xs X) (xm X) (xa X) (xb X) (xh X) (xc X) H locs (w2.2.1 - (xs X).heap.size) (w2.2.2 - khs (xs X).heap) (xQ X) (F0 (xm X) pc ls st) q) : kV g X nL w pc lv st0 := by
  obtain ⟨hx, hb, hml, hown, hts, hG, -, -, ⟨r1, r2, r3, r4⟩, -⟩ := C
  intro H locs ls a1 bb h
  refine kW_tight a1 (fun z1 z2 => ?_)
  have c1 := a1.2.2.2.1.2.1
  have c2 := a1.2.2.2.1.2.2
  have hr := vy_runV (H := H) (locs := locs) (cells := w.2.1 - (xs X).heap.size) (slots := w.2.2 - khs (xs X).heap) (l := xl X) (e := xe X) (below := xb X) (meth := xh X) (As := As) ⟨hx, hb, hml, hown, hts⟩ hM (cwV n hts (lw_V L.1 L.2.1 L.2.2.1 L.2.2.2.1 L.2.2.2.2.1) rfl rfl rfl ⟨rfl, L.2.2.2.2.2⟩ (by rw [r1, r2]; exact hR)) ⟨Pk_blind, k_recv hG a1 hc ha, Pk_at hG a1⟩ (g := F0 (xm X) pc ls st0) rfl hn h.1 hst (lv_room hw) hdg (by rw [r3, r4]; exact ⟨by omega, by omega⟩)
  intro T hT X0
  rcases hr T hT X0 with ⟨v, st₀, t, T', L, h0, X', hL, e1, e2, ⟨r, hres, hv, hR2⟩, stp⟩ | ⟨q, st₀, t, T', L, E, ce, h0, X', hL, e1, e2, ⟨hres, hE, hR2⟩, hce, hcv, hcl, stp⟩
  · cases hv
    have hR' : kRp g w2 T'.heap := by rw [e1]; exact hR2
    obtain ⟨t2, a2, b2⟩ := kr _ hres T'.heap (locs ++ L) ls hR' (fun q hq => by
      rcases List.mem_append.mp hq with z | z
      · exact bb q z
      · exact hL q z) h T' rfl (stand_tight hR' X')
    exact ⟨t2, stp t2 a2, b2⟩
  · have hR' : kRp g w2 T'.heap := by rw [e1]; exact hR2
    obtain ⟨t2, a2, b2⟩ := kt q hres T'.heap (locs ++ L) ls hR' (fun q hq => by
      rcases List.mem_append.mp hq with z | z
      · exact bb q z
      · exact hL q z) h ⟨ce, by rw [e1]; exact hce, hcv, by rw [← hE]; exact hcl⟩ T' rfl (stand_tight hR' X')
    exact ⟨t2, stp.trans a2, b2⟩
/-- .. goes on to the caller's caller -/
theorem x_callV {ρ : Type} (C : kOk g X cc nL own rt fr lo rv w1) {α : Type} (val : α → Option Value) {index : Nat} {y : MethodName} {b : ByteArray} {mL n : Nat} {ret : Option FieldType} (L : kLV own index y b mL ret n) {a ci N : Nat} {T : u_T} (hc : kcl[ci]? = some (y.cls, T, N)) (hi : oIs w a ci = true) {fr2 lo2 : Nat} {As st0 : List Value} {f : Option ((α ⊕ Nat) × Wd)} (hM : ∀ r w2, f = some (r, w2) → kMx (xl X) g y (ws_ y b mL ret) fr2 lo2 w (.ref a :: As) (kres val r) w2) (hR : fr2 + 1 ≤ fr ∧ 8 + (mL + 11) + lo2 ≤ lo) (hn : As.length = n) (hst : st0 = As.reverse ++ .ref a :: st) (hw : (st.map fun v => v.category).sum ≤ 8) (hdg : decode cc pc = .ok (.invokevirtual index, 3)) {A : α → Wd → Option ((ρ ⊕ Nat) × Wd)} {r9 : ρ ⊕ Nat} {w9 : Wd} (hz : ∀ q, r9 = .inr q → kTh g X w9 q) (hF : kbx f A = some (r9, w9)) (k : ∀ r w2, A r w2 = some (r9, w9) → kV g X nL w2 (pc + 3) lv ((val r).toList ++ st)) : kV g X nL w pc lv st0 := by
  cases hf : f with
  | none => rw [hf] at hF; cases hF
  | some q =>
    obtain ⟨r, w2⟩ := q
    rw [hf] at hF
    cases r with
    | inl v => exact v_callVX C L hc (oIs_of hi).choose_spec (hM _ w2 hf) hR hn hst hw hdg (fun r h => by cases h; exact k v w2 hF) (fun q h => by cases h)
    | inr q =>
      have hF : some ((.inr q : ρ ⊕ Nat), w2) = some (r9, w9) := hF
      cases hF
      exact v_callVX C L hc (oIs_of hi).choose_spec (hM (.inr q) _ hf) hR hn hst hw hdg (fun r h => by cases h) (fun q2 h H locs ls a1 b1 _ hW => by cases h; exact hz q rfl H locs ls pc st a1 b1 hW)
theorem x_throw {ρ : Type} (C : kOk g X cc nL own rt fr lo rv w1) {q : Nat} (hdg : decode cc pc = .ok (.athrow, 1)) {r9 : ρ ⊕ Nat} {w9 : Wd} (hz : ∀ q, r9 = .inr q → kTh g X w9 q) (hF : (if oIs w q 5 = true then some ((.inr q : ρ ⊕ Nat), w) else none) = some (r9, w9)) : kV g X nL w pc lv (.ref q :: st) := by
  obtain ⟨h1, h2⟩ := k_ite hF
  cases h2
  obtain ⟨fs, h3⟩ := oIs_of h1
  intro H locs ls a1 b h
  have hW : kWr X H q := by
    obtain ⟨⟨r, g1, cell, q1, q2, q3, q4⟩, haB⟩ := a1.1 q _ h3
    obtain ⟨hS, hfc, kC, hkC, hkind⟩ := C.2.2.2.2.2.1.1.1 5 _ rfl
    exact ⟨cell, q1, q3, by rw [q2]; exact hfc⟩
  exact vx_athrow C.1 C.2.1 hdg (hz q rfl H locs ls pc st a1 b hW)
theorem x_iret {v : Int32} {r : Int32 ⊕ Nat} {w2 : Wd} (CR : ∀ v, r = .inl v → kOk g X cc nL own (some .int) fr lo (some (.int v)) w2) (hdg : decode cc pc = .ok (.ireturn, 1)) (hF : some ((.inl v : Int32 ⊕ Nat), w) = some (r, w2)) : kV g X nL w pc lv [.int v] := by
  cases hF
  exact v_iret (CR v rfl) hdg
theorem x_vret {r : Unit ⊕ Nat} {w2 : Wd} (CR : ∀ v, r = .inl v → kOk g X cc nL own none fr lo none w2) (hdg : decode cc pc = .ok (.return_, 1)) (hF : some ((.inl () : Unit ⊕ Nat), w) = some (r, w2)) : kV g X nL w pc lv [] := by
  cases hF
  exact v_vret (CR () rfl) hdg
theorem x_aret {v : Nat} {r : Nat ⊕ Nat} {w2 : Wd} {rt0 : FieldType} (CR : ∀ v, r = .inl v → kOk g X cc nL own (some rt0) fr lo (some (.ref v)) w2) (hrt : (∃ n, rt0 = .object n) ∨ ∃ t, rt0 = .array t) (hdg : decode cc pc = .ok (.areturn, 1)) (hF : some ((.inl v : Nat ⊕ Nat), w) = some (r, w2)) : kV g X nL w pc lv [.ref v] := by
  cases hF
  exact v_aret (CR v rfl) hrt (Or.inr ⟨_, rfl⟩) hdg
/-- .. is caught here, by the first row of the table -/
theorem x_catchV (C : kOk g X cc nL own rt fr lo rv w1) {α : Type} (val : α → Option Value) {index : Nat} {y : MethodName} {b : ByteArray} {mL n : Nat} {ret : Option FieldType} (L : kLV own index y b mL ret n) {a ci N : Nat} {T : u_T} (hc : kcl[ci]? = some (y.cls, T, N)) (hi : oIs w a ci = true) {fr2 lo2 : Nat} {As st0 : List Value} {f : Option ((α ⊕ Nat) × Wd)} (hM : ∀ r w2, f = some (r, w2) → kMx (xl X) g y (ws_ y b mL ret) fr2 lo2 w (.ref a :: As) (kres val r) w2) (hR : fr2 + 1 ≤ fr ∧ 8 + (mL + 11) + lo2 ≤ lo) (hn : As.length = n) (hst : st0 = As.reverse ++ .ref a :: st) (hw : (st.map fun v => v.category).sum ≤ 8) (hdg : decode cc pc = .ok (.invokevirtual index, 3))
    {hh : List (Nat × Nat × Nat × Nat)} (HT : (xc X).exceptionTable.toList = tableOf hh) {x : ExceptionTableEntry} {suf : List ExceptionTableEntry} (hsp : tableOf hh = x :: suf) (hcov : covers x pc = true) (h0 : x.catchType ≠ 0) (hlk : Cond.classLink own x.catchType "CardLoom$Wrong" ∈ lw_all) {hpc : Nat} (hh2 : x.handlerPc = hpc)
    {A : α → Wd → Option β} {B : Nat → Wd → Option β} (hF : kbc f A B = some z) (k : ∀ r w2, A r w2 = some z → kV g X nL w2 (pc + 3) lv ((val r).toList ++ st)) (kh : ∀ q w2, B q w2 = some z → kV g X nL w2 hpc lv [.ref q]) : kV g X nL w pc lv st0 := by
  cases hf : f with
  | none => rw [hf] at hF; cases hF
  | some q =>
    obtain ⟨r, w2⟩ := q
    rw [hf] at hF
    cases r with
    | inl v => exact v_callVX C L hc (oIs_of hi).choose_spec (hM _ w2 hf) hR hn hst hw hdg (fun r h => by cases h; exact k v w2 hF) (fun q h => by cases h)
    | inr q =>
      have kh := kh q w2 hF
      refine v_callVX C L hc (oIs_of hi).choose_spec (hM _ w2 hf) hR hn hst hw hdg (fun r h => by cases h) (fun q2 h H locs ls a1 b1 hls hW => ?_)
      cases h
      obtain ⟨ce, c1, c2, c3⟩ := hW
      refine vx_catch (own := own) (name := "CardLoom$Wrong") (E := "CardLoom$Wrong") C.2.2.2.1 [] x suf (HT.trans hsp) (fun z hz => by cases hz) hcov h0 (C.2.2.2.2.1 _ hlk) (va_Nw.use (A := xa X) rfl (C.2.2.2.2.2.1.2.1 _ q295 rfl)) c1 c2 c3 ?_
      rw [hh2]
      exact kh H locs ls a1 b1 hls
end KX
section KY
variable {g : GT} {X : CxT} {cc : ByteArray} {nL : Nat} {own : String} {rt : Option FieldType} {fr lo : Nat} {rv : Option Value} {w1 w : Wd} {pc : Nat} {lv : List (Option Value)} {st : List Value}
theorem v_lswIn (C : kOk g X cc nL own rt fr lo rv w1) {dflt : Int} {ps : Array (Int × Int)} {len : Nat} {x : Int32} {off : Int} {tgt : Nat} (k : Int32) (hx : x = k) (hdg : decode cc pc = .ok (.lookupswitch dflt ps, len)) (hp : (ps.toList.zip (ps.toList.drop 1)).all (fun (a, next) => a.1 < next.1) = true) (ho : Op.lookupswitch.offset ps.toList dflt k.toInt = off) (ht : (pc : Int) + off = (tgt : Int)) (kk : kV g X nL w tgt lv st) : kV g X nL w pc lv (.int x :: st) := by
  subst hx
  exact fun H locs ls a b h => lv_lookup C.1 C.2.1 hdg hp ho ht (kk H locs ls a b h)
theorem lsw_out {x : Int32} {d : Int} : ∀ (ps : List (Int × Int)) (keys : List Int32), ps.map (·.1) = keys.map (·.toInt) → (∀ k ∈ keys, ¬ x = k) → Op.lookupswitch.offset ps d x.toInt = d
  | [], _, _, _ => rfl
  | _ :: _, [], h, _ => by cases h
  | q :: ps, k :: keys, h, hx => by
    have h := List.cons.inj h
    rw [show q = (q.1, q.2) from rfl, lv_osw (hx k List.mem_cons_self) h.1.symm]
    exact lsw_out ps keys h.2 (fun z hz => hx z (List.mem_cons_of_mem _ hz))
theorem v_lswOut (C : kOk g X cc nL own rt fr lo rv w1) {dflt : Int} {ps : Array (Int × Int)} {len : Nat} {x : Int32} {tgt : Nat} (keys : List Int32) (hx : ∀ k ∈ keys, ¬ x = k) (hdg : decode cc pc = .ok (.lookupswitch dflt ps, len)) (hp : (ps.toList.zip (ps.toList.drop 1)).all (fun (a, next) => a.1 < next.1) = true) (hk : ps.toList.map (·.1) = keys.map (·.toInt)) (ht : (pc : Int) + dflt = (tgt : Int)) (kk : kV g X nL w tgt lv st) : kV g X nL w pc lv (.int x :: st) :=
  fun H locs ls a b h => lv_lookup C.1 C.2.1 hdg hp (lsw_out _ keys hk hx) ht (kk H locs ls a b h)
end KY
theorem kMet_ofWH {l : Launch} {y : MethodName} {ws ws' : List Cond} {rm : Room} {Pc : Array Value → State → Prop} {Qc : Array Value → State → Outcome → State → Prop} {mc ms : Nat} {free : Addr → Prop} {cc : ByteArray} {maxL : Nat} {ret : Option FieldType} {hh : List (Nat × Nat × Nat × Nat)}
    (hy : plainName y.cls = true) (hw : ws = Cond.codeWith y cc maxL ret hh :: ws')
    (body : ∀ p e s m args below meth c s₁, BodyLoose p l y (headSpec ws rm) cc maxL ret e s m args below meth c s₁ → c.maxLocals = maxL → Pc args s →
      W p l e (headSpec ws rm).room s m args below meth c s.heap [] 0 0 (MQ below Qc args s mc ms free) (entryFrame m args maxL)) : Met l y ws rm Pc Qc mc ms free := by
  refine MetFree.of_bodyS (code := cc) (maxLocals := maxL) (ret := ret) hy ?_ ?_
  · intro args s m h hn
    obtain ⟨m9, meth, c, hn9, h1, h2, h3, h4, -, h5, h6, -⟩ := Cond.codeWith_spec (atoms_spec (ws := ws) h _ (by rw [hw]; exact List.mem_cons_self))
    cases hn.symm.trans hn9
    exact ⟨meth, c, h1, h2, h3, h4, h5, h6⟩
  · intro p e s m args below meth c s₁ B hml hP _
    have hh0 : s₁.heap = s.heap := by rw [B.state]; rfl
    obtain ⟨t, a1, o, b1, b2, b3⟩ := body p e s m args below meth c s₁ B hml hP s₁ hh0 (Stand.of_body B)
    exact ⟨t, o, a1, b1, b2, b3⟩
/-- a contract that leaves the heap one of some -/
def Qp (g : GT) (P : Int32 → Wd → Prop) : Array Value → State → Outcome → State → Prop := fun _ _ o t => ∃ r w, o = .returned (some (.int r)) ∧ kRp g w t.heap ∧ P r w
def kMp (l : Launch) (g : GT) (y : MethodName) (ws : List Cond) (fr lo : Nat) (w : Wd) (as : List Value) (P : Int32 → Wd → Prop) : Prop :=
  Met l y ws ({ frames := fr, cells := gcc g - w.2.1, slots := gcs g - w.2.2, locals := lo }) (Pk g w as) (Qp g P) (gcc g - w.2.1) (gcs g - w.2.2) (kfree g)
theorem kMp.ofV {l : Launch} {g : GT} {y : MethodName} {cc : ByteArray} {nL : Nat} {ret : Option FieldType} {hh : List (Nat × Nat × Nat × Nat)} {fr lo : Nat} {w : Wd} {as : List Value} {P : Int32 → Wd → Prop} {lv : List (Option Value)} {own : String} (hy : plainName y.cls = true) (ho : y.cls = own) (hl : (lg_sl as).length ≤ nL) (hv : lv_args 0 as = lvE 0 lv)
    (k : ∀ X : CxT, xl X = l → kHin X y → (xc X).exceptionTable.toList = tableOf hh → kOk g X cc nL own ret fr lo none (kBad g) → (∀ r w1, P r w1 → kOk g X cc nL own ret fr lo (some (.int r)) w1) → kV g X nL w 0 lv []) : kMp l g y (wsW_ y cc nL ret hh) fr lo w as P := by
  unfold kMp
  refine kMet_ofWH (cc := cc) (maxL := nL) (ret := ret) (hh := hh) hy rfl ?_
  intro p e s m args below meth c s₁ B hml hp
  obtain ⟨rfl, hR, hG⟩ := hp
  have hts0 := atoms_spec (ws := wsW_ y cc nL ret hh) B.pre
  have hts : ∀ w ∈ lw_all, w.before _ s = true := fun w h => hts0 w (List.mem_cons_of_mem _ h)
  have e1 : s.heap.size = w.2.1 := hR.2.1
  have e2 : khs s.heap = w.2.2 := hR.2.2.1
  have hle := lv_entry as (n := nL) hl
  rw [hv] at hle
  rw [lg_entry_eq]
  have base : ∀ (r : Option Value) (w9 : Wd), (∀ t, MQ below (Qk g r w9) as.toArray s (gcc g - s.heap.size) (gcs g - khs s.heap) (kfree g) t → MQ below (Qp g P) as.toArray s (gcc g - w.2.1) (gcs g - w.2.2) (kfree g) t) → kOk g (p, l, e, (headSpec (wsW_ y cc nL ret hh) ({ frames := fr, cells := gcc g - w.2.1, slots := gcs g - w.2.2, locals := lo })).room, s, m, as.toArray, below, meth, c, MQ below (Qp g P) as.toArray s (gcc g - w.2.1) (gcs g - w.2.2) (kfree g)) cc nL own ret fr lo r w9 := by
    intro r w9 hm
    exact ⟨B.exec, B.bytes, hml, by rw [← ho]; exact findClass_of_methodNamed B.named, hts, hG, B.notSynchronized, B.returns, ⟨rfl, rfl, by show gcc g - w.2.1 = _; rw [← e1], by show gcs g - w.2.2 = _; rw [← e2]⟩, hm⟩
  have := k (p, l, e, (headSpec (wsW_ y cc nL ret hh) ({ frames := fr, cells := gcc g - w.2.1, slots := gcs g - w.2.2, locals := lo })).room, s, m, as.toArray, below, meth, c, MQ below (Qp g P) as.toArray s (gcc g - w.2.1) (gcs g - w.2.2) (kfree g)) rfl ⟨(name_of_methodNamed B.named B.method).1, B.named⟩ (vx_table (x := y) B (hts0 _ List.mem_cons_self))
    (base _ _ fun t ht => by obtain ⟨o, -, -, ⟨-, h⟩, -⟩ := ht; exact (kBad_no h).elim)
    (fun r w1 hP => base _ _ fun t ht => by
      rw [e1, e2] at ht
      obtain ⟨o, h1, h2, ⟨h3, h4⟩, h5⟩ := ht
      exact ⟨o, h1, h2, ⟨r, w1, h3, h4, hP⟩, h5⟩) s.heap [] _ hR (fun q h => by cases h) hle
  have z1 : w.2.1 - s.heap.size = 0 := by omega
  have z2 : w.2.2 - khs s.heap = 0 := by omega
  have this : W p l e _ s m as.toArray below meth c s.heap [] (w.2.1 - s.heap.size) (w.2.2 - khs s.heap) _ _ := this
  rw [z1, z2] at this
  exact this
theorem kMp.mono {l : Launch} {g : GT} {y : MethodName} {ws : List Cond} {fr lo : Nat} {w : Wd} {as : List Value} {P : Int32 → Wd → Prop} (h : kMp l g y ws fr lo w as P) : kMp l g y ws fr lo w as P := h
