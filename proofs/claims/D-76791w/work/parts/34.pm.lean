set_option maxRecDepth 100000
theorem k_over7 {s : State} (hov : (Cond.arrayOver (.array .int)).before #[] s = true) : ∃ cA kA comp, s.vm.findClass "[[I" = some cA ∧ s.vm.classes[cA]? = some kA ∧ kA.kind = .array comp (.array .int) ∧ s.vm.findClass "[I" = some comp := by
  have hov2 := hov
  simp only [Cond.before, Cond.holds, Cond.value, beq_iff_eq] at hov2
  cases hc : s.vm.findClass (FieldType.array .int).toString with
  | none => simp [hc] at hov2
  | some comp =>
    simp only [hc, Option.bind_some, Option.bind_eq_some_iff, Option.map_eq_some_iff] at hov2
    obtain ⟨cA, hi, kA, hkA, hb⟩ := hov2
    obtain ⟨hlt, hp, -⟩ := Array.findIdx?_eq_some_iff_getElem.mp hi
    have hkk : s.vm.classes[cA] = kA := (Array.getElem?_eq_some_iff.mp hkA).2
    rw [hkk] at hp
    cases hkd : kA.kind with
    | array component ty =>
      rw [hkd] at hb hp
      simp at hb hp
      exact ⟨cA, kA, comp, hb.2, hkA, by rw [hkd, hp, hb.1], hc⟩
    | _ => rw [hkd] at hb; simp at hb
section KQ7
variable {g : GT} {X : CxT} {cc : ByteArray} {nL : Nat} {own : String} {rt : Option FieldType} {fr lo : Nat} {rv : Option Value} {w1 w : Wd} {pc : Nat} {lv : List (Option Value)} {st : List Value} {β : Type} {z : β}
theorem v_aSq7 (C : kOk g X cc nL own rt fr lo rv w1) (hX : ∀ U, gX g U → SX g U) {a v : Nat} {i : Int32} (hdg : decode cc pc = .ok (.aastore, 1)) {A : Wd → Option β} (hF : kob (aSQ7 g w a i v) A = some z) (kk : ∀ w2, A w2 = some z → kV g X nL w2 (pc + 1) lv st) : kV g X nL w pc lv (.ref v :: .int i :: .ref a :: st) := by
  obtain ⟨x, h0, h2⟩ := kob_of hF
  obtain ⟨hv0, h1⟩ := k_ite h0
  obtain ⟨xv, hxv⟩ := aIs_of hv0
  obtain ⟨q, h3, h4⟩ := kob_of h1
  obtain ⟨f, h5, h6⟩ := kob_of h4
  obtain ⟨h7, h8⟩ := k_ite h6
  cases h8
  have h9 := aC_of h3
  obtain ⟨n, hq⟩ : ∃ n, q = (n, .inr (.inr (.inr (.inr f)))) := ⟨q.1, xQ_of h5⟩
  subst hq
  have kk := kk _ h2
  obtain ⟨cA, kA, comp, k0, k1, k2, k3⟩ := k_over7 (hX _ C.2.2.2.2.2.1.2.2.1).2.2.2.2.2.2.2.2.2.2.2.2.1
  intro H locs ls a1 b h
  obtain ⟨hx, hb, hml, hown, hts, hG, -⟩ := C
  have e7 : (xs X).vm.findClass "[[I" = some (gA g 7) := (hG.1.2 7 _ (kty_at rfl)).2
  have e0 : (xs X).vm.findClass "[I" = some (gA g 0) := (hG.1.2 0 _ (kty_at rfl)).2
  cases k0.symm.trans e7
  cases k3.symm.trans e0
  have hcell : H[a]? = some (vp_cell (gA g 7) (n, .inr (.inr (.inr (.inr f))))) := (a1.1 a _ h9).1
  have hcellV : H[v]? = some (vp_cell (gA g 0) xv) := (a1.1 v _ hxv).1
  have haB := (a1.1 a _ h9).2
  obtain ⟨kE, hkE, -⟩ := Vm.findClass_spec e0
  have hin := kin_vp h7
  have hlt : i.toNatClampNeg < n := Nat.not_le.mp fun q => hin (Or.inr q)
  have hvc : (vp_cell (gA g 0) xv).cls = gA g 0 ∧ (vp_cell (gA g 0) xv).vm = .none := by
    obtain ⟨n1, f1 | f1 | f1 | f1 | f1⟩ := xv <;> exact ⟨rfl, rfl⟩
  refine W.aast hx hb hcell (fun q h => by cases h) (fun h => by cases h) k1 k2 rfl hkE ⟨fun q => hin (Or.inl q), by show _ < (arrV _ _ _).slots.size; rw [arrV_size]; exact hlt⟩ hcellV (fun q h => by rw [hvc.2] at h; cases h) (by rw [hvc.1]; exact hkE) (by rw [hvc.1]; exact Vm.assignable_self _ _) rfl rfl hdg fun H1 e z oq => ?_
  have e2 : H1[a]? = some (vp_cell (gA g 7) (n, .inr (.inr (.inr (.inr (va_up f i.toNatClampNeg (some v))))))) := by
    rw [e]
    rw [vp_cell_q, vp_cell_q, arrV_store]
    congr 2
    funext q
    by_cases hq : q = i.toNatClampNeg
    · subst hq
      simp [updV, va_up, va_rf]
    · simp [updV, va_up, hq]
  refine kk H1 _ ls (a1.set haB e2 z oq (fun c hc' => ?_)) (fun q hq => ?_) h
  · cases hcell.symm.trans hc'
    exact ⟨_, e2, by rw [vp_cell_q, vp_cell_q, arrV_size, arrV_size]⟩
  · rcases List.mem_append.mp hq with z | z
    · exact b q z
    · cases List.mem_singleton.mp z
      exact haB
end KQ7
/-! the machine's own throws, caught in the method: the new cells' number is only bounded -/
set_option maxRecDepth 100000
abbrev eAI : String := "java/lang/ArrayIndexOutOfBoundsException"
abbrev eNS : String := "java/lang/NegativeArraySizeException"
abbrev eNP : String := "java/lang/NullPointerException"
abbrev nAI : List String := ["java/lang/IndexOutOfBoundsException", "java/lang/RuntimeException", "java/lang/Exception"]
abbrev nNS : List String := ["java/lang/RuntimeException", "java/lang/Exception"]
/-- what else the start says, for these -/
def SZ (g : GT) (U : State) : Prop := va_Nc eAI eNP U ∧ vx_Zq Bundle.tN "UNASSIGNED_STACK" Bundle.steD (kBs g) U (gH g) ∧ vx_Zq Bundle.tN "SUPPRESSED_SENTINEL" Bundle.listD (kBs g) U (gH g)
def wX (w : Wd) (k s : Nat) : Wd := (w.1, w.2.1 + k, w.2.2 + s)
def kPz (r : Int32 ⊕ Int32) (w1 : Wd) (r9 : Int32) (w9 : Wd) : Prop := match r with
  | .inl v => r9 = v ∧ w9 = w1
  | .inr v => r9 = v ∧ ∃ k s, k ≤ 3 ∧ s ≤ 1024 ∧ w9 = wX w1 k s
theorem kMp.ofV2 {l : Launch} {g : GT} {y : MethodName} {cc : ByteArray} {nL : Nat} {ret : Option FieldType} {hh : List (Nat × Nat × Nat × Nat)} {fr lo : Nat} {w : Wd} {as : List Value} {P : Int32 → Wd → Prop} {lv : List (Option Value)} {own : String} (hy : plainName y.cls = true) (ho : y.cls = own) (hl : (lg_sl as).length ≤ nL) (hv : lv_args 0 as = lvE 0 lv)
    (k : ∀ X : CxT, xl X = l → kHin X y → (xc X).exceptionTable.toList = tableOf hh → kRp g w (xs X).heap → kOk g X cc nL own ret fr lo none (kBad g) → (∀ r w1, P r w1 → kOk g X cc nL own ret fr lo (some (.int r)) w1) → kV g X nL w 0 lv []) : kMp l g y (wsW_ y cc nL ret hh) fr lo w as P := by
  unfold kMp
  refine kMet_ofWH (cc := cc) (maxL := nL) (ret := ret) (hh := hh) hy rfl ?_
  intro p e s m args below meth c s₁ B hml hp
  obtain ⟨rfl, hR, hG⟩ := hp
  have hts0 := atoms_spec (ws := wsW_ y cc nL ret hh) B.pre
  have hts : ∀ w ∈ lw_all, w.before _ s = true := fun w h => hts0 w (List.mem_cons_of_mem _ h)
  have e1 : s.heap.size = w.2.1 := hR.2.1
  have e2 : khs s.heap = w.2.2 := hR.2.2.1
  have hle := lv_entry as (n := nL) hl
  rw [hv] at hle
  rw [lg_entry_eq]
  have base : ∀ (r : Option Value) (w9 : Wd), (∀ t, MQ below (Qk g r w9) as.toArray s (gcc g - s.heap.size) (gcs g - khs s.heap) (kfree g) t → MQ below (Qp g P) as.toArray s (gcc g - w.2.1) (gcs g - w.2.2) (kfree g) t) → kOk g (p, l, e, (headSpec (wsW_ y cc nL ret hh) ({ frames := fr, cells := gcc g - w.2.1, slots := gcs g - w.2.2, locals := lo })).room, s, m, as.toArray, below, meth, c, MQ below (Qp g P) as.toArray s (gcc g - w.2.1) (gcs g - w.2.2) (kfree g)) cc nL own ret fr lo r w9 := by
    intro r w9 hm
    exact ⟨B.exec, B.bytes, hml, by rw [← ho]; exact findClass_of_methodNamed B.named, hts, hG, B.notSynchronized, B.returns, ⟨rfl, rfl, by show gcc g - w.2.1 = _; rw [← e1], by show gcs g - w.2.2 = _; rw [← e2]⟩, hm⟩
  have := k (p, l, e, (headSpec (wsW_ y cc nL ret hh) ({ frames := fr, cells := gcc g - w.2.1, slots := gcs g - w.2.2, locals := lo })).room, s, m, as.toArray, below, meth, c, MQ below (Qp g P) as.toArray s (gcc g - w.2.1) (gcs g - w.2.2) (kfree g)) rfl ⟨(name_of_methodNamed B.named B.method).1, B.named⟩ (vx_table (x := y) B (hts0 _ List.mem_cons_self)) hR
    (base _ _ fun t ht => by obtain ⟨o, -, -, ⟨-, h⟩, -⟩ := ht; exact (kBad_no h).elim)
    (fun r w1 hP => base _ _ fun t ht => by
      rw [e1, e2] at ht
      obtain ⟨o, h1, h2, ⟨h3, h4⟩, h5⟩ := ht
      exact ⟨o, h1, h2, ⟨r, w1, h3, h4, hP⟩, h5⟩) s.heap [] _ hR (fun q h => by cases h) hle
  have z1 : w.2.1 - s.heap.size = 0 := by omega
  have z2 : w.2.2 - khs s.heap = 0 := by omega
  have this : W p l e _ s m as.toArray below meth c s.heap [] (w.2.1 - s.heap.size) (w.2.2 - khs s.heap) _ _ := this
  rw [z1, z2] at this
  exact this
theorem at_mem {big ws : List Cond} (ps : List Nat) (h : ws = ps.filterMap (fun i => big[i]?)) : ∀ w ∈ ws, w ∈ big := by
  intro w hw
  rw [h, List.mem_filterMap] at hw
  obtain ⟨i, -, hi⟩ := hw
  exact List.mem_of_getElem? hi
theorem kx_ot {w : Cond} (h : kx w = true) : w.onTables = true := by
  cases w <;> first | rfl | exact absurd h (by simp [kx])
/-- words out of the tables, at a state -/
theorem at_hold {g : GT} {X : CxT} {cc : ByteArray} {nL : Nat} {own : String} {rt : Option FieldType} {fr lo : Nat} {rv : Option Value} {w1 : Wd} (C : kOk g X cc nL own rt fr lo rv w1) {ws : List Cond} (hm : ∀ w ∈ ws, w ∈ lw_tbl) (hk : ws.all (fun w => goodWord w || kx w) = true) : ∀ w ∈ ws, w.before (xa X) (xs X) = true := by
  intro w hw
  have h := List.all_eq_true.mp hk w hw
  rw [Bool.or_eq_true] at h
  rcases h with h | h
  · exact C.2.2.2.2.1 w (lw_g (hm w hw) h)
  · have q := C.2.2.2.2.2.1.2.1 w (hm w hw) h
    exact va_Nw.use (A := xa X) (kx_ot h) q
/-- q of class E, thrown here -/
def kTq (g : GT) (X : CxT) (nL : Nat) (E : String) (w : Wd) (pc : Nat) (lv : List (Option Value)) (st : List Value) : Prop := ∀ (H : Heap) (locs : List Loc) (ls : Array Slot) (q : Nat), kRp g w H → (∀ z ∈ locs, gB g ≤ z.base) → lv_has ls nL (lvE 0 lv) → (∃ ce : Cell, H[q]? = some ce ∧ ce.vm = .none ∧ (xs X).vm.findClass E = some ce.cls) →
  vx_W (xp X) (xl X) (xe X) (xR X) (xs X) (xm X) (xa X) (xb X) (xh X) (xc X) H locs (w.2.1 - (xs X).heap.size) (w.2.2 - khs (xs X).heap) (xQ X) (F0 (xm X) pc ls st) q
section KP
variable {g : GT} {X : CxT} {cc : ByteArray} {nL : Nat} {own : String} {rt : Option FieldType} {fr lo : Nat} {rv : Option Value} {w1 w w0 : Wd} {pc : Nat} {lv : List (Option Value)} {st : List Value} {β : Type} {z : β}
/-- the heap has grown, not changed -/
theorem kRp.grown {H H1 : Heap} (a1 : kRp g w H) (h1 : H.size ≤ H1.size) (h2 : ∀ q : Nat, q < H.size → H1[q]? = H[q]?) {n1 n2 : Nat} (b1 : H1.size ≤ w.2.1 + n1) (b2 : khs H1 ≤ w.2.2 + n2) (r1 : w.2.1 + n1 ≤ gcc g) (r2 : w.2.2 + n2 ≤ gcs g) : ∃ k s, k ≤ n1 ∧ s ≤ n2 ∧ kRp g (wX w k s) H1 := by
  obtain ⟨c1, c2, c3, ⟨c4, c5, c6⟩, c7⟩ := a1
  have hh := khs_old (A := H) (B := H1) h1 (fun q c hq => ⟨c, by rw [h2 q (Array.getElem?_eq_some_iff.mp hq).1]; exact hq, rfl⟩)
  refine ⟨H1.size - w.2.1, khs H1 - w.2.2, by omega, by omega, ?_, ?_, ?_, ⟨?_, ?_, ?_⟩, ?_⟩
  · intro a e he
    obtain ⟨d1, d2⟩ := c1 a e he
    exact ⟨d1.kept (h2 a d1.lt), d2⟩
  · show H1.size = w.2.1 + (H1.size - w.2.1)
    omega
  · show khs H1 = w.2.2 + (khs H1 - w.2.2)
    omega
  · show gB g ≤ w.2.1 + (H1.size - w.2.1)
    omega
  · show w.2.1 + (H1.size - w.2.1) ≤ gcc g
    omega
  · show w.2.2 + (khs H1 - w.2.2) ≤ gcs g
    omega
  · intro q hq
    rw [h2 q (by omega)]
    exact c7 q hq
theorem zq_at (hZ : ∀ U, gX g U → SZ g U) (C : kOk g X cc nL own rt fr lo rv w1) (hR0 : kRp g w0 (xs X).heap) : vx_Zq Bundle.tN "UNASSIGNED_STACK" Bundle.steD (kBs g) (xs X) (xs X).heap ∧ vx_Zq Bundle.tN "SUPPRESSED_SENTINEL" Bundle.listD (kBs g) (xs X) (xs X).heap := by
  have h := hZ _ C.2.2.2.2.2.1.2.2.1
  have hq : ∀ a : Nat, a < (gH g).size → ¬ kBs g a → (xs X).heap[a]? = (gH g)[a]? := fun a _ ha => hR0.2.2.2.2 a (by have : ¬ gB g ≤ a := ha; omega)
  exact ⟨h.2.1.kept hq, h.2.2.kept hq⟩
/-- the counts of the heap behind a throw -/
theorem stand_counts {p : Program} {l : Launch} {e : Env} {R : Room} {s : State} {m : MethodId} {args : Array Value} {below : List Frame} {meth : Method} {c : Code} {T : State} {locs : List Loc} {cells slots : Nat} (Y : Stand p l e R s m args below meth c T locs cells slots) : T.heap.size ≤ s.heap.size + cells ∧ khs T.heap ≤ khs s.heap + slots := by
  obtain ⟨a1, a2, a3, a4, a5, a6⟩ := Y.same
  have b2 : s.heap.size ≤ T.heap.size := a2
  have hh := khs_old (A := s.heap) (B := T.heap) b2 (fun q c hq => by
    obtain ⟨c', h1, -, h2, -⟩ := a6 q c hq
    exact ⟨c', h1, h2⟩)
  have a3' : T.heap.size ≤ s.heap.size + cells := a3
  have a5' : ((T.heap.toList.drop s.heap.size).map (fun c => c.slots.size)).sum ≤ slots := a5
  exact ⟨a3', by omega⟩
/-- the machine notes an exception with a text -/
theorem p_note (C : kOk g X cc nL own rt fr lo rv w1) (hZ : ∀ U, gX g U → SZ g U) (hR0 : kRp g w0 (xs X).heap) (hst : (xl X).stackTraces = false) {E text : String} {names : List String} (hE : Bundle.fit E = true) (hns : ∀ n ∈ names, Bundle.fit n = true) (he : (E == "java/lang/StackOverflowError") = false ∧ (E == "java/lang/OutOfMemoryError") = false) (hmem : ∀ w ∈ vx_atM E names, w ∈ lw_tbl) (hk : (vx_atM E names).all (fun w => goodWord w || kx w) = true) (hot : (vx_atM E names).all vx_ot = true)
    (htx : (text == notModelled) = false) (hnb : (stringBytes (stringToUtf16 text)).size ≤ 1000) (hlen : names.length ≤ 4) (hroom : w.2.1 + 3 ≤ gcc g ∧ w.2.2 + 1024 ≤ gcs g) (hR : 9 ≤ fr ∧ 10300 ≤ lo) (hw : (st.map fun v => v.category).sum ≤ 8) (kk : ∀ k s, k ≤ 3 → s ≤ 1024 → kTq g X nL E (wX w k s) pc lv st)
    {H : Heap} {locs : List Loc} {ls : Array Slot} (a1 : kRp g w H) (b : ∀ z ∈ locs, gB g ≤ z.base) (h : lv_has ls nL (lvE 0 lv)) (z1 : (xs X).heap.size ≤ w.2.1) (z2 : khs (xs X).heap ≤ w.2.2) :
    vx_Note (xp X) (xl X) (xe X) (xR X) (xs X) (xm X) (xa X) (xb X) (xh X) (xc X) H locs (w.2.1 - (xs X).heap.size) (w.2.2 - khs (xs X).heap) (xQ X) (F0 (xm X) pc ls st) E text := by
  obtain ⟨hU, hN⟩ := zq_at hZ C hR0
  have hat := at_hold C hmem hk
  obtain ⟨hx, hb, hml, hown, hts, hG, hlk, -, ⟨r1, r2, r3, r4⟩, -⟩ := C
  have e1 : H.size = w.2.1 := a1.2.1
  refine vx_vm (nb := 1000) (A := kBs g) hx hst hE hns he.1 he.2 hat (fun w hw => List.all_eq_true.mp hot w hw) hU hN ⟨by omega, fun q hq hA => ?_, b⟩ (h.1.trans hml.symm) htx hnb (by omega) (by rw [r1]; omega) (by rw [r2]; omega) (by omega) (by rw [r3]; omega) (by rw [r4]; omega) hlk ?_
  · have hlt : q < gB g := by have : ¬ gB g ≤ q := hA; omega
    rw [a1.2.2.2.2 q hlt, hR0.2.2.2.2 q hlt]
  · intro H1 q9 ce h1 h2 h3 h4 h5 h6 T hT Y
    obtain ⟨n1, n2⟩ := stand_counts Y
    rw [hT] at n1 n2
    obtain ⟨k, s, hk1, hs1, hR1⟩ := a1.grown h1 h2 (n1 := 3) (n2 := 1024) (by omega) (by omega) hroom.1 hroom.2
    exact kk k s hk1 hs1 H1 locs ls q9 hR1 b h ⟨ce, h4, h5, h6⟩ T hT (stand_tight (by rw [hT]; exact hR1) Y)
theorem p_noteN (C : kOk g X cc nL own rt fr lo rv w1) (hZ : ∀ U, gX g U → SZ g U) (hR0 : kRp g w0 (xs X).heap) (hst : (xl X).stackTraces = false) (hmem : ∀ w ∈ vx_atN 8, w ∈ lw_tbl) (hk : (vx_atN 8).all (fun w => goodWord w || kx w) = true) (hot : (vx_atN 8).all vx_ot = true)
    (hroom : w.2.1 + 3 ≤ gcc g ∧ w.2.2 + 1024 ≤ gcs g) (hR : 9 ≤ fr ∧ 10300 ≤ lo) (hw : (st.map fun v => v.category).sum ≤ 8) (kk : ∀ k s, k ≤ 3 → s ≤ 1024 → kTq g X nL eNP (wX w k s) pc lv st)
    {H : Heap} {locs : List Loc} {ls : Array Slot} (a1 : kRp g w H) (b : ∀ z ∈ locs, gB g ≤ z.base) (h : lv_has ls nL (lvE 0 lv)) (z1 : (xs X).heap.size ≤ w.2.1) (z2 : khs (xs X).heap ≤ w.2.2) :
    vx_NoteN (xp X) (xl X) (xe X) (xR X) (xs X) (xm X) (xa X) (xb X) (xh X) (xc X) H locs (w.2.1 - (xs X).heap.size) (w.2.2 - khs (xs X).heap) (xQ X) (F0 (xm X) pc ls st) := by
  obtain ⟨hU, hN⟩ := zq_at hZ C hR0
  have hat := at_hold C hmem hk
  obtain ⟨hx, hb, hml, hown, hts, hG, hlk, -, ⟨r1, r2, r3, r4⟩, -⟩ := C
  have e1 : H.size = w.2.1 := a1.2.1
  refine vx_npe (nb := 8) (A := kBs g) hx hst hat (fun w hw => List.all_eq_true.mp hot w hw) hU hN ⟨by omega, fun q hq hA => ?_, b⟩ (h.1.trans hml.symm) (by rw [r1]; omega) (by rw [r2]; omega) (by rw [r3]; omega) (by rw [r4]; omega) hlk ?_
  · have hlt : q < gB g := by have : ¬ gB g ≤ q := hA; omega
    rw [a1.2.2.2.2 q hlt, hR0.2.2.2.2 q hlt]
  · intro H1 q9 ce h1 h2 h3 h4 h5 h6 T hT Y
    obtain ⟨n1, n2⟩ := stand_counts Y
    rw [hT] at n1 n2
    obtain ⟨k, s, hk1, hs1, hR1⟩ := a1.grown h1 h2 (n1 := 3) (n2 := 1024) (by omega) (by omega) hroom.1 hroom.2
    exact kk k s hk1 hs1 H1 locs ls q9 hR1 b h ⟨ce, h4, h5, h6⟩ T hT (stand_tight (by rw [hT]; exact hR1) Y)
/-- caught by its own entry -/
theorem p_catch (C : kOk g X cc nL "CardLoom" rt fr lo rv w1) (hZ : ∀ U, gX g U → SZ g U) {hh : List (Nat × Nat × Nat × Nat)} (HT : (xc X).exceptionTable.toList = tableOf hh) {E : String} {ct : Nat} (hlk : Cond.classLink "CardLoom" ct E ∈ lw_all) (hca : Cond.castable E E ∈ lw_tbl) (h0 : ct ≠ 0) (pre : List ExceptionTableEntry) {x : ExceptionTableEntry} {suf : List ExceptionTableEntry} (hsp : tableOf hh = pre ++ x :: suf) (hpre : ∀ z ∈ pre, covers z pc = false ∨ (E = eAI ∧ z.catchType = 468)) (hcov : covers x pc = true) (hct : x.catchType = ct) {hpc : Nat} (hh2 : x.handlerPc = hpc)
    (kk : ∀ q, kV g X nL w hpc lv [.ref q]) : kTq g X nL E w pc lv st := by
  intro H locs ls q a1 b h hq
  obtain ⟨ce, c1, c2, c3⟩ := hq
  refine vx_catch (own := "CardLoom") (name := E) (E := E) C.2.2.2.1 pre x suf (HT.trans hsp) (fun z hz => ?_) hcov (by rw [hct]; exact h0) (by rw [hct]; exact C.2.2.2.2.1 _ hlk) (va_Nw.use (A := xa X) rfl (C.2.2.2.2.2.1.2.1 _ hca rfl)) c1 c2 c3 ?_
  · rcases hpre z hz with h1 | ⟨h1, h2⟩
    · exact Or.inl h1
    · refine Or.inr ⟨by rw [h2]; decide, eNP, by rw [h2]; exact C.2.2.2.2.1 _ q2252, ?_⟩
      rw [h1]
      exact (hZ _ C.2.2.2.2.2.1.2.2.1).1
  · rw [hh2]
    exact kk q H locs ls a1 b h
end KP
theorem at_AI : ∀ w ∈ vx_atM eAI nAI, w ∈ lw_tbl := at_mem [87, 313, 322, 340, 343, 345, 314, 315, 142, 143, 316, 321, 341, 359, 303, 360, 305, 361, 307, 317, 319, 309, 2243, 2244, 358, 309, 2256, 2257, 2258, 2259, 2271, 2259, 2260, 2261, 2237, 1146, 2237, 2238, 2239, 2240, 297, 2240, 2241, 2242, 2243, 299, 95, 2122, 194, 2158, 2160, 2159, 2161, 135, 2255, 2269, 2272, 324, 2264, 2265, 2267, 2263, 312, 311, 2262] (by decide +kernel)
theorem at_NS : ∀ w ∈ vx_atM eNS nNS, w ∈ lw_tbl := at_mem [87, 313, 322, 340, 343, 345, 314, 315, 142, 143, 316, 321, 341, 359, 303, 360, 305, 361, 307, 317, 319, 309, 2243, 2244, 358, 309, 2234, 2235, 2236, 2237, 1146, 2237, 2238, 2239, 2240, 297, 2240, 2241, 2242, 2243, 299, 95, 2122, 194, 2158, 2160, 2159, 2161, 133, 2016, 2017, 2018, 325, 2019, 2020, 2021, 2022, 312, 311, 2023] (by decide +kernel)
theorem at_NP : ∀ w ∈ vx_atN 8, w ∈ lw_tbl := at_mem [87, 313, 322, 340, 343, 345, 314, 315, 142, 143, 316, 321, 341, 359, 303, 360, 305, 361, 307, 317, 319, 309, 337, 327, 328, 1163, 1165, 334, 335, 2253, 1154, 1155, 1156, 1157, 1145, 1157, 1158, 1159, 1160, 296, 1160, 1161, 1162, 314, 298, 113, 332, 1144, 1147, 326, 1148, 1149, 1150, 312, 311, 1152] (by decide +kernel)
/-- room for a throw -/
def pT {β : Type} (g : GT) (w : Wd) (f : Option β) : Option β := if w.2.1 + 3 ≤ gcc g ∧ w.2.2 + 1024 ≤ gcs g then f else none
/-- whether i is a place of the array -/
def aR (g : GT) (w : Wd) (a : Nat) (i : Int32) : Option Bool := kob (aC g w 0 a) (fun y => kob (xI y) (fun _ => if y.1 ≤ 1000000 then some (kin i y.1) else none))
def kpS {β : Type} (g : GT) (w : Wd) (ar : Option Nat) (i x : Int32) (A : Wd → Option β) (B1 B2 : Option β) : Option β := match ar with
  | none => pT g w B1
  | some a => kob (aR g w a i) (fun b => if b = true then kob (aSI g w 0 a i x) A else pT g w B2)
def kpL {β : Type} (g : GT) (w : Wd) (ar : Option Nat) (i : Int32) (A : Int32 → Option β) (B1 B2 : Option β) : Option β := match ar with
  | none => pT g w B1
  | some a => kob (aR g w a i) (fun b => if b = true then kob (aI g w 0 a i) A else pT g w B2)
def kpN {β : Type} (g : GT) (w : Wd) (n : Int32) (A : Nat → Wd → Option β) (B : Option β) : Option β := if n < 0 then pT g w B else kb (aNew g w 0 n (.inl (fun _ => 0))) A
theorem aR_of {g : GT} {w : Wd} {a : Nat} {i : Int32} {b : Bool} (h : aR g w a i = some b) : ∃ n f, w.1 a = some (.inl (.inl (gA g 0, n, .inl f))) ∧ n ≤ 1000000 ∧ kin i n = b := by
  obtain ⟨y, h1, h2⟩ := kob_of h
  obtain ⟨f, h3, h4⟩ := kob_of h2
  obtain ⟨h5, h6⟩ := k_ite h4
  have h7 := aC_of h1
  rw [xI_of h3] at h7
  exact ⟨y.1, f, h7, h5, Option.some.inj h6⟩
section KP2
variable {g : GT} {X : CxT} {cc : ByteArray} {nL : Nat} {rt : Option FieldType} {fr lo : Nat} {rv : Option Value} {w1 w w0 : Wd} {pc : Nat} {lv : List (Option Value)} {st : List Value} {β : Type} {z : β}
theorem p_oob (C : kOk g X cc nL "CardLoom" rt fr lo rv w1) (hZ : ∀ U, gX g U → SZ g U) (hR0 : kRp g w0 (xs X).heap) (hst : (xl X).stackTraces = false) (hroom : w.2.1 + 3 ≤ gcc g ∧ w.2.2 + 1024 ≤ gcs g) (hR : 9 ≤ fr ∧ 10300 ≤ lo) (hw : (st.map fun v => v.category).sum ≤ 8) (kk : ∀ k s, k ≤ 3 → s ≤ 1024 → kTq g X nL eAI (wX w k s) pc lv st) (i : Int32) {n : Nat} (hn : n ≤ 1000000) {H : Heap} {locs : List Loc} {ls : Array Slot} (a1 : kRp g w H) (b : ∀ z ∈ locs, gB g ≤ z.base) (h : lv_has ls nL (lvE 0 lv)) (z1 : (xs X).heap.size ≤ w.2.1) (z2 : khs (xs X).heap ≤ w.2.2) :
    ∀ tx : String, tx = (toString "Index " ++ toString i ++ toString " out of bounds for length " ++ toString n : String) → vx_Note (xp X) (xl X) (xe X) (xR X) (xs X) (xm X) (xa X) (xb X) (xh X) (xc X) H locs (w.2.1 - (xs X).heap.size) (w.2.2 - khs (xs X).heap) (xQ X) (F0 (xm X) pc ls st) eAI tx := by
  intro tx ht
  subst ht
  exact p_note C hZ hR0 hst (names := nAI) (by decide +kernel) (by decide +kernel) (by decide +kernel) at_AI (by decide +kernel) (by decide +kernel) (index_text_modelled i n) (Nat.le_trans (index_text_bytes i (by omega)) (by omega)) (by decide) hroom hR hw kk a1 b h z1 z2
theorem p_iast (C : kOk g X cc nL "CardLoom" rt fr lo rv w1) (hZ : ∀ U, gX g U → SZ g U) (hR0 : kRp g w0 (xs X).heap) (hst : (xl X).stackTraces = false) (hR : 9 ≤ fr ∧ 10300 ≤ lo) (hw : (st.map fun v => v.category).sum ≤ 8) {ar : Option Nat} {i x : Int32} (hdg : decode cc pc = .ok (.iastore, 1)) {A : Wd → Option β} {B1 B2 : Option β} (hF : kpS g w ar i x A B1 B2 = some z) (k1 : ∀ w2, A w2 = some z → kV g X nL w2 (pc + 1) lv st)
    (kN : B1 = some z → ∀ k s, k ≤ 3 → s ≤ 1024 → kTq g X nL eNP (wX w k s) pc lv st) (kO : B2 = some z → ∀ k s, k ≤ 3 → s ≤ 1024 → kTq g X nL eAI (wX w k s) pc lv st) : kV g X nL w pc lv (.int x :: .int i :: va_rf ar :: st) := by
  cases ar with
  | none =>
    obtain ⟨h1, h2⟩ := k_ite (show pT g w B1 = some z from hF)
    intro H locs ls a1 b h
    refine kW_tight a1 (fun z1 z2 => ?_)
    exact vx_iastoreN C.1 C.2.1 hdg (p_noteN C hZ hR0 hst at_NP (by decide +kernel) (by decide +kernel) h1 hR hw (kN h2) a1 b h z1 z2)
  | some a =>
    obtain ⟨b0, h1, h2⟩ := kob_of (show kob (aR g w a i) _ = some z from hF)
    by_cases hb : b0 = true
    · rw [if_pos hb] at h2
      exact v_aSi C hdg h2 k1
    · rw [if_neg hb] at h2
      obtain ⟨h3, h4⟩ := k_ite (show pT g w B2 = some z from h2)
      obtain ⟨n, f, h5, h6, h7⟩ := aR_of h1
      intro H locs ls a1 b h
      refine kW_tight a1 (fun z1 z2 => ?_)
      exact vx_iastZ C.1 C.2.1 C.2.2.2.2.2.1.1 (kP1 a1 h5) 0 0 rfl (kty_at rfl) (fun q => hb (by rw [← h7]; exact kin_of q)) hdg (p_oob C hZ hR0 hst h3 hR hw (kO h4) i h6 a1 b h z1 z2)
theorem p_iald (C : kOk g X cc nL "CardLoom" rt fr lo rv w1) (hZ : ∀ U, gX g U → SZ g U) (hR0 : kRp g w0 (xs X).heap) (hst : (xl X).stackTraces = false) (hR : 9 ≤ fr ∧ 10300 ≤ lo) (hw : (st.map fun v => v.category).sum ≤ 8) {ar : Option Nat} {i : Int32} (hdg : decode cc pc = .ok (.iaload, 1)) {A : Int32 → Option β} {B1 B2 : Option β} (hF : kpL g w ar i A B1 B2 = some z) (k1 : ∀ x, A x = some z → kV g X nL w (pc + 1) lv (.int x :: st))
    (kN : B1 = some z → ∀ k s, k ≤ 3 → s ≤ 1024 → kTq g X nL eNP (wX w k s) pc lv st) (kO : B2 = some z → ∀ k s, k ≤ 3 → s ≤ 1024 → kTq g X nL eAI (wX w k s) pc lv st) : kV g X nL w pc lv (.int i :: va_rf ar :: st) := by
  cases ar with
  | none =>
    obtain ⟨h1, h2⟩ := k_ite (show pT g w B1 = some z from hF)
    intro H locs ls a1 b h
    refine kW_tight a1 (fun z1 z2 => ?_)
    exact vx_ialoadN C.1 C.2.1 hdg (p_noteN C hZ hR0 hst at_NP (by decide +kernel) (by decide +kernel) h1 hR hw (kN h2) a1 b h z1 z2)
  | some a =>
    obtain ⟨b0, h1, h2⟩ := kob_of (show kob (aR g w a i) _ = some z from hF)
    by_cases hb : b0 = true
    · rw [if_pos hb] at h2
      exact v_aIi C hdg h2 k1
    · rw [if_neg hb] at h2
      obtain ⟨h3, h4⟩ := k_ite (show pT g w B2 = some z from h2)
      obtain ⟨n, f, h5, h6, h7⟩ := aR_of h1
      intro H locs ls a1 b h
      refine kW_tight a1 (fun z1 z2 => ?_)
      exact vx_ialdZ C.1 C.2.1 C.2.2.2.2.2.1.1 (kP1 a1 h5) 0 0 rfl (kty_at rfl) (fun q => hb (by rw [← h7]; exact kin_of q)) hdg (p_oob C hZ hR0 hst h3 hR hw (kO h4) i h6 a1 b h z1 z2)
theorem p_newa (C : kOk g X cc nL "CardLoom" rt fr lo rv w1) (hZ : ∀ U, gX g U → SZ g U) (hR0 : kRp g w0 (xs X).heap) (hst : (xl X).stackTraces = false) (hR : 9 ≤ fr ∧ 10300 ≤ lo) (hw : (st.map fun v => v.category).sum ≤ 8) {n : Int32} (hdg : decode cc pc = .ok (.newarray .int, 2)) {A : Nat → Wd → Option β} {B : Option β} (hF : kpN g w n A B = some z) (k1 : ∀ a w2, A a w2 = some z → kV g X nL w2 (pc + 2) lv (.ref a :: st))
    (kO : B = some z → ∀ k s, k ≤ 3 → s ≤ 1024 → kTq g X nL eNS (wX w k s) pc lv st) : kV g X nL w pc lv (.int n :: st) := by
  unfold kpN at hF
  by_cases hn : n < 0
  · rw [if_pos hn] at hF
    obtain ⟨h3, h4⟩ := k_ite (show pT g w B = some z from hF)
    intro H locs ls a1 b h
    refine kW_tight a1 (fun z1 z2 => ?_)
    refine vx_newarrayZ C.1 C.2.1 hn hdg (fun tx ht => ?_)
    subst ht
    exact p_note C hZ hR0 hst (names := nNS) (by decide +kernel) (by decide +kernel) (by decide +kernel) at_NS (by decide +kernel) (by decide +kernel) (negative_text_modelled hn) (Nat.le_trans (negative_text_bytes n) (by omega)) (by decide) h3 hR hw (kO h4) a1 b h z1 z2
  · rw [if_neg hn] at hF
    exact v_newaW C (atype := .int) q195 rfl (t := 0) rfl rfl (fun cA N => rfl) (Nat.le_of_ble_eq_true rfl) hdg hF k1
theorem p_iret {v : Int32} {r : Int32 ⊕ Int32} (CP : ∀ r9 w9, kPz r w1 r9 w9 → kOk g X cc nL "CardLoom" (some .int) fr lo (some (.int r9)) w9) (hdg : decode cc pc = .ok (.ireturn, 1)) (hF : some ((.inl v : Int32 ⊕ Int32), w) = some (r, w1)) : kV g X nL w pc lv [.int v] := by
  cases hF
  exact v_iret (CP _ _ ⟨rfl, rfl⟩) hdg
theorem p_hret {v : Int32} {r : Int32 ⊕ Int32} {k s : Nat} (CP : ∀ r9 w9, kPz r w1 r9 w9 → kOk g X cc nL "CardLoom" (some .int) fr lo (some (.int r9)) w9) (hk : k ≤ 3) (hs : s ≤ 1024) (hdg : decode cc pc = .ok (.ireturn, 1)) (hF : some ((.inr v : Int32 ⊕ Int32), w) = some (r, w1)) : kV g X nL (wX w k s) pc lv [.int v] := by
  cases hF
  exact v_iret (CP _ _ ⟨rfl, k, s, hk, hs, rfl⟩) hdg
end KP2
