set_option maxRecDepth 100000
/-- a lambda's object: site i, what it captured -/
def lNew (g : GT) (w : Wd) (i : Nat) (vs : List Value) : Option (Nat × Wd) := if w.2.1 + 1 ≤ gcc g ∧ w.2.2 + vs.length ≤ gcs g then some (w.2.1, (kup w.1 w.2.1 (some (.inr (i, vs))), w.2.1 + 1, w.2.2 + vs.length)) else none
/-- an array of int arrays -/
def aSQ7 (g : GT) (w : Wd) (a : Nat) (i : Int32) (v : Nat) : Option Wd := if aIs g w 0 v = true then aSQ g w 7 a i (some v) else none
/-- a new grid: the outer array, behind it n arrays of k zeros -/
def aGr (g : GT) (w : Wd) (n k i : Nat) : Wd := (fun a => if a = w.2.1 then some (.inl (.inl (gA g 7, n, .inr (.inr (.inr (.inr (fun j => if j < i then some (w.2.1 + 1 + j) else none))))))) else if w.2.1 < a ∧ a ≤ w.2.1 + i then some (.inl (.inl (gA g 0, k, .inl (fun _ => 0)))) else w.1 a, w.2.1 + 1 + i, w.2.2 + n + i * k)
def aNew2 (g : GT) (w : Wd) (n k : Int32) : Option (Nat × Wd) := if ¬ n < 0 ∧ ¬ k < 0 ∧ n.toNatClampNeg ≤ 100 ∧ k.toNatClampNeg ≤ 100 ∧ w.2.1 + (1 + n.toNatClampNeg) ≤ gcc g ∧ w.2.2 + (n.toNatClampNeg + n.toNatClampNeg * k.toNatClampNeg) ≤ gcs g then
    some (w.2.1, aGr g w n.toNatClampNeg k.toNatClampNeg n.toNatClampNeg) else none
theorem outer_eq (cA : ClassId) (n h0 : Nat) : ∀ i, i ≤ n → Jvm.Free.Multi.outerC cA n h0 i = vp_cell cA (n, .inr (.inr (.inr (.inr (fun j => if j < i then some (h0 + 1 + j) else none)))))
  | 0, _ => by
    rw [vp_cell_q]
    exact (arrV_new cA n Value.null).trans (congrArg (arrV cA n) (funext fun j => by simp [va_rf]))
  | i + 1, hi => by
    rw [vp_cell_q]
    show (Jvm.Free.Multi.outerC cA n h0 i).setSlot i (.ref (h0 + 1 + i)) = _
    rw [outer_eq cA n h0 i (by omega), vp_cell_q, arrV_store]
    refine congrArg (arrV cA n) (funext fun j => ?_)
    by_cases hj : j = i
    · subst hj
      simp [updV, va_rf]
    · by_cases hl : j < i
      · have : j < i + 1 := by omega
        simp [updV, hj, hl, this, va_rf]
      · have : ¬ j < i + 1 := by omega
        simp [updV, hj, hl, this, va_rf]
theorem inner_eq (comp : ClassId) (k : Nat) : Jvm.Free.Multi.innerC comp k (.int 0) = vp_cell comp (k, .inl (fun _ => 0)) := by
  show ({ cls := comp, slots := Array.replicate k (.int 0), vm := .none } : Cell) = arrV comp k (fun _ => .int 0)
  exact arrV_new comp k (.int 0)
theorem kGr_ok {g : GT} {w : Wd} {s : State} (hR : kRp g w s.heap) {cA comp : ClassId} (hA : cA = gA g 7) (hB : comp = gA g 0) {n k : Nat} (h1 : w.2.1 + (1 + n) ≤ gcc g) (h2 : w.2.2 + (n + n * k) ≤ gcs g) : ∀ i, i ≤ n → kRp g (aGr g w n k i) (Jvm.Free.Multi.fill s cA comp n k (.int 0) i).heap := by
  subst hA; subst hB
  have hs : s.heap.size = w.2.1 := hR.2.1
  intro i
  induction i with
  | zero =>
    intro _
    have f := Jvm.Free.Multi.fill_facts s (gA g 7) (gA g 0) n k (.int 0) 0
    have hc := f.2.1
    rw [outer_eq _ _ _ _ (Nat.zero_le _)] at hc
    have p := hR.push (H1 := (Jvm.Free.Multi.fill s (gA g 7) (gA g 0) n k (.int 0) 0).heap) (e := .inl (.inl (gA g 7, n, .inr (.inr (.inr (.inr (fun j => if j < 0 then some (s.heap.size + 1 + j) else none))))))) hc f.1 hc (fun q hq => Jvm.Free.Multi.fill_old s _ _ n k _ hq 0) (n := n) (arrV_size _ _ _) ⟨by omega, by omega⟩
    have e : aGr g w n k 0 = (kup w.1 w.2.1 (some (.inl (.inl (gA g 7, n, .inr (.inr (.inr (.inr (fun j => if j < 0 then some (s.heap.size + 1 + j) else none)))))))), w.2.1 + 1, w.2.2 + n) := by
      unfold aGr kup
      refine Prod.ext (funext fun a => ?_) (Prod.ext rfl (by simp))
      by_cases ha : a = w.2.1
      · simp [ha]
      · have : ¬ (w.2.1 < a ∧ a ≤ w.2.1 + 0) := by omega
        simp only [ha, this, if_false]
    rw [e]
    exact p
  | succ i ih =>
    intro hi
    have p0 := ih (by omega)
    have f := Jvm.Free.Multi.fill_facts s (gA g 7) (gA g 0) n k (.int 0) i
    have f2 := Jvm.Free.Multi.fill_facts s (gA g 7) (gA g 0) n k (.int 0) (i + 1)
    have hik : (i + 1) * k ≤ n * k := Nat.mul_le_mul_right k hi
    have hsk : (i + 1) * k = i * k + k := Nat.succ_mul i k
    have hpz : (aGr g w n k i).2.1 = w.2.1 + 1 + i := rfl
    have hpsl : (aGr g w n k i).2.2 = w.2.2 + n + i * k := rfl
    have hnew : ((Jvm.Free.Multi.fill s (gA g 7) (gA g 0) n k (.int 0) i).pushCell (Jvm.Free.Multi.innerC (gA g 0) k (.int 0))).heap[(Jvm.Free.Multi.fill s (gA g 7) (gA g 0) n k (.int 0) i).heap.size]? = some (vp_cell (gA g 0) (k, .inl (fun _ => 0))) := by
      rw [← inner_eq]
      exact State.heap_pushCell_size _ _
    have p1 := p0.push (H1 := ((Jvm.Free.Multi.fill s (gA g 7) (gA g 0) n k (.int 0) i).pushCell (Jvm.Free.Multi.innerC (gA g 0) k (.int 0))).heap) (e := .inl (.inl (gA g 0, k, .inl (fun _ => 0)))) hnew (by simp [State.pushCell]) hnew (fun q hq => State.heap_pushCell_of_lt _ _ hq) (n := k) (arrV_size _ _ _) ⟨by rw [hpz]; omega, by rw [hpsl]; omega⟩
    have hfin := f2.2.1
    rw [outer_eq _ _ _ _ hi] at hfin
    have hold : ((Jvm.Free.Multi.fill s (gA g 7) (gA g 0) n k (.int 0) i).pushCell (Jvm.Free.Multi.innerC (gA g 0) k (.int 0))).heap[s.heap.size]? = some (Jvm.Free.Multi.outerC (gA g 7) n s.heap.size i) := by
      have hlt : s.heap.size < (Jvm.Free.Multi.fill s (gA g 7) (gA g 0) n k (.int 0) i).heap.size := by rw [f.1]; omega
      exact (State.heap_pushCell_of_lt _ _ hlt).trans f.2.1
    have p2 := p1.set (a := s.heap.size) (H1 := (Jvm.Free.Multi.fill s (gA g 7) (gA g 0) n k (.int 0) (i + 1)).heap) (e := .inl (.inl (gA g 7, n, .inr (.inr (.inr (.inr (fun j => if j < i + 1 then some (s.heap.size + 1 + j) else none))))))) (by rw [hs]; exact hR.2.2.2.1.1) hfin (by rw [f2.1]; simp [State.pushCell, f.1]; omega) (fun q hq => by
        show (((Jvm.Free.Multi.fill s (gA g 7) (gA g 0) n k (.int 0) i).pushCell (Jvm.Free.Multi.innerC (gA g 0) k (.int 0))).heap.setIfInBounds s.heap.size _)[q]? = _
        simp [Array.getElem?_setIfInBounds, Ne.symm hq]) (fun c hc => by
        cases hold.symm.trans hc
        exact ⟨_, hfin, by rw [(Jvm.Free.Multi.outerC_facts (gA g 7) n s.heap.size i).2.2]; exact arrV_size _ _ _⟩)
    have e : aGr g w n k (i + 1) = (kup (kup (aGr g w n k i).1 (aGr g w n k i).2.1 (some (.inl (.inl (gA g 0, k, .inl (fun _ => 0)))))) s.heap.size (some (.inl (.inl (gA g 7, n, .inr (.inr (.inr (.inr (fun j => if j < i + 1 then some (s.heap.size + 1 + j) else none)))))))), (aGr g w n k i).2.1 + 1, (aGr g w n k i).2.2 + k) := by
      unfold aGr kup
      refine Prod.ext (funext fun a => ?_) (Prod.ext (by show w.2.1 + 1 + (i + 1) = w.2.1 + 1 + i + 1; omega) (by show w.2.2 + n + (i + 1) * k = w.2.2 + n + i * k + k; omega))
      rw [hs]
      dsimp only
      by_cases ha : a = w.2.1
      · simp [ha]
      · by_cases hb : a = w.2.1 + 1 + i
        · have : w.2.1 < a ∧ a ≤ w.2.1 + (i + 1) := by omega
          rw [if_neg ha, if_pos this, if_neg ha, if_pos hb]
        · by_cases hc : w.2.1 < a ∧ a ≤ w.2.1 + i
          · have : w.2.1 < a ∧ a ≤ w.2.1 + (i + 1) := by omega
            simp only [ha, hb, hc, this, and_self, if_true, if_false]
          · have : ¬ (w.2.1 < a ∧ a ≤ w.2.1 + (i + 1)) := by omega
            simp only [ha, hb, hc, this, if_false]
    rw [e]
    exact p2
theorem k_anewArr {p : Program} {l : Launch} {e : Env} {R : Room} {s : State} {m : MethodId} {args : Array Value} {below : List Frame} {meth : Method} {c : Code} {T : State} {locs : List Loc} {cells slots : Nat} (X : Stand p l e R s m args below meth c T locs cells slots) (hexec : p.tables.exec = Jvm.exec) {own : String} {index : Nat} (hown : s.vm.findClass own = some m.cls) (hcl : (Cond.classLink own index "[I").before args s = true) (hov : (Cond.arrayOver (.array .int)).before args s = true)
    {f : JFrame} (hg : f.method = m) (hdg : decode c.code f.pc = .ok (.anewarray index, 3)) {n : Int32} {rest : List Value} (hst : f.stack = .int n :: rest) (hn : ¬ n < 0) (hby : n.toNatClampNeg * 4 ≤ 536870912) (hc1 : cells + 1 ≤ R.cells) (hs1 : slots + n.toNatClampNeg ≤ R.slots) :
    ∃ (vm₁ : Vm) (cA : ClassId), s.vm.findClass "[[I" = some cA ∧ Stand p l e R s m args below meth c ((T.setVm vm₁).pushCell { cls := cA, slots := Array.replicate n.toNatClampNeg .null, vm := .none }) locs (cells + 1) (slots + n.toNatClampNeg) ∧
      ∀ target, Steps p.tables e below (((T.setVm vm₁).pushCell { cls := cA, slots := Array.replicate n.toNatClampNeg .null, vm := .none }).setTop { f with pc := f.pc + 3, stack := .ref T.heap.size :: rest }) target → Steps p.tables e below (T.setTop f) target := by
  subst hg
  have hpl : e.platform.magicAccessors = ({} : Platform).magicAccessors := by rw [X.admits.platform]
  have hov2 := hov
  simp only [Cond.before, Cond.holds, Cond.value, beq_iff_eq] at hov2
  cases hc : s.vm.findClass (FieldType.array .int).toString with
  | none => simp [hc] at hov2
  | some comp =>
    simp only [hc, Option.bind_some, Option.bind_eq_some_iff, Option.map_eq_some_iff] at hov2
    obtain ⟨cA, hi, kA, hkA, hb⟩ := hov2
    obtain ⟨hlt, hp, -⟩ := Array.findIdx?_eq_some_iff_getElem.mp hi
    have hkk : s.vm.classes[cA] = kA := (Array.getElem?_eq_some_iff.mp hkA).2
    rw [hkk] at hp
    obtain ⟨hkind, hname⟩ : kA.kind = .array comp (.array .int) ∧ s.vm.findClass "[[I" = some cA := by
      cases hkd : kA.kind with
      | array component ty =>
        rw [hkd] at hb hp
        simp at hb hp
        exact ⟨by rw [hp, hb.1], hb.2⟩
      | _ => rw [hkd] at hb; simp at hb
    obtain ⟨kC, hkC, -⟩ := Vm.findClass_spec hc
    obtain ⟨c2, hf2, hl2⟩ := Cond.classLink_spec hown hcl e.platform hpl
    cases hc.symm.trans hf2
    obtain ⟨q1, q2, q3⟩ := State.classEntry (e := e) X.warmed hl2
    generalize T.vm.noted f.method.cls index (.cls comp) = vm₁ at q1 q2 q3
    have hal : s.vm.Alike vm₁ := q2.alike
    obtain ⟨kC1, hkC1, -⟩ := hal.2.2 _ _ hkC
    obtain ⟨kA1, hkA1, heA⟩ := hal.2.2 _ _ hkA
    have hkd1 : kA1.kind = .array comp (.array .int) := by rw [heA]; exact hkind
    have hi1 : (vm₁.classes.findIdx? fun x => match x.kind with | .array component _ => component == comp | _ => false) = some cA := by
      rw [hal.findIdx?_eqK _ (fun _ => rfl)]; exact hi
    have hlim : ¬ n.toNatClampNeg > e.platform.arrayLengthLimit := by rw [Launch.admits_arrayLengthLimit X.admits]; omega
    have hhp : ¬ n.toNatClampNeg * componentBytes (.array .int) > e.platform.maxHeapBytes := by
      rw [Launch.admits_maxHeapBytes X.admits]; show ¬ n.toNatClampNeg * 4 > 536870912; omega
    have X2 := (X.noted q2).pushed { cls := cA, slots := Array.replicate n.toNatClampNeg .null, vm := .none }
    obtain ⟨g1, g2⟩ := X.roomAbove hc1 hs1
    refine ⟨vm₁, cA, hname, by simpa using X2, fun target hrest => ?_⟩
    jvm_step X.here [hexec, hdg, anewarray.wp_cold (e := e) (s := T) (f := f) X.here.top q1 q3, anewarray.wp_ready (e := e) (s := T.setVm vm₁) (f := f) (kc := kC1) (k := kA1) (type := .array .int) X.here.top q3 hkC1 hi1 hkA1 hkd1 rfl hst hn hlim hhp]
    exact ⟨by show T.heap.size < _; omega, by show T.slotsUsed + _ ≤ _; exact g2, hrest⟩
theorem la_2 : ((({ iface := "CardLoom$Law", name := "of", sam := { parameters := [.int, .int, .int], returnType := some (.object "CardLoom$Turning") }, captured := [(.object "CardLoom$Turning")], kind := 6, implClass := "CardLoom", implName := "lambda$always$0", implDesc := { parameters := [(.object "CardLoom$Turning"), .int, .int, .int], returnType := some (.object "CardLoom$Turning") }, implItf := false, inst := { parameters := [.int, .int, .int], returnType := some (.object "CardLoom$Turning") } } : Lambda.Shape).file "CardLoom").bind (layoutFields · 0)).map (·.2.1) = some #[(.object "CardLoom$Turning")] := by decide +kernel
theorem la_3 : ((({ iface := "CardLoom$Law", name := "of", sam := { parameters := [.int, .int, .int], returnType := some (.object "CardLoom$Turning") }, captured := [.int, (.object "CardLoom$Law"), (.object "CardLoom$Law")], kind := 6, implClass := "CardLoom", implName := "lambda$inTurn$1", implDesc := { parameters := [.int, (.object "CardLoom$Law"), (.object "CardLoom$Law"), .int, .int, .int], returnType := some (.object "CardLoom$Turning") }, implItf := false, inst := { parameters := [.int, .int, .int], returnType := some (.object "CardLoom$Turning") } } : Lambda.Shape).file "CardLoom").bind (layoutFields · 0)).map (·.2.1) = some #[.int, (.object "CardLoom$Law"), (.object "CardLoom$Law")] := by decide +kernel
theorem la_4 : ((({ iface := "CardLoom$Law", name := "of", sam := { parameters := [.int, .int, .int], returnType := some (.object "CardLoom$Turning") }, captured := [.int, (.object "CardLoom$Law"), (.object "CardLoom$Law")], kind := 6, implClass := "CardLoom", implName := "lambda$byCards$2", implDesc := { parameters := [.int, (.object "CardLoom$Law"), (.object "CardLoom$Law"), .int, .int, .int], returnType := some (.object "CardLoom$Turning") }, implItf := false, inst := { parameters := [.int, .int, .int], returnType := some (.object "CardLoom$Turning") } } : Lambda.Shape).file "CardLoom").bind (layoutFields · 0)).map (·.2.1) = some #[.int, (.object "CardLoom$Law"), (.object "CardLoom$Law")] := by decide +kernel
theorem la_5 : ((({ iface := "CardLoom$Law", name := "of", sam := { parameters := [.int, .int, .int], returnType := some (.object "CardLoom$Turning") }, captured := [.int, (.object "CardLoom$Law"), (.object "CardLoom$Law")], kind := 6, implClass := "CardLoom", implName := "lambda$eachOf$3", implDesc := { parameters := [.int, (.object "CardLoom$Law"), (.object "CardLoom$Law"), .int, .int, .int], returnType := some (.object "CardLoom$Turning") }, implItf := false, inst := { parameters := [.int, .int, .int], returnType := some (.object "CardLoom$Turning") } } : Lambda.Shape).file "CardLoom").bind (layoutFields · 0)).map (·.2.1) = some #[.int, (.object "CardLoom$Law"), (.object "CardLoom$Law")] := by decide +kernel
theorem la_6 : ((({ iface := "CardLoom$Law", name := "of", sam := { parameters := [.int, .int, .int], returnType := some (.object "CardLoom$Turning") }, captured := [(.object "CardLoom$Law"), .int], kind := 6, implClass := "CardLoom", implName := "lambda$later$4", implDesc := { parameters := [(.object "CardLoom$Law"), .int, .int, .int, .int], returnType := some (.object "CardLoom$Turning") }, implItf := false, inst := { parameters := [.int, .int, .int], returnType := some (.object "CardLoom$Turning") } } : Lambda.Shape).file "CardLoom").bind (layoutFields · 0)).map (·.2.1) = some #[(.object "CardLoom$Law"), .int] := by decide +kernel
theorem la_7 : ((({ iface := "CardLoom$Law", name := "of", sam := { parameters := [.int, .int, .int], returnType := some (.object "CardLoom$Turning") }, captured := [(.object "CardLoom$Law")], kind := 6, implClass := "CardLoom", implName := "lambda$slanting$5", implDesc := { parameters := [(.object "CardLoom$Law"), .int, .int, .int], returnType := some (.object "CardLoom$Turning") }, implItf := false, inst := { parameters := [.int, .int, .int], returnType := some (.object "CardLoom$Turning") } } : Lambda.Shape).file "CardLoom").bind (layoutFields · 0)).map (·.2.1) = some #[(.object "CardLoom$Law")] := by decide +kernel
theorem la_8 : ((({ iface := "CardLoom$Law", name := "of", sam := { parameters := [.int, .int, .int], returnType := some (.object "CardLoom$Turning") }, captured := [(.object "CardLoom$Law")], kind := 6, implClass := "CardLoom", implName := "lambda$reversed$6", implDesc := { parameters := [(.object "CardLoom$Law"), .int, .int, .int], returnType := some (.object "CardLoom$Turning") }, implItf := false, inst := { parameters := [.int, .int, .int], returnType := some (.object "CardLoom$Turning") } } : Lambda.Shape).file "CardLoom").bind (layoutFields · 0)).map (·.2.1) = some #[(.object "CardLoom$Law")] := by decide +kernel
theorem la_9 : ((({ iface := "CardLoom$Law", name := "of", sam := { parameters := [.int, .int, .int], returnType := some (.object "CardLoom$Turning") }, captured := [(.object "CardLoom$Law")], kind := 6, implClass := "CardLoom", implName := "lambda$mirrored$7", implDesc := { parameters := [(.object "CardLoom$Law"), .int, .int, .int], returnType := some (.object "CardLoom$Turning") }, implItf := false, inst := { parameters := [.int, .int, .int], returnType := some (.object "CardLoom$Turning") } } : Lambda.Shape).file "CardLoom").bind (layoutFields · 0)).map (·.2.1) = some #[(.object "CardLoom$Law")] := by decide +kernel
theorem la_10 : ((({ iface := "CardLoom$Law", name := "of", sam := { parameters := [.int, .int, .int], returnType := some (.object "CardLoom$Turning") }, captured := [(.object "CardLoom$Law"), (.object "CardLoom$Law")], kind := 6, implClass := "CardLoom", implName := "lambda$first$8", implDesc := { parameters := [(.object "CardLoom$Law"), (.object "CardLoom$Law"), .int, .int, .int], returnType := some (.object "CardLoom$Turning") }, implItf := false, inst := { parameters := [.int, .int, .int], returnType := some (.object "CardLoom$Turning") } } : Lambda.Shape).file "CardLoom").bind (layoutFields · 0)).map (·.2.1) = some #[(.object "CardLoom$Law"), (.object "CardLoom$Law")] := by decide +kernel
theorem la_11 : ((({ iface := "CardLoom$Asks", name := "isSo", sam := { parameters := [.object "java/util/ArrayList"], returnType := some .boolean }, captured := [.object "CardLoom"], kind := 5, implClass := "CardLoom", implName := "areAsNow", implDesc := { parameters := [.object "java/util/ArrayList"], returnType := some .boolean }, implItf := false, inst := { parameters := [.object "java/util/ArrayList"], returnType := some .boolean } } : Lambda.Shape).file "CardLoom").bind (layoutFields · 0)).map (·.2.1) = some #[.object "CardLoom"] := by decide +kernel
section KK
variable {g : GT} {X : CxT} {cc : ByteArray} {nL : Nat} {own : String} {rt : Option FieldType} {fr lo : Nat} {rv : Option Value} {w1 w : Wd} {pc : Nat} {lv : List (Option Value)} {st : List Value} {β : Type} {z : β}
theorem v_aQl7 (C : kOk g X cc nL own rt fr lo rv w1) {a : Nat} {i : Int32} (hdg : decode cc pc = .ok (.aaload, 1)) {A : Option Nat → Option β} (hF : kob (aQ g w 7 a i) A = some z) (kk : ∀ x, A x = some z → kV g X nL w (pc + 1) lv (va_rf x :: st)) : kV g X nL w pc lv (.int i :: .ref a :: st) := by
  obtain ⟨x, h1, h2⟩ := kob_of hF
  obtain ⟨q, h3, h4⟩ := kob_of h1
  obtain ⟨f, h5, h6⟩ := kob_of h4
  obtain ⟨h7, h8⟩ := k_ite h6
  cases h8
  have h9 := aC_of h3
  obtain ⟨n, rfl⟩ : ∃ n, q = (n, .inr (.inr (.inr (.inr f)))) := ⟨q.1, xQ_of h5⟩
  have hin := kin_vp h7
  have hlt : i.toNatClampNeg < n := Nat.not_le.mp fun q => hin (Or.inr q)
  intro H locs ls a1 b h
  have ht7 : (kty g)[7]? = some (gA g 7, .array .int) := kty_at rfl
  exact W.aald (v := va_rf (f i.toNatClampNeg)) (ty := .array .int) C.1 C.2.1 (a1.1 a _ h9).1 ((C.2.2.2.2.2.1.1.2 7 _ ht7).1 n (fun j => va_rf (f j))) rfl (fun q => by cases q) (by show ¬ (i < 0 ∨ (arrV _ _ _).slots.size ≤ _); rw [arrV_size]; exact hin) (by show (arrV _ _ _).slots[_]? = _; rw [arrV_read _ _ hlt]) rfl rfl hdg (kk _ h2 H locs ls a1 b h)
/-- a call of Law.of -/
theorem v_law (C : kOk g X cc nL own rt fr lo rv w1) (hX : ∀ U, gX g U → SX g U) {index count a : Nat} {c9 p9 n9 : Int32} (hq : Cond.methodLink own index ⟨"CardLoom$Law", "of", "(III)LCardLoom$Turning;"⟩ ∈ lw_all) (hR : 40 ≤ fr ∧ 4000 ≤ lo) (hw : (st.map fun v => v.category).sum ≤ 8) (hdg : decode cc pc = .ok (.invokeinterface index count, 5)) {A : Nat → Option β} (hF : kob (Flaw g w 10 a c9 p9 n9) A = some z) (kk : ∀ x, A x = some z → kV g X nL w (pc + 5) lv (.ref x :: st)) : kV g X nL w pc lv (.int n9 :: .int p9 :: .int c9 :: .ref a :: st) := v_lawR C hX rfl (fl := fun w a c p n => Flaw g w 10 a c p n) (fr0 := 30) (lo0 := 3000) (fun w a c p n t h => law_ok hX 10 w a c p n t ⟨xs X, C.2.2.2.2.2.1.2.2.1⟩ h) hq (by constructor <;> omega) hw hdg hF kk
/-- a lambda that captures nothing: the site's constant -/
theorem v_lco (C : kOk g X cc nL own rt fr lo rv w1) (hX : ∀ U, gX g U → SX g U) {y : MethodName} (hin : kHin X y) (i : Nat) {q : Nat × MethodName × Nat × Nat × Lambda.Shape} (hq : q ∈ klam) (hy : q.2.1 = y) (hp : q.2.2.1 = pc) (hlk : (if q.1 = 0 then Linked.constant (gT g 7) else if q.1 = 1 then .constant (gT g 8) else if q.1 = 12 then .constant (gT g 9) else .makes (gL g q.1)) = Linked.constant (gT g i)) {index : Nat} (hR : 3090 ≤ lo) (hw : (st.map fun v => v.category).sum ≤ 8) (hdg : decode cc pc = .ok (.invokedynamic index, 5)) (kk : kV g X nL w (pc + 5) lv (.ref (gT g i) :: st)) : kV g X nL w pc lv st := by
  obtain ⟨m, k, cf, i0, p0, g1, g2, g3, g4, g5, g6, g7⟩ := (hX _ C.2.2.2.2.2.1.2.2.1).2.2.2.2.2.2.2.2.2.2.1 q hq
  rw [hy, hin.2] at g1
  cases g1
  rw [hlk, hp] at g5
  obtain ⟨hx, hb, hml, hown, hts, hG, -, -, ⟨r1, r2, r3, r4⟩, -⟩ := C
  intro H locs ls a1 b h T hT Y
  obtain ⟨t, s1, hQ⟩ := kk H locs ls a1 b h T hT Y
  refine ⟨t, Y.lambdaConstant hx (g := F0 (xm X) pc ls st) rfl (h.1.trans hml.symm) (by rw [hb]; exact hdg) g2 g5 ?_ s1, hQ⟩
  have e : (xe X).platform.lambdaLinkWords = 3072 := by rw [Y.admits.platform]
  rw [e, r2]
  show 2 * 0 + _ + 3072 ≤ lo
  have hw : ((F0 (xm X) pc ls st).stack.map fun v => v.category).sum ≤ 8 := hw
  omega
/-- a lambda that captures vs -/
theorem v_lmk (C : kOk g X cc nL own rt fr lo rv w1) (hX : ∀ U, gX g U → SX g U) {y : MethodName} (hin : kHin X y) (hyc : y.cls = "CardLoom") (i : Nat) {q : Nat × MethodName × Nat × Nat × Lambda.Shape} (hq : q ∈ klam) (hy : q.2.1 = y) (hp : q.2.2.1 = pc) (hlk : (if q.1 = 0 then Linked.constant (gT g 7) else if q.1 = 1 then .constant (gT g 8) else if q.1 = 12 then .constant (gT g 9) else .makes (gL g q.1)) = Linked.makes (gL g i)) (hi : q.1 = i) {Ts : Array FieldType} (hlay : ((q.2.2.2.2.file "CardLoom").bind (layoutFields · 0)).map (·.2.1) = some Ts) {index : Nat} (hix : q.2.2.2.1 = index) {vs st0 : List Value} (hcap : q.2.2.2.2.captured.length = vs.length) (hst : st0 = vs.reverse ++ st) (hn : (Ts.toList.zip vs).map (fun (t, v) => narrow t v) = vs) (hf : (Ts.toList.zip vs).all (fun q => fits q.1 q.2) = true) (hsz : Ts.size = vs.length) (hR : 3090 ≤ lo) (hw : (st0.map fun v => v.category).sum ≤ 8) (hdg : decode cc pc = .ok (.invokedynamic index, 5)) {A : Nat → Wd → Option β} (hF : kb (lNew g w i vs) A = some z) (kk : ∀ a w2, A a w2 = some z → kV g X nL w2 (pc + 5) lv (.ref a :: st)) : kV g X nL w pc lv st0 := by
  obtain ⟨a, w2, h1, h2⟩ := kb_of hF
  obtain ⟨hr, h3⟩ := k_ite h1
  cases h3
  have kk := kk _ _ h2
  obtain ⟨m, k, cf, i0, p0, g1, g2, g3, g4, g5, g6, g7⟩ := (hX _ C.2.2.2.2.2.1.2.2.1).2.2.2.2.2.2.2.2.2.2.1 q hq
  rw [hy, hin.2] at g1
  cases g1
  rw [hlk, hp] at g5
  rw [hi] at g6
  rw [hix] at g4
  obtain ⟨bsm, nt, desc, site, e1, e2, e3, e4⟩ := k_shape g4
  obtain ⟨kS, hkS, hnameS⟩ := className_of_methodNamed hin.2
  cases g2.symm.trans hkS
  obtain ⟨hx, hb, hml, hown, hts, hG, -, -, ⟨r1, r2, r3, r4⟩, -⟩ := C
  obtain ⟨kK, hkK, htyK, hkindK⟩ := k_madeTy (args := xa X) g6 g2 (hts _ q2808) (by rw [hnameS, hyc]; exact hlay)
  have hE : ((kK.instanceTypes.toList.zip vs).map fun (t, v) => narrow t v) = vs := by rw [htyK]; exact hn
  intro H locs ls a1 b h
  refine kW_tight a1 (fun z1 z2 => ?_)
  intro T hT Y
  have ew : (xe X).platform.lambdaLinkWords = 3072 := by rw [Y.admits.platform]
  obtain ⟨X₁, st1⟩ := Y.lambdaMakes hx (g := F0 (xm X) pc ls st0) rfl (h.1.trans hml.symm) (by rw [hb]; exact hdg) (vals := vs) (rest := st) g2 g5 g3 e1 e2 (parseLong_of_parse e3) (by rw [e4]; exact hcap.symm) hst hkK
    (by
      rw [ew, r2]
      show 2 * 0 + _ + 3072 ≤ lo
      have hw : ((F0 (xm X) pc ls st0).stack.map fun v => v.category).sum ≤ 8 := hw
      omega) (by rw [r3]; have := hr.1; omega) (by rw [hE, r4]; have := hr.2; omega)
    (fun j v hv => by
      rw [hE] at hv
      have hj : j < vs.length := by simpa using (Array.getElem?_eq_some_iff.mp hv).1
      have hjT : j < Ts.size := by rw [hsz]; exact hj
      have hv2 : vs[j]? = some v := by simpa using hv
      have hz : (Ts.toList.zip vs)[j]? = some (Ts[j], v) := by
        rw [List.getElem?_zip_eq_some]
        exact ⟨by simp [hjT], hv2⟩
      have hfj := List.all_eq_true.mp hf _ (List.mem_of_getElem? hz)
      have ht : kK.instanceTypes[j]? = some Ts[j] := by rw [htyK]; simp [hjT]
      simpa [State.fitsSlot, State.slotType?, hkK, hkindK, ht] using hfj)
  rw [hE] at X₁ st1
  have hs1 : H.size = w.2.1 := a1.2.1
  have hp1 : (H.push { cls := gL g i, slots := vs.toArray, vm := .none })[H.size]? = some { cls := gL g i, slots := vs.toArray, vm := .none } := by rw [Array.getElem?_push_size]
  have a3 := a1.push (e := .inr (i, vs)) (c := { cls := gL g i, slots := vs.toArray, vm := .none }) hp1 (by simp) hp1 (fun q hq => by rw [Array.getElem?_push, if_neg (by omega)]) (n := vs.length) (by simp) hr
  obtain ⟨t, b1, b2⟩ := kW_tight a3 (fun _ _ => kk _ locs ls a3 b h) _ (by rw [← hT]; rfl) X₁
  refine ⟨t, st1 t ?_, b2⟩
  rw [← hs1] at b1
  rw [← hT] at b1
  exact b1
/-- a grid -/
theorem v_multi (C : kOk g X cc nL own rt fr lo rv w1) (hX : ∀ U, gX g U → SX g U) {index : Nat} {n k : Int32} (hq : Cond.classLink own index "[[I" ∈ lw_all) (hdg : decode cc pc = .ok (.multianewarray index 2, 4)) {A : Nat → Wd → Option β} (hF : kb (aNew2 g w n k) A = some z) (kk : ∀ a w2, A a w2 = some z → kV g X nL w2 (pc + 4) lv (.ref a :: st)) : kV g X nL w pc lv (.int k :: .int n :: st) := by
  obtain ⟨a, w2, h1, h2⟩ := kb_of hF
  obtain ⟨⟨i1, i2, i3, i4, i5, i6⟩, h3⟩ := k_ite h1
  cases h3
  have kk := kk _ _ h2
  have hao := (hX _ C.2.2.2.2.2.1.2.2.1).2.2.2.2.2.2.2.2.2.2.2.2.1
  obtain ⟨hx, hb, hml, hown, hts, hG, -, -, ⟨r1, r2, r3, r4⟩, -⟩ := C
  intro H locs ls a1 b h
  refine kW_tight a1 (fun z1 z2 => ?_)
  intro T hT Y
  have hkk : n.toNatClampNeg * k.toNatClampNeg ≤ 100 * 100 := Nat.mul_le_mul i3 i4
  obtain ⟨vm₁, cA, comp, hW, hfA, hfC, hO, hI, X1, step⟩ := Y.multianewarray2F hx (ty := .int) hown (hts _ hq) (show (Cond.arrayOver (.array .int)).before (xa X) (xs X) = true from hao) (hts _ q195) (g := F0 (xm X) pc ls (.int k :: .int n :: st)) rfl (by rw [hb]; exact hdg) (n := n) (k := k) (rest := st) rfl i1 i2 (by omega) (by show k.toNatClampNeg * 4 ≤ _; omega) (by omega) rfl rfl (by rw [r3]; omega) (by rw [r4]; omega)
  have e7 : (xs X).vm.findClass "[[I" = some (gA g 7) := (hG.1.2 7 _ (kty_at rfl)).2
  have e0 : (xs X).vm.findClass "[I" = some (gA g 0) := (hG.1.2 0 _ (kty_at rfl)).2
  have hcA : cA = gA g 7 := Option.some.inj (hfA.symm.trans e7)
  have hco : comp = gA g 0 := Option.some.inj (hfC.symm.trans e0)
  have hRT : kRp g w (T.setVm vm₁).heap := by show kRp g w T.heap; rw [hT]; exact a1
  have a3 := kGr_ok hRT hcA hco i5 i6 n.toNatClampNeg (Nat.le_refl _)
  obtain ⟨t, b1, b2⟩ := kW_tight a3 (fun _ _ => kk _ locs ls a3 b h) _ rfl X1
  refine ⟨t, step t ?_, b2⟩
  have hs : T.heap.size = w.2.1 := by rw [hT]; exact a1.2.1
  rw [hs]
  exact b1
theorem v_anew7 (C : kOk g X cc nL own rt fr lo rv w1) (hX : ∀ U, gX g U → SX g U) {index : Nat} {n : Int32} (hq : Cond.classLink own index "[I" ∈ lw_all) (hdg : decode cc pc = .ok (.anewarray index, 3)) {A : Nat → Wd → Option β} (hF : kb (aNew g w 7 n (.inr (.inr (.inr (.inr (fun _ => none)))))) A = some z) (kk : ∀ a w2, A a w2 = some z → kV g X nL w2 (pc + 3) lv (.ref a :: st)) : kV g X nL w pc lv (.int n :: st) := by
  obtain ⟨a, w2, h1, h2⟩ := kb_of hF
  obtain ⟨⟨h3, h4, h5, h6⟩, h7⟩ := k_ite h1
  cases h7
  have kk := kk _ _ h2
  have hao := (hX _ C.2.2.2.2.2.1.2.2.1).2.2.2.2.2.2.2.2.2.2.2.2.1
  obtain ⟨hx, hb, hml, hown, hts, hG, -, -, ⟨r1, r2, r3, r4⟩, -⟩ := C
  intro H locs ls a1 b h
  refine kW_tight a1 (fun z1 z2 => ?_)
  intro T hT Y
  obtain ⟨vm₁, cA, hfA, X1, step⟩ := k_anewArr Y hx hown (hts _ hq) (show (Cond.arrayOver (.array .int)).before (xa X) (xs X) = true from hao) (f := F0 (xm X) pc ls (.int n :: st)) rfl (by rw [hb]; exact hdg) (n := n) (rest := st) rfl h3 (by omega) (by rw [r3]; omega) (by rw [r4]; omega)
  have e7 : (xs X).vm.findClass "[[I" = some (gA g 7) := (hG.1.2 7 _ (kty_at rfl)).2
  have hcA : cA = gA g 7 := Option.some.inj (hfA.symm.trans e7)
  subst hcA
  have hs1 : H.size = w.2.1 := a1.2.1
  have e1 : (H.push ({ cls := gA g 7, slots := Array.replicate n.toNatClampNeg .null, vm := .none } : Cell))[H.size]? = some (arrV (gA g 7) n.toNatClampNeg (fun _ => .null)) := by rw [Array.getElem?_push_size, ← arrV_new]
  have a2 := a1.push (e := .inl (.inl (gA g 7, n.toNatClampNeg, .inr (.inr (.inr (.inr (fun _ => none))))))) (c := arrV (gA g 7) n.toNatClampNeg (fun _ => .null)) e1 (by simp) e1 (fun q hq => by rw [Array.getElem?_push, if_neg (by omega)]) (n := n.toNatClampNeg) (arrV_size _ _ _) ⟨h5, h6⟩
  obtain ⟨t, b1, b2⟩ := kW_tight a2 (fun _ _ => kk _ locs ls a2 b h) _ (by rw [← hT]; rfl) X1
  refine ⟨t, step t ?_, b2⟩
  rw [← hs1, ← hT] at b1
  exact b1
end KK
