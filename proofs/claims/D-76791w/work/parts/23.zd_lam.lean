/-! calls of a made class: its forwarder, walked -/
set_option maxRecDepth 100000
/-- what a made class has at a state: the forwarder's code, the captured fields, the method that it calls -/
def kMd (nl mi : Nat) (fis : List Nat) (y : MethodName) (bs : ByteArray) (rt : Option FieldType) (np : Nat) (c : ClassId) (U : State) : Prop :=
  (∃ b yc, U.vm.method? ⟨c, 1⟩ = some b ∧ b.code = some yc ∧ yc.code = bs ∧ yc.maxLocals = nl ∧ b.locks = false ∧ b.accessFlags = 0x0001 ∧ b.sig.returnType = rt) ∧ U.plainMethod ⟨c, 1⟩ ∧
  (∀ j fi, fis[j]? = some fi → ∃ f, U.vm.fieldReady c fi c f ∧ f.isStatic = false ∧ f.slot = j) ∧
  ∀ e : Env, ∃ t kt metht, plainRef U e c mi ∧ U.vm.methodReady c mi t ∧ U.vm.classes[t.cls]? = some kt ∧ U.vm.method? t = some metht ∧ signaturePolymorphic kt metht = false ∧ metht.isStatic = true ∧ kt.init = .initialized ∧ metht.sig.parameters.length = np ∧ U.methodNamed? y = some t
theorem k_md {σ : Lambda.Shape} {D : ClassFile} {fw : Method} {ld : Array Field × Array FieldType × Array FieldType} (hfile : σ.file "CardLoom" = some D) (hsec : ∀ ms, layoutMethods D = some ms → ms[1]? = some fw) (hlaid : layoutFields D 0 = some ld) {bs : ByteArray} {mL : Nat} (hcode : (fw.code.map fun c => (c.code.data, c.maxLocals)) = some (bs.data, mL)) {nm : String} {rt : Option FieldType} (hfl : (fw.accessFlags, fw.name, fw.sig.returnType) = (0x0001, nm, rt))
    {y : MethodName} (hyc : y.cls = "CardLoom") {mi ci cn nt : Nat} (eM : D.constantPool[mi]? = some (.methodref ci nt) ∧ D.constantPool.className? ci = some "CardLoom" ∧ D.constantPool.nameAndType? nt = some (y.name, y.desc)) (eC : D.constantPool[ci]? = some (.class_ cn) ∧ D.constantPool.string? cn = some "CardLoom" ∧ ci ≠ D.thisClass) (h1 : σ.implClass = "CardLoom" ∧ σ.implName = y.name ∧ σ.implDesc.toString = y.desc)
    {fis : List Nat} (eF : ∀ j fi, fis[j]? = some fi → ∃ a b nm ds, D.constantPool[fi]? = some (.fieldref a b) ∧ D.constantPool.nameAndType? b = some (nm, ds) ∧ ld.1.findIdx? (·.name == nm) = some j ∧ (ld.1[j]?).map (fun f => (f.isStatic, f.slot)) = some (false, j))
    {x : MethodName} {pc index : Nat} {lk : Linked} {c : ClassId} {U : State} (hL : kLs x pc index σ lk c U) (hxc : x.cls = "CardLoom") (hO : (Cond.instantiable "java/lang/Object" 0).before #[] U = true)
    {by_ : ByteArray} {bl : Nat} {br : Option FieldType} (hcd : (Cond.code y by_ bl br).before #[] U = true) (hst : (Cond.static y).before #[] U = true) (hini : (Cond.initialized y.cls).before #[] U = true) {sig : MethodDescriptor} (hsig : parseMethodDescriptor y.desc = some sig) {np : Nat} (hn : sig.parameters.length = np) :
    kMd mL mi fis y bs rt np c U := by
  obtain ⟨m, k, cf, i0, p0, g1, g2, g3, g4, g5, g6, g7⟩ := hL
  obtain ⟨kS, hkS, hnameS⟩ := className_of_methodNamed g1
  cases g2.symm.trans hkS
  obtain ⟨kK, tk, file, b, yc, toy, t, a1, a2, a3, a4, a5, a6, a7, a8, a9, a10, a11, a12, a13, a14, a15, a16, a17, a18, a19⟩ := k_made hfile hsec hlaid hcode hfl g2 (by rw [hnameS, hxc]) g6 (fun o ok q1 q2 => by
    obtain ⟨cO, kO, f1, f2, -, -, -, f3⟩ := Cond.instantiable_spec hO
    cases f1.symm.trans q1
    cases f2.symm.trans q2
    exact f3)
  rw [h1.1] at a11
  rw [h1.2.1, h1.2.2] at a14
  refine ⟨⟨b, yc, a4, a5, a6, a7, a8, a9, a10⟩, State.plainMethod.of_name (fun k' hk' => by cases a1.symm.trans hk'; rw [a19]; decide), ?_, ?_⟩
  · intro j fi hj
    obtain ⟨q1, q2, nm, ds, w1, w2, w3, w4⟩ := eF j fi hj
    obtain ⟨f, hf, hp⟩ := Option.map_eq_some_iff.mp w4
    simp only [Prod.mk.injEq] at hp
    exact ⟨f, ⟨kK, j, kK, a1, a15 fi _ (Lambda.resolvedOf_field w1 w2 w3), a1, a16 j _ hf⟩, hp.1, hp.2⟩
  · intro e
    cases hnB : U.methodNamed? y with
    | none => simp [Cond.before, Cond.holds, Cond.value, hnB] at hcd
    | some mB =>
      obtain ⟨methB, cB, hmB, -, -, -, -, -, -, hsigB⟩ := Cond.code_spec hnB hcd
      have hstB : methB.isStatic = true := Cond.static_spec hnB hmB hst
      have hfT : U.vm.findClass y.cls = some mB.cls := findClass_of_methodNamed hnB
      have htoy : U.vm.findClass y.cls = some toy := by rw [hyc]; exact a11
      cases htoy.symm.trans hfT
      have hinitK : tk.init = .initialized := Cond.initialized_spec hfT a12 hini
      obtain ⟨kT', hkT', hnameT⟩ := className_of_methodNamed hnB
      cases a12.symm.trans hkT'
      have hy2 : y.cls ≠ "java/lang/invoke/MethodHandle" ∧ y.cls ≠ "java/lang/invoke/VarHandle" := by rw [hyc]; decide
      have htB : t = mB := by
        have q1 : U.methodFound? y.cls y.name y.desc = some mB := State.methodFound?_of_named hnB hy2
        simp only [State.methodFound?, hfT, a12, Option.bind_eq_bind, Option.bind_some] at q1
        rw [a14] at q1
        exact Option.some.inj q1
      subst htB
      have hsp : ∀ z : Method, signaturePolymorphic tk z = false := fun z => by simp [signaturePolymorphic, hnameT, hy2.1, hy2.2]
      obtain ⟨bq, hmem⟩ := memberRef_ask' (e := e) (vm := U.vm) (d := c) (index := mi) a1 a2 (Or.inl (by rw [a3]; exact eM.1)) (by rw [a3]; exact eM.2.2)
      exact ⟨t, tk, methB, ⟨ci, _, _, bq, t.cls, tk, hmem, ⟨kK, a1, a15 ci _ (Lambda.resolvedOf_class eC.1 eC.2.2 eC.2.1 a11)⟩, a12, by simp [hsp]⟩, ⟨kK, a1, a15 mi _ (Lambda.resolvedOf_method eM.1 eM.2.1 a11 a12 eM.2.2 a14)⟩, a12, hmB, hsp _, hstB, hinitK, by rw [← Option.some.inj (hsig.symm.trans hsigB)]; exact hn, rfl⟩
set_option maxRecDepth 100000
/-- what stands in a forwarder's body: as kOk, without a name for its class -/
def kOf (g : GT) (X : CxT) (cc : ByteArray) (nL : Nat) (ret : Option FieldType) (fr lo : Nat) (r : Option Value) (w1 : Wd) : Prop :=
  (xp X).tables.exec = Jvm.exec ∧ (xc X).code = cc ∧ (xc X).maxLocals = nL ∧ (∀ w ∈ lw_all, w.before (xa X) (xs X) = true) ∧ kGF g (xs X) ∧ (xh X).locks = false ∧ (xh X).sig.returnType = ret ∧
  ((xR X).frames = fr ∧ (xR X).locals = lo ∧ (xR X).cells = gcc g - (xs X).heap.size ∧ (xR X).slots = gcs g - khs (xs X).heap) ∧ ∀ t, MQ (xb X) (Qk g r w1) (xa X) (xs X) (gcc g - (xs X).heap.size) (gcs g - khs (xs X).heap) (kfree g) t → xQ X t
/-- a call of the second method of the class of site i -/
def kFb (l : Launch) (g : GT) (i nl fr lo : Nat) (w : Wd) (as : List Value) (r : Option Value) (w1 : Wd) : Prop :=
  ∀ (R : Room) (p : Program) (e : Env) (below : List Frame) (s : State) (sargs : Array Value) (len : Nat), p.tables.exec = Jvm.exec → (∀ w ∈ lw_all, ∀ (a' : Array Value) (U : State), s.WarmedH U.vm → w.before a' U = true) → fr + 1 ≤ R.frames → 8 + (nl + 11) + lo ≤ R.locals →
    ∀ (m : MethodId) (meth : Method) (c : Code) (A : Pt) (gf : JFrame) (ig : Instr) (a : Array Value), Stand p l e R s m sargs below meth c A.U A.locs A.cells A.slots → gf.method = m → gf.locals.size = c.maxLocals → decode c.code gf.pc = .ok (ig, len) → 2 * gf.monitorRoom + (gf.stack.map fun v => v.category).sum ≤ 8 →
      PreOf R (gcc g - w.2.1) (gcs g - w.2.2) (Pk g w as) A a → ∃ v B, Stand p l e R s m sargs below meth c B.U B.locs B.cells B.slots ∧ PostOf (Qk g r w1) (gcc g - w.2.1) (gcs g - w.2.2) (kfree g) A a v B ∧
        Steps p.tables e below (doInvoke e (A.U.setTop gf) [] ⟨gL g i, 1⟩ a).1 (B.U.setTop { gf with pc := gf.pc + len, stack := v.toList ++ gf.stack })
theorem fwd_in {l : Launch} {g : GT} {i : Nat} {cc : ByteArray} {nL : Nat} {ret : Option FieldType} {fr lo : Nat} {w : Wd} {as : List Value} {r : Option Value} {w1 : Wd} {lv : List (Option Value)} (hl : (lg_sl as).length ≤ nL) (hlv : lv_args 0 as = lvE 0 lv)
    (hmd : ∀ U : State, kGF g U → (∀ w ∈ lw_all, w.before #[] U = true) → (∃ b yc, U.vm.method? ⟨gL g i, 1⟩ = some b ∧ b.code = some yc ∧ yc.code = cc ∧ yc.maxLocals = nL ∧ b.locks = false ∧ b.accessFlags = 0x0001 ∧ b.sig.returnType = ret) ∧ U.plainMethod ⟨gL g i, 1⟩)
    (body : ∀ X : CxT, xl X = l → xm X = ⟨gL g i, 1⟩ → kOf g X cc nL ret fr lo r w1 → kV g X nL w 0 lv []) : kFb l g i nL fr lo w as r w1 := by
  intro R p e below s sargs len hx hts hfr hlo m meth c A gf ig a X hg hsize hdg hW hp
  obtain ⟨U, Ls, c0, s0⟩ := A
  obtain ⟨p1, p2, rfl, hR, hGU⟩ := hp
  dsimp only [Pt.U, Pt.locs, Pt.cells, Pt.slots] at X p1 p2 hR hGU
  obtain ⟨⟨methk, ck, k1, k2, k3, k4, k6, -, k5⟩, hpk⟩ := hmd U hGU (fun w hw => hts w hw #[] U X.warmed)
  obtain ⟨Y₀, hin⟩ := X.into hg hsize hdg as.toArray (R' := { frames := fr, cells := gcc g - w.2.1, slots := gcs g - w.2.2, locals := lo }) k1 k2 k6 hpk hfr (by rw [k4]; show _ + _ + (nL + 11) + lo ≤ _; omega) p1 p2
  have e1 : U.heap.size = w.2.1 := hR.2.1
  have e2 : khs U.heap = w.2.2 := hR.2.2.1
  have hle := lv_entry as (n := nL) hl
  rw [hlv] at hle
  have hbody := body (p, l, e, ({ frames := fr, cells := gcc g - w.2.1, slots := gcs g - w.2.2, locals := lo } : Room), U.calling gf ⟨gL g i, 1⟩ as.toArray, ⟨gL g i, 1⟩, as.toArray, Frame.java gf :: below, methk, ck, MQ (Frame.java gf :: below) (Qk g r w1) as.toArray (U.calling gf ⟨gL g i, 1⟩ as.toArray) (gcc g - w.2.1) (gcs g - w.2.2) (kfree g)) rfl rfl
    ⟨hx, k3, k4, fun w hw => hts w hw _ _ X.warmed, hGU.warm (State.WarmedH.refl U), k6, k5, ⟨rfl, rfl, by show gcc g - w.2.1 = gcc g - U.heap.size; rw [e1], by show gcs g - w.2.2 = gcs g - khs U.heap; rw [e2]⟩, fun t ht => by have ht : MQ (Frame.java gf :: below) (Qk g r w1) as.toArray (U.calling gf ⟨gL g i, 1⟩ as.toArray) (gcc g - U.heap.size) (gcs g - khs U.heap) (kfree g) t := ht; rw [e1, e2] at ht; exact ht⟩ U.heap [] _ hR (fun q h => by cases h) hle
  have z1 : w.2.1 - U.heap.size = 0 := by omega
  have z2 : w.2.2 - khs U.heap = 0 := by omega
  have hbody : W p l e _ (U.calling gf ⟨gL g i, 1⟩ as.toArray) ⟨gL g i, 1⟩ as.toArray (Frame.java gf :: below) methk ck U.heap [] (w.2.1 - U.heap.size) (w.2.2 - khs U.heap) _ _ := hbody
  rw [z1, z2] at hbody
  rw [k4] at hin Y₀
  obtain ⟨t, stp, o, hrun, hended, ⟨ho, hR2⟩, L, ⟨hret, hWe, hsame⟩, hL⟩ := hbody ((U.setTop gf).pushFrame (Frame.java (entryFrame ⟨gL g i, 1⟩ as.toArray nL))) rfl Y₀
  subst ho
  obtain ⟨T', X'', hW', hB, ht⟩ := X.outOf hg hdg hended hWe hsame
  refine ⟨r, ⟨T', Ls ++ L, c0 + (gcc g - w.2.1), s0 + (gcs g - w.2.2)⟩, X'', ⟨gf, ⟨gL g i, 1⟩, t, L, (congrArg State.heap ht).symm, (congrArg State.vm ht).symm, ⟨rfl, hR2⟩, rfl, hL, rfl, rfl⟩, ?_⟩
  rw [hin []]
  show Steps p.tables e below _ (T'.setTop { gf with pc := gf.pc + len, stack := r.toList ++ gf.stack })
  rw [← ht]
  refine Steps.weaken (mid := [.java gf]) ?_
  have hE : entryFrame ⟨gL g i, 1⟩ as.toArray nL = F0 ⟨gL g i, 1⟩ 0 (lg_sl as ++ List.replicate (nL - (lg_sl as).length) Slot.unset).toArray [] := by rw [lg_entry_eq]
  have stp : Steps p.tables e (Frame.java gf :: below) (((U.setTop gf).pushFrame (Frame.java (entryFrame ⟨gL g i, 1⟩ as.toArray nL))).setTop (F0 ⟨gL g i, 1⟩ 0 (lg_sl as ++ List.replicate (nL - (lg_sl as).length) Slot.unset).toArray [])) t := stp
  rw [← hE] at stp
  exact stp
section KF
variable {g : GT} {X : CxT} {cc : ByteArray} {nL : Nat} {rt : Option FieldType} {fr lo : Nat} {rv : Option Value} {w1 w : Wd} {pc : Nat} {lv : List (Option Value)} {st : List Value}
theorem f_iload (C : kOf g X cc nL rt fr lo rv w1) {k : Fin 4} {i : Nat} {x : Int32} (hdg : decode cc pc = .ok (.iload_n k, 1)) (hi : (k : Nat) = i) (hl : lv[i]? = some (some (.int x))) (kk : kV g X nL w (pc + 1) lv (.int x :: st)) : kV g X nL w pc lv st := fun H locs ls a b h => lv_iload_n C.1 C.2.1 hdg hi (h.2.2 _ (by have := lvE_mem lv 0 i _ hl; rwa [Nat.zero_add] at this)) (kk H locs ls a b h)
theorem f_aload (C : kOf g X cc nL rt fr lo rv w1) {k : Fin 4} {i : Nat} {x : Nat} (hdg : decode cc pc = .ok (.aload_n k, 1)) (hi : (k : Nat) = i) (hl : lv[i]? = some (some (.ref x))) (kk : kV g X nL w (pc + 1) lv (.ref x :: st)) : kV g X nL w pc lv st := fun H locs ls a b h => lv_aload_n C.1 C.2.1 hdg hi (h.2.2 _ (by have := lvE_mem lv 0 i _ hl; rwa [Nat.zero_add] at this)) (kk H locs ls a b h)
theorem f_aret {v : Value} {rt0 : FieldType} (C : kOf g X cc nL (some rt0) fr lo (some v) w) (hrt : (∃ n, rt0 = .object n) ∨ ∃ t, rt0 = .array t) (hv : v = .null ∨ ∃ a, v = .ref a) (hdg : decode cc pc = .ok (.areturn, 1)) : kV g X nL w pc lv [v] := by
  intro H locs ls a b h
  obtain ⟨hx, hb, -, -, -, hlk, hr, -, hQ⟩ := C
  refine W_post hQ ?_
  refine W.widen (Nat.sub_le_sub_right a.2.2.2.1.2.1 _) (Nat.sub_le_sub_right a.2.2.2.1.2.2 _) ?_
  exact W.aret hx hb hr hrt hv (fun t ht _ => ⟨rfl, by rw [ht]; exact a⟩) b hdg hlk
/-- a captured value -/
theorem f_get (C : kOf g X cc nL rt fr lo rv w1) {i j index a : Nat} (hm : xm X = ⟨gL g i, 1⟩) (hf : ∀ U : State, (xs X).WarmedH U.vm → ∃ f, U.vm.fieldReady (gL g i) index (gL g i) f ∧ f.isStatic = false ∧ f.slot = j) {vs : List Value} {v : Value} (hat : w.1 a = some (.inr (i, vs))) (hv : vs[j]? = some v) (hdg : decode cc pc = .ok (.getfield index, 3)) (kk : kV g X nL w (pc + 3) lv (v :: st)) : kV g X nL w pc lv (.ref a :: st) := by
  intro H locs ls a1 b h T hT Y
  obtain ⟨t, s1, hQ⟩ := kk H locs ls a1 b h T hT Y
  obtain ⟨hx, hb, -⟩ := C
  obtain ⟨f, f1, f2, f3⟩ := hf T Y.warmed
  have hc : T.heap[a]? = some { cls := gL g i, slots := vs.toArray, vm := .none } := by rw [hT]; exact (a1.1 a _ hat).1
  refine ⟨t, Steps.trans (?_ : Steps _ _ _ _ (T.setTop (F0 (xm X) (pc + 3) ls (v :: st)))) s1, hQ⟩
  have hm2 : (xm X).cls = gL g i := by rw [hm]
  have hdg2 : decode (xc X).code (F0 (xm X) pc ls (.ref a :: st)).pc = .ok (.getfield index, 3) := by rw [hb]; exact hdg
  jvm_step Y.here [hx, hdg2, getfield.wp_ready (e := xe X) (s := T) (c := gL g i) (field := f) (a := a) (rest := st) (cell := { cls := gL g i, slots := vs.toArray, vm := .none }) (v := v) (f := F0 (xm X) pc ls (.ref a :: st)) Y.here.top (by show T.vm.fieldReady (xm X).cls index (gL g i) f; rw [hm2]; exact f1) f2 rfl hc (by simp) (by rw [f3]; simpa using hv)]
  exact Steps.refl _
/-- the static method behind -/
theorem f_static (C : kOf g X cc nL rt fr lo rv w1) {i index np : Nat} {y : MethodName} (hm : xm X = ⟨gL g i, 1⟩) (hS : ∀ U : State, (xs X).WarmedH U.vm → ∃ t kt metht, plainRef U (xe X) (gL g i) index ∧ U.vm.methodReady (gL g i) index t ∧ U.vm.classes[t.cls]? = some kt ∧ U.vm.method? t = some metht ∧ signaturePolymorphic kt metht = false ∧ metht.isStatic = true ∧ kt.init = .initialized ∧ metht.sig.parameters.length = np ∧ U.methodNamed? y = some t)
    {b : ByteArray} {mL fr2 lo2 : Nat} {ret : Option FieldType} {As st0 : List Value} {r : Option Value} {w2 : Wd} (hcd : Cond.code y b mL ret ∈ lw_all) (hin : Cond.initialized y.cls ∈ lw_all) (hM : kMt (xl X) g y (ws_ y b mL ret) fr2 lo2 w As r w2) (hR : fr2 + 1 ≤ fr ∧ 8 + (mL + 11) + lo2 ≤ lo) (hn : As.length = np) (hst : st0 = As.reverse ++ st) (hw : (st.map fun v => v.category).sum ≤ 8) (hdg : decode cc pc = .ok (.invokestatic index, 3)) (k : kV g X nL w2 (pc + 3) lv (r.toList ++ st)) : kV g X nL w pc lv st0 := by
  refine v_run (mc := gcc g - w.2.1) (ms := gcs g - w.2.2) (a0 := As.toArray) (fun H locs ls a1 h z1 z2 => ?_) k
  obtain ⟨hx, hb, hml, hts, hG, -, -, ⟨r1, r2, r3, r4⟩, -⟩ := C
  have c1 := a1.2.2.2.1.2.1
  have c2 := a1.2.2.2.1.2.2
  have hK : Back (xl X) (xR X) (xp X) (xe X) (xb X) (xs X) (xa X) y 3 8 (PreOf (xR X) (gcc g - w.2.1) (gcs g - w.2.2) (Pk g w As)) (PostOf (Qk g r w2) (gcc g - w.2.1) (gcs g - w.2.2) (kfree g)) :=
    back_of (bytes := b) (maxL := mL) (ret := ret) hM Pk_blind rfl rfl (by rw [r1]; exact hR.1) (by rw [r2]; exact hR.2) (pay_in hts (lw_meth hcd)) List.mem_cons_self (fun a' U hW => word_at hW (Or.inl (by first | rfl | simp [Cond.onTables, Cond.keeps, Cond.steady])) (hts _ hin))
  intro T hT Y
  obtain ⟨t, kt, metht, q1, q2, q3, q4, q5, q6, q7, q8, q9⟩ := hS T Y.warmed
  have hm2 : (xm X).cls = gL g i := by rw [hm]
  have hdg2 : decode (xc X).code (F0 (xm X) pc ls st0).pc = .ok (.invokestatic index, 3) := by rw [hb]; exact hdg
  obtain ⟨v, B, X', hpost, hsteps⟩ := hK (xm X) (xh X) (xc X) ⟨T, locs, _, _⟩ { F0 (xm X) pc ls st0 with stack := st } (.invokestatic index) t As.toArray Y rfl (h.1.trans hml.symm) (by rw [hb]; exact hdg) (lv_room hw) q9
    ⟨by rw [r3]; show w.2.1 - (xs X).heap.size + (gcc g - w.2.1) ≤ _; omega, by rw [r4]; show w.2.2 - khs (xs X).heap + (gcs g - w.2.2) ≤ _; omega, Pk_at hG a1 T hT Y.warmed⟩
  obtain ⟨U', q2', c2', s2⟩ := B
  obtain ⟨g', mk', t', L, e1, e2, hq, h1, hL, h2, h3⟩ := hpost
  dsimp only [Pt.U, Pt.locs, Pt.cells, Pt.slots] at X' e1 e2 h1 h2 h3 hsteps
  subst h1; subst h2; subst h3
  refine ⟨v, T.calling g' mk' As.toArray, t', U', L, hT, X', hL, e1, e2, hq, fun target ht => Steps.trans (?_ : Steps _ _ _ _ (doInvoke (xe X) (T.setTop { F0 (xm X) pc ls st0 with stack := st }) [] t As.toArray).1) (hsteps.trans ht)⟩
  jvm_step Y.here [hx, hdg2, invokestatic.wp_ready (e := xe X) (s := T) (m := t) (k := kt) (meth := metht) (args := As) (rest := st) (f := F0 (xm X) pc ls st0) Y.here.top (by show plainRef T (xe X) (xm X).cls index; rw [hm2]; exact q1) (by show T.vm.methodReady (xm X).cls index t; rw [hm2]; exact q2) q3 q4 q5 q6 q7 (hn.trans q8.symm) hst]
  intro acts
  rw [doInvoke_state]
  exact Steps.refl _
end KF
theorem itf_of {c : ClassId} {name desc : String} {vm : Vm} {f : MethodId} {k : Class} {e : Setting} (hk : vm.classes[c]? = some k) (h : ((methodIn c name desc true none).ask e vm).1 = .ok f) : k.isInterface = true := by
  cases hi : k.isInterface with
  | true => rfl
  | false =>
    exfalso
    unfold methodIn at h
    simp [VmM.ask, getClass, VmM.getVm, VmM.getEnv, hk, hi, bind, VmM.failAs] at h
section KN
variable {g : GT} {X : CxT} {cc : ByteArray} {nL : Nat} {own : String} {rt : Option FieldType} {fr lo : Nat} {rv : Option Value} {w1 w : Wd} {pc : Nat} {lv : List (Option Value)} {st : List Value}
/-- a call through the interface of a made class -/
theorem v_made (C : kOk g X cc nL own rt fr lo rv w1) {x x0 : MethodName} {i index count nl a pc0 ix0 n : Nat} {σ : Lambda.Shape} {lk : Linked} (hlink : Cond.methodLink own index x ∈ lw_all) (hdc : Cond.declares x ∈ lw_tbl) (hx2 : x.cls ≠ "java/lang/invoke/MethodHandle" ∧ x.cls ≠ "java/lang/invoke/VarHandle") (hsig : (parseMethodDescriptor x.desc).map (fun d => d.parameters.length) = some n)
    (hσ : σ.iface = x.cls ∧ σ.name = x.name ∧ σ.sam.toString = x.desc) (hLs : kLs x0 pc0 ix0 σ lk (gL g i) (xs X)) (hfl : ∃ b, (xs X).vm.method? ⟨gL g i, 1⟩ = some b ∧ b.accessFlags = 0x0001) (hat : ∀ H, kRp g w H → ∃ c : Cell, H[a]? = some c ∧ c.cls = gL g i ∧ c.vm = .none)
    {fr2 lo2 : Nat} {As st0 : List Value} {r : Option Value} {w2 : Wd} (hB : kFb (xl X) g i nl fr2 lo2 w (.ref a :: As) r w2) (hR : fr2 + 1 ≤ fr ∧ 8 + (nl + 11) + lo2 ≤ lo) (hn : As.length = n) (hst : st0 = As.reverse ++ .ref a :: st) (hw : (st.map fun v => v.category).sum ≤ 8) (hdg : decode cc pc = .ok (.invokeinterface index count, 5)) (k : kV g X nL w2 (pc + 5) lv (r.toList ++ st)) : kV g X nL w pc lv st0 := by
  refine v_run5 (mc := gcc g - w.2.1) (ms := gcs g - w.2.2) (a0 := (Value.ref a :: As).toArray) (fun H locs ls a1 h z1 z2 => ?_) k
  obtain ⟨hx, hb, hml, hown, hts, hG, -, -, ⟨r1, r2, r3, r4⟩, -⟩ := C
  have c1 := a1.2.2.2.1.2.1
  have c2 := a1.2.2.2.1.2.2
  obtain ⟨m, kk, cf, i0, p0, g1, g2, g3, g4, g5, g6, g7⟩ := hLs
  obtain ⟨bm, hbm, hbf⟩ := hfl
  obtain ⟨dk, kK, ok, tk, file, cfK, object, iface, t, lay, methods, tgt, found, -, hkK, -, -, -, hi1, -, -, -, -, -, -, hfound, -, -, -, -, -, -, -, -, -, -, hsel⟩ := Lambda.isMade_spec g6
  obtain ⟨i2, hi2, hasg, hway⟩ := State.lambdaCallable_spec g7
  cases hi1.symm.trans hi2
  obtain ⟨m0, r0, d1, d2, d3, d4⟩ := Cond.declares_spec (va_Nw.use (A := xa X) rfl (hG.2.1 _ hdc rfl))
  rw [hσ.1] at hi1
  have hcls : m0.cls = iface := Option.some.inj ((findClass_of_methodNamed d1).symm.trans hi1)
  obtain ⟨ki, f2, -⟩ := className_of_methodNamed d1
  rw [hcls] at f2
  have f3 := itf_of f2 hfound
  have f4 := State.methodFound?_of_named d1 hx2
  have hf0 : found = m0 := by
    simp only [State.methodFound?, hi1, f2, Option.bind_eq_bind, Option.bind_some, f3] at f4
    rw [hσ.2.1, hσ.2.2] at hfound
    rw [hfound] at f4
    exact Option.some.inj f4
  subst hf0
  have hnm := name_of_methodNamed d1 d2
  have hlen : As.length = r0.sig.parameters.length := by
    rw [d4] at hsig
    exact hn.trans (Option.some.inj hsig).symm
  obtain ⟨cellA, hA1, hA2, hA3⟩ := hat H a1
  intro T hT Y
  have hsel' : selectMethod (xe X).platform (xs X).vm cellA.cls found = .method ⟨gL g i, 1⟩ := by rw [Launch.admits_selectMethod Y.admits, hA2]; exact hsel
  obtain ⟨vm₁, X₁, hstep₁⟩ := Y.invokeinterface hx hown (hts _ hlink) d1 d2 d3 (ki := ki) (by rw [hcls]; exact f2) f3 hx2 (a := a) (cell := cellA) (kcell := kK) (by rw [hT]; exact hA1) (fun c h => by rw [hA3] at h; cases h) (by rw [hA2]; exact hkK) (by rw [hcls, hA2]; exact hasg) hsel' hbm
    (by rw [hnm.1, hnm.2, ← hσ.2.1, ← hσ.2.2, hA2]; exact hway) (by rw [hbf]; decide) (by simp [Method.isAbstract, hbf, hasFlag, Acc.abstract]) (g := F0 (xm X) pc ls st0) rfl (argsL := As) (rest := st) hlen hst (by rw [hb]; exact hdg)
  obtain ⟨v, B, X', hpost, hsteps⟩ := hB (xR X) (xp X) (xe X) (xb X) (xs X) (xa X) 5 hx (pay_in hts lw_self) (by rw [r1]; exact hR.1) (by rw [r2]; exact hR.2) (xm X) (xh X) (xc X) ⟨T.setVm vm₁, locs, _, _⟩ { F0 (xm X) pc ls st0 with stack := st } (.invokeinterface index count) (Value.ref a :: As).toArray X₁ rfl (h.1.trans hml.symm) (by rw [hb]; exact hdg) (lv_room hw)
    ⟨by rw [r3]; show w.2.1 - (xs X).heap.size + (gcc g - w.2.1) ≤ _; omega, by rw [r4]; show w.2.2 - khs (xs X).heap + (gcs g - w.2.2) ≤ _; omega, Pk_at hG a1 (T.setVm vm₁) hT X₁.warmed⟩
  obtain ⟨U', q2, c2', s2⟩ := B
  obtain ⟨g', mk', t', L, e1, e2, hq, h1, hL, h2, h3⟩ := hpost
  dsimp only [Pt.U, Pt.locs, Pt.cells, Pt.slots] at X' e1 e2 h1 h2 h3 hsteps
  subst h1; subst h2; subst h3
  exact ⟨v, (T.setVm vm₁).calling g' mk' (Value.ref a :: As).toArray, t', U', L, hT, X', hL, e1, e2, hq, fun target ht => hstep₁ _ fun acts => by rw [doInvoke_state]; exact hsteps.trans ht⟩
end KN
set_option maxRecDepth 100000
/-- as kMd, the method behind a private one of an object -/
def kMv (nl mi : Nat) (fis : List Nat) (y : MethodName) (bs : ByteArray) (rt : Option FieldType) (np : Nat) (c : ClassId) (U : State) : Prop :=
  (∃ b yc, U.vm.method? ⟨c, 1⟩ = some b ∧ b.code = some yc ∧ yc.code = bs ∧ yc.maxLocals = nl ∧ b.locks = false ∧ b.accessFlags = 0x0001 ∧ b.sig.returnType = rt) ∧ U.plainMethod ⟨c, 1⟩ ∧
  (∀ j fi, fis[j]? = some fi → ∃ f, U.vm.fieldReady c fi c f ∧ f.isStatic = false ∧ f.slot = j) ∧
  ∃ t kt metht, namesAClass U c mi ∧ U.vm.methodReady c mi t ∧ U.vm.classes[t.cls]? = some kt ∧ U.vm.method? t = some metht ∧ signaturePolymorphic kt metht = false ∧ metht.isStatic = false ∧ metht.isAbstract = false ∧ kt.isInterface = false ∧ metht.isPrivate = true ∧ metht.sig.parameters.length = np ∧ U.methodNamed? y = some t
theorem k_mv {σ : Lambda.Shape} {D : ClassFile} {fw : Method} {ld : Array Field × Array FieldType × Array FieldType} (hfile : σ.file "CardLoom" = some D) (hsec : ∀ ms, layoutMethods D = some ms → ms[1]? = some fw) (hlaid : layoutFields D 0 = some ld) {bs : ByteArray} {mL : Nat} (hcode : (fw.code.map fun c => (c.code.data, c.maxLocals)) = some (bs.data, mL)) {nm : String} {rt : Option FieldType} (hfl : (fw.accessFlags, fw.name, fw.sig.returnType) = (0x0001, nm, rt))
    {y : MethodName} (hyc : y.cls = "CardLoom") {mi ci cn nt : Nat} (eM : D.constantPool[mi]? = some (.methodref ci nt) ∧ D.constantPool.className? ci = some "CardLoom" ∧ D.constantPool.nameAndType? nt = some (y.name, y.desc)) (eC : D.constantPool[ci]? = some (.class_ cn) ∧ D.constantPool.string? cn = some "CardLoom" ∧ ci ≠ D.thisClass) (h1 : σ.implClass = "CardLoom" ∧ σ.implName = y.name ∧ σ.implDesc.toString = y.desc ∧ σ.implItf = false)
    {fis : List Nat} (eF : ∀ j fi, fis[j]? = some fi → ∃ a b nm ds, D.constantPool[fi]? = some (.fieldref a b) ∧ D.constantPool.nameAndType? b = some (nm, ds) ∧ ld.1.findIdx? (·.name == nm) = some j ∧ (ld.1[j]?).map (fun f => (f.isStatic, f.slot)) = some (false, j))
    {x : MethodName} {pc index : Nat} {lk : Linked} {c : ClassId} {U : State} (hL : kLs x pc index σ lk c U) (hxc : x.cls = "CardLoom") (hO : (Cond.instantiable "java/lang/Object" 0).before #[] U = true)
    {by_ : ByteArray} {bl : Nat} {br : Option FieldType} (hcd : (Cond.code y by_ bl br).before #[] U = true) (hst : (Cond.instanceMethod y).before #[] U = true) (hpv : (Cond.privateMethod y).before #[] U = true) {sig : MethodDescriptor} (hsig : parseMethodDescriptor y.desc = some sig) {np : Nat} (hn : sig.parameters.length = np) :
    kMv mL mi fis y bs rt np c U := by
  obtain ⟨m, k, cf, i0, p0, g1, g2, g3, g4, g5, g6, g7⟩ := hL
  obtain ⟨kS, hkS, hnameS⟩ := className_of_methodNamed g1
  cases g2.symm.trans hkS
  obtain ⟨kK, tk, file, b, yc, toy, t, a1, a2, a3, a4, a5, a6, a7, a8, a9, a10, a11, a12, a13, a14, a15, a16, a17, a18, a19⟩ := k_made hfile hsec hlaid hcode hfl g2 (by rw [hnameS, hxc]) g6 (fun o ok q1 q2 => by
    obtain ⟨cO, kO, f1, f2, -, -, -, f3⟩ := Cond.instantiable_spec hO
    cases f1.symm.trans q1
    cases f2.symm.trans q2
    exact f3)
  rw [h1.1] at a11
  rw [h1.2.1, h1.2.2.1] at a14
  refine ⟨⟨b, yc, a4, a5, a6, a7, a8, a9, a10⟩, State.plainMethod.of_name (fun k' hk' => by cases a1.symm.trans hk'; rw [a19]; decide), ?_, ?_⟩
  · intro j fi hj
    obtain ⟨q1, q2, nm, ds, w1, w2, w3, w4⟩ := eF j fi hj
    obtain ⟨f, hf, hp⟩ := Option.map_eq_some_iff.mp w4
    simp only [Prod.mk.injEq] at hp
    exact ⟨f, ⟨kK, j, kK, a1, a15 fi _ (Lambda.resolvedOf_field w1 w2 w3), a1, a16 j _ hf⟩, hp.1, hp.2⟩
  · obtain ⟨mB, methB, hnB, hmB, hstB, habB⟩ := Cond.instanceMethod_spec hst
    obtain ⟨methB', cB, hmB', -, -, -, -, -, -, hsigB⟩ := Cond.code_spec hnB hcd
    cases hmB.symm.trans hmB'
    have hpr : methB.isPrivate = true := Cond.privateMethod_at hpv mB methB hnB hmB
    have hfT : U.vm.findClass y.cls = some mB.cls := findClass_of_methodNamed hnB
    have htoy : U.vm.findClass y.cls = some toy := by rw [hyc]; exact a11
    cases htoy.symm.trans hfT
    obtain ⟨kT', hkT', hnameT⟩ := className_of_methodNamed hnB
    cases a12.symm.trans hkT'
    have hy2 : y.cls ≠ "java/lang/invoke/MethodHandle" ∧ y.cls ≠ "java/lang/invoke/VarHandle" := by rw [hyc]; decide
    have htB : t = mB := by
      have q1 : U.methodFound? y.cls y.name y.desc = some mB := State.methodFound?_of_named hnB hy2
      simp only [State.methodFound?, hfT, a12, Option.bind_eq_bind, Option.bind_some] at q1
      rw [a14] at q1
      exact Option.some.inj q1
    subst htB
    have hsp : ∀ z : Method, signaturePolymorphic tk z = false := fun z => by simp [signaturePolymorphic, hnameT, hy2.1, hy2.2]
    have hit : tk.isInterface = false := by rw [a13, h1.2.2.2]
    exact ⟨t, tk, methB, ⟨kK, file, ci, nt, t.cls, tk, a1, a2, by rw [a3]; exact eM.1, ⟨kK, a1, a15 ci _ (Lambda.resolvedOf_class eC.1 eC.2.2 eC.2.1 a11)⟩, a12, hit⟩, ⟨kK, a1, a15 mi _ (Lambda.resolvedOf_method eM.1 eM.2.1 a11 a12 eM.2.2 a14)⟩, a12, hmB, hsp _, hstB, habB, hit, hpr, by rw [← Option.some.inj (hsig.symm.trans hsigB)]; exact hn, hnB⟩
section KF2
variable {g : GT} {X : CxT} {cc : ByteArray} {nL : Nat} {rt : Option FieldType} {fr lo : Nat} {rv : Option Value} {w1 w : Wd} {pc : Nat} {lv : List (Option Value)} {st : List Value}
theorem f_zret {v : Int32} {ty : FieldType} (C : kOf g X cc nL (some ty) fr lo (some (.int v)) w) (hn : narrow ty (.int v) = .int v) (hdg : decode cc pc = .ok (.ireturn, 1)) : kV g X nL w pc lv [.int v] := by
  intro H locs ls a b h
  obtain ⟨hx, hb, -, -, -, hlk, hr, -, hQ⟩ := C
  refine W_post hQ ?_
  refine W.widen (Nat.sub_le_sub_right a.2.2.2.1.2.1 _) (Nat.sub_le_sub_right a.2.2.2.1.2.2 _) ?_
  exact W.zret hx hb hr hn (fun t ht _ => ⟨rfl, by rw [ht]; exact a⟩) b hdg hlk
/-- the private method behind -/
theorem f_virt (C : kOf g X cc nL rt fr lo rv w1) {i index np : Nat} {y : MethodName} (hm : xm X = ⟨gL g i, 1⟩) (hS : ∀ U : State, (xs X).WarmedH U.vm → ∃ t kt metht, namesAClass U (gL g i) index ∧ U.vm.methodReady (gL g i) index t ∧ U.vm.classes[t.cls]? = some kt ∧ U.vm.method? t = some metht ∧ signaturePolymorphic kt metht = false ∧ metht.isStatic = false ∧ metht.isAbstract = false ∧ kt.isInterface = false ∧ metht.isPrivate = true ∧ metht.sig.parameters.length = np ∧ U.methodNamed? y = some t)
    {b : ByteArray} {mL fr2 lo2 a : Nat} {ret : Option FieldType} {As st0 : List Value} {r : Option Value} {w2 : Wd} (hrc : ∀ H, kRp g w H → ∃ cell : Cell, H[a]? = some cell ∧ cell.vm.isStatics = false) (hcd : Cond.code y b mL ret ∈ lw_all) (hin : Cond.initialized y.cls ∈ lw_all) (hM : kMt (xl X) g y (ws_ y b mL ret) fr2 lo2 w (.ref a :: As) r w2) (hR : fr2 + 1 ≤ fr ∧ 8 + (mL + 11) + lo2 ≤ lo) (hn : As.length = np) (hst : st0 = As.reverse ++ .ref a :: st) (hw : (st.map fun v => v.category).sum ≤ 8) (hdg : decode cc pc = .ok (.invokevirtual index, 3)) (k : kV g X nL w2 (pc + 3) lv (r.toList ++ st)) : kV g X nL w pc lv st0 := by
  refine v_run (mc := gcc g - w.2.1) (ms := gcs g - w.2.2) (a0 := (Value.ref a :: As).toArray) (fun H locs ls a1 h z1 z2 => ?_) k
  obtain ⟨hx, hb, hml, hts, hG, -, -, ⟨r1, r2, r3, r4⟩, -⟩ := C
  have c1 := a1.2.2.2.1.2.1
  have c2 := a1.2.2.2.1.2.2
  have hK : Back (xl X) (xR X) (xp X) (xe X) (xb X) (xs X) (xa X) y 3 8 (PreOf (xR X) (gcc g - w.2.1) (gcs g - w.2.2) (Pk g w (.ref a :: As))) (PostOf (Qk g r w2) (gcc g - w.2.1) (gcs g - w.2.2) (kfree g)) :=
    back_of (bytes := b) (maxL := mL) (ret := ret) hM Pk_blind rfl rfl (by rw [r1]; exact hR.1) (by rw [r2]; exact hR.2) (pay_in hts (lw_meth hcd)) List.mem_cons_self (fun a' U hW => word_at hW (Or.inl (by first | rfl | simp [Cond.onTables, Cond.keeps, Cond.steady])) (hts _ hin))
  obtain ⟨cellB, hcB, hoB⟩ := hrc H a1
  intro T hT Y
  obtain ⟨t, kt, metht, q1, q2, q3, q4, q5, q6, q7, q8, q9, q10, q11⟩ := hS T Y.warmed
  have hm2 : (xm X).cls = gL g i := by rw [hm]
  have hdg2 : decode (xc X).code (F0 (xm X) pc ls st0).pc = .ok (.invokevirtual index, 3) := by rw [hb]; exact hdg
  obtain ⟨v, B, X', hpost, hsteps⟩ := hK (xm X) (xh X) (xc X) ⟨T, locs, _, _⟩ { F0 (xm X) pc ls st0 with stack := st } (.invokevirtual index) t (Value.ref a :: As).toArray Y rfl (h.1.trans hml.symm) (by rw [hb]; exact hdg) (lv_room hw) q11
    ⟨by rw [r3]; show w.2.1 - (xs X).heap.size + (gcc g - w.2.1) ≤ _; omega, by rw [r4]; show w.2.2 - khs (xs X).heap + (gcs g - w.2.2) ≤ _; omega, Pk_at hG a1 T hT Y.warmed⟩
  obtain ⟨U', q2', c2', s2⟩ := B
  obtain ⟨g', mk', t', L, e1, e2, hq, h1, hL, h2, h3⟩ := hpost
  dsimp only [Pt.U, Pt.locs, Pt.cells, Pt.slots] at X' e1 e2 h1 h2 h3 hsteps
  subst h1; subst h2; subst h3
  refine ⟨v, T.calling g' mk' (Value.ref a :: As).toArray, t', U', L, hT, X', hL, e1, e2, hq, fun target ht => Steps.trans (?_ : Steps _ _ _ _ (doInvoke (xe X) (T.setTop { F0 (xm X) pc ls st0 with stack := st }) [] t (Value.ref a :: As).toArray).1) (hsteps.trans ht)⟩
  jvm_step Y.here [hx, hdg2, invokevirtual.wp_ready (e := xe X) (s := T) (r := t) (m := t) (k := kt) (mk := kt) (rmeth := metht) (meth := metht) (a := a) (args := As) (rest := st) (cell := cellB) (f := F0 (xm X) pc ls st0) Y.here.top (by show namesAClass T (xm X).cls index; rw [hm2]; exact q1) (by show T.vm.methodReady (xm X).cls index t; rw [hm2]; exact q2) q3 q4 q5 q6 (hn.trans q10.symm) hst (by rw [hT]; exact hcB) (fun z hz => by rw [hz] at hoB; cases hoB) (selectMethod_private q4 q9) q4 q7 q3 q8]
  intro acts
  rw [doInvoke_state]
  exact Steps.refl _
end KF2
