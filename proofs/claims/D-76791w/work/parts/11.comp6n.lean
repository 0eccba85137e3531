/-! an interface's method that a superinterface declares; access as the link itself tells it -/
set_option maxRecDepth 100000
theorem k_linkFF {args : Array Value} {s : State} {cls : String} {x : MethodName} {index d c : Nat} {ck ok : Class} {meth : Method} {mf : MethodId}
    (hd : s.vm.findClass cls = some d) (hc : s.vm.findClass x.cls = some c) (hck : s.vm.classes[c]? = some ck) (hvi : ck.isInterface = true) (hnone : ck.findMethod x.name x.desc = none)
    (hf : s.methodFound? x.cls x.name x.desc = some mf) (hok : s.vm.classes[mf.cls]? = some ok) (hm : ok.methods[mf.idx]? = some meth)
    (hcl9 : x.name ≠ "clone") (hx : x.cls ≠ "java/lang/invoke/MethodHandle" ∧ x.cls ≠ "java/lang/invoke/VarHandle")
    (h : (Cond.methodLink cls index x).before args s = true) (pl : Platform) (hpl : pl.magicAccessors = ({} : Platform).magicAccessors) :
    ∃ ci, s.vm.MethodLinksFF pl d index ci c mf ∧ s.rightAt d index (.method mf) = true := by
  obtain ⟨k₀, hk₀, hname⟩ := Vm.findClass_spec hc
  cases hck.symm.trans hk₀
  have hpoly : ∀ y, signaturePolymorphic ck y = false := fun y => by simp [signaturePolymorphic, hname, hx.1, hx.2]
  have hmeth : s.vm.method? mf = some meth := by simp [Vm.method?, hok, hm]
  have hff := State.faceFind_of_found hc hck hvi hpoly hnone hf
  simp only [Cond.before, Cond.holds, Cond.value, hd, hc] at h
  cases hme : s.memberEntry? cls index with
  | none => simp [hme] at h
  | some me =>
    obtain ⟨ci, via⟩ := me
    cases hcl : s.classLinks cls ci x.cls with
    | none => simp [hme, hcl, hf] at h
    | some linked =>
      cases hdk : s.vm.classes[d]? with
      | none => simp [hme, hcl, hdk, hf] at h
      | some dk =>
        simp only [hme, hcl, hdk, hck, hok, hmeth, hf, Option.bind_eq_bind, Option.bind_some, Option.pure_def, beq_iff_eq, bne_iff_ne, ne_eq, Option.some.injEq, Bool.and_eq_true, Option.isNone_iff_eq_none] at h
        obtain ⟨⟨⟨⟨⟨⟨⟨rfl, hnm⟩, hopen⟩, hvia⟩, -⟩, -⟩, hml⟩, hacc⟩ := h
        rw [hvi] at hvia
        subst hvia
        obtain ⟨cr, hcr, hlinks⟩ := State.classLinks_spec hd hcl pl hpl
        cases hc.symm.trans hcr
        obtain ⟨cp, hcp, hnames⟩ := State.names_spec hnm
        obtain ⟨dk', cf, hdk', hcf, rfl⟩ := State.poolOf?_spec hd hcp
        cases hdk.symm.trans hdk'
        obtain ⟨ci', nt, hent, hnt, -⟩ := namesOf?_method hnames
        have hent' : ci' = ci ∧ cf.constantPool[index]? = some (.interfaceMethodref ci nt) := by
          rcases hent with hent | hent
          · simp only [State.memberEntry?, hcp, Option.bind_eq_bind, Option.bind_some, hent, Option.some.injEq, Prod.mk.injEq] at hme
            exact absurd hme.2 (by simp)
          · simp only [State.memberEntry?, hcp, Option.bind_eq_bind, Option.bind_some, hent, Option.some.injEq, Prod.mk.injEq] at hme
            obtain ⟨rfl, -⟩ := hme
            exact ⟨rfl, hent⟩
        obtain ⟨rfl, hent''⟩ := hent'
        have hne : ci' ≠ index := by
          intro he
          obtain ⟨_, cf', name', _, hd', hcf', _, hname', _⟩ := hlinks.here
          cases hdk.symm.trans hd'
          cases hcf.symm.trans hcf'
          subst he
          simp [ConstantPool.className?, hent''] at hname'
        have hdl : dk.loader = none := by
          obtain ⟨dk', _, _, _, hd', _, hl', _⟩ := hlinks.here
          cases hdk.symm.trans hd'; exact hl'
        have hP : s.vm.Plain meth.accessFlags mf.cls ok c d dk := by
          have hb : (x.name == "clone") = false := by simpa using hcl9
          simpa [Vm.Plain, plainAccess, or_assoc, and_assoc, hb] using hacc
        refine ⟨ci', ⟨dk, cf, nt, x.name, x.desc, ck, ok, meth, hdk, hcf, hent'', hnt, hlinks, hne, hck, hvi, hpoly, hnone, hff, hok, hm, hdl.trans hml.symm, hP, State.openOr_spec hd hdk hopen⟩, ?_⟩
        simp [State.rightAt, hdk, hcf, hnames, hf]
theorem k_faceUp {p : Program} {l : Launch} {e : Env} {R : Room} {s : State} {m : MethodId} {args : Array Value} {below : List Frame} {meth : Method} {c : Code} {T : State} {locs : List Loc} {cells slots : Nat} (X : Stand p l e R s m args below meth c T locs cells slots) (hexec : p.tables.exec = Jvm.exec)
    {own J : String} {index count : Nat} {x : MethodName} (hown : s.vm.findClass own = some m.cls) (hlink : (Cond.methodLink own index x).before args s = true)
    (hface : (Cond.interfaceMethod x.cls J x.name x.desc).before args s = true) (hdecl : (Cond.declares ⟨J, x.name, x.desc⟩).before args s = true) (hcl9 : x.name ≠ "clone")
    (hxo : x.cls ≠ J) (hx : x.cls ≠ "java/lang/invoke/MethodHandle" ∧ x.cls ≠ "java/lang/invoke/VarHandle")
    {a : Addr} {cell : Cell} {kcell : Class} {cI : ClassId} (hcI : s.vm.findClass x.cls = some cI) (hcell : T.heap[a]? = some cell) (hobj : ∀ c, cell.vm ≠ .statics c) (hkcell : s.vm.classes[cell.cls]? = some kcell)
    (hinst : s.vm.assignable cell.cls cI = true)
    {r0 m' : MethodId} {r meth' : Method} (hn : s.methodNamed? ⟨J, x.name, x.desc⟩ = some r0) (hrm : s.vm.method? r0 = some r)
    (hsel : selectMethod e.platform s.vm cell.cls r0 = .method m') (hm' : s.vm.method? m' = some meth')
    (hway : ((cell.cls :: s.vm.superclasses cell.cls).any fun k => (declaredIn s.vm r.name r.desc k).any fun (_, y) => y.isPrivate || y.isStatic) = false)
    (hpub : hasFlag meth'.accessFlags Acc.public_ = true) (habs : meth'.isAbstract = false)
    {g : JFrame} (hg : g.method = m) {argsL rest : List Value} (hlen : argsL.length = r.sig.parameters.length) (hstack : g.stack = argsL.reverse ++ .ref a :: rest)
    (hdg : decode c.code g.pc = .ok (.invokeinterface index count, 5)) :
    ∃ vm', Stand p l e R s m args below meth c (T.setVm vm') locs cells slots ∧
      ∀ target, (∀ acts, Steps p.tables e below (doInvoke e ((T.setVm vm').setTop { g with stack := rest }) acts m' (.ref a :: argsL).toArray).1 target) → Steps p.tables e below (T.setTop g) target := by
  have hpl : e.platform.magicAccessors = ({} : Platform).magicAccessors := by rw [X.admits.platform]
  obtain ⟨r0', r', hn', hrm', hstR, -⟩ := Cond.declares_spec hdecl
  cases hn.symm.trans hn'
  cases hrm.symm.trans hrm'
  obtain ⟨ok, hok, hokname⟩ := className_of_methodNamed hn
  have hmO : ok.methods[r0.idx]? = some r := by simpa [Vm.method?, hok] using hrm
  obtain ⟨cL, kL, r1, hcL, hkL, hiL, hfoundL, hn1⟩ := Cond.interfaceMethod_spec hface
  cases hcI.symm.trans hcL
  cases hn.symm.trans hn1
  obtain ⟨kL', hkL', hnameL⟩ := Vm.findClass_spec hcL
  cases hkL.symm.trans hkL'
  have hpolyL : ∀ y, signaturePolymorphic kL y = false := fun y => by simp [signaturePolymorphic, hnameL, hx.1, hx.2]
  have hnone : kL.findMethod x.name x.desc = none := by
    cases hj : kL.findMethod x.name x.desc with
    | none => rfl
    | some j =>
      exfalso
      have hsome : (kL.methods[j]?).isSome := by
        obtain ⟨hlt, -, -⟩ := Array.findIdx?_eq_some_iff_getElem.mp hj
        simp [hlt]
      have h2 := State.methodFound?_declared hcL hkL hpolyL hj hsome
      rw [hfoundL] at h2
      have e1 : r0 = ⟨cI, j⟩ := Option.some.inj h2
      have e2 : r0.cls = cI := by rw [e1]
      rw [e2] at hok
      cases hkL.symm.trans hok
      exact hxo (hnameL.symm.trans hokname)
  obtain ⟨ci, hl, hright⟩ := k_linkFF hown hcL hkL hiL hnone hfoundL hok hmO hcl9 hx hlink e.platform hpl
  have hE : s.MethodEntryUp e T.vm m.cls index cI r0 ci := State.methodEntryFF X.warmed hl hright
  obtain ⟨dk, cfile, nt, _, _, ck, _, _, hd, hcf, hcp, -, -, -, hck, hvia, -⟩ := hl.here
  cases hkL.symm.trans hck
  have alike := hE.warmed.alike
  obtain ⟨dk₂, hdk₂, hres⟩ := hE.classReady
  obtain ⟨dk₃, hdk₃, hed⟩ := alike.2.2 _ _ hd
  cases hdk₂.symm.trans hdk₃
  obtain ⟨ck₂, hck₂, hec⟩ := alike.2.2 _ _ hck
  obtain ⟨kcell₂, hkcell₂, -⟩ := alike.2.2 _ _ hkcell
  refine ⟨T.vm.calledUp m.cls ci index cI r0, X.noted hE.warmed, fun target hrest => ?_⟩
  subst hg
  jvm_step X.here [hexec, hdg, invokeinterface.wp_coldFace (e := e) (s := T) (s₀ := s) (f := g) (count := count) X.here.top X.warmed hE hd hcf (Or.inr hcp) hck hvia,
    invokeinterface.wp_ready (e := e) (s := T.setVm (T.vm.calledUp g.method.cls ci index cI r0)) (f := g) (count := count) (r := r) (meth := meth') (m := m') (args := argsL) (rest := rest) (cell := cell) (kcell := kcell₂) (ck := dk₂) (nk := ck₂) (cf := cfile) (ci := ci) (nt := nt) (named := cI)
      X.here.top hE.ready (by show (T.vm.calledUp g.method.cls ci index cI r0).method? r0 = some r; rw [alike.method?]; exact hrm) hstR hlen hstack hcell hobj hkcell₂ hdk₂ (by rw [hed]; exact hcf) hcp hres hck₂ (by rw [hec]; exact hvia)
      (by show (T.vm.calledUp g.method.cls ci index cI r0).assignable cell.cls cI = true; rw [alike.assignable]; exact hinst)
      (by show selectMethod e.platform (T.vm.calledUp g.method.cls ci index cI r0) cell.cls r0 = .method m'; rw [alike.selectMethod]; exact hsel)
      (by show (T.vm.calledUp g.method.cls ci index cI r0).method? m' = some meth'; rw [alike.method?]; exact hm')
      (Or.inr (Or.inr (by show ((cell.cls :: (T.vm.calledUp g.method.cls ci index cI r0).superclasses cell.cls).any fun k => (declaredIn (T.vm.calledUp g.method.cls ci index cI r0) r.name r.desc k).any fun (_, y) => y.isPrivate || y.isStatic) = false; simp only [alike.superclasses, alike.declaredIn]; exact hway)))
      (Or.inl hpub) habs]
  exact hrest
section KNv
variable {g : GT} {X : CxT} {cc : ByteArray} {nL : Nat} {rt : Option FieldType} {fr lo : Nat} {rv : Option Value} {w1 w : Wd} {pc : Nat} {lv : List (Option Value)} {st : List Value} {β : Type} {z : β}
/-- TreeSet's call of NavigableMap.put -/
theorem v_navput (C : kOk g X cc nL "java/util/TreeSet" rt fr lo rv w1) (hX : ∀ U, gX g U → SX g U) {a kk9 v9 : Nat} (hi : oIs w a 15 = true) {fr2 lo2 : Nat} {f : Option (Option Nat × Wd)} (hM : ∀ r w2, f = some (r, w2) → kMt (xl X) g yJ18_put (ws_ yJ18_put cJ18_put 3 (some (.object "java/lang/Object"))) fr2 lo2 w [.ref a, .ref kk9, .ref v9] (some (va_rf r)) w2) (hR : fr2 + 1 ≤ fr ∧ 8 + (3 + 11) + lo2 ≤ lo) (hw : (st.map fun v => v.category).sum ≤ 8) {count : Nat} (hdg : decode cc pc = .ok (.invokeinterface 69 count, 5)) {A : Option Nat → Wd → Option β} (hF : kb f A = some z) (k : ∀ r w2, A r w2 = some z → kV g X nL w2 (pc + 5) lv (va_rf r :: st)) : kV g X nL w pc lv (.ref v9 :: .ref kk9 :: .ref a :: st) := by
  obtain ⟨r, w2, h1, h2⟩ := kb_of hF
  have hM := hM r w2 h1
  obtain ⟨fs, hfs⟩ := oIs_of hi
  have hS := hX _ C.2.2.2.2.2.1.2.2.1
  obtain ⟨-, s1, s2, s3, s4, s5, s6⟩ := hS.2.2.2.2.2.2.2.2.2.2.2.2
  refine v_run5 (r := some (va_rf r)) (mc := gcc g - w.2.1) (ms := gcs g - w.2.2) (a0 := (Value.ref a :: [.ref kk9, .ref v9]).toArray) (fun H locs ls a1 h z1 z2 => ?_) (k r w2 h2)
  obtain ⟨hx, hb, hml, hown, hts, hG, -, -, ⟨r1, r2, r3, r4⟩, -⟩ := C
  have c1 := a1.2.2.2.1.2.1
  have c2 := a1.2.2.2.1.2.2
  have hK : Back (xl X) (xR X) (xp X) (xe X) (xb X) (xs X) (xa X) yJ18_put 5 8 (PreOf (xR X) (gcc g - w.2.1) (gcs g - w.2.2) (Pk g w [.ref a, .ref kk9, .ref v9])) (PostOf (Qk g (some (va_rf r)) w2) (gcc g - w.2.1) (gcs g - w.2.2) (kfree g)) :=
    back_of (bytes := cJ18_put) (maxL := 3) (ret := some (.object "java/lang/Object")) hM Pk_blind rfl rfl (by rw [r1]; exact hR.1) (by rw [r2]; exact hR.2) (pay_in hts (lw_meth q1698)) List.mem_cons_self (fun a' U hW => word_at hW (Or.inl (by first | rfl | simp [Cond.onTables, Cond.keeps, Cond.steady])) (hts _ q106))
  obtain ⟨cellB, hcB, hoB, hclB⟩ := k_recv hG a1 (show kcl[15]? = some _ from rfl) hfs
  intro T hT Y
  obtain ⟨r0, rm, hn, hrm, hstR, hsigR⟩ := Cond.declares_spec s3
  obtain ⟨cL, kL, r1', hcL, hkL, hiL, hfoundL, hn1⟩ := Cond.interfaceMethod_spec s2
  obtain ⟨hnameR, hdescR⟩ := name_of_methodNamed hn hrm
  obtain ⟨mk, methM, hnamed, hmethM, -, habM⟩ := Cond.instanceMethod_spec (hts _ q1696)
  obtain ⟨c2', r2', m2, q1, q2, q3, q4, -⟩ := Cond.selects_spec (hts _ q1979)
  cases hclB.symm.trans q1
  have hfm : (xs X).methodFound? "java/util/Map" "put" "(Ljava/lang/Object;Ljava/lang/Object;)Ljava/lang/Object;" = some r0 := State.methodFound?_of_named hn (by decide)
  cases hfm.symm.trans q2
  cases hnamed.symm.trans q3
  have hselP : selectMethod (xe X).platform (xs X).vm cellB.cls r0 = .method mk := by rw [Launch.admits_selectMethod Y.admits]; exact q4
  have hpubM : hasFlag methM.accessFlags Acc.public_ = true := Cond.publicMethod_spec hnamed hmethM s4
  have hway : ((cellB.cls :: (xs X).vm.superclasses cellB.cls).any fun k => (declaredIn (xs X).vm rm.name rm.desc k).any fun (_, z) => z.isPrivate || z.isStatic) = false := by
    rw [hnameR, hdescR]; exact Cond.unhidden_spec hclB s5
  obtain ⟨c3, t3, w1', w2', w3⟩ := Cond.castable_spec s6
  cases hclB.symm.trans w1'
  cases hcL.symm.trans w2'
  obtain ⟨kB, hkB, -⟩ := Vm.findClass_spec hclB
  have hlen : [Value.ref kk9, Value.ref v9].length = rm.sig.parameters.length := by
    have hd2 : (parseMethodDescriptor "(Ljava/lang/Object;Ljava/lang/Object;)Ljava/lang/Object;").map (fun d => d.parameters.length) = some 2 := by decide +kernel
    rw [hsigR] at hd2
    exact (Option.some.inj hd2).symm
  obtain ⟨vm₁, X₁, hstep₁⟩ := k_faceUp Y hx (own := "java/util/TreeSet") (J := "java/util/Map") (x := ⟨"java/util/NavigableMap", "put", "(Ljava/lang/Object;Ljava/lang/Object;)Ljava/lang/Object;"⟩) hown s1 s2 s3 (by decide) (by decide) (by decide) (a := a) (cell := cellB) (kcell := kB) hcL (by rw [hT]; exact hcB)
    (fun z h => by rw [h] at hoB; cases hoB) hkB w3 hn hrm hselP hmethM hway hpubM habM (g := F0 (xm X) pc ls (.ref v9 :: .ref kk9 :: .ref a :: st)) rfl (argsL := [.ref kk9, .ref v9]) (rest := st) hlen rfl (by rw [hb]; exact hdg)
  obtain ⟨v, B, X', hpost, hsteps⟩ := hK (xm X) (xh X) (xc X) ⟨T.setVm vm₁, locs, _, _⟩ { F0 (xm X) pc ls (.ref v9 :: .ref kk9 :: .ref a :: st) with stack := st } (.invokeinterface 69 count) mk (Value.ref a :: [.ref kk9, .ref v9]).toArray X₁ rfl (h.1.trans hml.symm) (by rw [hb]; exact hdg) (lv_room hw) (X₁.named hnamed)
    ⟨by rw [r3]; show w.2.1 - (xs X).heap.size + (gcc g - w.2.1) ≤ _; omega, by rw [r4]; show w.2.2 - khs (xs X).heap + (gcs g - w.2.2) ≤ _; omega, Pk_at hG a1 (T.setVm vm₁) hT X₁.warmed⟩
  obtain ⟨U', q2, c2', s2⟩ := B
  obtain ⟨g', mk', t, L, e1, e2, hq, h1, hL, h2, h3⟩ := hpost
  dsimp only [Pt.U, Pt.locs, Pt.cells, Pt.slots] at X' e1 e2 h1 h2 h3 hsteps
  subst h1; subst h2; subst h3
  exact ⟨v, (T.setVm vm₁).calling g' mk' (Value.ref a :: [.ref kk9, .ref v9]).toArray, t, U', L, hT, X', hL, e1, e2, hq, fun target ht => hstep₁ _ fun acts => by rw [doInvoke_state]; exact hsteps.trans ht⟩
end KNv
