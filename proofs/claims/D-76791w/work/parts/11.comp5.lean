/-! a call whose class the tables don't call initialised: by its body -/
set_option maxRecDepth 100000
/-- a method's body, walked -/
def kBd (l : Launch) (g : GT) (y : MethodName) (cc : ByteArray) (nL : Nat) (ret : Option FieldType) (fr lo : Nat) (w : Wd) (as : List Value) (r : Option Value) (w1 : Wd) : Prop :=
  plainName y.cls = true ∧ (lg_sl as).length ≤ nL ∧ ∃ lv, lv_args 0 as = lvE 0 lv ∧ ∀ X : CxT, xl X = l → kHin X y → kOk g X cc nL y.cls ret fr lo r w1 → kV g X nL w 0 lv []
theorem back_in {l : Launch} {g : GT} {y : MethodName} {cc : ByteArray} {nL : Nat} {ret : Option FieldType} {fr lo : Nat} {w : Wd} {as : List Value} {r : Option Value} {w1 : Wd} {R : Room} {p : Program} {e : Env} {below : List Frame} {s : State} {sargs : Array Value} (hb : kBd l g y cc nL ret fr lo w as r w1) (hx : p.tables.exec = Jvm.exec)
    (hts : ∀ w ∈ lw_all, ∀ (a' : Array Value) (U : State), s.WarmedH U.vm → w.before a' U = true) (hc : Cond.code y cc nL ret ∈ lw_all) (hfr : fr + 1 ≤ R.frames) (hlo : 8 + (nL + 11) + lo ≤ R.locals) :
    Back l R p e below s sargs y 3 8 (PreOf R (gcc g - w.2.1) (gcs g - w.2.2) (Pk g w as)) (PostOf (Qk g r w1) (gcc g - w.2.1) (gcs g - w.2.2) (kfree g)) := by
  intro m meth c A gf ig mk a X hg hsize hdg hW hn hp
  obtain ⟨U, Ls, c0, s0⟩ := A
  obtain ⟨p1, p2, rfl, hR, hGU⟩ := hp
  obtain ⟨hy, hl, lv, hlv, body⟩ := hb
  dsimp only [Pt.U, Pt.locs, Pt.cells, Pt.slots] at X hn p1 p2 hR hGU
  obtain ⟨methk, ck, k1, k2, k3, k4, k5, k6, -, -⟩ := Cond.code_spec hn (hts _ hc as.toArray U X.warmed)
  have hpk : U.plainMethod mk := State.plainMethod.of_name (fun k hk => by
    obtain ⟨kP, h1, h2⟩ := className_of_methodNamed hn
    cases h1.symm.trans hk
    rw [h2]; exact hy)
  obtain ⟨Y₀, hin⟩ := X.into hg hsize hdg as.toArray (R' := { frames := fr, cells := gcc g - w.2.1, slots := gcs g - w.2.2, locals := lo }) k1 k2 k6 hpk hfr (by rw [k4]; show _ + _ + (nL + 11) + lo ≤ _; omega) p1 p2
  have e1 : U.heap.size = w.2.1 := hR.2.1
  have e2 : khs U.heap = w.2.2 := hR.2.2.1
  have hle := lv_entry as (n := nL) hl
  rw [hlv] at hle
  have hbody := body (p, l, e, ({ frames := fr, cells := gcc g - w.2.1, slots := gcs g - w.2.2, locals := lo } : Room), U.calling gf mk as.toArray, mk, as.toArray, Frame.java gf :: below, methk, ck, MQ (Frame.java gf :: below) (Qk g r w1) as.toArray (U.calling gf mk as.toArray) (gcc g - w.2.1) (gcs g - w.2.2) (kfree g)) rfl ⟨(name_of_methodNamed hn k1).1, hn⟩
    ⟨hx, k3, k4, findClass_of_methodNamed hn, fun w hw => hts w hw _ _ X.warmed, hGU.warm (State.WarmedH.refl U), k6, k5, ⟨rfl, rfl, by show gcc g - w.2.1 = gcc g - U.heap.size; rw [e1], by show gcs g - w.2.2 = gcs g - khs U.heap; rw [e2]⟩, fun t ht => by have ht : MQ (Frame.java gf :: below) (Qk g r w1) as.toArray (U.calling gf mk as.toArray) (gcc g - U.heap.size) (gcs g - khs U.heap) (kfree g) t := ht; rw [e1, e2] at ht; exact ht⟩ U.heap [] _ hR (fun q h => by cases h) hle
  have z1 : w.2.1 - U.heap.size = 0 := by omega
  have z2 : w.2.2 - khs U.heap = 0 := by omega
  have hbody : W p l e _ (U.calling gf mk as.toArray) mk as.toArray (Frame.java gf :: below) methk ck U.heap [] (w.2.1 - U.heap.size) (w.2.2 - khs U.heap) _ _ := hbody
  rw [z1, z2] at hbody
  rw [k4] at hin Y₀
  obtain ⟨t, stp, o, hrun, hended, ⟨ho, hR2⟩, L, ⟨hret, hWe, hsame⟩, hL⟩ := hbody ((U.setTop gf).pushFrame (Frame.java (entryFrame mk as.toArray nL))) rfl Y₀
  subst ho
  obtain ⟨T', X'', hW', hB, ht⟩ := X.outOf hg hdg hended hWe hsame
  refine ⟨r, ⟨T', Ls ++ L, c0 + (gcc g - w.2.1), s0 + (gcs g - w.2.2)⟩, X'', ⟨gf, mk, t, L, (congrArg State.heap ht).symm, (congrArg State.vm ht).symm, ⟨rfl, hR2⟩, rfl, hL, rfl, rfl⟩, ?_⟩
  rw [hin []]
  show Steps p.tables e below _ (T'.setTop { gf with pc := gf.pc + 3, stack := r.toList ++ gf.stack })
  rw [← ht]
  refine Steps.weaken (mid := [.java gf]) ?_
  have hE : entryFrame mk as.toArray nL = F0 mk 0 (lg_sl as ++ List.replicate (nL - (lg_sl as).length) Slot.unset).toArray [] := by rw [lg_entry_eq]
  have stp : Steps p.tables e (Frame.java gf :: below) (((U.setTop gf).pushFrame (Frame.java (entryFrame mk as.toArray nL))).setTop (F0 mk 0 (lg_sl as ++ List.replicate (nL - (lg_sl as).length) Slot.unset).toArray [])) t := stp
  rw [← hE] at stp
  exact stp
section KI
variable {g : GT} {X : CxT} {cc : ByteArray} {nL : Nat} {own : String} {rt : Option FieldType} {fr lo : Nat} {rv : Option Value} {w1 w : Wd} {pc : Nat} {lv : List (Option Value)} {st : List Value}
/-- ... a virtual call -/
def kLB (own : String) (index : Nat) (Cn owner : String) (x y : MethodName) (b : ByteArray) (mL : Nat) (ret : Option FieldType) (n : Nat) : Prop :=
  Cond.methodLink own index x ∈ lw_all ∧ Cond.sameMethod x.cls owner x.name x.desc ∈ lw_all ∧ Cond.selects Cn x y ∈ lw_all ∧ Cond.instanceMethod y ∈ lw_all ∧ Cond.code y b mL ret ∈ lw_all ∧
  (Cond.declares ⟨owner, x.name, x.desc⟩ ∈ lw_tbl ∨ (Cond.instanceMethod ⟨owner, x.name, x.desc⟩ ∈ lw_all ∧ ∃ b0 m0 r0, Cond.code ⟨owner, x.name, x.desc⟩ b0 m0 r0 ∈ lw_all)) ∧ owner ≠ "java/lang/invoke/MethodHandle" ∧ owner ≠ "java/lang/invoke/VarHandle" ∧ (parseMethodDescriptor x.desc).map (fun d => d.parameters.length) = some n
theorem v_callB (C : kOk g X cc nL own rt fr lo rv w1) {index : Nat} {Cn owner : String} {x y : MethodName} {b : ByteArray} {mL n : Nat} {ret : Option FieldType} (L : kLB own index Cn owner x y b mL ret n) {fr2 lo2 : Nat} {a : Nat} {As : List Value} {r : Option Value} {w2 : Wd} {st0 : List Value} (hrc : kRc g X w Cn a) (hM : kBd (xl X) g y b mL ret fr2 lo2 w (.ref a :: As) r w2) (hR : fr2 + 1 ≤ fr ∧ 8 + (mL + 11) + lo2 ≤ lo) (hn : As.length = n) (hst : st0 = As.reverse ++ .ref a :: st) (hw : (st.map fun v => v.category).sum ≤ 8) (hdg : decode cc pc = .ok (.invokevirtual index, 3))
    (k : kV g X nL w2 (pc + 3) lv (r.toList ++ st)) : kV g X nL w pc lv st0 := by
  refine v_run (mc := gcc g - w.2.1) (ms := gcs g - w.2.2) (a0 := (Value.ref a :: As).toArray) (fun H locs ls a1 h z1 z2 => ?_) k
  obtain ⟨hx, hb, hml, hown, hts, hG, -, -, ⟨r1, r2, r3, r4⟩, -⟩ := C
  obtain ⟨l1, l2, l3, l4, l6, l7, l8, l9, l10⟩ := L
  have c1 := a1.2.2.2.1.2.1
  have c2 := a1.2.2.2.1.2.2
  have hdecl : va_Decl (xs X) ⟨owner, x.name, x.desc⟩ := by
    rcases l7 with q | ⟨q, b0, m0, r0, q2⟩
    · exact va_Decl.abs (hG.2.1 _ q rfl)
    · exact va_Decl.of (hts _ q) (hts _ q2)
  have hK : Back (xl X) (xR X) (xp X) (xe X) (xb X) (xs X) (xa X) y 3 8 (PreOf (xR X) (gcc g - w.2.1) (gcs g - w.2.2) (Pk g w (.ref a :: As))) (PostOf (Qk g r w2) (gcc g - w.2.1) (gcs g - w.2.2) (kfree g)) :=
    back_in hM hx (pay_in hts lw_self) l6 (by rw [r1]; exact hR.1) (by rw [r2]; exact hR.2)
  obtain ⟨cellB, hcB, hoB, hclB⟩ := hrc H a1
  intro T hT Y
  obtain ⟨v, vm₁, ⟨U', q2, c2', s2⟩, hW₁, X', ⟨g', mk, t, L, e1, e2, hq, h1, hL, h2, h3⟩, stp⟩ := va_callVU Y hx (C := Cn) (owner := owner) (bytes := b) (maxL := mL) (ret := ret) hown (hts _ l1) (hts _ l2) hdecl ⟨l8, l9⟩ (hts _ l3) (hts _ l4) (hts _ l6) hK (by rw [hT]; exact hcB) hoB hclB (g := F0 (xm X) pc ls st0) rfl (h.1.trans hml.symm) (argsL := As) (rest := st) (fun sig hs => by
      rw [hs] at l10
      exact hn.trans (Option.some.inj l10).symm) hst (lv_room hw) (by rw [hb]; exact hdg)
    (fun vm₁ hW₁ => ⟨by rw [r3]; show w.2.1 - (xs X).heap.size + (gcc g - w.2.1) ≤ _; omega, by rw [r4]; show w.2.2 - khs (xs X).heap + (gcs g - w.2.2) ≤ _; omega, Pk_at hG a1 (T.setVm vm₁) hT hW₁⟩)
  dsimp only [Pt.U, Pt.locs, Pt.cells, Pt.slots] at X' e1 e2 h1 h2 h3 stp
  subst h1; subst h2; subst h3
  exact ⟨v, (T.setVm vm₁).calling g' mk (Value.ref a :: As).toArray, t, U', L, hT, X', hL, e1, e2, hq, stp⟩
end KI
