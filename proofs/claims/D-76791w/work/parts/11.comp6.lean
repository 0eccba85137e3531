set_option maxRecDepth 100000
def aClI (g : GT) (w : Wd) (a : Nat) : Option (Nat × Wd) := kob (aC g w 0 a) (fun x => kob (xI x) (fun f => if w.2.1 + 1 ≤ gcc g ∧ w.2.2 + x.1 ≤ gcs g then some (w.2.1, (kup w.1 w.2.1 (some (.inl (.inl (gA g 0, x.1, .inl f)))), w.2.1 + 1, w.2.2 + x.1)) else none))
theorem cat_r (x : Nat) : (Value.ref x).category = 1 := rfl
theorem cat_i (x : Int32) : (Value.int x).category = 1 := rfl
theorem cat_n : (Value.null).category = 1 := rfl
theorem k_ob0 {α β : Type} {A : α → Option β} {z : β} (h : kob none A = some z) : False := by cases h
theorem k_ob1 {α β : Type} {a : α} {A : α → Option β} {z : β} (h : kob (some a) A = some z) : A a = some z := h
section KJ
variable {g : GT} {X : CxT} {cc : ByteArray} {nL : Nat} {own : String} {rt : Option FieldType} {fr lo : Nat} {rv : Option Value} {w1 w : Wd} {pc : Nat} {lv : List (Option Value)} {st : List Value} {β : Type} {z : β}
theorem v_cloneI (C : kOk g X cc nL own rt fr lo rv w1) (_ : ∀ U, gX g U → SX g U) {index a : Nat} (hq : Cond.methodLink own index ⟨"[I", "clone", "()Ljava/lang/Object;"⟩ ∈ lw_all) (hR : 1 ≤ fr ∧ 22 ≤ lo) (hw : (st.map fun v => v.category).sum ≤ 8) (hdg : decode cc pc = .ok (.invokevirtual index, 3)) {A : Nat → Wd → Option β} (hF : kb (aClI g w a) A = some z) (kk : ∀ a2 w2, A a2 w2 = some z → kV g X nL w2 (pc + 3) lv (.ref a2 :: st)) : kV g X nL w pc lv (.ref a :: st) := by
  obtain ⟨a2, w2, h1, h2⟩ := kb_of hF
  obtain ⟨x, g1, h3⟩ := kob_of h1
  obtain ⟨f, g2, h4⟩ := kob_of h3
  obtain ⟨hrm, h5⟩ := k_ite h4
  cases h5
  have kk := kk _ _ h2
  obtain ⟨n, rfl⟩ : ∃ n, x = (n, .inl f) := ⟨x.1, xI_of g2⟩
  have hs := aC_of g1
  intro H locs ls a1 b hl
  obtain ⟨hx, hb, hml, hown, hts, hG, -, -, ⟨r1, r2, r3, r4⟩, -⟩ := C
  have hK := hG.1
  refine kW_tight a1 (fun z1 z2 => ?_)
  have ht0 : (kty g)[0]? = some (gA g 0, .int) := kty_at rfl
  have hnm : (xs X).vm.findClass "[I" = some (gA g 0) := (hK.2 0 _ ht0).2
  have hsz : (vp_cell (gA g 0) (n, .inl f)).slots.size = n := arrV_size _ _ _
  obtain ⟨c0, t0', f1, f2, f3⟩ := Cond.castable_spec (va_Nw.use (A := xa X) rfl (hG.2.1 _ q1074 rfl))
  cases hnm.symm.trans f1
  intro T hT Y
  have hcellT : T.heap[a]? = some (vp_cell (gA g 0) (n, .inl f)) := by rw [hT]; exact (a1.1 a _ hs).1
  obtain ⟨-, kA, hkA, comp, hkind⟩ := State.isArrayOf_alike Y.warmed.alike ((hK.2 0 _ ht0).1 0 (fun _ => .null))
  obtain ⟨-, kS, hkS, compS, hkindS⟩ := (hK.2 0 _ ht0).1 0 (fun _ => .null)
  obtain ⟨vm', X', step⟩ := Y.cloneArray hx hown (hts _ hq) (hts _ q1072) (hts _ q880) (hts _ q881) (hts _ q1073) (a := a) (cell := vp_cell (gA g 0) (n, .inl f)) hcellT (fun k h => by cases h) (fun h => by cases h) hnm f2 f3
    (fun i v hv => by
      have hk' : T.vm.classes[gA g 0]? = some kA := hkA
      have hfit : fits .int v = true := by
        have hv : (arrV (gA g 0) n (fun j => .int (f j))).slots[i]? = some v := hv
        by_cases hi : i < n
        · rw [arrV_read _ _ hi] at hv
          cases hv
          rfl
        · have : (arrV (gA g 0) n (fun j => .int (f j))).slots[i]? = none := by
            rw [Array.getElem?_eq_none_iff, arrV_size]; omega
          rw [this] at hv; cases hv
      show T.fitsSlot (gA g 0) _ i v = true
      simpa [State.fitsSlot, State.slotType?, hk', hkind] using hfit)
    (g := F0 (xm X) pc ls (.ref a :: st)) rfl (by rw [hml]; exact hl.1) rfl (by rw [hb]; exact hdg) (by rw [r1]; exact hR.1) (by rw [r2]; show 2 * 0 + _ + 14 ≤ _; omega) (by rw [r3]; have := hrm.1; omega) (by rw [hsz, r4]; have := hrm.2; simp only at this; omega) (hloader := Vm.clonesLoader_of_array hkS hkindS)
  have hcellE : ({ cls := (vp_cell (gA g 0) (n, .inl f)).cls, slots := (vp_cell (gA g 0) (n, .inl f)).slots } : Cell) = vp_cell (gA g 0) (n, .inl f) := rfl
  rw [hcellE, hsz] at X'
  have hs1 : H.size = w.2.1 := a1.2.1
  have e1 : (H.push (vp_cell (gA g 0) (n, .inl f)))[H.size]? = some (vp_cell (gA g 0) (n, .inl f)) := by rw [Array.getElem?_push_size]
  have a3 := a1.push (e := .inl (.inl (gA g 0, n, .inl f))) (c := vp_cell (gA g 0) (n, .inl f)) e1 (by simp) e1 (fun q hq => by rw [Array.getElem?_push, if_neg (by omega)]) (n := n) hsz hrm
  obtain ⟨t, b1, b2⟩ := kW_tight a3 (fun _ _ => kk _ locs ls a3 b hl) _ (by rw [← hT]; rfl) X'
  refine ⟨t, step t ?_, b2⟩
  rw [← hs1] at b1
  rw [← hT] at b1
  exact b1
theorem v_castAi (C : kOk g X cc nL own rt fr lo rv w1) {a index : Nat} (hq : Cond.classLink own index "[I" ∈ lw_all) (hdg : decode cc pc = .ok (.checkcast index, 3)) {f : Option β} (hF : (if aIs g w 0 a = true then f else none) = some z) (kk : f = some z → kV g X nL w (pc + 3) lv (.ref a :: st)) : kV g X nL w pc lv (.ref a :: st) := by
  obtain ⟨h1, h2⟩ := k_ite hF
  obtain ⟨x, h3⟩ := aIs_of h1
  intro H locs ls a1 b h
  exact va_castA C.1 C.2.1 C.2.2.2.1 (C.2.2.2.2.1 _ hq) (kP1 a1 h3) 0 rfl (C.2.2.2.2.2.1.1.2 0 _ (kty_at rfl)).2 hdg (kk h2 H locs ls a1 b h)
theorem lvE_set2 {ls : Array Slot} {nL : Nat} {ps : List (Option Value)} {i : Nat} {v : Value} (hi : lvK ps i = true) (h : lv_has ls nL ((i, v) :: (lvE 0 ps).filter (fun q => !(q.1 == i) && (!(q.1 == i + 1) && !(q.1 + 1 == i && q.2.category == 2))))) : lv_has ls nL (lvE 0 ((ps.set i (some v)).set (i + 1) none)) := by
  refine ⟨h.1, h.2.1, fun q hq => h.2.2 q ?_⟩
  obtain ⟨j, h1, h2⟩ := lvE_of _ 0 q hq
  rw [Nat.zero_add] at h1
  obtain ⟨a, u⟩ := q
  simp only at h1 h2
  subst h1
  have hb : a ≠ i + 1 := by
    rintro rfl
    rw [List.getElem?_set] at h2
    split at h2
    · split at h2 <;> cases h2
    · exact absurd rfl ‹_›
  rw [List.getElem?_set_ne (Ne.symm hb)] at h2
  by_cases ha : a = i
  · subst ha
    rw [List.getElem?_set] at h2
    split at h2
    · split at h2
      · cases h2
        exact List.mem_cons_self
      · cases h2
    · exact absurd rfl ‹_›
  · rw [List.getElem?_set_ne (Ne.symm ha)] at h2
    refine List.mem_cons_of_mem _ (List.mem_filter.mpr ⟨by have := lvE_mem ps 0 a u h2; rwa [Nat.zero_add] at this, ?_⟩)
    have e1 : (a == i) = false := by simpa using ha
    have e2 : (a == i + 1) = false := by simpa using hb
    simp only [e1, e2, Bool.not_false, Bool.true_and, Bool.not_eq_true', Bool.and_eq_false_iff]
    by_cases hc : a + 1 = i
    · right
      subst hc
      simp only [lvK, h2] at hi
      simpa [bne_iff_ne] using hi
    · left
      simpa using hc
theorem v_lstore_n (C : kOk g X cc nL own rt fr lo rv w1) {k : Fin 4} {i : Nat} {x : Int64} {lv' : List (Option Value)} (hdg : decode cc pc = .ok (.lstore_n k, 1)) (hi : (k : Nat) = i) (hn : i + 1 < nL) (hc : lvK lv i = true) (hl : (lv.set i (some (.long x))).set (i + 1) none = lv') (kk : kV g X nL w (pc + 1) lv' st) : kV g X nL w pc lv (.long x :: st) := fun H locs ls a b h => lv_lstore_n C.1 C.2.1 hdg hi h hn rfl (fun ls' h' => kk H locs ls' a b (by rw [← hl]; exact lvE_set2 hc h'))
theorem v_lstore (C : kOk g X cc nL own rt fr lo rv w1) {i : Nat} {x : Int64} {lv' : List (Option Value)} (hdg : decode cc pc = .ok (.lstore i, 2)) (hn : i + 1 < nL) (hc : lvK lv i = true) (hl : (lv.set i (some (.long x))).set (i + 1) none = lv') (kk : kV g X nL w (pc + 2) lv' st) : kV g X nL w pc lv (.long x :: st) := fun H locs ls a b h => lv_lstore C.1 C.2.1 hdg h hn rfl (fun ls' h' => kk H locs ls' a b (by rw [← hl]; exact lvE_set2 hc h'))
abbrev klcmp (x y : Int64) : Int32 := lg_cmp x y
theorem v_lcmp (C : kOk g X cc nL own rt fr lo rv w1) {x y : Int64} (hdg : decode cc pc = .ok (.lcmp, 1)) (kk : kV g X nL w (pc + 1) lv (.int (klcmp x y) :: st)) : kV g X nL w pc lv (.long y :: .long x :: st) := fun H locs ls a b h => W.lcmp C.1 C.2.1 hdg (kk H locs ls a b h)
theorem v_ldc2 (C : kOk g X cc nL own rt fr lo rv w1) {index : Nat} {v : Int64} (hq : Jvm.Cond.constantLong own index v ∈ lw_all) (hdg : decode cc pc = .ok (.ldc2_w index, 3)) (kk : kV g X nL w (pc + 3) lv (.long v :: st)) : kV g X nL w pc lv st := fun H locs ls a b h => lv_ldc2 C.1 C.2.1 C.2.2.2.1 (C.2.2.2.2.1 _ hq) hdg (kk H locs ls a b h)
theorem v_instI (C : kOk g X cc nL own rt fr lo rv w1) {ci N index a : Nat} {nm : String} {T : u_T} (hc : kcl[ci]? = some (nm, T, N)) (hq : Cond.classLink own index nm ∈ lw_all) (hdg : decode cc pc = .ok (.instanceof index, 3)) {f : Option β} (hF : (if oIs w a ci = true then f else none) = some z) (kk : f = some z → kV g X nL w (pc + 3) lv (.int 1 :: st)) : kV g X nL w pc lv (.ref a :: st) := by
  obtain ⟨h1, h2⟩ := k_ite hF
  obtain ⟨fs, h3⟩ := oIs_of h1
  intro H locs ls a1 b h
  exact va_instS C.1 C.2.1 C.2.2.2.1 (C.2.2.2.2.1 _ hq) (C.2.2.2.2.2.1.1.1 ci _ hc).2 (k_recv C.2.2.2.2.2.1 a1 hc h3) hdg (kk h2 H locs ls a1 b h)
end KJ
