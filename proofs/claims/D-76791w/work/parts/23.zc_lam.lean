/-! what the tables hold of a made class -/
set_option maxRecDepth 100000
theorem k_made {σ : Lambda.Shape} {D : ClassFile} {fw : Method} {ld : Array Field × Array FieldType × Array FieldType} (hfile : σ.file "CardLoom" = some D) (hsec : ∀ ms, layoutMethods D = some ms → ms[1]? = some fw) (hlaid : layoutFields D 0 = some ld) {bs : ByteArray} {mL : Nat} (hcode : (fw.code.map fun c => (c.code.data, c.maxLocals)) = some (bs.data, mL)) {nm : String} {rt : Option FieldType} (hfl : (fw.accessFlags, fw.name, fw.sig.returnType) = (0x0001, nm, rt))
    {e : Setting} {vm : Vm} {d c : ClassId} {dk : Class} (hd : vm.classes[d]? = some dk) (hname : dk.name = "CardLoom") (h : Lambda.isMade e vm d σ c = true) (hO : ∀ o ok, vm.findClass "java/lang/Object" = some o → vm.classes[o]? = some ok → ok.instanceTypes.size = 0) :
    ∃ (k tk : Class) (file : ClassFile) (b : Method) (y : Code) (toy : ClassId) (t : MethodId),
      vm.classes[c]? = some k ∧ k.cf = some file ∧ file.constantPool = D.constantPool ∧ vm.method? ⟨c, 1⟩ = some b ∧ b.code = some y ∧ y.code = bs ∧ y.maxLocals = mL ∧ b.locks = false ∧ b.accessFlags = 0x0001 ∧ b.sig.returnType = rt ∧
      vm.findClass σ.implClass = some toy ∧ vm.classes[toy]? = some tk ∧ tk.isInterface = σ.implItf ∧ ((methodIn toy σ.implName σ.implDesc.toString tk.isInterface none).ask e vm).1 = .ok t ∧
      (∀ (i : Nat) x, (Lambda.resolvedOf e vm D ld.1 c)[i]? = some (some x) → k.resolved[i]? = some (some x)) ∧ (∀ (i : Nat) a, ld.1[i]? = some a → k.fields[i]? = some a) ∧ k.instanceTypes = ld.2.1 ∧ k.kind = .ordinary ∧ k.name = "CardLoom$$Lambda" := by
  obtain ⟨dk', k, ok, tk, file, cf, object, iface, toy, lay, methods, target, found, hd', hk, hf, hcf, hobj, -, hok, hlay, hms, ht, htk, hg, -, hrec, -, -, -, hitf, hpool, hmeth, hfields, hty, hres, -⟩ := Lambda.isMade_spec h
  cases hd.symm.trans hd'
  rw [hname, hfile] at hcf
  cases hcf
  have hsz := hO object ok hobj hok
  have hok0 : ok.instanceTypes = #[] := Array.eq_empty_of_size_eq_zero hsz
  rw [hsz, hlaid] at hlay
  cases hlay
  obtain ⟨b, hb, hsame⟩ := hmeth 1 fw (hsec methods hms)
  simp only [Lambda.sameMethod, Bool.and_eq_true, decide_eq_true_eq] at hsame
  obtain ⟨⟨hn, -, hsig, hflg⟩, hcd⟩ := hsame
  simp only [Prod.mk.injEq] at hfl
  cases hfc : fw.code with
  | none => rw [hfc] at hcode; cases hcode
  | some x =>
    cases hbc : b.code with
    | none => simp [hfc, hbc] at hcd
    | some y =>
      simp only [hfc, hbc, Bool.and_eq_true, decide_eq_true_eq] at hcd
      simp only [hfc, Option.map_some, Option.some.injEq, Prod.mk.injEq] at hcode
      refine ⟨k, tk, file, b, y, toy, target, hk, hf, hpool.2.1, by simp [Vm.method?, hk, hb], hbc, ?_, by rw [← hcd.1.1.1.1.2.1]; exact hcode.2, ?_, by rw [← hflg]; exact hfl.1, by rw [← hsig]; exact hfl.2.2, ht, htk, hitf, hg, hres, hfields, by rw [hty.1, hok0]; simp, hrec.2.1, by rw [hrec.1, hname]; rfl⟩
      · rw [← hcd.1.1.1.1.2.2]
        exact ByteArray.ext hcode.1
      · simp [Method.locks, Method.isSynchronized, ← hflg, hfl.1, hasFlag, Acc.synchronized]
set_option maxRecDepth 100000
def sg_0 : Lambda.Shape := { iface := "CardLoom$Law", name := "of", sam := { parameters := [.int, .int, .int], returnType := some (.object "CardLoom$Turning") }, captured := [], kind := 6, implClass := "CardLoom", implName := "idle", implDesc := { parameters := [.int, .int, .int], returnType := some (.object "CardLoom$Turning") }, implItf := false, inst := { parameters := [.int, .int, .int], returnType := some (.object "CardLoom$Turning") } }
def fwB_0 : ByteArray := ⟨#[27, 28, 29, 184, 0, 17, 176]⟩
theorem fw0_0 : decode fwB_0 0 = .ok (.iload_n 1, 1) := by decide +kernel
theorem fw0_1 : decode fwB_0 1 = .ok (.iload_n 2, 1) := by decide +kernel
theorem fw0_2 : decode fwB_0 2 = .ok (.iload_n 3, 1) := by decide +kernel
theorem fw0_3 : decode fwB_0 3 = .ok (.invokestatic 17, 3) := by decide +kernel
theorem fw0_6 : decode fwB_0 6 = .ok (.areturn, 1) := by decide +kernel
def D_0 : ClassFile := (sg_0.file "CardLoom").getD { minorVersion := 0, majorVersion := 0, constantPool := #[], accessFlags := 0, thisClass := 0, superClass := 0, interfaces := #[], fields := #[], methods := #[], attributes := #[] }
def fwM_0 : Method := ((layoutMethods D_0).bind (·[1]?)).getD default
def ld_0 : Array Field × Array FieldType × Array FieldType := (layoutFields D_0 0).getD (#[], #[], #[])
theorem file_0 : sg_0.file "CardLoom" = some D_0 := by
  have h : (sg_0.file "CardLoom").isSome = true := by decide +kernel
  obtain ⟨x, hx⟩ := Option.isSome_iff_exists.mp h
  simp [D_0, hx]
theorem sec_0 : ∀ ms, layoutMethods D_0 = some ms → ms[1]? = some fwM_0 := by
  intro ms hms
  have h : ((layoutMethods D_0).bind (·[1]?)).isSome = true := by decide +kernel
  obtain ⟨x, hx⟩ := Option.isSome_iff_exists.mp h
  have hf : fwM_0 = x := by simp [fwM_0, hx]
  rw [hms] at hx
  rw [hf]
  exact hx
theorem laid_0 : layoutFields D_0 0 = some ld_0 := by
  have h : (layoutFields D_0 0).isSome = true := by decide +kernel
  obtain ⟨x, hx⟩ := Option.isSome_iff_exists.mp h
  simp [ld_0, hx]
theorem fcode_0 : (fwM_0.code.map fun c => (c.code.data, c.maxLocals)) = some (fwB_0.data, 4) := by decide +kernel
theorem fflg_0 : (fwM_0.accessFlags, fwM_0.name, fwM_0.sig.returnType) = (0x0001, "of", (some (.object "CardLoom$Turning") : Option FieldType)) := by decide +kernel
theorem eM_0 : D_0.constantPool[17]? = some (.methodref 14 16) ∧ D_0.constantPool.className? 14 = some "CardLoom" ∧ D_0.constantPool.nameAndType? 16 = some ("idle", "(III)LCardLoom$Turning;") := by decide +kernel
theorem eC_0 : D_0.constantPool[14]? = some (.class_ 13) ∧ D_0.constantPool.string? 13 = some "CardLoom" ∧ 14 ≠ D_0.thisClass := by decide +kernel
def sg_1 : Lambda.Shape := { iface := "CardLoom$Law", name := "of", sam := { parameters := [.int, .int, .int], returnType := some (.object "CardLoom$Turning") }, captured := [], kind := 6, implClass := "CardLoom", implName := "idle", implDesc := { parameters := [.int, .int, .int], returnType := some (.object "CardLoom$Turning") }, implItf := false, inst := { parameters := [.int, .int, .int], returnType := some (.object "CardLoom$Turning") } }
def fwB_1 : ByteArray := ⟨#[27, 28, 29, 184, 0, 17, 176]⟩
theorem fw1_0 : decode fwB_1 0 = .ok (.iload_n 1, 1) := by decide +kernel
theorem fw1_1 : decode fwB_1 1 = .ok (.iload_n 2, 1) := by decide +kernel
theorem fw1_2 : decode fwB_1 2 = .ok (.iload_n 3, 1) := by decide +kernel
theorem fw1_3 : decode fwB_1 3 = .ok (.invokestatic 17, 3) := by decide +kernel
theorem fw1_6 : decode fwB_1 6 = .ok (.areturn, 1) := by decide +kernel
def D_1 : ClassFile := (sg_1.file "CardLoom").getD { minorVersion := 0, majorVersion := 0, constantPool := #[], accessFlags := 0, thisClass := 0, superClass := 0, interfaces := #[], fields := #[], methods := #[], attributes := #[] }
def fwM_1 : Method := ((layoutMethods D_1).bind (·[1]?)).getD default
def ld_1 : Array Field × Array FieldType × Array FieldType := (layoutFields D_1 0).getD (#[], #[], #[])
theorem file_1 : sg_1.file "CardLoom" = some D_1 := by
  have h : (sg_1.file "CardLoom").isSome = true := by decide +kernel
  obtain ⟨x, hx⟩ := Option.isSome_iff_exists.mp h
  simp [D_1, hx]
theorem sec_1 : ∀ ms, layoutMethods D_1 = some ms → ms[1]? = some fwM_1 := by
  intro ms hms
  have h : ((layoutMethods D_1).bind (·[1]?)).isSome = true := by decide +kernel
  obtain ⟨x, hx⟩ := Option.isSome_iff_exists.mp h
  have hf : fwM_1 = x := by simp [fwM_1, hx]
  rw [hms] at hx
  rw [hf]
  exact hx
theorem laid_1 : layoutFields D_1 0 = some ld_1 := by
  have h : (layoutFields D_1 0).isSome = true := by decide +kernel
  obtain ⟨x, hx⟩ := Option.isSome_iff_exists.mp h
  simp [ld_1, hx]
theorem fcode_1 : (fwM_1.code.map fun c => (c.code.data, c.maxLocals)) = some (fwB_1.data, 4) := by decide +kernel
theorem fflg_1 : (fwM_1.accessFlags, fwM_1.name, fwM_1.sig.returnType) = (0x0001, "of", (some (.object "CardLoom$Turning") : Option FieldType)) := by decide +kernel
theorem eM_1 : D_1.constantPool[17]? = some (.methodref 14 16) ∧ D_1.constantPool.className? 14 = some "CardLoom" ∧ D_1.constantPool.nameAndType? 16 = some ("idle", "(III)LCardLoom$Turning;") := by decide +kernel
theorem eC_1 : D_1.constantPool[14]? = some (.class_ 13) ∧ D_1.constantPool.string? 13 = some "CardLoom" ∧ 14 ≠ D_1.thisClass := by decide +kernel
def sg_2 : Lambda.Shape := { iface := "CardLoom$Law", name := "of", sam := { parameters := [.int, .int, .int], returnType := some (.object "CardLoom$Turning") }, captured := [(.object "CardLoom$Turning")], kind := 6, implClass := "CardLoom", implName := "lambda$always$0", implDesc := { parameters := [(.object "CardLoom$Turning"), .int, .int, .int], returnType := some (.object "CardLoom$Turning") }, implItf := false, inst := { parameters := [.int, .int, .int], returnType := some (.object "CardLoom$Turning") } }
def fwB_2 : ByteArray := ⟨#[42, 180, 0, 15, 27, 28, 29, 184, 0, 23, 176]⟩
theorem fw2_0 : decode fwB_2 0 = .ok (.aload_n 0, 1) := by decide +kernel
theorem fw2_1 : decode fwB_2 1 = .ok (.getfield 15, 3) := by decide +kernel
theorem fw2_4 : decode fwB_2 4 = .ok (.iload_n 1, 1) := by decide +kernel
theorem fw2_5 : decode fwB_2 5 = .ok (.iload_n 2, 1) := by decide +kernel
theorem fw2_6 : decode fwB_2 6 = .ok (.iload_n 3, 1) := by decide +kernel
theorem fw2_7 : decode fwB_2 7 = .ok (.invokestatic 23, 3) := by decide +kernel
theorem fw2_10 : decode fwB_2 10 = .ok (.areturn, 1) := by decide +kernel
def D_2 : ClassFile := (sg_2.file "CardLoom").getD { minorVersion := 0, majorVersion := 0, constantPool := #[], accessFlags := 0, thisClass := 0, superClass := 0, interfaces := #[], fields := #[], methods := #[], attributes := #[] }
def fwM_2 : Method := ((layoutMethods D_2).bind (·[1]?)).getD default
def ld_2 : Array Field × Array FieldType × Array FieldType := (layoutFields D_2 0).getD (#[], #[], #[])
theorem file_2 : sg_2.file "CardLoom" = some D_2 := by
  have h : (sg_2.file "CardLoom").isSome = true := by decide +kernel
  obtain ⟨x, hx⟩ := Option.isSome_iff_exists.mp h
  simp [D_2, hx]
theorem sec_2 : ∀ ms, layoutMethods D_2 = some ms → ms[1]? = some fwM_2 := by
  intro ms hms
  have h : ((layoutMethods D_2).bind (·[1]?)).isSome = true := by decide +kernel
  obtain ⟨x, hx⟩ := Option.isSome_iff_exists.mp h
  have hf : fwM_2 = x := by simp [fwM_2, hx]
  rw [hms] at hx
  rw [hf]
  exact hx
theorem laid_2 : layoutFields D_2 0 = some ld_2 := by
  have h : (layoutFields D_2 0).isSome = true := by decide +kernel
  obtain ⟨x, hx⟩ := Option.isSome_iff_exists.mp h
  simp [ld_2, hx]
theorem fcode_2 : (fwM_2.code.map fun c => (c.code.data, c.maxLocals)) = some (fwB_2.data, 4) := by decide +kernel
theorem fflg_2 : (fwM_2.accessFlags, fwM_2.name, fwM_2.sig.returnType) = (0x0001, "of", (some (.object "CardLoom$Turning") : Option FieldType)) := by decide +kernel
theorem eM_2 : D_2.constantPool[23]? = some (.methodref 19 22) ∧ D_2.constantPool.className? 19 = some "CardLoom" ∧ D_2.constantPool.nameAndType? 22 = some ("lambda$always$0", "(LCardLoom$Turning;III)LCardLoom$Turning;") := by decide +kernel
theorem eC_2 : D_2.constantPool[19]? = some (.class_ 18) ∧ D_2.constantPool.string? 18 = some "CardLoom" ∧ 19 ≠ D_2.thisClass := by decide +kernel
theorem eF2_0 : D_2.constantPool[15]? = some (.fieldref 2 14) ∧ D_2.constantPool.nameAndType? 14 = some ("arg$1", "LCardLoom$Turning;") ∧ ld_2.1.findIdx? (·.name == "arg$1") = some 0 ∧ (ld_2.1[0]?).map (fun f => (f.isStatic, f.slot)) = some (false, 0) := by decide +kernel
def sg_3 : Lambda.Shape := { iface := "CardLoom$Law", name := "of", sam := { parameters := [.int, .int, .int], returnType := some (.object "CardLoom$Turning") }, captured := [.int, (.object "CardLoom$Law"), (.object "CardLoom$Law")], kind := 6, implClass := "CardLoom", implName := "lambda$inTurn$1", implDesc := { parameters := [.int, (.object "CardLoom$Law"), (.object "CardLoom$Law"), .int, .int, .int], returnType := some (.object "CardLoom$Turning") }, implItf := false, inst := { parameters := [.int, .int, .int], returnType := some (.object "CardLoom$Turning") } }
def fwB_3 : ByteArray := ⟨#[42, 180, 0, 18, 42, 180, 0, 20, 42, 180, 0, 22, 27, 28, 29, 184, 0, 30, 176]⟩
theorem fw3_0 : decode fwB_3 0 = .ok (.aload_n 0, 1) := by decide +kernel
theorem fw3_1 : decode fwB_3 1 = .ok (.getfield 18, 3) := by decide +kernel
theorem fw3_4 : decode fwB_3 4 = .ok (.aload_n 0, 1) := by decide +kernel
theorem fw3_5 : decode fwB_3 5 = .ok (.getfield 20, 3) := by decide +kernel
theorem fw3_8 : decode fwB_3 8 = .ok (.aload_n 0, 1) := by decide +kernel
theorem fw3_9 : decode fwB_3 9 = .ok (.getfield 22, 3) := by decide +kernel
theorem fw3_12 : decode fwB_3 12 = .ok (.iload_n 1, 1) := by decide +kernel
theorem fw3_13 : decode fwB_3 13 = .ok (.iload_n 2, 1) := by decide +kernel
theorem fw3_14 : decode fwB_3 14 = .ok (.iload_n 3, 1) := by decide +kernel
theorem fw3_15 : decode fwB_3 15 = .ok (.invokestatic 30, 3) := by decide +kernel
theorem fw3_18 : decode fwB_3 18 = .ok (.areturn, 1) := by decide +kernel
def D_3 : ClassFile := (sg_3.file "CardLoom").getD { minorVersion := 0, majorVersion := 0, constantPool := #[], accessFlags := 0, thisClass := 0, superClass := 0, interfaces := #[], fields := #[], methods := #[], attributes := #[] }
def fwM_3 : Method := ((layoutMethods D_3).bind (·[1]?)).getD default
def ld_3 : Array Field × Array FieldType × Array FieldType := (layoutFields D_3 0).getD (#[], #[], #[])
theorem file_3 : sg_3.file "CardLoom" = some D_3 := by
  have h : (sg_3.file "CardLoom").isSome = true := by decide +kernel
  obtain ⟨x, hx⟩ := Option.isSome_iff_exists.mp h
  simp [D_3, hx]
theorem sec_3 : ∀ ms, layoutMethods D_3 = some ms → ms[1]? = some fwM_3 := by
  intro ms hms
  have h : ((layoutMethods D_3).bind (·[1]?)).isSome = true := by decide +kernel
  obtain ⟨x, hx⟩ := Option.isSome_iff_exists.mp h
  have hf : fwM_3 = x := by simp [fwM_3, hx]
  rw [hms] at hx
  rw [hf]
  exact hx
theorem laid_3 : layoutFields D_3 0 = some ld_3 := by
  have h : (layoutFields D_3 0).isSome = true := by decide +kernel
  obtain ⟨x, hx⟩ := Option.isSome_iff_exists.mp h
  simp [ld_3, hx]
theorem fcode_3 : (fwM_3.code.map fun c => (c.code.data, c.maxLocals)) = some (fwB_3.data, 4) := by decide +kernel
theorem fflg_3 : (fwM_3.accessFlags, fwM_3.name, fwM_3.sig.returnType) = (0x0001, "of", (some (.object "CardLoom$Turning") : Option FieldType)) := by decide +kernel
theorem eM_3 : D_3.constantPool[30]? = some (.methodref 26 29) ∧ D_3.constantPool.className? 26 = some "CardLoom" ∧ D_3.constantPool.nameAndType? 29 = some ("lambda$inTurn$1", "(ILCardLoom$Law;LCardLoom$Law;III)LCardLoom$Turning;") := by decide +kernel
theorem eC_3 : D_3.constantPool[26]? = some (.class_ 25) ∧ D_3.constantPool.string? 25 = some "CardLoom" ∧ 26 ≠ D_3.thisClass := by decide +kernel
theorem eF3_0 : D_3.constantPool[18]? = some (.fieldref 2 17) ∧ D_3.constantPool.nameAndType? 17 = some ("arg$1", "I") ∧ ld_3.1.findIdx? (·.name == "arg$1") = some 0 ∧ (ld_3.1[0]?).map (fun f => (f.isStatic, f.slot)) = some (false, 0) := by decide +kernel
theorem eF3_1 : D_3.constantPool[20]? = some (.fieldref 2 19) ∧ D_3.constantPool.nameAndType? 19 = some ("arg$2", "LCardLoom$Law;") ∧ ld_3.1.findIdx? (·.name == "arg$2") = some 1 ∧ (ld_3.1[1]?).map (fun f => (f.isStatic, f.slot)) = some (false, 1) := by decide +kernel
theorem eF3_2 : D_3.constantPool[22]? = some (.fieldref 2 21) ∧ D_3.constantPool.nameAndType? 21 = some ("arg$3", "LCardLoom$Law;") ∧ ld_3.1.findIdx? (·.name == "arg$3") = some 2 ∧ (ld_3.1[2]?).map (fun f => (f.isStatic, f.slot)) = some (false, 2) := by decide +kernel
def sg_4 : Lambda.Shape := { iface := "CardLoom$Law", name := "of", sam := { parameters := [.int, .int, .int], returnType := some (.object "CardLoom$Turning") }, captured := [.int, (.object "CardLoom$Law"), (.object "CardLoom$Law")], kind := 6, implClass := "CardLoom", implName := "lambda$byCards$2", implDesc := { parameters := [.int, (.object "CardLoom$Law"), (.object "CardLoom$Law"), .int, .int, .int], returnType := some (.object "CardLoom$Turning") }, implItf := false, inst := { parameters := [.int, .int, .int], returnType := some (.object "CardLoom$Turning") } }
def fwB_4 : ByteArray := ⟨#[42, 180, 0, 18, 42, 180, 0, 20, 42, 180, 0, 22, 27, 28, 29, 184, 0, 30, 176]⟩
theorem fw4_0 : decode fwB_4 0 = .ok (.aload_n 0, 1) := by decide +kernel
theorem fw4_1 : decode fwB_4 1 = .ok (.getfield 18, 3) := by decide +kernel
theorem fw4_4 : decode fwB_4 4 = .ok (.aload_n 0, 1) := by decide +kernel
theorem fw4_5 : decode fwB_4 5 = .ok (.getfield 20, 3) := by decide +kernel
theorem fw4_8 : decode fwB_4 8 = .ok (.aload_n 0, 1) := by decide +kernel
theorem fw4_9 : decode fwB_4 9 = .ok (.getfield 22, 3) := by decide +kernel
theorem fw4_12 : decode fwB_4 12 = .ok (.iload_n 1, 1) := by decide +kernel
theorem fw4_13 : decode fwB_4 13 = .ok (.iload_n 2, 1) := by decide +kernel
theorem fw4_14 : decode fwB_4 14 = .ok (.iload_n 3, 1) := by decide +kernel
theorem fw4_15 : decode fwB_4 15 = .ok (.invokestatic 30, 3) := by decide +kernel
theorem fw4_18 : decode fwB_4 18 = .ok (.areturn, 1) := by decide +kernel
def D_4 : ClassFile := (sg_4.file "CardLoom").getD { minorVersion := 0, majorVersion := 0, constantPool := #[], accessFlags := 0, thisClass := 0, superClass := 0, interfaces := #[], fields := #[], methods := #[], attributes := #[] }
def fwM_4 : Method := ((layoutMethods D_4).bind (·[1]?)).getD default
def ld_4 : Array Field × Array FieldType × Array FieldType := (layoutFields D_4 0).getD (#[], #[], #[])
theorem file_4 : sg_4.file "CardLoom" = some D_4 := by
  have h : (sg_4.file "CardLoom").isSome = true := by decide +kernel
  obtain ⟨x, hx⟩ := Option.isSome_iff_exists.mp h
  simp [D_4, hx]
theorem sec_4 : ∀ ms, layoutMethods D_4 = some ms → ms[1]? = some fwM_4 := by
  intro ms hms
  have h : ((layoutMethods D_4).bind (·[1]?)).isSome = true := by decide +kernel
  obtain ⟨x, hx⟩ := Option.isSome_iff_exists.mp h
  have hf : fwM_4 = x := by simp [fwM_4, hx]
  rw [hms] at hx
  rw [hf]
  exact hx
theorem laid_4 : layoutFields D_4 0 = some ld_4 := by
  have h : (layoutFields D_4 0).isSome = true := by decide +kernel
  obtain ⟨x, hx⟩ := Option.isSome_iff_exists.mp h
  simp [ld_4, hx]
theorem fcode_4 : (fwM_4.code.map fun c => (c.code.data, c.maxLocals)) = some (fwB_4.data, 4) := by decide +kernel
theorem fflg_4 : (fwM_4.accessFlags, fwM_4.name, fwM_4.sig.returnType) = (0x0001, "of", (some (.object "CardLoom$Turning") : Option FieldType)) := by decide +kernel
theorem eM_4 : D_4.constantPool[30]? = some (.methodref 26 29) ∧ D_4.constantPool.className? 26 = some "CardLoom" ∧ D_4.constantPool.nameAndType? 29 = some ("lambda$byCards$2", "(ILCardLoom$Law;LCardLoom$Law;III)LCardLoom$Turning;") := by decide +kernel
theorem eC_4 : D_4.constantPool[26]? = some (.class_ 25) ∧ D_4.constantPool.string? 25 = some "CardLoom" ∧ 26 ≠ D_4.thisClass := by decide +kernel
theorem eF4_0 : D_4.constantPool[18]? = some (.fieldref 2 17) ∧ D_4.constantPool.nameAndType? 17 = some ("arg$1", "I") ∧ ld_4.1.findIdx? (·.name == "arg$1") = some 0 ∧ (ld_4.1[0]?).map (fun f => (f.isStatic, f.slot)) = some (false, 0) := by decide +kernel
theorem eF4_1 : D_4.constantPool[20]? = some (.fieldref 2 19) ∧ D_4.constantPool.nameAndType? 19 = some ("arg$2", "LCardLoom$Law;") ∧ ld_4.1.findIdx? (·.name == "arg$2") = some 1 ∧ (ld_4.1[1]?).map (fun f => (f.isStatic, f.slot)) = some (false, 1) := by decide +kernel
theorem eF4_2 : D_4.constantPool[22]? = some (.fieldref 2 21) ∧ D_4.constantPool.nameAndType? 21 = some ("arg$3", "LCardLoom$Law;") ∧ ld_4.1.findIdx? (·.name == "arg$3") = some 2 ∧ (ld_4.1[2]?).map (fun f => (f.isStatic, f.slot)) = some (false, 2) := by decide +kernel
def sg_5 : Lambda.Shape := { iface := "CardLoom$Law", name := "of", sam := { parameters := [.int, .int, .int], returnType := some (.object "CardLoom$Turning") }, captured := [.int, (.object "CardLoom$Law"), (.object "CardLoom$Law")], kind := 6, implClass := "CardLoom", implName := "lambda$eachOf$3", implDesc := { parameters := [.int, (.object "CardLoom$Law"), (.object "CardLoom$Law"), .int, .int, .int], returnType := some (.object "CardLoom$Turning") }, implItf := false, inst := { parameters := [.int, .int, .int], returnType := some (.object "CardLoom$Turning") } }
def fwB_5 : ByteArray := ⟨#[42, 180, 0, 18, 42, 180, 0, 20, 42, 180, 0, 22, 27, 28, 29, 184, 0, 30, 176]⟩
theorem fw5_0 : decode fwB_5 0 = .ok (.aload_n 0, 1) := by decide +kernel
theorem fw5_1 : decode fwB_5 1 = .ok (.getfield 18, 3) := by decide +kernel
theorem fw5_4 : decode fwB_5 4 = .ok (.aload_n 0, 1) := by decide +kernel
theorem fw5_5 : decode fwB_5 5 = .ok (.getfield 20, 3) := by decide +kernel
theorem fw5_8 : decode fwB_5 8 = .ok (.aload_n 0, 1) := by decide +kernel
theorem fw5_9 : decode fwB_5 9 = .ok (.getfield 22, 3) := by decide +kernel
theorem fw5_12 : decode fwB_5 12 = .ok (.iload_n 1, 1) := by decide +kernel
theorem fw5_13 : decode fwB_5 13 = .ok (.iload_n 2, 1) := by decide +kernel
theorem fw5_14 : decode fwB_5 14 = .ok (.iload_n 3, 1) := by decide +kernel
theorem fw5_15 : decode fwB_5 15 = .ok (.invokestatic 30, 3) := by decide +kernel
theorem fw5_18 : decode fwB_5 18 = .ok (.areturn, 1) := by decide +kernel
def D_5 : ClassFile := (sg_5.file "CardLoom").getD { minorVersion := 0, majorVersion := 0, constantPool := #[], accessFlags := 0, thisClass := 0, superClass := 0, interfaces := #[], fields := #[], methods := #[], attributes := #[] }
def fwM_5 : Method := ((layoutMethods D_5).bind (·[1]?)).getD default
def ld_5 : Array Field × Array FieldType × Array FieldType := (layoutFields D_5 0).getD (#[], #[], #[])
theorem file_5 : sg_5.file "CardLoom" = some D_5 := by
  have h : (sg_5.file "CardLoom").isSome = true := by decide +kernel
  obtain ⟨x, hx⟩ := Option.isSome_iff_exists.mp h
  simp [D_5, hx]
theorem sec_5 : ∀ ms, layoutMethods D_5 = some ms → ms[1]? = some fwM_5 := by
  intro ms hms
  have h : ((layoutMethods D_5).bind (·[1]?)).isSome = true := by decide +kernel
  obtain ⟨x, hx⟩ := Option.isSome_iff_exists.mp h
  have hf : fwM_5 = x := by simp [fwM_5, hx]
  rw [hms] at hx
  rw [hf]
  exact hx
theorem laid_5 : layoutFields D_5 0 = some ld_5 := by
  have h : (layoutFields D_5 0).isSome = true := by decide +kernel
  obtain ⟨x, hx⟩ := Option.isSome_iff_exists.mp h
  simp [ld_5, hx]
theorem fcode_5 : (fwM_5.code.map fun c => (c.code.data, c.maxLocals)) = some (fwB_5.data, 4) := by decide +kernel
theorem fflg_5 : (fwM_5.accessFlags, fwM_5.name, fwM_5.sig.returnType) = (0x0001, "of", (some (.object "CardLoom$Turning") : Option FieldType)) := by decide +kernel
theorem eM_5 : D_5.constantPool[30]? = some (.methodref 26 29) ∧ D_5.constantPool.className? 26 = some "CardLoom" ∧ D_5.constantPool.nameAndType? 29 = some ("lambda$eachOf$3", "(ILCardLoom$Law;LCardLoom$Law;III)LCardLoom$Turning;") := by decide +kernel
theorem eC_5 : D_5.constantPool[26]? = some (.class_ 25) ∧ D_5.constantPool.string? 25 = some "CardLoom" ∧ 26 ≠ D_5.thisClass := by decide +kernel
theorem eF5_0 : D_5.constantPool[18]? = some (.fieldref 2 17) ∧ D_5.constantPool.nameAndType? 17 = some ("arg$1", "I") ∧ ld_5.1.findIdx? (·.name == "arg$1") = some 0 ∧ (ld_5.1[0]?).map (fun f => (f.isStatic, f.slot)) = some (false, 0) := by decide +kernel
theorem eF5_1 : D_5.constantPool[20]? = some (.fieldref 2 19) ∧ D_5.constantPool.nameAndType? 19 = some ("arg$2", "LCardLoom$Law;") ∧ ld_5.1.findIdx? (·.name == "arg$2") = some 1 ∧ (ld_5.1[1]?).map (fun f => (f.isStatic, f.slot)) = some (false, 1) := by decide +kernel
theorem eF5_2 : D_5.constantPool[22]? = some (.fieldref 2 21) ∧ D_5.constantPool.nameAndType? 21 = some ("arg$3", "LCardLoom$Law;") ∧ ld_5.1.findIdx? (·.name == "arg$3") = some 2 ∧ (ld_5.1[2]?).map (fun f => (f.isStatic, f.slot)) = some (false, 2) := by decide +kernel
def sg_6 : Lambda.Shape := { iface := "CardLoom$Law", name := "of", sam := { parameters := [.int, .int, .int], returnType := some (.object "CardLoom$Turning") }, captured := [(.object "CardLoom$Law"), .int], kind := 6, implClass := "CardLoom", implName := "lambda$later$4", implDesc := { parameters := [(.object "CardLoom$Law"), .int, .int, .int, .int], returnType := some (.object "CardLoom$Turning") }, implItf := false, inst := { parameters := [.int, .int, .int], returnType := some (.object "CardLoom$Turning") } }
def fwB_6 : ByteArray := ⟨#[42, 180, 0, 17, 42, 180, 0, 19, 27, 28, 29, 184, 0, 27, 176]⟩
theorem fw6_0 : decode fwB_6 0 = .ok (.aload_n 0, 1) := by decide +kernel
theorem fw6_1 : decode fwB_6 1 = .ok (.getfield 17, 3) := by decide +kernel
theorem fw6_4 : decode fwB_6 4 = .ok (.aload_n 0, 1) := by decide +kernel
theorem fw6_5 : decode fwB_6 5 = .ok (.getfield 19, 3) := by decide +kernel
theorem fw6_8 : decode fwB_6 8 = .ok (.iload_n 1, 1) := by decide +kernel
theorem fw6_9 : decode fwB_6 9 = .ok (.iload_n 2, 1) := by decide +kernel
theorem fw6_10 : decode fwB_6 10 = .ok (.iload_n 3, 1) := by decide +kernel
theorem fw6_11 : decode fwB_6 11 = .ok (.invokestatic 27, 3) := by decide +kernel
theorem fw6_14 : decode fwB_6 14 = .ok (.areturn, 1) := by decide +kernel
def D_6 : ClassFile := (sg_6.file "CardLoom").getD { minorVersion := 0, majorVersion := 0, constantPool := #[], accessFlags := 0, thisClass := 0, superClass := 0, interfaces := #[], fields := #[], methods := #[], attributes := #[] }
def fwM_6 : Method := ((layoutMethods D_6).bind (·[1]?)).getD default
def ld_6 : Array Field × Array FieldType × Array FieldType := (layoutFields D_6 0).getD (#[], #[], #[])
theorem file_6 : sg_6.file "CardLoom" = some D_6 := by
  have h : (sg_6.file "CardLoom").isSome = true := by decide +kernel
  obtain ⟨x, hx⟩ := Option.isSome_iff_exists.mp h
  simp [D_6, hx]
theorem sec_6 : ∀ ms, layoutMethods D_6 = some ms → ms[1]? = some fwM_6 := by
  intro ms hms
  have h : ((layoutMethods D_6).bind (·[1]?)).isSome = true := by decide +kernel
  obtain ⟨x, hx⟩ := Option.isSome_iff_exists.mp h
  have hf : fwM_6 = x := by simp [fwM_6, hx]
  rw [hms] at hx
  rw [hf]
  exact hx
theorem laid_6 : layoutFields D_6 0 = some ld_6 := by
  have h : (layoutFields D_6 0).isSome = true := by decide +kernel
  obtain ⟨x, hx⟩ := Option.isSome_iff_exists.mp h
  simp [ld_6, hx]
theorem fcode_6 : (fwM_6.code.map fun c => (c.code.data, c.maxLocals)) = some (fwB_6.data, 4) := by decide +kernel
theorem fflg_6 : (fwM_6.accessFlags, fwM_6.name, fwM_6.sig.returnType) = (0x0001, "of", (some (.object "CardLoom$Turning") : Option FieldType)) := by decide +kernel
theorem eM_6 : D_6.constantPool[27]? = some (.methodref 23 26) ∧ D_6.constantPool.className? 23 = some "CardLoom" ∧ D_6.constantPool.nameAndType? 26 = some ("lambda$later$4", "(LCardLoom$Law;IIII)LCardLoom$Turning;") := by decide +kernel
theorem eC_6 : D_6.constantPool[23]? = some (.class_ 22) ∧ D_6.constantPool.string? 22 = some "CardLoom" ∧ 23 ≠ D_6.thisClass := by decide +kernel
theorem eF6_0 : D_6.constantPool[17]? = some (.fieldref 2 16) ∧ D_6.constantPool.nameAndType? 16 = some ("arg$1", "LCardLoom$Law;") ∧ ld_6.1.findIdx? (·.name == "arg$1") = some 0 ∧ (ld_6.1[0]?).map (fun f => (f.isStatic, f.slot)) = some (false, 0) := by decide +kernel
theorem eF6_1 : D_6.constantPool[19]? = some (.fieldref 2 18) ∧ D_6.constantPool.nameAndType? 18 = some ("arg$2", "I") ∧ ld_6.1.findIdx? (·.name == "arg$2") = some 1 ∧ (ld_6.1[1]?).map (fun f => (f.isStatic, f.slot)) = some (false, 1) := by decide +kernel
def sg_7 : Lambda.Shape := { iface := "CardLoom$Law", name := "of", sam := { parameters := [.int, .int, .int], returnType := some (.object "CardLoom$Turning") }, captured := [(.object "CardLoom$Law")], kind := 6, implClass := "CardLoom", implName := "lambda$slanting$5", implDesc := { parameters := [(.object "CardLoom$Law"), .int, .int, .int], returnType := some (.object "CardLoom$Turning") }, implItf := false, inst := { parameters := [.int, .int, .int], returnType := some (.object "CardLoom$Turning") } }
def fwB_7 : ByteArray := ⟨#[42, 180, 0, 15, 27, 28, 29, 184, 0, 23, 176]⟩
theorem fw7_0 : decode fwB_7 0 = .ok (.aload_n 0, 1) := by decide +kernel
theorem fw7_1 : decode fwB_7 1 = .ok (.getfield 15, 3) := by decide +kernel
theorem fw7_4 : decode fwB_7 4 = .ok (.iload_n 1, 1) := by decide +kernel
theorem fw7_5 : decode fwB_7 5 = .ok (.iload_n 2, 1) := by decide +kernel
theorem fw7_6 : decode fwB_7 6 = .ok (.iload_n 3, 1) := by decide +kernel
theorem fw7_7 : decode fwB_7 7 = .ok (.invokestatic 23, 3) := by decide +kernel
theorem fw7_10 : decode fwB_7 10 = .ok (.areturn, 1) := by decide +kernel
def D_7 : ClassFile := (sg_7.file "CardLoom").getD { minorVersion := 0, majorVersion := 0, constantPool := #[], accessFlags := 0, thisClass := 0, superClass := 0, interfaces := #[], fields := #[], methods := #[], attributes := #[] }
def fwM_7 : Method := ((layoutMethods D_7).bind (·[1]?)).getD default
def ld_7 : Array Field × Array FieldType × Array FieldType := (layoutFields D_7 0).getD (#[], #[], #[])
theorem file_7 : sg_7.file "CardLoom" = some D_7 := by
  have h : (sg_7.file "CardLoom").isSome = true := by decide +kernel
  obtain ⟨x, hx⟩ := Option.isSome_iff_exists.mp h
  simp [D_7, hx]
theorem sec_7 : ∀ ms, layoutMethods D_7 = some ms → ms[1]? = some fwM_7 := by
  intro ms hms
  have h : ((layoutMethods D_7).bind (·[1]?)).isSome = true := by decide +kernel
  obtain ⟨x, hx⟩ := Option.isSome_iff_exists.mp h
  have hf : fwM_7 = x := by simp [fwM_7, hx]
  rw [hms] at hx
  rw [hf]
  exact hx
theorem laid_7 : layoutFields D_7 0 = some ld_7 := by
  have h : (layoutFields D_7 0).isSome = true := by decide +kernel
  obtain ⟨x, hx⟩ := Option.isSome_iff_exists.mp h
  simp [ld_7, hx]
theorem fcode_7 : (fwM_7.code.map fun c => (c.code.data, c.maxLocals)) = some (fwB_7.data, 4) := by decide +kernel
theorem fflg_7 : (fwM_7.accessFlags, fwM_7.name, fwM_7.sig.returnType) = (0x0001, "of", (some (.object "CardLoom$Turning") : Option FieldType)) := by decide +kernel
theorem eM_7 : D_7.constantPool[23]? = some (.methodref 19 22) ∧ D_7.constantPool.className? 19 = some "CardLoom" ∧ D_7.constantPool.nameAndType? 22 = some ("lambda$slanting$5", "(LCardLoom$Law;III)LCardLoom$Turning;") := by decide +kernel
theorem eC_7 : D_7.constantPool[19]? = some (.class_ 18) ∧ D_7.constantPool.string? 18 = some "CardLoom" ∧ 19 ≠ D_7.thisClass := by decide +kernel
theorem eF7_0 : D_7.constantPool[15]? = some (.fieldref 2 14) ∧ D_7.constantPool.nameAndType? 14 = some ("arg$1", "LCardLoom$Law;") ∧ ld_7.1.findIdx? (·.name == "arg$1") = some 0 ∧ (ld_7.1[0]?).map (fun f => (f.isStatic, f.slot)) = some (false, 0) := by decide +kernel
def sg_8 : Lambda.Shape := { iface := "CardLoom$Law", name := "of", sam := { parameters := [.int, .int, .int], returnType := some (.object "CardLoom$Turning") }, captured := [(.object "CardLoom$Law")], kind := 6, implClass := "CardLoom", implName := "lambda$reversed$6", implDesc := { parameters := [(.object "CardLoom$Law"), .int, .int, .int], returnType := some (.object "CardLoom$Turning") }, implItf := false, inst := { parameters := [.int, .int, .int], returnType := some (.object "CardLoom$Turning") } }
def fwB_8 : ByteArray := ⟨#[42, 180, 0, 15, 27, 28, 29, 184, 0, 23, 176]⟩
theorem fw8_0 : decode fwB_8 0 = .ok (.aload_n 0, 1) := by decide +kernel
theorem fw8_1 : decode fwB_8 1 = .ok (.getfield 15, 3) := by decide +kernel
theorem fw8_4 : decode fwB_8 4 = .ok (.iload_n 1, 1) := by decide +kernel
theorem fw8_5 : decode fwB_8 5 = .ok (.iload_n 2, 1) := by decide +kernel
theorem fw8_6 : decode fwB_8 6 = .ok (.iload_n 3, 1) := by decide +kernel
theorem fw8_7 : decode fwB_8 7 = .ok (.invokestatic 23, 3) := by decide +kernel
theorem fw8_10 : decode fwB_8 10 = .ok (.areturn, 1) := by decide +kernel
def D_8 : ClassFile := (sg_8.file "CardLoom").getD { minorVersion := 0, majorVersion := 0, constantPool := #[], accessFlags := 0, thisClass := 0, superClass := 0, interfaces := #[], fields := #[], methods := #[], attributes := #[] }
def fwM_8 : Method := ((layoutMethods D_8).bind (·[1]?)).getD default
def ld_8 : Array Field × Array FieldType × Array FieldType := (layoutFields D_8 0).getD (#[], #[], #[])
theorem file_8 : sg_8.file "CardLoom" = some D_8 := by
  have h : (sg_8.file "CardLoom").isSome = true := by decide +kernel
  obtain ⟨x, hx⟩ := Option.isSome_iff_exists.mp h
  simp [D_8, hx]
theorem sec_8 : ∀ ms, layoutMethods D_8 = some ms → ms[1]? = some fwM_8 := by
  intro ms hms
  have h : ((layoutMethods D_8).bind (·[1]?)).isSome = true := by decide +kernel
  obtain ⟨x, hx⟩ := Option.isSome_iff_exists.mp h
  have hf : fwM_8 = x := by simp [fwM_8, hx]
  rw [hms] at hx
  rw [hf]
  exact hx
theorem laid_8 : layoutFields D_8 0 = some ld_8 := by
  have h : (layoutFields D_8 0).isSome = true := by decide +kernel
  obtain ⟨x, hx⟩ := Option.isSome_iff_exists.mp h
  simp [ld_8, hx]
theorem fcode_8 : (fwM_8.code.map fun c => (c.code.data, c.maxLocals)) = some (fwB_8.data, 4) := by decide +kernel
theorem fflg_8 : (fwM_8.accessFlags, fwM_8.name, fwM_8.sig.returnType) = (0x0001, "of", (some (.object "CardLoom$Turning") : Option FieldType)) := by decide +kernel
theorem eM_8 : D_8.constantPool[23]? = some (.methodref 19 22) ∧ D_8.constantPool.className? 19 = some "CardLoom" ∧ D_8.constantPool.nameAndType? 22 = some ("lambda$reversed$6", "(LCardLoom$Law;III)LCardLoom$Turning;") := by decide +kernel
theorem eC_8 : D_8.constantPool[19]? = some (.class_ 18) ∧ D_8.constantPool.string? 18 = some "CardLoom" ∧ 19 ≠ D_8.thisClass := by decide +kernel
theorem eF8_0 : D_8.constantPool[15]? = some (.fieldref 2 14) ∧ D_8.constantPool.nameAndType? 14 = some ("arg$1", "LCardLoom$Law;") ∧ ld_8.1.findIdx? (·.name == "arg$1") = some 0 ∧ (ld_8.1[0]?).map (fun f => (f.isStatic, f.slot)) = some (false, 0) := by decide +kernel
def sg_9 : Lambda.Shape := { iface := "CardLoom$Law", name := "of", sam := { parameters := [.int, .int, .int], returnType := some (.object "CardLoom$Turning") }, captured := [(.object "CardLoom$Law")], kind := 6, implClass := "CardLoom", implName := "lambda$mirrored$7", implDesc := { parameters := [(.object "CardLoom$Law"), .int, .int, .int], returnType := some (.object "CardLoom$Turning") }, implItf := false, inst := { parameters := [.int, .int, .int], returnType := some (.object "CardLoom$Turning") } }
def fwB_9 : ByteArray := ⟨#[42, 180, 0, 15, 27, 28, 29, 184, 0, 23, 176]⟩
theorem fw9_0 : decode fwB_9 0 = .ok (.aload_n 0, 1) := by decide +kernel
theorem fw9_1 : decode fwB_9 1 = .ok (.getfield 15, 3) := by decide +kernel
theorem fw9_4 : decode fwB_9 4 = .ok (.iload_n 1, 1) := by decide +kernel
theorem fw9_5 : decode fwB_9 5 = .ok (.iload_n 2, 1) := by decide +kernel
theorem fw9_6 : decode fwB_9 6 = .ok (.iload_n 3, 1) := by decide +kernel
theorem fw9_7 : decode fwB_9 7 = .ok (.invokestatic 23, 3) := by decide +kernel
theorem fw9_10 : decode fwB_9 10 = .ok (.areturn, 1) := by decide +kernel
def D_9 : ClassFile := (sg_9.file "CardLoom").getD { minorVersion := 0, majorVersion := 0, constantPool := #[], accessFlags := 0, thisClass := 0, superClass := 0, interfaces := #[], fields := #[], methods := #[], attributes := #[] }
def fwM_9 : Method := ((layoutMethods D_9).bind (·[1]?)).getD default
def ld_9 : Array Field × Array FieldType × Array FieldType := (layoutFields D_9 0).getD (#[], #[], #[])
theorem file_9 : sg_9.file "CardLoom" = some D_9 := by
  have h : (sg_9.file "CardLoom").isSome = true := by decide +kernel
  obtain ⟨x, hx⟩ := Option.isSome_iff_exists.mp h
  simp [D_9, hx]
theorem sec_9 : ∀ ms, layoutMethods D_9 = some ms → ms[1]? = some fwM_9 := by
  intro ms hms
  have h : ((layoutMethods D_9).bind (·[1]?)).isSome = true := by decide +kernel
  obtain ⟨x, hx⟩ := Option.isSome_iff_exists.mp h
  have hf : fwM_9 = x := by simp [fwM_9, hx]
  rw [hms] at hx
  rw [hf]
  exact hx
theorem laid_9 : layoutFields D_9 0 = some ld_9 := by
  have h : (layoutFields D_9 0).isSome = true := by decide +kernel
  obtain ⟨x, hx⟩ := Option.isSome_iff_exists.mp h
  simp [ld_9, hx]
theorem fcode_9 : (fwM_9.code.map fun c => (c.code.data, c.maxLocals)) = some (fwB_9.data, 4) := by decide +kernel
theorem fflg_9 : (fwM_9.accessFlags, fwM_9.name, fwM_9.sig.returnType) = (0x0001, "of", (some (.object "CardLoom$Turning") : Option FieldType)) := by decide +kernel
theorem eM_9 : D_9.constantPool[23]? = some (.methodref 19 22) ∧ D_9.constantPool.className? 19 = some "CardLoom" ∧ D_9.constantPool.nameAndType? 22 = some ("lambda$mirrored$7", "(LCardLoom$Law;III)LCardLoom$Turning;") := by decide +kernel
theorem eC_9 : D_9.constantPool[19]? = some (.class_ 18) ∧ D_9.constantPool.string? 18 = some "CardLoom" ∧ 19 ≠ D_9.thisClass := by decide +kernel
theorem eF9_0 : D_9.constantPool[15]? = some (.fieldref 2 14) ∧ D_9.constantPool.nameAndType? 14 = some ("arg$1", "LCardLoom$Law;") ∧ ld_9.1.findIdx? (·.name == "arg$1") = some 0 ∧ (ld_9.1[0]?).map (fun f => (f.isStatic, f.slot)) = some (false, 0) := by decide +kernel
def sg_10 : Lambda.Shape := { iface := "CardLoom$Law", name := "of", sam := { parameters := [.int, .int, .int], returnType := some (.object "CardLoom$Turning") }, captured := [(.object "CardLoom$Law"), (.object "CardLoom$Law")], kind := 6, implClass := "CardLoom", implName := "lambda$first$8", implDesc := { parameters := [(.object "CardLoom$Law"), (.object "CardLoom$Law"), .int, .int, .int], returnType := some (.object "CardLoom$Turning") }, implItf := false, inst := { parameters := [.int, .int, .int], returnType := some (.object "CardLoom$Turning") } }
def fwB_10 : ByteArray := ⟨#[42, 180, 0, 16, 42, 180, 0, 18, 27, 28, 29, 184, 0, 26, 176]⟩
theorem fw10_0 : decode fwB_10 0 = .ok (.aload_n 0, 1) := by decide +kernel
theorem fw10_1 : decode fwB_10 1 = .ok (.getfield 16, 3) := by decide +kernel
theorem fw10_4 : decode fwB_10 4 = .ok (.aload_n 0, 1) := by decide +kernel
theorem fw10_5 : decode fwB_10 5 = .ok (.getfield 18, 3) := by decide +kernel
theorem fw10_8 : decode fwB_10 8 = .ok (.iload_n 1, 1) := by decide +kernel
theorem fw10_9 : decode fwB_10 9 = .ok (.iload_n 2, 1) := by decide +kernel
theorem fw10_10 : decode fwB_10 10 = .ok (.iload_n 3, 1) := by decide +kernel
theorem fw10_11 : decode fwB_10 11 = .ok (.invokestatic 26, 3) := by decide +kernel
theorem fw10_14 : decode fwB_10 14 = .ok (.areturn, 1) := by decide +kernel
def D_10 : ClassFile := (sg_10.file "CardLoom").getD { minorVersion := 0, majorVersion := 0, constantPool := #[], accessFlags := 0, thisClass := 0, superClass := 0, interfaces := #[], fields := #[], methods := #[], attributes := #[] }
def fwM_10 : Method := ((layoutMethods D_10).bind (·[1]?)).getD default
def ld_10 : Array Field × Array FieldType × Array FieldType := (layoutFields D_10 0).getD (#[], #[], #[])
theorem file_10 : sg_10.file "CardLoom" = some D_10 := by
  have h : (sg_10.file "CardLoom").isSome = true := by decide +kernel
  obtain ⟨x, hx⟩ := Option.isSome_iff_exists.mp h
  simp [D_10, hx]
theorem sec_10 : ∀ ms, layoutMethods D_10 = some ms → ms[1]? = some fwM_10 := by
  intro ms hms
  have h : ((layoutMethods D_10).bind (·[1]?)).isSome = true := by decide +kernel
  obtain ⟨x, hx⟩ := Option.isSome_iff_exists.mp h
  have hf : fwM_10 = x := by simp [fwM_10, hx]
  rw [hms] at hx
  rw [hf]
  exact hx
theorem laid_10 : layoutFields D_10 0 = some ld_10 := by
  have h : (layoutFields D_10 0).isSome = true := by decide +kernel
  obtain ⟨x, hx⟩ := Option.isSome_iff_exists.mp h
  simp [ld_10, hx]
theorem fcode_10 : (fwM_10.code.map fun c => (c.code.data, c.maxLocals)) = some (fwB_10.data, 4) := by decide +kernel
theorem fflg_10 : (fwM_10.accessFlags, fwM_10.name, fwM_10.sig.returnType) = (0x0001, "of", (some (.object "CardLoom$Turning") : Option FieldType)) := by decide +kernel
theorem eM_10 : D_10.constantPool[26]? = some (.methodref 22 25) ∧ D_10.constantPool.className? 22 = some "CardLoom" ∧ D_10.constantPool.nameAndType? 25 = some ("lambda$first$8", "(LCardLoom$Law;LCardLoom$Law;III)LCardLoom$Turning;") := by decide +kernel
theorem eC_10 : D_10.constantPool[22]? = some (.class_ 21) ∧ D_10.constantPool.string? 21 = some "CardLoom" ∧ 22 ≠ D_10.thisClass := by decide +kernel
theorem eF10_0 : D_10.constantPool[16]? = some (.fieldref 2 15) ∧ D_10.constantPool.nameAndType? 15 = some ("arg$1", "LCardLoom$Law;") ∧ ld_10.1.findIdx? (·.name == "arg$1") = some 0 ∧ (ld_10.1[0]?).map (fun f => (f.isStatic, f.slot)) = some (false, 0) := by decide +kernel
theorem eF10_1 : D_10.constantPool[18]? = some (.fieldref 2 17) ∧ D_10.constantPool.nameAndType? 17 = some ("arg$2", "LCardLoom$Law;") ∧ ld_10.1.findIdx? (·.name == "arg$2") = some 1 ∧ (ld_10.1[1]?).map (fun f => (f.isStatic, f.slot)) = some (false, 1) := by decide +kernel
def sg_11 : Lambda.Shape := { iface := "CardLoom$Asks", name := "isSo", sam := { parameters := [.object "java/util/ArrayList"], returnType := some .boolean }, captured := [.object "CardLoom"], kind := 5, implClass := "CardLoom", implName := "areAsNow", implDesc := { parameters := [.object "java/util/ArrayList"], returnType := some .boolean }, implItf := false, inst := { parameters := [.object "java/util/ArrayList"], returnType := some .boolean } }
def fwB_11 : ByteArray := ⟨#[42, 180, 0, 15, 43, 182, 0, 22, 172]⟩
theorem fw11_0 : decode fwB_11 0 = .ok (.aload_n 0, 1) := by decide +kernel
theorem fw11_1 : decode fwB_11 1 = .ok (.getfield 15, 3) := by decide +kernel
theorem fw11_4 : decode fwB_11 4 = .ok (.aload_n 1, 1) := by decide +kernel
theorem fw11_5 : decode fwB_11 5 = .ok (.invokevirtual 22, 3) := by decide +kernel
theorem fw11_8 : decode fwB_11 8 = .ok (.ireturn, 1) := by decide +kernel
def D_11 : ClassFile := (sg_11.file "CardLoom").getD { minorVersion := 0, majorVersion := 0, constantPool := #[], accessFlags := 0, thisClass := 0, superClass := 0, interfaces := #[], fields := #[], methods := #[], attributes := #[] }
def fwM_11 : Method := ((layoutMethods D_11).bind (·[1]?)).getD default
def ld_11 : Array Field × Array FieldType × Array FieldType := (layoutFields D_11 0).getD (#[], #[], #[])
theorem file_11 : sg_11.file "CardLoom" = some D_11 := by
  have h : (sg_11.file "CardLoom").isSome = true := by decide +kernel
  obtain ⟨x, hx⟩ := Option.isSome_iff_exists.mp h
  simp [D_11, hx]
theorem sec_11 : ∀ ms, layoutMethods D_11 = some ms → ms[1]? = some fwM_11 := by
  intro ms hms
  have h : ((layoutMethods D_11).bind (·[1]?)).isSome = true := by decide +kernel
  obtain ⟨x, hx⟩ := Option.isSome_iff_exists.mp h
  have hf : fwM_11 = x := by simp [fwM_11, hx]
  rw [hms] at hx
  rw [hf]
  exact hx
theorem laid_11 : layoutFields D_11 0 = some ld_11 := by
  have h : (layoutFields D_11 0).isSome = true := by decide +kernel
  obtain ⟨x, hx⟩ := Option.isSome_iff_exists.mp h
  simp [ld_11, hx]
theorem fcode_11 : (fwM_11.code.map fun c => (c.code.data, c.maxLocals)) = some (fwB_11.data, 2) := by decide +kernel
theorem fflg_11 : (fwM_11.accessFlags, fwM_11.name, fwM_11.sig.returnType) = (0x0001, "isSo", (some .boolean : Option FieldType)) := by decide +kernel
theorem eM_11 : D_11.constantPool[22]? = some (.methodref 19 21) ∧ D_11.constantPool.className? 19 = some "CardLoom" ∧ D_11.constantPool.nameAndType? 21 = some ("areAsNow", "(Ljava/util/ArrayList;)Z") := by decide +kernel
theorem eC_11 : D_11.constantPool[19]? = some (.class_ 18) ∧ D_11.constantPool.string? 18 = some "CardLoom" ∧ 19 ≠ D_11.thisClass := by decide +kernel
theorem eF11_0 : D_11.constantPool[15]? = some (.fieldref 2 14) ∧ D_11.constantPool.nameAndType? 14 = some ("arg$1", "LCardLoom;") ∧ ld_11.1.findIdx? (·.name == "arg$1") = some 0 ∧ (ld_11.1[0]?).map (fun f => (f.isStatic, f.slot)) = some (false, 0) := by decide +kernel
def sg_12 : Lambda.Shape := { iface := "CardLoom$Asks", name := "isSo", sam := { parameters := [.object "java/util/ArrayList"], returnType := some .boolean }, captured := [], kind := 6, implClass := "CardLoom", implName := "areFlat", implDesc := { parameters := [.object "java/util/ArrayList"], returnType := some .boolean }, implItf := false, inst := { parameters := [.object "java/util/ArrayList"], returnType := some .boolean } }
def fwB_12 : ByteArray := ⟨#[43, 184, 0, 17, 172]⟩
theorem fw12_0 : decode fwB_12 0 = .ok (.aload_n 1, 1) := by decide +kernel
theorem fw12_1 : decode fwB_12 1 = .ok (.invokestatic 17, 3) := by decide +kernel
theorem fw12_4 : decode fwB_12 4 = .ok (.ireturn, 1) := by decide +kernel
def D_12 : ClassFile := (sg_12.file "CardLoom").getD { minorVersion := 0, majorVersion := 0, constantPool := #[], accessFlags := 0, thisClass := 0, superClass := 0, interfaces := #[], fields := #[], methods := #[], attributes := #[] }
def fwM_12 : Method := ((layoutMethods D_12).bind (·[1]?)).getD default
def ld_12 : Array Field × Array FieldType × Array FieldType := (layoutFields D_12 0).getD (#[], #[], #[])
theorem file_12 : sg_12.file "CardLoom" = some D_12 := by
  have h : (sg_12.file "CardLoom").isSome = true := by decide +kernel
  obtain ⟨x, hx⟩ := Option.isSome_iff_exists.mp h
  simp [D_12, hx]
theorem sec_12 : ∀ ms, layoutMethods D_12 = some ms → ms[1]? = some fwM_12 := by
  intro ms hms
  have h : ((layoutMethods D_12).bind (·[1]?)).isSome = true := by decide +kernel
  obtain ⟨x, hx⟩ := Option.isSome_iff_exists.mp h
  have hf : fwM_12 = x := by simp [fwM_12, hx]
  rw [hms] at hx
  rw [hf]
  exact hx
theorem laid_12 : layoutFields D_12 0 = some ld_12 := by
  have h : (layoutFields D_12 0).isSome = true := by decide +kernel
  obtain ⟨x, hx⟩ := Option.isSome_iff_exists.mp h
  simp [ld_12, hx]
theorem fcode_12 : (fwM_12.code.map fun c => (c.code.data, c.maxLocals)) = some (fwB_12.data, 2) := by decide +kernel
theorem fflg_12 : (fwM_12.accessFlags, fwM_12.name, fwM_12.sig.returnType) = (0x0001, "isSo", (some .boolean : Option FieldType)) := by decide +kernel
theorem eM_12 : D_12.constantPool[17]? = some (.methodref 14 16) ∧ D_12.constantPool.className? 14 = some "CardLoom" ∧ D_12.constantPool.nameAndType? 16 = some ("areFlat", "(Ljava/util/ArrayList;)Z") := by decide +kernel
theorem eC_12 : D_12.constantPool[14]? = some (.class_ 13) ∧ D_12.constantPool.string? 13 = some "CardLoom" ∧ 14 ≠ D_12.thisClass := by decide +kernel
