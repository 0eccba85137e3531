theorem k_m15 {α : Type} {x : Array Nat} {f : Nat → Nat → Nat → Option α} {r : α} (h : Lambda.shapeOf?.match_15 (fun _ => Option α) x f (fun _ => none) = some r) : ∃ a0 a1 a2, f a0 a1 a2 = some r := by
  rcases x with ⟨l⟩
  match l, h with
  | [a, b, c], h => exact ⟨a, b, c, h⟩
  | [], h => cases h
  | [a], h => cases h
  | [a, b], h => cases h
  | a :: b :: c :: d :: l, h => cases h
theorem k_m19 {α : Type} {x : Option CpInfo} {f : Nat → Nat → Option α} {r : α} (h : Lambda.shapeOf?.match_19 (fun _ => Option α) x f (fun _ => none) = some r) : ∃ b nt, x = some (.invokeDynamic b nt) ∧ f b nt = some r := by
  cases x with
  | none => cases h
  | some v => cases v <;> first | exact ⟨_, _, rfl, h⟩ | cases h
theorem k_m17 {α : Type} {x : Option CpInfo} {f : Nat → Option α} {r : α} (h : Lambda.shapeOf?.match_17 (fun _ => Option α) x f (fun _ => none) = some r) : ∃ y, f y = some r := by
  split at h
  · exact ⟨_, h⟩
  · cases h
theorem k_m9 {α : Type} {x : Option CpInfo} {f : Nat → Option α} {r : α} (h : Lambda.shapeOf?.match_9 (fun _ => Option α) x f (fun _ => none) = some r) : ∃ y, f y = some r := by
  split at h
  · exact ⟨_, h⟩
  · cases h
theorem k_m12 {α : Type} {x : Option CpInfo} {f : Nat → Nat → Option α} {r : α} (h : Lambda.shapeOf?.match_12 (fun _ => Option α) x f (fun _ => none) = some r) : ∃ y z, f y z = some r := by
  split at h
  · exact ⟨_, _, h⟩
  · cases h
theorem k_m6 {α : Type} {x : Option FieldType} {f : String → Option α} {r : α} (h : Lambda.shapeOf?.match_6 (fun _ => Option α) x f (fun _ => none) = some r) : ∃ y, f y = some r := by
  split at h
  · exact ⟨_, h⟩
  · cases h
theorem k_bd {α β : Type} {x : Option α} {f : α → Option β} {r : β} (h : x >>= f = some r) : ∃ y, x = some y ∧ f y = some r := Option.bind_eq_some_iff.mp h
theorem k_shape {cf : ClassFile} {index : Nat} {σ : Lambda.Shape} (h : Lambda.shapeOf? cf index = some σ) : ∃ (b nt : Nat) (desc : String) (site : MethodDescriptor), cf.constantPool[index]? = some (.invokeDynamic b nt) ∧ cf.constantPool.nameAndType? nt = some (σ.name, desc) ∧ parseMethodDescriptor desc = some site ∧ site.parameters = σ.captured := by
  unfold Lambda.shapeOf? at h
  obtain ⟨b, nt, hc, h⟩ := k_m19 h
  obtain ⟨en, -, h⟩ := k_bd h
  obtain ⟨bm, -, h⟩ := k_bd h
  obtain ⟨r0, h⟩ := k_m17 h
  obtain ⟨_, -, h⟩ := k_bd h
  obtain ⟨a0, a1, a2, h⟩ := k_m15 h
  obtain ⟨d0, h⟩ := k_m9 h
  obtain ⟨kind, r1, h⟩ := k_m12 h
  obtain ⟨d2, h⟩ := k_m9 h
  obtain ⟨nd, hnd, h⟩ := k_bd h
  obtain ⟨site, hsite, h⟩ := k_bd h
  obtain ⟨ifc, h⟩ := k_m6 h
  obtain ⟨mm, -, h⟩ := k_bd h
  obtain ⟨q0, -, h⟩ := k_bd h
  obtain ⟨sam, -, h⟩ := k_bd h
  obtain ⟨idd, -, h⟩ := k_bd h
  obtain ⟨q2, -, h⟩ := k_bd h
  obtain ⟨inst, -, h⟩ := k_bd h
  cases h
  exact ⟨b, nt, nd.2, site, hc, hnd, hsite, rfl⟩
theorem k_madeTy {e : Setting} {s : State} {args : Array Value} {d c : ClassId} {σ : Lambda.Shape} {dk : Class} {T : Array FieldType} (h : Lambda.isMade e s.vm d σ c = true) (hd : s.vm.classes[d]? = some dk) (hO : (Cond.instantiable "java/lang/Object" 0).before args s = true) (hlay : ((σ.file dk.name).bind (layoutFields · 0)).map (·.2.1) = some T) : ∃ k, s.vm.classes[c]? = some k ∧ k.instanceTypes = T ∧ k.kind = .ordinary := by
  obtain ⟨dk2, k, ok, tk, file, cf, object, iface, t, lay, methods, target, found, h1, h2, h3, h4, h5, h6, h7, h8, h9, h10, h11, h12, h13, hr, -, -, -, -, -, -, -, hty, -⟩ := Lambda.isMade_spec h
  cases hd.symm.trans h1
  obtain ⟨cO, kO, f1, f2, -, -, -, f3⟩ := Cond.instantiable_spec hO
  cases f1.symm.trans h5
  cases f2.symm.trans h7
  have hemp : ok.instanceTypes = #[] := Array.eq_empty_of_size_eq_zero f3
  rw [h4] at hlay
  rw [f3] at h8
  have hl : (layoutFields cf 0).map (·.2.1) = some T := hlay
  rw [h8] at hl
  refine ⟨k, h2, ?_, hr.2.1⟩
  rw [hty.1, hemp]
  simpa using hl
