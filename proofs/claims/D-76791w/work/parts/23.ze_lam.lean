set_option maxRecDepth 100000
theorem md_0 {g : GT} {U : State} (h : SX g U) (hts : ∀ w ∈ lw_all, w.before #[] U = true) : kMd 4 17 [] yX0_idle fwB_0 (some (.object "CardLoom$Turning")) 3 (gL g 0) U := k_md (σ := sg_0) file_0 sec_0 laid_0 fcode_0 fflg_0 (y := yX0_idle) rfl eM_0 eC_0 (by decide +kernel) (fun j fi h => by simp at h) (h.2.2.2.2.2.2.2.2.2.2.1 _ (List.mem_of_getElem? (i := 0) rfl)) rfl (hts _ q2808) (hts _ q174) (hts _ q173) (hts _ q78) (Option.eq_some_of_isSome (by decide +kernel)) (by decide +kernel)
theorem fb_0 {l : Launch} {g : GT} (hX : ∀ U, gX g U → SX g U) {w w2 : Wd} {a : Nat}  (c p n : Int32) {t : Nat} {fr2 lo2 : Nat} (hM : kMt l g yX0_idle (ws_ yX0_idle cX0_idle 3 (some (.object "CardLoom$Turning"))) fr2 lo2 w [.int c, .int p, .int n] (some (.ref t)) w2) : kFb l g 0 4 (fr2 + 1) (lo2 + 22) w [.ref a, .int c, .int p, .int n] (some (.ref t)) w2 := by
  refine fwd_in (lv := [some (.ref a), some (.int c), some (.int p), some (.int n)]) (Nat.le_of_ble_eq_true rfl) rfl (fun U hG hts => ⟨(md_0 (hX _ hG.2.2.1) hts).1, (md_0 (hX _ hG.2.2.1) hts).2.1⟩) ?_
  intro X hl hm C
  have hmd : ∀ U : State, (xs X).WarmedH U.vm → kMd 4 17 [] yX0_idle fwB_0 (some (.object "CardLoom$Turning")) 3 (gL g 0) U := fun U hW => md_0 (hX _ (C.2.2.2.2.1.warm hW).2.2.1) (fun w hw => pay_in C.2.2.2.1 lw_self w hw #[] U hW)
  refine f_iload C fw0_0 rfl rfl ?_
  refine f_iload C fw0_1 rfl rfl ?_
  refine f_iload C fw0_2 rfl rfl ?_
  refine f_static C hm (fun U hW => (hmd U hW).2.2.2 (xe X)) q174 q78 (by rw [hl]; exact hM) (by constructor <;> omega) rfl (st := []) rfl (Nat.le_of_ble_eq_true rfl) fw0_3 ?_
  exact f_aret C (Or.inl ⟨_, rfl⟩) (Or.inr ⟨_, rfl⟩) fw0_6
theorem md_1 {g : GT} {U : State} (h : SX g U) (hts : ∀ w ∈ lw_all, w.before #[] U = true) : kMd 4 17 [] yX0_idle fwB_1 (some (.object "CardLoom$Turning")) 3 (gL g 1) U := k_md (σ := sg_1) file_1 sec_1 laid_1 fcode_1 fflg_1 (y := yX0_idle) rfl eM_1 eC_1 (by decide +kernel) (fun j fi h => by simp at h) (h.2.2.2.2.2.2.2.2.2.2.1 _ (List.mem_of_getElem? (i := 1) rfl)) rfl (hts _ q2808) (hts _ q174) (hts _ q173) (hts _ q78) (Option.eq_some_of_isSome (by decide +kernel)) (by decide +kernel)
theorem fb_1 {l : Launch} {g : GT} (hX : ∀ U, gX g U → SX g U) {w w2 : Wd} {a : Nat}  (c p n : Int32) {t : Nat} {fr2 lo2 : Nat} (hM : kMt l g yX0_idle (ws_ yX0_idle cX0_idle 3 (some (.object "CardLoom$Turning"))) fr2 lo2 w [.int c, .int p, .int n] (some (.ref t)) w2) : kFb l g 1 4 (fr2 + 1) (lo2 + 22) w [.ref a, .int c, .int p, .int n] (some (.ref t)) w2 := by
  refine fwd_in (lv := [some (.ref a), some (.int c), some (.int p), some (.int n)]) (Nat.le_of_ble_eq_true rfl) rfl (fun U hG hts => ⟨(md_1 (hX _ hG.2.2.1) hts).1, (md_1 (hX _ hG.2.2.1) hts).2.1⟩) ?_
  intro X hl hm C
  have hmd : ∀ U : State, (xs X).WarmedH U.vm → kMd 4 17 [] yX0_idle fwB_1 (some (.object "CardLoom$Turning")) 3 (gL g 1) U := fun U hW => md_1 (hX _ (C.2.2.2.2.1.warm hW).2.2.1) (fun w hw => pay_in C.2.2.2.1 lw_self w hw #[] U hW)
  refine f_iload C fw1_0 rfl rfl ?_
  refine f_iload C fw1_1 rfl rfl ?_
  refine f_iload C fw1_2 rfl rfl ?_
  refine f_static C hm (fun U hW => (hmd U hW).2.2.2 (xe X)) q174 q78 (by rw [hl]; exact hM) (by constructor <;> omega) rfl (st := []) rfl (Nat.le_of_ble_eq_true rfl) fw1_3 ?_
  exact f_aret C (Or.inl ⟨_, rfl⟩) (Or.inr ⟨_, rfl⟩) fw1_6
theorem md_2 {g : GT} {U : State} (h : SX g U) (hts : ∀ w ∈ lw_all, w.before #[] U = true) : kMd 4 23 [15] yX0_lambda_always_0 fwB_2 (some (.object "CardLoom$Turning")) 4 (gL g 2) U := k_md (σ := sg_2) file_2 sec_2 laid_2 fcode_2 fflg_2 (y := yX0_lambda_always_0) rfl eM_2 eC_2 (by decide +kernel) (fun j fi h => by
  rcases j with _ | j
  · cases h; exact ⟨_, _, _, _, eF2_0⟩
  · simp at h) (h.2.2.2.2.2.2.2.2.2.2.1 _ (List.mem_of_getElem? (i := 2) rfl)) rfl (hts _ q2808) (hts _ q677) (hts _ q676) (hts _ q78) (Option.eq_some_of_isSome (by decide +kernel)) (by decide +kernel)
theorem fb_2 {l : Launch} {g : GT} (hX : ∀ U, gX g U → SX g U) {w w2 : Wd} {a : Nat} (v0 : Nat) (hat : w.1 a = some (.inr (2, [.ref v0]))) (c p n : Int32) {t : Nat} {fr2 lo2 : Nat} (hM : kMt l g yX0_lambda_always_0 (ws_ yX0_lambda_always_0 cX0_lambda_always_0 4 (some (.object "CardLoom$Turning"))) fr2 lo2 w [.ref v0, .int c, .int p, .int n] (some (.ref t)) w2) : kFb l g 2 4 (fr2 + 1) (lo2 + 23) w [.ref a, .int c, .int p, .int n] (some (.ref t)) w2 := by
  refine fwd_in (lv := [some (.ref a), some (.int c), some (.int p), some (.int n)]) (Nat.le_of_ble_eq_true rfl) rfl (fun U hG hts => ⟨(md_2 (hX _ hG.2.2.1) hts).1, (md_2 (hX _ hG.2.2.1) hts).2.1⟩) ?_
  intro X hl hm C
  have hmd : ∀ U : State, (xs X).WarmedH U.vm → kMd 4 23 [15] yX0_lambda_always_0 fwB_2 (some (.object "CardLoom$Turning")) 4 (gL g 2) U := fun U hW => md_2 (hX _ (C.2.2.2.2.1.warm hW).2.2.1) (fun w hw => pay_in C.2.2.2.1 lw_self w hw #[] U hW)
  refine f_aload C fw2_0 rfl rfl ?_
  refine f_get C hm (fun U hW => (hmd U hW).2.2.1 0 15 rfl) hat rfl fw2_1 ?_
  refine f_iload C fw2_4 rfl rfl ?_
  refine f_iload C fw2_5 rfl rfl ?_
  refine f_iload C fw2_6 rfl rfl ?_
  refine f_static C hm (fun U hW => (hmd U hW).2.2.2 (xe X)) q677 q78 (by rw [hl]; exact hM) (by constructor <;> omega) rfl (st := []) rfl (Nat.le_of_ble_eq_true rfl) fw2_7 ?_
  exact f_aret C (Or.inl ⟨_, rfl⟩) (Or.inr ⟨_, rfl⟩) fw2_10
theorem md_3 {g : GT} {U : State} (h : SX g U) (hts : ∀ w ∈ lw_all, w.before #[] U = true) : kMd 4 30 [18, 20, 22] yX0_lambda_inTurn_1 fwB_3 (some (.object "CardLoom$Turning")) 6 (gL g 3) U := k_md (σ := sg_3) file_3 sec_3 laid_3 fcode_3 fflg_3 (y := yX0_lambda_inTurn_1) rfl eM_3 eC_3 (by decide +kernel) (fun j fi h => by
  rcases j with _ | _ | _ | j
  · cases h; exact ⟨_, _, _, _, eF3_0⟩
  · cases h; exact ⟨_, _, _, _, eF3_1⟩
  · cases h; exact ⟨_, _, _, _, eF3_2⟩
  · simp at h) (h.2.2.2.2.2.2.2.2.2.2.1 _ (List.mem_of_getElem? (i := 3) rfl)) rfl (hts _ q2808) (hts _ q599) (hts _ q598) (hts _ q78) (Option.eq_some_of_isSome (by decide +kernel)) (by decide +kernel)
theorem fb_3 {l : Launch} {g : GT} (hX : ∀ U, gX g U → SX g U) {w w2 : Wd} {a : Nat} (v0 : Int32) (v1 : Nat) (v2 : Nat) (hat : w.1 a = some (.inr (3, [.int v0, .ref v1, .ref v2]))) (c p n : Int32) {t : Nat} {fr2 lo2 : Nat} (hM : kMt l g yX0_lambda_inTurn_1 (ws_ yX0_lambda_inTurn_1 cX0_lambda_inTurn_1 6 (some (.object "CardLoom$Turning"))) fr2 lo2 w [.int v0, .ref v1, .ref v2, .int c, .int p, .int n] (some (.ref t)) w2) : kFb l g 3 4 (fr2 + 1) (lo2 + 25) w [.ref a, .int c, .int p, .int n] (some (.ref t)) w2 := by
  refine fwd_in (lv := [some (.ref a), some (.int c), some (.int p), some (.int n)]) (Nat.le_of_ble_eq_true rfl) rfl (fun U hG hts => ⟨(md_3 (hX _ hG.2.2.1) hts).1, (md_3 (hX _ hG.2.2.1) hts).2.1⟩) ?_
  intro X hl hm C
  have hmd : ∀ U : State, (xs X).WarmedH U.vm → kMd 4 30 [18, 20, 22] yX0_lambda_inTurn_1 fwB_3 (some (.object "CardLoom$Turning")) 6 (gL g 3) U := fun U hW => md_3 (hX _ (C.2.2.2.2.1.warm hW).2.2.1) (fun w hw => pay_in C.2.2.2.1 lw_self w hw #[] U hW)
  refine f_aload C fw3_0 rfl rfl ?_
  refine f_get C hm (fun U hW => (hmd U hW).2.2.1 0 18 rfl) hat rfl fw3_1 ?_
  refine f_aload C fw3_4 rfl rfl ?_
  refine f_get C hm (fun U hW => (hmd U hW).2.2.1 1 20 rfl) hat rfl fw3_5 ?_
  refine f_aload C fw3_8 rfl rfl ?_
  refine f_get C hm (fun U hW => (hmd U hW).2.2.1 2 22 rfl) hat rfl fw3_9 ?_
  refine f_iload C fw3_12 rfl rfl ?_
  refine f_iload C fw3_13 rfl rfl ?_
  refine f_iload C fw3_14 rfl rfl ?_
  refine f_static C hm (fun U hW => (hmd U hW).2.2.2 (xe X)) q599 q78 (by rw [hl]; exact hM) (by constructor <;> omega) rfl (st := []) rfl (Nat.le_of_ble_eq_true rfl) fw3_15 ?_
  exact f_aret C (Or.inl ⟨_, rfl⟩) (Or.inr ⟨_, rfl⟩) fw3_18
theorem md_4 {g : GT} {U : State} (h : SX g U) (hts : ∀ w ∈ lw_all, w.before #[] U = true) : kMd 4 30 [18, 20, 22] yX0_lambda_byCards_2 fwB_4 (some (.object "CardLoom$Turning")) 6 (gL g 4) U := k_md (σ := sg_4) file_4 sec_4 laid_4 fcode_4 fflg_4 (y := yX0_lambda_byCards_2) rfl eM_4 eC_4 (by decide +kernel) (fun j fi h => by
  rcases j with _ | _ | _ | j
  · cases h; exact ⟨_, _, _, _, eF4_0⟩
  · cases h; exact ⟨_, _, _, _, eF4_1⟩
  · cases h; exact ⟨_, _, _, _, eF4_2⟩
  · simp at h) (h.2.2.2.2.2.2.2.2.2.2.1 _ (List.mem_of_getElem? (i := 4) rfl)) rfl (hts _ q2808) (hts _ q608) (hts _ q607) (hts _ q78) (Option.eq_some_of_isSome (by decide +kernel)) (by decide +kernel)
theorem fb_4 {l : Launch} {g : GT} (hX : ∀ U, gX g U → SX g U) {w w2 : Wd} {a : Nat} (v0 : Int32) (v1 : Nat) (v2 : Nat) (hat : w.1 a = some (.inr (4, [.int v0, .ref v1, .ref v2]))) (c p n : Int32) {t : Nat} {fr2 lo2 : Nat} (hM : kMt l g yX0_lambda_byCards_2 (ws_ yX0_lambda_byCards_2 cX0_lambda_byCards_2 6 (some (.object "CardLoom$Turning"))) fr2 lo2 w [.int v0, .ref v1, .ref v2, .int c, .int p, .int n] (some (.ref t)) w2) : kFb l g 4 4 (fr2 + 1) (lo2 + 25) w [.ref a, .int c, .int p, .int n] (some (.ref t)) w2 := by
  refine fwd_in (lv := [some (.ref a), some (.int c), some (.int p), some (.int n)]) (Nat.le_of_ble_eq_true rfl) rfl (fun U hG hts => ⟨(md_4 (hX _ hG.2.2.1) hts).1, (md_4 (hX _ hG.2.2.1) hts).2.1⟩) ?_
  intro X hl hm C
  have hmd : ∀ U : State, (xs X).WarmedH U.vm → kMd 4 30 [18, 20, 22] yX0_lambda_byCards_2 fwB_4 (some (.object "CardLoom$Turning")) 6 (gL g 4) U := fun U hW => md_4 (hX _ (C.2.2.2.2.1.warm hW).2.2.1) (fun w hw => pay_in C.2.2.2.1 lw_self w hw #[] U hW)
  refine f_aload C fw4_0 rfl rfl ?_
  refine f_get C hm (fun U hW => (hmd U hW).2.2.1 0 18 rfl) hat rfl fw4_1 ?_
  refine f_aload C fw4_4 rfl rfl ?_
  refine f_get C hm (fun U hW => (hmd U hW).2.2.1 1 20 rfl) hat rfl fw4_5 ?_
  refine f_aload C fw4_8 rfl rfl ?_
  refine f_get C hm (fun U hW => (hmd U hW).2.2.1 2 22 rfl) hat rfl fw4_9 ?_
  refine f_iload C fw4_12 rfl rfl ?_
  refine f_iload C fw4_13 rfl rfl ?_
  refine f_iload C fw4_14 rfl rfl ?_
  refine f_static C hm (fun U hW => (hmd U hW).2.2.2 (xe X)) q608 q78 (by rw [hl]; exact hM) (by constructor <;> omega) rfl (st := []) rfl (Nat.le_of_ble_eq_true rfl) fw4_15 ?_
  exact f_aret C (Or.inl ⟨_, rfl⟩) (Or.inr ⟨_, rfl⟩) fw4_18
theorem md_5 {g : GT} {U : State} (h : SX g U) (hts : ∀ w ∈ lw_all, w.before #[] U = true) : kMd 4 30 [18, 20, 22] yX0_lambda_eachOf_3 fwB_5 (some (.object "CardLoom$Turning")) 6 (gL g 5) U := k_md (σ := sg_5) file_5 sec_5 laid_5 fcode_5 fflg_5 (y := yX0_lambda_eachOf_3) rfl eM_5 eC_5 (by decide +kernel) (fun j fi h => by
  rcases j with _ | _ | _ | j
  · cases h; exact ⟨_, _, _, _, eF5_0⟩
  · cases h; exact ⟨_, _, _, _, eF5_1⟩
  · cases h; exact ⟨_, _, _, _, eF5_2⟩
  · simp at h) (h.2.2.2.2.2.2.2.2.2.2.1 _ (List.mem_of_getElem? (i := 5) rfl)) rfl (hts _ q2808) (hts _ q613) (hts _ q612) (hts _ q78) (Option.eq_some_of_isSome (by decide +kernel)) (by decide +kernel)
theorem fb_5 {l : Launch} {g : GT} (hX : ∀ U, gX g U → SX g U) {w w2 : Wd} {a : Nat} (v0 : Int32) (v1 : Nat) (v2 : Nat) (hat : w.1 a = some (.inr (5, [.int v0, .ref v1, .ref v2]))) (c p n : Int32) {t : Nat} {fr2 lo2 : Nat} (hM : kMt l g yX0_lambda_eachOf_3 (ws_ yX0_lambda_eachOf_3 cX0_lambda_eachOf_3 6 (some (.object "CardLoom$Turning"))) fr2 lo2 w [.int v0, .ref v1, .ref v2, .int c, .int p, .int n] (some (.ref t)) w2) : kFb l g 5 4 (fr2 + 1) (lo2 + 25) w [.ref a, .int c, .int p, .int n] (some (.ref t)) w2 := by
  refine fwd_in (lv := [some (.ref a), some (.int c), some (.int p), some (.int n)]) (Nat.le_of_ble_eq_true rfl) rfl (fun U hG hts => ⟨(md_5 (hX _ hG.2.2.1) hts).1, (md_5 (hX _ hG.2.2.1) hts).2.1⟩) ?_
  intro X hl hm C
  have hmd : ∀ U : State, (xs X).WarmedH U.vm → kMd 4 30 [18, 20, 22] yX0_lambda_eachOf_3 fwB_5 (some (.object "CardLoom$Turning")) 6 (gL g 5) U := fun U hW => md_5 (hX _ (C.2.2.2.2.1.warm hW).2.2.1) (fun w hw => pay_in C.2.2.2.1 lw_self w hw #[] U hW)
  refine f_aload C fw5_0 rfl rfl ?_
  refine f_get C hm (fun U hW => (hmd U hW).2.2.1 0 18 rfl) hat rfl fw5_1 ?_
  refine f_aload C fw5_4 rfl rfl ?_
  refine f_get C hm (fun U hW => (hmd U hW).2.2.1 1 20 rfl) hat rfl fw5_5 ?_
  refine f_aload C fw5_8 rfl rfl ?_
  refine f_get C hm (fun U hW => (hmd U hW).2.2.1 2 22 rfl) hat rfl fw5_9 ?_
  refine f_iload C fw5_12 rfl rfl ?_
  refine f_iload C fw5_13 rfl rfl ?_
  refine f_iload C fw5_14 rfl rfl ?_
  refine f_static C hm (fun U hW => (hmd U hW).2.2.2 (xe X)) q613 q78 (by rw [hl]; exact hM) (by constructor <;> omega) rfl (st := []) rfl (Nat.le_of_ble_eq_true rfl) fw5_15 ?_
  exact f_aret C (Or.inl ⟨_, rfl⟩) (Or.inr ⟨_, rfl⟩) fw5_18
theorem md_6 {g : GT} {U : State} (h : SX g U) (hts : ∀ w ∈ lw_all, w.before #[] U = true) : kMd 4 27 [17, 19] yX0_lambda_later_4 fwB_6 (some (.object "CardLoom$Turning")) 5 (gL g 6) U := k_md (σ := sg_6) file_6 sec_6 laid_6 fcode_6 fflg_6 (y := yX0_lambda_later_4) rfl eM_6 eC_6 (by decide +kernel) (fun j fi h => by
  rcases j with _ | _ | j
  · cases h; exact ⟨_, _, _, _, eF6_0⟩
  · cases h; exact ⟨_, _, _, _, eF6_1⟩
  · simp at h) (h.2.2.2.2.2.2.2.2.2.2.1 _ (List.mem_of_getElem? (i := 6) rfl)) rfl (hts _ q2808) (hts _ q631) (hts _ q630) (hts _ q78) (Option.eq_some_of_isSome (by decide +kernel)) (by decide +kernel)
theorem fb_6 {l : Launch} {g : GT} (hX : ∀ U, gX g U → SX g U) {w w2 : Wd} {a : Nat} (v0 : Nat) (v1 : Int32) (hat : w.1 a = some (.inr (6, [.ref v0, .int v1]))) (c p n : Int32) {t : Nat} {fr2 lo2 : Nat} (hM : kMt l g yX0_lambda_later_4 (ws_ yX0_lambda_later_4 cX0_lambda_later_4 5 (some (.object "CardLoom$Turning"))) fr2 lo2 w [.ref v0, .int v1, .int c, .int p, .int n] (some (.ref t)) w2) : kFb l g 6 4 (fr2 + 1) (lo2 + 24) w [.ref a, .int c, .int p, .int n] (some (.ref t)) w2 := by
  refine fwd_in (lv := [some (.ref a), some (.int c), some (.int p), some (.int n)]) (Nat.le_of_ble_eq_true rfl) rfl (fun U hG hts => ⟨(md_6 (hX _ hG.2.2.1) hts).1, (md_6 (hX _ hG.2.2.1) hts).2.1⟩) ?_
  intro X hl hm C
  have hmd : ∀ U : State, (xs X).WarmedH U.vm → kMd 4 27 [17, 19] yX0_lambda_later_4 fwB_6 (some (.object "CardLoom$Turning")) 5 (gL g 6) U := fun U hW => md_6 (hX _ (C.2.2.2.2.1.warm hW).2.2.1) (fun w hw => pay_in C.2.2.2.1 lw_self w hw #[] U hW)
  refine f_aload C fw6_0 rfl rfl ?_
  refine f_get C hm (fun U hW => (hmd U hW).2.2.1 0 17 rfl) hat rfl fw6_1 ?_
  refine f_aload C fw6_4 rfl rfl ?_
  refine f_get C hm (fun U hW => (hmd U hW).2.2.1 1 19 rfl) hat rfl fw6_5 ?_
  refine f_iload C fw6_8 rfl rfl ?_
  refine f_iload C fw6_9 rfl rfl ?_
  refine f_iload C fw6_10 rfl rfl ?_
  refine f_static C hm (fun U hW => (hmd U hW).2.2.2 (xe X)) q631 q78 (by rw [hl]; exact hM) (by constructor <;> omega) rfl (st := []) rfl (Nat.le_of_ble_eq_true rfl) fw6_11 ?_
  exact f_aret C (Or.inl ⟨_, rfl⟩) (Or.inr ⟨_, rfl⟩) fw6_14
theorem md_7 {g : GT} {U : State} (h : SX g U) (hts : ∀ w ∈ lw_all, w.before #[] U = true) : kMd 4 23 [15] yX0_lambda_slanting_5 fwB_7 (some (.object "CardLoom$Turning")) 4 (gL g 7) U := k_md (σ := sg_7) file_7 sec_7 laid_7 fcode_7 fflg_7 (y := yX0_lambda_slanting_5) rfl eM_7 eC_7 (by decide +kernel) (fun j fi h => by
  rcases j with _ | j
  · cases h; exact ⟨_, _, _, _, eF7_0⟩
  · simp at h) (h.2.2.2.2.2.2.2.2.2.2.1 _ (List.mem_of_getElem? (i := 7) rfl)) rfl (hts _ q2808) (hts _ q636) (hts _ q635) (hts _ q78) (Option.eq_some_of_isSome (by decide +kernel)) (by decide +kernel)
theorem fb_7 {l : Launch} {g : GT} (hX : ∀ U, gX g U → SX g U) {w w2 : Wd} {a : Nat} (v0 : Nat) (hat : w.1 a = some (.inr (7, [.ref v0]))) (c p n : Int32) {t : Nat} {fr2 lo2 : Nat} (hM : kMt l g yX0_lambda_slanting_5 (ws_ yX0_lambda_slanting_5 cX0_lambda_slanting_5 4 (some (.object "CardLoom$Turning"))) fr2 lo2 w [.ref v0, .int c, .int p, .int n] (some (.ref t)) w2) : kFb l g 7 4 (fr2 + 1) (lo2 + 23) w [.ref a, .int c, .int p, .int n] (some (.ref t)) w2 := by
  refine fwd_in (lv := [some (.ref a), some (.int c), some (.int p), some (.int n)]) (Nat.le_of_ble_eq_true rfl) rfl (fun U hG hts => ⟨(md_7 (hX _ hG.2.2.1) hts).1, (md_7 (hX _ hG.2.2.1) hts).2.1⟩) ?_
  intro X hl hm C
  have hmd : ∀ U : State, (xs X).WarmedH U.vm → kMd 4 23 [15] yX0_lambda_slanting_5 fwB_7 (some (.object "CardLoom$Turning")) 4 (gL g 7) U := fun U hW => md_7 (hX _ (C.2.2.2.2.1.warm hW).2.2.1) (fun w hw => pay_in C.2.2.2.1 lw_self w hw #[] U hW)
  refine f_aload C fw7_0 rfl rfl ?_
  refine f_get C hm (fun U hW => (hmd U hW).2.2.1 0 15 rfl) hat rfl fw7_1 ?_
  refine f_iload C fw7_4 rfl rfl ?_
  refine f_iload C fw7_5 rfl rfl ?_
  refine f_iload C fw7_6 rfl rfl ?_
  refine f_static C hm (fun U hW => (hmd U hW).2.2.2 (xe X)) q636 q78 (by rw [hl]; exact hM) (by constructor <;> omega) rfl (st := []) rfl (Nat.le_of_ble_eq_true rfl) fw7_7 ?_
  exact f_aret C (Or.inl ⟨_, rfl⟩) (Or.inr ⟨_, rfl⟩) fw7_10
theorem md_8 {g : GT} {U : State} (h : SX g U) (hts : ∀ w ∈ lw_all, w.before #[] U = true) : kMd 4 23 [15] yX0_lambda_reversed_6 fwB_8 (some (.object "CardLoom$Turning")) 4 (gL g 8) U := k_md (σ := sg_8) file_8 sec_8 laid_8 fcode_8 fflg_8 (y := yX0_lambda_reversed_6) rfl eM_8 eC_8 (by decide +kernel) (fun j fi h => by
  rcases j with _ | j
  · cases h; exact ⟨_, _, _, _, eF8_0⟩
  · simp at h) (h.2.2.2.2.2.2.2.2.2.2.1 _ (List.mem_of_getElem? (i := 8) rfl)) rfl (hts _ q2808) (hts _ q641) (hts _ q640) (hts _ q78) (Option.eq_some_of_isSome (by decide +kernel)) (by decide +kernel)
theorem fb_8 {l : Launch} {g : GT} (hX : ∀ U, gX g U → SX g U) {w w2 : Wd} {a : Nat} (v0 : Nat) (hat : w.1 a = some (.inr (8, [.ref v0]))) (c p n : Int32) {t : Nat} {fr2 lo2 : Nat} (hM : kMt l g yX0_lambda_reversed_6 (ws_ yX0_lambda_reversed_6 cX0_lambda_reversed_6 4 (some (.object "CardLoom$Turning"))) fr2 lo2 w [.ref v0, .int c, .int p, .int n] (some (.ref t)) w2) : kFb l g 8 4 (fr2 + 1) (lo2 + 23) w [.ref a, .int c, .int p, .int n] (some (.ref t)) w2 := by
  refine fwd_in (lv := [some (.ref a), some (.int c), some (.int p), some (.int n)]) (Nat.le_of_ble_eq_true rfl) rfl (fun U hG hts => ⟨(md_8 (hX _ hG.2.2.1) hts).1, (md_8 (hX _ hG.2.2.1) hts).2.1⟩) ?_
  intro X hl hm C
  have hmd : ∀ U : State, (xs X).WarmedH U.vm → kMd 4 23 [15] yX0_lambda_reversed_6 fwB_8 (some (.object "CardLoom$Turning")) 4 (gL g 8) U := fun U hW => md_8 (hX _ (C.2.2.2.2.1.warm hW).2.2.1) (fun w hw => pay_in C.2.2.2.1 lw_self w hw #[] U hW)
  refine f_aload C fw8_0 rfl rfl ?_
  refine f_get C hm (fun U hW => (hmd U hW).2.2.1 0 15 rfl) hat rfl fw8_1 ?_
  refine f_iload C fw8_4 rfl rfl ?_
  refine f_iload C fw8_5 rfl rfl ?_
  refine f_iload C fw8_6 rfl rfl ?_
  refine f_static C hm (fun U hW => (hmd U hW).2.2.2 (xe X)) q641 q78 (by rw [hl]; exact hM) (by constructor <;> omega) rfl (st := []) rfl (Nat.le_of_ble_eq_true rfl) fw8_7 ?_
  exact f_aret C (Or.inl ⟨_, rfl⟩) (Or.inr ⟨_, rfl⟩) fw8_10
theorem md_9 {g : GT} {U : State} (h : SX g U) (hts : ∀ w ∈ lw_all, w.before #[] U = true) : kMd 4 23 [15] yX0_lambda_mirrored_7 fwB_9 (some (.object "CardLoom$Turning")) 4 (gL g 9) U := k_md (σ := sg_9) file_9 sec_9 laid_9 fcode_9 fflg_9 (y := yX0_lambda_mirrored_7) rfl eM_9 eC_9 (by decide +kernel) (fun j fi h => by
  rcases j with _ | j
  · cases h; exact ⟨_, _, _, _, eF9_0⟩
  · simp at h) (h.2.2.2.2.2.2.2.2.2.2.1 _ (List.mem_of_getElem? (i := 9) rfl)) rfl (hts _ q2808) (hts _ q664) (hts _ q663) (hts _ q78) (Option.eq_some_of_isSome (by decide +kernel)) (by decide +kernel)
theorem fb_9 {l : Launch} {g : GT} (hX : ∀ U, gX g U → SX g U) {w w2 : Wd} {a : Nat} (v0 : Nat) (hat : w.1 a = some (.inr (9, [.ref v0]))) (c p n : Int32) {t : Nat} {fr2 lo2 : Nat} (hM : kMt l g yX0_lambda_mirrored_7 (ws_ yX0_lambda_mirrored_7 cX0_lambda_mirrored_7 4 (some (.object "CardLoom$Turning"))) fr2 lo2 w [.ref v0, .int c, .int p, .int n] (some (.ref t)) w2) : kFb l g 9 4 (fr2 + 1) (lo2 + 23) w [.ref a, .int c, .int p, .int n] (some (.ref t)) w2 := by
  refine fwd_in (lv := [some (.ref a), some (.int c), some (.int p), some (.int n)]) (Nat.le_of_ble_eq_true rfl) rfl (fun U hG hts => ⟨(md_9 (hX _ hG.2.2.1) hts).1, (md_9 (hX _ hG.2.2.1) hts).2.1⟩) ?_
  intro X hl hm C
  have hmd : ∀ U : State, (xs X).WarmedH U.vm → kMd 4 23 [15] yX0_lambda_mirrored_7 fwB_9 (some (.object "CardLoom$Turning")) 4 (gL g 9) U := fun U hW => md_9 (hX _ (C.2.2.2.2.1.warm hW).2.2.1) (fun w hw => pay_in C.2.2.2.1 lw_self w hw #[] U hW)
  refine f_aload C fw9_0 rfl rfl ?_
  refine f_get C hm (fun U hW => (hmd U hW).2.2.1 0 15 rfl) hat rfl fw9_1 ?_
  refine f_iload C fw9_4 rfl rfl ?_
  refine f_iload C fw9_5 rfl rfl ?_
  refine f_iload C fw9_6 rfl rfl ?_
  refine f_static C hm (fun U hW => (hmd U hW).2.2.2 (xe X)) q664 q78 (by rw [hl]; exact hM) (by constructor <;> omega) rfl (st := []) rfl (Nat.le_of_ble_eq_true rfl) fw9_7 ?_
  exact f_aret C (Or.inl ⟨_, rfl⟩) (Or.inr ⟨_, rfl⟩) fw9_10
theorem md_10 {g : GT} {U : State} (h : SX g U) (hts : ∀ w ∈ lw_all, w.before #[] U = true) : kMd 4 26 [16, 18] yX0_lambda_first_8 fwB_10 (some (.object "CardLoom$Turning")) 5 (gL g 10) U := k_md (σ := sg_10) file_10 sec_10 laid_10 fcode_10 fflg_10 (y := yX0_lambda_first_8) rfl eM_10 eC_10 (by decide +kernel) (fun j fi h => by
  rcases j with _ | _ | j
  · cases h; exact ⟨_, _, _, _, eF10_0⟩
  · cases h; exact ⟨_, _, _, _, eF10_1⟩
  · simp at h) (h.2.2.2.2.2.2.2.2.2.2.1 _ (List.mem_of_getElem? (i := 10) rfl)) rfl (hts _ q2808) (hts _ q618) (hts _ q617) (hts _ q78) (Option.eq_some_of_isSome (by decide +kernel)) (by decide +kernel)
theorem fb_10 {l : Launch} {g : GT} (hX : ∀ U, gX g U → SX g U) {w w2 : Wd} {a : Nat} (v0 : Nat) (v1 : Nat) (hat : w.1 a = some (.inr (10, [.ref v0, .ref v1]))) (c p n : Int32) {t : Nat} {fr2 lo2 : Nat} (hM : kMt l g yX0_lambda_first_8 (ws_ yX0_lambda_first_8 cX0_lambda_first_8 6 (some (.object "CardLoom$Turning"))) fr2 lo2 w [.ref v0, .ref v1, .int c, .int p, .int n] (some (.ref t)) w2) : kFb l g 10 4 (fr2 + 1) (lo2 + 25) w [.ref a, .int c, .int p, .int n] (some (.ref t)) w2 := by
  refine fwd_in (lv := [some (.ref a), some (.int c), some (.int p), some (.int n)]) (Nat.le_of_ble_eq_true rfl) rfl (fun U hG hts => ⟨(md_10 (hX _ hG.2.2.1) hts).1, (md_10 (hX _ hG.2.2.1) hts).2.1⟩) ?_
  intro X hl hm C
  have hmd : ∀ U : State, (xs X).WarmedH U.vm → kMd 4 26 [16, 18] yX0_lambda_first_8 fwB_10 (some (.object "CardLoom$Turning")) 5 (gL g 10) U := fun U hW => md_10 (hX _ (C.2.2.2.2.1.warm hW).2.2.1) (fun w hw => pay_in C.2.2.2.1 lw_self w hw #[] U hW)
  refine f_aload C fw10_0 rfl rfl ?_
  refine f_get C hm (fun U hW => (hmd U hW).2.2.1 0 16 rfl) hat rfl fw10_1 ?_
  refine f_aload C fw10_4 rfl rfl ?_
  refine f_get C hm (fun U hW => (hmd U hW).2.2.1 1 18 rfl) hat rfl fw10_5 ?_
  refine f_iload C fw10_8 rfl rfl ?_
  refine f_iload C fw10_9 rfl rfl ?_
  refine f_iload C fw10_10 rfl rfl ?_
  refine f_static C hm (fun U hW => (hmd U hW).2.2.2 (xe X)) q618 q78 (by rw [hl]; exact hM) (by constructor <;> omega) rfl (st := []) rfl (Nat.le_of_ble_eq_true rfl) fw10_11 ?_
  exact f_aret C (Or.inl ⟨_, rfl⟩) (Or.inr ⟨_, rfl⟩) fw10_14
theorem md_11 {g : GT} {U : State} (h : SX g U) (hG : kGF g U) (hts : ∀ w ∈ lw_all, w.before #[] U = true) : kMv 2 22 [15] yX0_areAsNow fwB_11 (some .boolean) 1 (gL g 11) U := k_mv (σ := sg_11) file_11 sec_11 laid_11 fcode_11 fflg_11 (y := yX0_areAsNow) rfl eM_11 eC_11 (by decide +kernel) (fun j fi h => by
  rcases j with _ | j
  · cases h; exact ⟨_, _, _, _, eF11_0⟩
  · simp at h) (h.2.2.2.2.2.2.2.2.2.2.1 _ (List.mem_of_getElem? (i := 11) rfl)) rfl (hts _ q2808) (hts _ q1058) (hts _ q1057) (va_Nw.use (A := #[]) rfl (hG.2.1 _ q1056 rfl)) (Option.eq_some_of_isSome (by decide +kernel)) (by decide +kernel)
theorem fb_11 {l : Launch} {g : GT} (hX : ∀ U, gX g U → SX g U) {w w2 : Wd} {a : Nat} (v0 : Nat) (hat : w.1 a = some (.inr (11, [.ref v0]))) (c : Nat) {t : Int32} {fr2 lo2 : Nat} (hnb : narrow .boolean (.int t) = .int t) (hrc : oIs w v0 1 = true) (hM : kMt l g yX0_areAsNow (ws_ yX0_areAsNow cX0_areAsNow 4 (some .boolean)) fr2 lo2 w [.ref v0, .ref c] (some (.int t)) w2) : kFb l g 11 2 (fr2 + 1) (lo2 + 23) w [.ref a, .ref c] (some (.int t)) w2 := by
  refine fwd_in (lv := [some (.ref a), some (.ref c)]) (Nat.le_of_ble_eq_true rfl) rfl (fun U hG hts => ⟨(md_11 (hX _ hG.2.2.1) hG hts).1, (md_11 (hX _ hG.2.2.1) hG hts).2.1⟩) ?_
  intro X hl hm C
  have hmd : ∀ U : State, (xs X).WarmedH U.vm → kMv 2 22 [15] yX0_areAsNow fwB_11 (some .boolean) 1 (gL g 11) U := fun U hW => md_11 (hX _ (C.2.2.2.2.1.warm hW).2.2.1) (C.2.2.2.2.1.warm hW) (fun w hw => pay_in C.2.2.2.1 lw_self w hw #[] U hW)
  refine f_aload C fw11_0 rfl rfl ?_
  refine f_get C hm (fun U hW => (hmd U hW).2.2.1 0 15 rfl) hat rfl fw11_1 ?_
  refine f_aload C fw11_4 rfl rfl ?_
  refine f_virt C hm (fun U hW => (hmd U hW).2.2.2) (As := [.ref c]) (fun H a1 => by obtain ⟨fs, hfs⟩ := oIs_of hrc; obtain ⟨cl, e1, e2, -⟩ := k_recv C.2.2.2.2.1 a1 (show kcl[1]? = some _ from rfl) hfs; exact ⟨cl, e1, e2⟩) q1058 q78 (by rw [hl]; exact hM) (by constructor <;> omega) rfl (st := []) rfl (Nat.le_of_ble_eq_true rfl) fw11_5 ?_
  exact f_zret C hnb fw11_8
theorem md_12 {g : GT} {U : State} (h : SX g U) (hts : ∀ w ∈ lw_all, w.before #[] U = true) : kMd 2 17 [] yX0_areFlat fwB_12 (some .boolean) 1 (gL g 12) U := k_md (σ := sg_12) file_12 sec_12 laid_12 fcode_12 fflg_12 (y := yX0_areFlat) rfl eM_12 eC_12 (by decide +kernel) (fun j fi h => by simp at h) (h.2.2.2.2.2.2.2.2.2.2.1 _ (List.mem_of_getElem? (i := 12) rfl)) rfl (hts _ q2808) (hts _ q1086) (hts _ q1085) (hts _ q78) (Option.eq_some_of_isSome (by decide +kernel)) (by decide +kernel)
theorem fb_12 {l : Launch} {g : GT} (hX : ∀ U, gX g U → SX g U) {w w2 : Wd} {a : Nat}  (c : Nat) {t : Int32} {fr2 lo2 : Nat} (hnb : narrow .boolean (.int t) = .int t) (hM : kMt l g yX0_areFlat (ws_ yX0_areFlat cX0_areFlat 4 (some .boolean)) fr2 lo2 w [.ref c] (some (.int t)) w2) : kFb l g 12 2 (fr2 + 1) (lo2 + 23) w [.ref a, .ref c] (some (.int t)) w2 := by
  refine fwd_in (lv := [some (.ref a), some (.ref c)]) (Nat.le_of_ble_eq_true rfl) rfl (fun U hG hts => ⟨(md_12 (hX _ hG.2.2.1) hts).1, (md_12 (hX _ hG.2.2.1) hts).2.1⟩) ?_
  intro X hl hm C
  have hmd : ∀ U : State, (xs X).WarmedH U.vm → kMd 2 17 [] yX0_areFlat fwB_12 (some .boolean) 1 (gL g 12) U := fun U hW => md_12 (hX _ (C.2.2.2.2.1.warm hW).2.2.1) (fun w hw => pay_in C.2.2.2.1 lw_self w hw #[] U hW)
  refine f_aload C fw12_0 rfl rfl ?_
  refine f_static C hm (fun U hW => (hmd U hW).2.2.2 (xe X)) q1086 q78 (by rw [hl]; exact hM) (by constructor <;> omega) rfl (st := []) rfl (Nat.le_of_ble_eq_true rfl) fw12_1 ?_
  exact f_zret C hnb fw12_4
set_option maxRecDepth 100000
/-- a call of Law.of on the object a answers t, the heap stays -/
def kLaw (l : Launch) (g : GT) (w : Wd) (fr lo : Nat) (a : Nat) (c p n : Int32) (t : Nat) : Prop :=
  ∃ i : Nat, i < 11 ∧ (∀ H, kRp g w H → ∃ c : Cell, H[a]? = some c ∧ c.cls = gL g i ∧ c.vm = .none) ∧ kFb l g i 4 fr lo w [.ref a, .int c, .int p, .int n] (some (.ref t)) w
theorem law_site {g : GT} {U : State} (h : SX g U) (hts : ∀ w ∈ lw_all, w.before #[] U = true) {i : Nat} (hi : i < 11) : ∃ (x0 : MethodName) (pc0 ix0 : Nat) (σ : Lambda.Shape) (lk : Linked), kLs x0 pc0 ix0 σ lk (gL g i) U ∧ (σ.iface = "CardLoom$Law" ∧ σ.name = "of" ∧ σ.sam.toString = "(III)LCardLoom$Turning;") ∧ ∃ b, U.vm.method? ⟨gL g i, 1⟩ = some b ∧ b.accessFlags = 0x0001 := by
  rcases (show i = 0 ∨ i = 1 ∨ i = 2 ∨ i = 3 ∨ i = 4 ∨ i = 5 ∨ i = 6 ∨ i = 7 ∨ i = 8 ∨ i = 9 ∨ i = 10 by omega) with rfl | rfl | rfl | rfl | rfl | rfl | rfl | rfl | rfl | rfl | rfl
  · obtain ⟨b, yc, b1, -, -, -, -, b2, -⟩ := (md_0 h hts).1
    exact ⟨_, _, _, _, _, h.2.2.2.2.2.2.2.2.2.2.1 _ (List.mem_of_getElem? (i := 0) rfl), by decide +kernel, b, b1, b2⟩
  · obtain ⟨b, yc, b1, -, -, -, -, b2, -⟩ := (md_1 h hts).1
    exact ⟨_, _, _, _, _, h.2.2.2.2.2.2.2.2.2.2.1 _ (List.mem_of_getElem? (i := 1) rfl), by decide +kernel, b, b1, b2⟩
  · obtain ⟨b, yc, b1, -, -, -, -, b2, -⟩ := (md_2 h hts).1
    exact ⟨_, _, _, _, _, h.2.2.2.2.2.2.2.2.2.2.1 _ (List.mem_of_getElem? (i := 2) rfl), by decide +kernel, b, b1, b2⟩
  · obtain ⟨b, yc, b1, -, -, -, -, b2, -⟩ := (md_3 h hts).1
    exact ⟨_, _, _, _, _, h.2.2.2.2.2.2.2.2.2.2.1 _ (List.mem_of_getElem? (i := 3) rfl), by decide +kernel, b, b1, b2⟩
  · obtain ⟨b, yc, b1, -, -, -, -, b2, -⟩ := (md_4 h hts).1
    exact ⟨_, _, _, _, _, h.2.2.2.2.2.2.2.2.2.2.1 _ (List.mem_of_getElem? (i := 4) rfl), by decide +kernel, b, b1, b2⟩
  · obtain ⟨b, yc, b1, -, -, -, -, b2, -⟩ := (md_5 h hts).1
    exact ⟨_, _, _, _, _, h.2.2.2.2.2.2.2.2.2.2.1 _ (List.mem_of_getElem? (i := 5) rfl), by decide +kernel, b, b1, b2⟩
  · obtain ⟨b, yc, b1, -, -, -, -, b2, -⟩ := (md_6 h hts).1
    exact ⟨_, _, _, _, _, h.2.2.2.2.2.2.2.2.2.2.1 _ (List.mem_of_getElem? (i := 6) rfl), by decide +kernel, b, b1, b2⟩
  · obtain ⟨b, yc, b1, -, -, -, -, b2, -⟩ := (md_7 h hts).1
    exact ⟨_, _, _, _, _, h.2.2.2.2.2.2.2.2.2.2.1 _ (List.mem_of_getElem? (i := 7) rfl), by decide +kernel, b, b1, b2⟩
  · obtain ⟨b, yc, b1, -, -, -, -, b2, -⟩ := (md_8 h hts).1
    exact ⟨_, _, _, _, _, h.2.2.2.2.2.2.2.2.2.2.1 _ (List.mem_of_getElem? (i := 8) rfl), by decide +kernel, b, b1, b2⟩
  · obtain ⟨b, yc, b1, -, -, -, -, b2, -⟩ := (md_9 h hts).1
    exact ⟨_, _, _, _, _, h.2.2.2.2.2.2.2.2.2.2.1 _ (List.mem_of_getElem? (i := 9) rfl), by decide +kernel, b, b1, b2⟩
  · obtain ⟨b, yc, b1, -, -, -, -, b2, -⟩ := (md_10 h hts).1
    exact ⟨_, _, _, _, _, h.2.2.2.2.2.2.2.2.2.2.1 _ (List.mem_of_getElem? (i := 10) rfl), by decide +kernel, b, b1, b2⟩
section KR
variable {l : Launch} {g : GT} {X : CxT} {cc : ByteArray} {nL : Nat} {own : String} {rt : Option FieldType} {fr lo fr0 lo0 : Nat} {rv : Option Value} {w1 w : Wd} {pc : Nat} {lv : List (Option Value)} {st : List Value} {β : Type} {z : β}
theorem v_lawR (C : kOk g X cc nL own rt fr lo rv w1) (hX : ∀ U, gX g U → SX g U) (hl : xl X = l) {fl : Wd → Nat → Int32 → Int32 → Int32 → Option Nat} (hfl : ∀ w a c p n t, fl w a c p n = some t → kLaw l g w fr0 lo0 a c p n t) {index count a : Nat} {c9 p9 n9 : Int32} (hq : Cond.methodLink own index ⟨"CardLoom$Law", "of", "(III)LCardLoom$Turning;"⟩ ∈ lw_all) (hR : fr0 + 1 ≤ fr ∧ 8 + (4 + 11) + lo0 ≤ lo) (hw : (st.map fun v => v.category).sum ≤ 8) (hdg : decode cc pc = .ok (.invokeinterface index count, 5)) {A : Nat → Option β} (hF : kob (fl w a c9 p9 n9) A = some z) (kk : ∀ x, A x = some z → kV g X nL w (pc + 5) lv (.ref x :: st)) : kV g X nL w pc lv (.int n9 :: .int p9 :: .int c9 :: .ref a :: st) := by
  obtain ⟨t, h1, h2⟩ := kob_of hF
  obtain ⟨i, hi, hat, hB⟩ := hfl w a c9 p9 n9 t h1
  obtain ⟨x0, pc0, ix0, σ, lk, hLs, hσ, hfl⟩ := law_site (hX _ C.2.2.2.2.2.1.2.2.1) (fun w hw => pay_in C.2.2.2.2.1 lw_self w hw #[] (xs X) (State.WarmedH.refl _)) hi
  exact v_made C (x := ⟨"CardLoom$Law", "of", "(III)LCardLoom$Turning;"⟩) (n := 3) hq q603 (by decide) (by decide +kernel) hσ hLs hfl hat (As := [.int c9, .int p9, .int n9]) (by rw [hl]; exact hB) hR rfl rfl hw hdg (kk t h2)
end KR
