set_option maxRecDepth 100000
/-! ===== the lambdas: made, and called by their interfaces ===== -/
def zlb0 : ByteArray := ⟨#[42, 180, 0, 15, 27, 184, 0, 23, 172]⟩
theorem zlB0 : zLmB zSg1 "TrailGuide$State" zlb0 2 23 19 22 18 [(15, 2, 14)] = true := by decide +kernel
theorem zlm0 {G : State} {M : zMd} {d rc rs pc idx cnt b : Nat} {ls : List (Option Value)} {rest : List Value} {ah : zH} {Q : zRs → zH → Prop} {c0 : Nat} {p0 : Int} (hd : decode M.2.1 pc = .ok (.invokeinterface idx cnt, 5)) (hl : Cond.methodLink M.1.cls idx ⟨"TrailGuide$WaypointTest", "isSo", "(I)Z"⟩ ∈ lw_all) (hw : Nat.ble (rest.map fun v => v.category).sum 8 = true) (d' mc ms : Nat) (hd' : d' + 2 ≤ d) (hc : mc ≤ rc) (hs' : ms ≤ rs) (hob : ah b = some (.inl (1000, [.ref c0]))) (k : zW G mX2_lambda_components_2 d' mc ms 0 (zent ([.ref c0] ++ [.int (zi p0)])) [] ah (zQx (zK G M d (rc - mc) (rs - ms) pc 5 ls rest Q) (some .boolean))) : zW G M d rc rs pc ls (.int (zi p0) :: .ref b :: rest) ah Q := by
  refine zr_lam (i := 0) (σ := zSg1) (vals := [.ref c0]) (as := [.int (zi p0)]) (is := [.iload_n 1]) (bytes := zlb0) (maxL := 2) z_site1 zlB0 (by decide +kernel) rfl (by decide) ?_ rfl ?_ ?_ (Or.inr ⟨_, rfl, (by decide +kernel : decode zlb0 8 = .ok (.ireturn, 1))⟩) (z_ble rfl) hd hl q340 q339 (by decide) (by decide +kernel) (show zSig _ 1 from zSig.of (by decide +kernel)) q2674 hX2_lambda_components_2 rfl (by decide +kernel) (z_ble rfl) (z_ble hw) hd' hc hs' rfl (Or.inl hob) rfl (Or.inl ⟨(by decide +kernel : decode zlb0 5 = .ok (.invokestatic 23, 3)), q330, gX2_lambda_components_2⟩) k
  · intro k hk
    have hk2 : k < 1 := hk
    rcases (show k = 0 by omega) with rfl <;> exact ⟨by decide +kernel, by decide +kernel⟩
  · intro k hk
    have hk2 : k < 1 := hk
    rcases (show k = 0 by omega) with rfl <;> decide +kernel
  · intro k v h
    rcases (show k = 0 ∨ 1 ≤ k by omega) with rfl | z
    · cases h; exact Or.inl ⟨1, _, rfl, rfl, rfl⟩
    · rw [List.getElem?_eq_none (by simpa using z)] at h; cases h
theorem zln0 {G : State} {M : zMd} {d rc rs pc : Nat} {ls : List (Option Value)} {rest : List Value} {ah : zH} {Q : zRs → zH → Prop} {c0 : Nat} (hm : M.1 = ⟨"TrailGuide$State", "components", "()I"⟩) (hpc : pc = 9) (hd : decode M.2.1 9 = .ok (.invokedynamic 125, 5)) (hw : Nat.ble (rest.map fun v => v.category).sum 7 = true) (hd26 : 26 ≤ d) (hc : 1 ≤ rc) (hs' : 1 ≤ rs) (kk : ∀ q : Nat, ah q = none → zW G M d (rc - 1) (rs - 1) (9 + 5) ls (.ref q :: rest) (z_up ah q (.inl (1000, [.ref c0]))) Q) : zW G M d rc rs pc ls (.ref c0 :: rest) ah Q := by
  subst hpc
  refine zr_indy (i := 0) (y := M.1) (σ := zSg1) (vals := [.ref c0]) (bytes := zlb0) hd (by rw [hm]; exact z_site1) (by rw [hm]; exact zlB0) q2674 rfl rfl (by decide) rfl ?_ (by have := z_ble hw; simp [Value.category] at *; omega) hd26 hc hs' kk
  · intro q hq
    have hq2 := hq
    simp only [zSg1, List.zip_cons_cons, List.zip_nil_right, List.mem_cons, List.not_mem_nil, or_false] at hq2
    rcases hq2 with rfl <;> rfl
def zlb1 : ByteArray := ⟨#[42, 180, 0, 15, 27, 184, 0, 23, 172]⟩
theorem zlB1 : zLmB zSg2 "TrailGuide$State" zlb1 2 23 19 22 18 [(15, 2, 14)] = true := by decide +kernel
theorem zlm1 {G : State} {M : zMd} {d rc rs pc idx cnt b : Nat} {ls : List (Option Value)} {rest : List Value} {ah : zH} {Q : zRs → zH → Prop} {c0 : Nat} {p0 : Int} (hd : decode M.2.1 pc = .ok (.invokeinterface idx cnt, 5)) (hl : Cond.methodLink M.1.cls idx ⟨"TrailGuide$WaypointTest", "isSo", "(I)Z"⟩ ∈ lw_all) (hw : Nat.ble (rest.map fun v => v.category).sum 8 = true) (d' mc ms : Nat) (hd' : d' + 2 ≤ d) (hc : mc ≤ rc) (hs' : ms ≤ rs) (hob : ah b = some (.inl (1001, [.ref c0]))) (k : zW G mX2_lambda_components_3 d' mc ms 0 (zent ([.ref c0] ++ [.int (zi p0)])) [] ah (zQx (zK G M d (rc - mc) (rs - ms) pc 5 ls rest Q) (some .boolean))) : zW G M d rc rs pc ls (.int (zi p0) :: .ref b :: rest) ah Q := by
  refine zr_lam (i := 1) (σ := zSg2) (vals := [.ref c0]) (as := [.int (zi p0)]) (is := [.iload_n 1]) (bytes := zlb1) (maxL := 2) z_site2 zlB1 (by decide +kernel) rfl (by decide) ?_ rfl ?_ ?_ (Or.inr ⟨_, rfl, (by decide +kernel : decode zlb1 8 = .ok (.ireturn, 1))⟩) (z_ble rfl) hd hl q340 q339 (by decide) (by decide +kernel) (show zSig _ 1 from zSig.of (by decide +kernel)) q2674 hX2_lambda_components_3 rfl (by decide +kernel) (z_ble rfl) (z_ble hw) hd' hc hs' rfl (Or.inl hob) rfl (Or.inl ⟨(by decide +kernel : decode zlb1 5 = .ok (.invokestatic 23, 3)), q349, gX2_lambda_components_3⟩) k
  · intro k hk
    have hk2 : k < 1 := hk
    rcases (show k = 0 by omega) with rfl <;> exact ⟨by decide +kernel, by decide +kernel⟩
  · intro k hk
    have hk2 : k < 1 := hk
    rcases (show k = 0 by omega) with rfl <;> decide +kernel
  · intro k v h
    rcases (show k = 0 ∨ 1 ≤ k by omega) with rfl | z
    · cases h; exact Or.inl ⟨1, _, rfl, rfl, rfl⟩
    · rw [List.getElem?_eq_none (by simpa using z)] at h; cases h
theorem zln1 {G : State} {M : zMd} {d rc rs pc : Nat} {ls : List (Option Value)} {rest : List Value} {ah : zH} {Q : zRs → zH → Prop} {c0 : Nat} (hm : M.1 = ⟨"TrailGuide$State", "components", "()I"⟩) (hpc : pc = 34) (hd : decode M.2.1 34 = .ok (.invokedynamic 132, 5)) (hw : Nat.ble (rest.map fun v => v.category).sum 7 = true) (hd26 : 26 ≤ d) (hc : 1 ≤ rc) (hs' : 1 ≤ rs) (kk : ∀ q : Nat, ah q = none → zW G M d (rc - 1) (rs - 1) (34 + 5) ls (.ref q :: rest) (z_up ah q (.inl (1001, [.ref c0]))) Q) : zW G M d rc rs pc ls (.ref c0 :: rest) ah Q := by
  subst hpc
  refine zr_indy (i := 1) (y := M.1) (σ := zSg2) (vals := [.ref c0]) (bytes := zlb1) hd (by rw [hm]; exact z_site2) (by rw [hm]; exact zlB1) q2674 rfl rfl (by decide) rfl ?_ (by have := z_ble hw; simp [Value.category] at *; omega) hd26 hc hs' kk
  · intro q hq
    have hq2 := hq
    simp only [zSg2, List.zip_cons_cons, List.zip_nil_right, List.mem_cons, List.not_mem_nil, or_false] at hq2
    rcases hq2 with rfl <;> rfl
def zlb2 : ByteArray := ⟨#[42, 180, 0, 17, 42, 180, 0, 19, 27, 28, 184, 0, 27, 177]⟩
theorem zlB2 : zLmB zSg3 "TrailGuide$State" zlb2 3 27 23 26 22 [(17, 2, 16), (19, 2, 18)] = true := by decide +kernel
theorem zlm2 {G : State} {M : zMd} {d rc rs pc idx cnt b : Nat} {ls : List (Option Value)} {rest : List Value} {ah : zH} {Q : zRs → zH → Prop} {c0 : Nat} {c1 : Int} {p0 : Int} {p1 : Int} (hd : decode M.2.1 pc = .ok (.invokeinterface idx cnt, 5)) (hl : Cond.methodLink M.1.cls idx ⟨"TrailGuide$TrailVisitor", "visit", "(II)V"⟩ ∈ lw_all) (hw : Nat.ble (rest.map fun v => v.category).sum 8 = true) (d' mc ms : Nat) (hd' : d' + 2 ≤ d) (hc : mc ≤ rc) (hs' : ms ≤ rs) (hob : ah b = some (.inl (1002, [.ref c0, .int (zi c1)]))) (k : zW G mX2_lambda_distancesFrom_0 d' mc ms 0 (zent ([.ref c0, .int (zi c1)] ++ [.int (zi p0), .int (zi p1)])) [] ah (zQx (zK G M d (rc - mc) (rs - ms) pc 5 ls rest Q) none)) : zW G M d rc rs pc ls (.int (zi p1) :: .int (zi p0) :: .ref b :: rest) ah Q := by
  refine zr_lam (i := 2) (σ := zSg3) (vals := [.ref c0, .int (zi c1)]) (as := [.int (zi p0), .int (zi p1)]) (is := [.iload_n 1, .iload_n 2]) (bytes := zlb2) (maxL := 3) z_site3 zlB2 (by decide +kernel) rfl (by decide) ?_ rfl ?_ ?_ (Or.inl ⟨rfl, (by decide +kernel : decode zlb2 13 = .ok (.return_, 1))⟩) (z_ble rfl) hd hl q443 q442 (by decide) (by decide +kernel) (show zSig _ 2 from zSig.of (by decide +kernel)) q2674 hX2_lambda_distancesFrom_0 rfl (by decide +kernel) (z_ble rfl) (z_ble hw) hd' hc hs' rfl (Or.inl hob) rfl (Or.inl ⟨(by decide +kernel : decode zlb2 10 = .ok (.invokestatic 27, 3)), q428, gX2_lambda_distancesFrom_0⟩) k
  · intro k hk
    have hk2 : k < 2 := hk
    rcases (show k = 0 ∨ k = 1 by omega) with rfl | rfl <;> exact ⟨by decide +kernel, by decide +kernel⟩
  · intro k hk
    have hk2 : k < 2 := hk
    rcases (show k = 0 ∨ k = 1 by omega) with rfl | rfl <;> decide +kernel
  · intro k v h
    rcases (show k = 0 ∨ k = 1 ∨ 2 ≤ k by omega) with rfl | rfl | z
    · cases h; exact Or.inl ⟨1, _, rfl, rfl, rfl⟩
    · cases h; exact Or.inl ⟨2, _, rfl, rfl, rfl⟩
    · rw [List.getElem?_eq_none (by simpa using z)] at h; cases h
theorem zln2 {G : State} {M : zMd} {d rc rs pc : Nat} {ls : List (Option Value)} {rest : List Value} {ah : zH} {Q : zRs → zH → Prop} {c0 : Nat} {c1 : Int} (hm : M.1 = ⟨"TrailGuide$State", "distancesFrom", "(I)[I"⟩) (hpc : pc = 37) (hd : decode M.2.1 37 = .ok (.invokedynamic 105, 5)) (hw : Nat.ble (rest.map fun v => v.category).sum 6 = true) (hd26 : 26 ≤ d) (hc : 1 ≤ rc) (hs' : 2 ≤ rs) (kk : ∀ q : Nat, ah q = none → zW G M d (rc - 1) (rs - 2) (37 + 5) ls (.ref q :: rest) (z_up ah q (.inl (1002, [.ref c0, .int (zi c1)]))) Q) : zW G M d rc rs pc ls (.int (zi c1) :: .ref c0 :: rest) ah Q := by
  subst hpc
  refine zr_indy (i := 2) (y := M.1) (σ := zSg3) (vals := [.ref c0, .int (zi c1)]) (bytes := zlb2) hd (by rw [hm]; exact z_site3) (by rw [hm]; exact zlB2) q2674 rfl rfl (by decide) rfl ?_ (by have := z_ble hw; simp [Value.category] at *; omega) hd26 hc hs' kk
  · intro q hq
    have hq2 := hq
    simp only [zSg3, List.zip_cons_cons, List.zip_nil_right, List.mem_cons, List.not_mem_nil, or_false] at hq2
    rcases hq2 with rfl | rfl <;> rfl
def zlb3 : ByteArray := ⟨#[42, 180, 0, 17, 42, 180, 0, 19, 27, 28, 184, 0, 27, 177]⟩
theorem zlB3 : zLmB zSg4 "TrailGuide$State" zlb3 3 27 23 26 22 [(17, 2, 16), (19, 2, 18)] = true := by decide +kernel
theorem zlm3 {G : State} {M : zMd} {d rc rs pc idx cnt b : Nat} {ls : List (Option Value)} {rest : List Value} {ah : zH} {Q : zRs → zH → Prop} {c0 : Nat} {c1 : Int} {p0 : Int} {p1 : Int} (hd : decode M.2.1 pc = .ok (.invokeinterface idx cnt, 5)) (hl : Cond.methodLink M.1.cls idx ⟨"TrailGuide$TrailVisitor", "visit", "(II)V"⟩ ∈ lw_all) (hw : Nat.ble (rest.map fun v => v.category).sum 8 = true) (d' mc ms : Nat) (hd' : d' + 2 ≤ d) (hc : mc ≤ rc) (hs' : ms ≤ rs) (hob : ah b = some (.inl (1003, [.ref c0, .int (zi c1)]))) (k : zW G mX2_lambda_distancesByRelaxation_1 d' mc ms 0 (zent ([.ref c0, .int (zi c1)] ++ [.int (zi p0), .int (zi p1)])) [] ah (zQx (zK G M d (rc - mc) (rs - ms) pc 5 ls rest Q) none)) : zW G M d rc rs pc ls (.int (zi p1) :: .int (zi p0) :: .ref b :: rest) ah Q := by
  refine zr_lam (i := 3) (σ := zSg4) (vals := [.ref c0, .int (zi c1)]) (as := [.int (zi p0), .int (zi p1)]) (is := [.iload_n 1, .iload_n 2]) (bytes := zlb3) (maxL := 3) z_site4 zlB3 (by decide +kernel) rfl (by decide) ?_ rfl ?_ ?_ (Or.inl ⟨rfl, (by decide +kernel : decode zlb3 13 = .ok (.return_, 1))⟩) (z_ble rfl) hd hl q443 q442 (by decide) (by decide +kernel) (show zSig _ 2 from zSig.of (by decide +kernel)) q2674 hX2_lambda_distancesByRelaxation_1 rfl (by decide +kernel) (z_ble rfl) (z_ble hw) hd' hc hs' rfl (Or.inl hob) rfl (Or.inl ⟨(by decide +kernel : decode zlb3 10 = .ok (.invokestatic 27, 3)), q456, gX2_lambda_distancesByRelaxation_1⟩) k
  · intro k hk
    have hk2 : k < 2 := hk
    rcases (show k = 0 ∨ k = 1 by omega) with rfl | rfl <;> exact ⟨by decide +kernel, by decide +kernel⟩
  · intro k hk
    have hk2 : k < 2 := hk
    rcases (show k = 0 ∨ k = 1 by omega) with rfl | rfl <;> decide +kernel
  · intro k v h
    rcases (show k = 0 ∨ k = 1 ∨ 2 ≤ k by omega) with rfl | rfl | z
    · cases h; exact Or.inl ⟨1, _, rfl, rfl, rfl⟩
    · cases h; exact Or.inl ⟨2, _, rfl, rfl, rfl⟩
    · rw [List.getElem?_eq_none (by simpa using z)] at h; cases h
theorem zln3 {G : State} {M : zMd} {d rc rs pc : Nat} {ls : List (Option Value)} {rest : List Value} {ah : zH} {Q : zRs → zH → Prop} {c0 : Nat} {c1 : Int} (hm : M.1 = ⟨"TrailGuide$State", "distancesByRelaxation", "(I)[I"⟩) (hpc : pc = 47) (hd : decode M.2.1 47 = .ok (.invokedynamic 120, 5)) (hw : Nat.ble (rest.map fun v => v.category).sum 6 = true) (hd26 : 26 ≤ d) (hc : 1 ≤ rc) (hs' : 2 ≤ rs) (kk : ∀ q : Nat, ah q = none → zW G M d (rc - 1) (rs - 2) (47 + 5) ls (.ref q :: rest) (z_up ah q (.inl (1003, [.ref c0, .int (zi c1)]))) Q) : zW G M d rc rs pc ls (.int (zi c1) :: .ref c0 :: rest) ah Q := by
  subst hpc
  refine zr_indy (i := 3) (y := M.1) (σ := zSg4) (vals := [.ref c0, .int (zi c1)]) (bytes := zlb3) hd (by rw [hm]; exact z_site4) (by rw [hm]; exact zlB3) q2674 rfl rfl (by decide) rfl ?_ (by have := z_ble hw; simp [Value.category] at *; omega) hd26 hc hs' kk
  · intro q hq
    have hq2 := hq
    simp only [zSg4, List.zip_cons_cons, List.zip_nil_right, List.mem_cons, List.not_mem_nil, or_false] at hq2
    rcases hq2 with rfl | rfl <;> rfl
def zlb4 : ByteArray := ⟨#[42, 180, 0, 16, 42, 180, 0, 18, 27, 184, 0, 26, 172]⟩
theorem zlB4 : zLmB zSg5 "TrailGuide" zlb4 2 26 22 25 21 [(16, 2, 15), (18, 2, 17)] = true := by decide +kernel
theorem zlm4 {G : State} {M : zMd} {d rc rs pc idx cnt b : Nat} {ls : List (Option Value)} {rest : List Value} {ah : zH} {Q : zRs → zH → Prop} {c0 : Nat} {c1 : Nat} {p0 : Int} (hd : decode M.2.1 pc = .ok (.invokeinterface idx cnt, 5)) (hl : Cond.methodLink M.1.cls idx ⟨"TrailGuide$WaypointTest", "isSo", "(I)Z"⟩ ∈ lw_all) (hw : Nat.ble (rest.map fun v => v.category).sum 8 = true) (d' mc ms : Nat) (hd' : d' + 2 ≤ d) (hc : mc ≤ rc) (hs' : ms ≤ rs) (hob : ah b = some (.inl (1004, [.ref c0, .ref c1]))) (k : zW G mX1_lambda_haveEqualDistances_9 d' mc ms 0 (zent ([.ref c0, .ref c1] ++ [.int (zi p0)])) [] ah (zQx (zK G M d (rc - mc) (rs - ms) pc 5 ls rest Q) (some .boolean))) : zW G M d rc rs pc ls (.int (zi p0) :: .ref b :: rest) ah Q := by
  refine zr_lam (i := 4) (σ := zSg5) (vals := [.ref c0, .ref c1]) (as := [.int (zi p0)]) (is := [.iload_n 1]) (bytes := zlb4) (maxL := 2) z_site5 zlB4 (by decide +kernel) rfl (by decide) ?_ rfl ?_ ?_ (Or.inr ⟨_, rfl, (by decide +kernel : decode zlb4 12 = .ok (.ireturn, 1))⟩) (z_ble rfl) hd hl q340 q339 (by decide) (by decide +kernel) (show zSig _ 1 from zSig.of (by decide +kernel)) q2674 hX1_lambda_haveEqualDistances_9 rfl (by decide +kernel) (z_ble rfl) (z_ble hw) hd' hc hs' rfl (Or.inl hob) rfl (Or.inl ⟨(by decide +kernel : decode zlb4 9 = .ok (.invokestatic 26, 3)), q458, gX1_lambda_haveEqualDistances_9⟩) k
  · intro k hk
    have hk2 : k < 2 := hk
    rcases (show k = 0 ∨ k = 1 by omega) with rfl | rfl <;> exact ⟨by decide +kernel, by decide +kernel⟩
  · intro k hk
    have hk2 : k < 1 := hk
    rcases (show k = 0 by omega) with rfl <;> decide +kernel
  · intro k v h
    rcases (show k = 0 ∨ 1 ≤ k by omega) with rfl | z
    · cases h; exact Or.inl ⟨1, _, rfl, rfl, rfl⟩
    · rw [List.getElem?_eq_none (by simpa using z)] at h; cases h
theorem zln4 {G : State} {M : zMd} {d rc rs pc : Nat} {ls : List (Option Value)} {rest : List Value} {ah : zH} {Q : zRs → zH → Prop} {c0 : Nat} {c1 : Nat} (hm : M.1 = ⟨"TrailGuide", "haveEqualDistances", "(I)Z"⟩) (hpc : pc = 24) (hd : decode M.2.1 24 = .ok (.invokedynamic 285, 5)) (hw : Nat.ble (rest.map fun v => v.category).sum 6 = true) (hd26 : 26 ≤ d) (hc : 1 ≤ rc) (hs' : 2 ≤ rs) (kk : ∀ q : Nat, ah q = none → zW G M d (rc - 1) (rs - 2) (24 + 5) ls (.ref q :: rest) (z_up ah q (.inl (1004, [.ref c0, .ref c1]))) Q) : zW G M d rc rs pc ls (.ref c1 :: .ref c0 :: rest) ah Q := by
  subst hpc
  refine zr_indy (i := 4) (y := M.1) (σ := zSg5) (vals := [.ref c0, .ref c1]) (bytes := zlb4) hd (by rw [hm]; exact z_site5) (by rw [hm]; exact zlB4) q2674 rfl rfl (by decide) rfl ?_ (by have := z_ble hw; simp [Value.category] at *; omega) hd26 hc hs' kk
  · intro q hq
    have hq2 := hq
    simp only [zSg5, List.zip_cons_cons, List.zip_nil_right, List.mem_cons, List.not_mem_nil, or_false] at hq2
    rcases hq2 with rfl | rfl <;> rfl
def zlb5 : ByteArray := ⟨#[42, 180, 0, 17, 42, 180, 0, 19, 42, 180, 0, 21, 43, 184, 0, 29, 172]⟩
theorem zlB5 : zLmB zSg6 "TrailGuide" zlb5 2 29 25 28 24 [(17, 2, 16), (19, 2, 18), (21, 2, 20)] = true := by decide +kernel
theorem zlm5 {G : State} {M : zMd} {d rc rs pc idx cnt b : Nat} {ls : List (Option Value)} {rest : List Value} {ah : zH} {Q : zRs → zH → Prop} {c0 : Int} {c1 : Int} {c2 : Int} {p0 : Nat} (hd : decode M.2.1 pc = .ok (.invokeinterface idx cnt, 5)) (hl : Cond.methodLink M.1.cls idx ⟨"TrailGuide$Change", "applyTo", "(LTrailGuide$State;)I"⟩ ∈ lw_all) (hw : Nat.ble (rest.map fun v => v.category).sum 8 = true) (d' mc ms : Nat) (hd' : d' + 2 ≤ d) (hc : mc ≤ rc) (hs' : ms ≤ rs) (hob : ah b = some (.inl (1005, [.int (zi c0), .int (zi c1), .int (zi c2)]))) (k : zW G mX1_lambda_addWaypoint_0 d' mc ms 0 (zent ([.int (zi c0), .int (zi c1), .int (zi c2)] ++ [.ref p0])) [] ah (zQx (zK G M d (rc - mc) (rs - ms) pc 5 ls rest Q) (some .int))) : zW G M d rc rs pc ls (.ref p0 :: .ref b :: rest) ah Q := by
  refine zr_lam (i := 5) (σ := zSg6) (vals := [.int (zi c0), .int (zi c1), .int (zi c2)]) (as := [.ref p0]) (is := [.aload_n 1]) (bytes := zlb5) (maxL := 2) z_site6 zlB5 (by decide +kernel) rfl (by decide) ?_ rfl ?_ ?_ (Or.inr ⟨_, rfl, (by decide +kernel : decode zlb5 16 = .ok (.ireturn, 1))⟩) (z_ble rfl) hd hl q1108 q1107 (by decide) (by decide +kernel) (show zSig _ 1 from zSig.of (by decide +kernel)) q2674 hX1_lambda_addWaypoint_0 rfl (by decide +kernel) (z_ble rfl) (z_ble hw) hd' hc hs' rfl (Or.inl hob) rfl (Or.inl ⟨(by decide +kernel : decode zlb5 13 = .ok (.invokestatic 29, 3)), q1032, gX1_lambda_addWaypoint_0⟩) k
  · intro k hk
    have hk2 : k < 3 := hk
    rcases (show k = 0 ∨ k = 1 ∨ k = 2 by omega) with rfl | rfl | rfl <;> exact ⟨by decide +kernel, by decide +kernel⟩
  · intro k hk
    have hk2 : k < 1 := hk
    rcases (show k = 0 by omega) with rfl <;> decide +kernel
  · intro k v h
    rcases (show k = 0 ∨ 1 ≤ k by omega) with rfl | z
    · cases h; exact Or.inr ⟨1, _, rfl, rfl, rfl⟩
    · rw [List.getElem?_eq_none (by simpa using z)] at h; cases h
theorem zln5 {G : State} {M : zMd} {d rc rs pc : Nat} {ls : List (Option Value)} {rest : List Value} {ah : zH} {Q : zRs → zH → Prop} {c0 : Int} {c1 : Int} {c2 : Int} (hm : M.1 = ⟨"TrailGuide", "addWaypoint", "(III)I"⟩) (hpc : pc = 4) (hd : decode M.2.1 4 = .ok (.invokedynamic 113, 5)) (hw : Nat.ble (rest.map fun v => v.category).sum 5 = true) (hd26 : 26 ≤ d) (hc : 1 ≤ rc) (hs' : 3 ≤ rs) (kk : ∀ q : Nat, ah q = none → zW G M d (rc - 1) (rs - 3) (4 + 5) ls (.ref q :: rest) (z_up ah q (.inl (1005, [.int (zi c0), .int (zi c1), .int (zi c2)]))) Q) : zW G M d rc rs pc ls (.int (zi c2) :: .int (zi c1) :: .int (zi c0) :: rest) ah Q := by
  subst hpc
  refine zr_indy (i := 5) (y := M.1) (σ := zSg6) (vals := [.int (zi c0), .int (zi c1), .int (zi c2)]) (bytes := zlb5) hd (by rw [hm]; exact z_site6) (by rw [hm]; exact zlB5) q2674 rfl rfl (by decide) rfl ?_ (by have := z_ble hw; simp [Value.category] at *; omega) hd26 hc hs' kk
  · intro q hq
    have hq2 := hq
    simp only [zSg6, List.zip_cons_cons, List.zip_nil_right, List.mem_cons, List.not_mem_nil, or_false] at hq2
    rcases hq2 with rfl | rfl | rfl <;> rfl
def zlb6 : ByteArray := ⟨#[42, 180, 0, 17, 42, 180, 0, 19, 42, 180, 0, 21, 43, 184, 0, 29, 172]⟩
theorem zlB6 : zLmB zSg7 "TrailGuide" zlb6 2 29 25 28 24 [(17, 2, 16), (19, 2, 18), (21, 2, 20)] = true := by decide +kernel
theorem zlm6 {G : State} {M : zMd} {d rc rs pc idx cnt b : Nat} {ls : List (Option Value)} {rest : List Value} {ah : zH} {Q : zRs → zH → Prop} {c0 : Int} {c1 : Int} {c2 : Int} {p0 : Nat} (hd : decode M.2.1 pc = .ok (.invokeinterface idx cnt, 5)) (hl : Cond.methodLink M.1.cls idx ⟨"TrailGuide$Change", "applyTo", "(LTrailGuide$State;)I"⟩ ∈ lw_all) (hw : Nat.ble (rest.map fun v => v.category).sum 8 = true) (d' mc ms : Nat) (hd' : d' + 2 ≤ d) (hc : mc ≤ rc) (hs' : ms ≤ rs) (hob : ah b = some (.inl (1006, [.int (zi c0), .int (zi c1), .int (zi c2)]))) (k : zW G mX1_lambda_addTrail_1 d' mc ms 0 (zent ([.int (zi c0), .int (zi c1), .int (zi c2)] ++ [.ref p0])) [] ah (zQx (zK G M d (rc - mc) (rs - ms) pc 5 ls rest Q) (some .int))) : zW G M d rc rs pc ls (.ref p0 :: .ref b :: rest) ah Q := by
  refine zr_lam (i := 6) (σ := zSg7) (vals := [.int (zi c0), .int (zi c1), .int (zi c2)]) (as := [.ref p0]) (is := [.aload_n 1]) (bytes := zlb6) (maxL := 2) z_site7 zlB6 (by decide +kernel) rfl (by decide) ?_ rfl ?_ ?_ (Or.inr ⟨_, rfl, (by decide +kernel : decode zlb6 16 = .ok (.ireturn, 1))⟩) (z_ble rfl) hd hl q1108 q1107 (by decide) (by decide +kernel) (show zSig _ 1 from zSig.of (by decide +kernel)) q2674 hX1_lambda_addTrail_1 rfl (by decide +kernel) (z_ble rfl) (z_ble hw) hd' hc hs' rfl (Or.inl hob) rfl (Or.inl ⟨(by decide +kernel : decode zlb6 13 = .ok (.invokestatic 29, 3)), q1180, gX1_lambda_addTrail_1⟩) k
  · intro k hk
    have hk2 : k < 3 := hk
    rcases (show k = 0 ∨ k = 1 ∨ k = 2 by omega) with rfl | rfl | rfl <;> exact ⟨by decide +kernel, by decide +kernel⟩
  · intro k hk
    have hk2 : k < 1 := hk
    rcases (show k = 0 by omega) with rfl <;> decide +kernel
  · intro k v h
    rcases (show k = 0 ∨ 1 ≤ k by omega) with rfl | z
    · cases h; exact Or.inr ⟨1, _, rfl, rfl, rfl⟩
    · rw [List.getElem?_eq_none (by simpa using z)] at h; cases h
theorem zln6 {G : State} {M : zMd} {d rc rs pc : Nat} {ls : List (Option Value)} {rest : List Value} {ah : zH} {Q : zRs → zH → Prop} {c0 : Int} {c1 : Int} {c2 : Int} (hm : M.1 = ⟨"TrailGuide", "addTrail", "(III)I"⟩) (hpc : pc = 4) (hd : decode M.2.1 4 = .ok (.invokedynamic 120, 5)) (hw : Nat.ble (rest.map fun v => v.category).sum 5 = true) (hd26 : 26 ≤ d) (hc : 1 ≤ rc) (hs' : 3 ≤ rs) (kk : ∀ q : Nat, ah q = none → zW G M d (rc - 1) (rs - 3) (4 + 5) ls (.ref q :: rest) (z_up ah q (.inl (1006, [.int (zi c0), .int (zi c1), .int (zi c2)]))) Q) : zW G M d rc rs pc ls (.int (zi c2) :: .int (zi c1) :: .int (zi c0) :: rest) ah Q := by
  subst hpc
  refine zr_indy (i := 6) (y := M.1) (σ := zSg7) (vals := [.int (zi c0), .int (zi c1), .int (zi c2)]) (bytes := zlb6) hd (by rw [hm]; exact z_site7) (by rw [hm]; exact zlB6) q2674 rfl rfl (by decide) rfl ?_ (by have := z_ble hw; simp [Value.category] at *; omega) hd26 hc hs' kk
  · intro q hq
    have hq2 := hq
    simp only [zSg7, List.zip_cons_cons, List.zip_nil_right, List.mem_cons, List.not_mem_nil, or_false] at hq2
    rcases hq2 with rfl | rfl | rfl <;> rfl
def zlb7 : ByteArray := ⟨#[42, 180, 0, 16, 42, 180, 0, 18, 43, 184, 0, 26, 172]⟩
theorem zlB7 : zLmB zSg8 "TrailGuide" zlb7 2 26 22 25 21 [(16, 2, 15), (18, 2, 17)] = true := by decide +kernel
theorem zlm7 {G : State} {M : zMd} {d rc rs pc idx cnt b : Nat} {ls : List (Option Value)} {rest : List Value} {ah : zH} {Q : zRs → zH → Prop} {c0 : Int} {c1 : Int} {p0 : Nat} (hd : decode M.2.1 pc = .ok (.invokeinterface idx cnt, 5)) (hl : Cond.methodLink M.1.cls idx ⟨"TrailGuide$Change", "applyTo", "(LTrailGuide$State;)I"⟩ ∈ lw_all) (hw : Nat.ble (rest.map fun v => v.category).sum 8 = true) (d' mc ms : Nat) (hd' : d' + 2 ≤ d) (hc : mc ≤ rc) (hs' : ms ≤ rs) (hob : ah b = some (.inl (1007, [.int (zi c0), .int (zi c1)]))) (k : zW G mX1_lambda_removeTrail_2 d' mc ms 0 (zent ([.int (zi c0), .int (zi c1)] ++ [.ref p0])) [] ah (zQx (zK G M d (rc - mc) (rs - ms) pc 5 ls rest Q) (some .int))) : zW G M d rc rs pc ls (.ref p0 :: .ref b :: rest) ah Q := by
  refine zr_lam (i := 7) (σ := zSg8) (vals := [.int (zi c0), .int (zi c1)]) (as := [.ref p0]) (is := [.aload_n 1]) (bytes := zlb7) (maxL := 2) z_site8 zlB7 (by decide +kernel) rfl (by decide) ?_ rfl ?_ ?_ (Or.inr ⟨_, rfl, (by decide +kernel : decode zlb7 12 = .ok (.ireturn, 1))⟩) (z_ble rfl) hd hl q1108 q1107 (by decide) (by decide +kernel) (show zSig _ 1 from zSig.of (by decide +kernel)) q2674 hX1_lambda_removeTrail_2 rfl (by decide +kernel) (z_ble rfl) (z_ble hw) hd' hc hs' rfl (Or.inl hob) rfl (Or.inl ⟨(by decide +kernel : decode zlb7 9 = .ok (.invokestatic 26, 3)), q1221, gX1_lambda_removeTrail_2⟩) k
  · intro k hk
    have hk2 : k < 2 := hk
    rcases (show k = 0 ∨ k = 1 by omega) with rfl | rfl <;> exact ⟨by decide +kernel, by decide +kernel⟩
  · intro k hk
    have hk2 : k < 1 := hk
    rcases (show k = 0 by omega) with rfl <;> decide +kernel
  · intro k v h
    rcases (show k = 0 ∨ 1 ≤ k by omega) with rfl | z
    · cases h; exact Or.inr ⟨1, _, rfl, rfl, rfl⟩
    · rw [List.getElem?_eq_none (by simpa using z)] at h; cases h
theorem zln7 {G : State} {M : zMd} {d rc rs pc : Nat} {ls : List (Option Value)} {rest : List Value} {ah : zH} {Q : zRs → zH → Prop} {c0 : Int} {c1 : Int} (hm : M.1 = ⟨"TrailGuide", "removeTrail", "(II)I"⟩) (hpc : pc = 3) (hd : decode M.2.1 3 = .ok (.invokedynamic 121, 5)) (hw : Nat.ble (rest.map fun v => v.category).sum 6 = true) (hd26 : 26 ≤ d) (hc : 1 ≤ rc) (hs' : 2 ≤ rs) (kk : ∀ q : Nat, ah q = none → zW G M d (rc - 1) (rs - 2) (3 + 5) ls (.ref q :: rest) (z_up ah q (.inl (1007, [.int (zi c0), .int (zi c1)]))) Q) : zW G M d rc rs pc ls (.int (zi c1) :: .int (zi c0) :: rest) ah Q := by
  subst hpc
  refine zr_indy (i := 7) (y := M.1) (σ := zSg8) (vals := [.int (zi c0), .int (zi c1)]) (bytes := zlb7) hd (by rw [hm]; exact z_site8) (by rw [hm]; exact zlB7) q2674 rfl rfl (by decide) rfl ?_ (by have := z_ble hw; simp [Value.category] at *; omega) hd26 hc hs' kk
  · intro q hq
    have hq2 := hq
    simp only [zSg8, List.zip_cons_cons, List.zip_nil_right, List.mem_cons, List.not_mem_nil, or_false] at hq2
    rcases hq2 with rfl | rfl <;> rfl
def zlb8 : ByteArray := ⟨#[42, 180, 0, 16, 42, 180, 0, 18, 43, 184, 0, 26, 172]⟩
theorem zlB8 : zLmB zSg9 "TrailGuide" zlb8 2 26 22 25 21 [(16, 2, 15), (18, 2, 17)] = true := by decide +kernel
theorem zlm8 {G : State} {M : zMd} {d rc rs pc idx cnt b : Nat} {ls : List (Option Value)} {rest : List Value} {ah : zH} {Q : zRs → zH → Prop} {c0 : Int} {c1 : Int} {p0 : Nat} (hd : decode M.2.1 pc = .ok (.invokeinterface idx cnt, 5)) (hl : Cond.methodLink M.1.cls idx ⟨"TrailGuide$Change", "applyTo", "(LTrailGuide$State;)I"⟩ ∈ lw_all) (hw : Nat.ble (rest.map fun v => v.category).sum 8 = true) (d' mc ms : Nat) (hd' : d' + 2 ≤ d) (hc : mc ≤ rc) (hs' : ms ≤ rs) (hob : ah b = some (.inl (1008, [.int (zi c0), .int (zi c1)]))) (k : zW G mX1_lambda_startTour_3 d' mc ms 0 (zent ([.int (zi c0), .int (zi c1)] ++ [.ref p0])) [] ah (zQx (zK G M d (rc - mc) (rs - ms) pc 5 ls rest Q) (some .int))) : zW G M d rc rs pc ls (.ref p0 :: .ref b :: rest) ah Q := by
  refine zr_lam (i := 8) (σ := zSg9) (vals := [.int (zi c0), .int (zi c1)]) (as := [.ref p0]) (is := [.aload_n 1]) (bytes := zlb8) (maxL := 2) z_site9 zlB8 (by decide +kernel) rfl (by decide) ?_ rfl ?_ ?_ (Or.inr ⟨_, rfl, (by decide +kernel : decode zlb8 12 = .ok (.ireturn, 1))⟩) (z_ble rfl) hd hl q1108 q1107 (by decide) (by decide +kernel) (show zSig _ 1 from zSig.of (by decide +kernel)) q2674 hX1_lambda_startTour_3 rfl (by decide +kernel) (z_ble rfl) (z_ble hw) hd' hc hs' rfl (Or.inl hob) rfl (Or.inl ⟨(by decide +kernel : decode zlb8 9 = .ok (.invokestatic 26, 3)), q1239, gX1_lambda_startTour_3⟩) k
  · intro k hk
    have hk2 : k < 2 := hk
    rcases (show k = 0 ∨ k = 1 by omega) with rfl | rfl <;> exact ⟨by decide +kernel, by decide +kernel⟩
  · intro k hk
    have hk2 : k < 1 := hk
    rcases (show k = 0 by omega) with rfl <;> decide +kernel
  · intro k v h
    rcases (show k = 0 ∨ 1 ≤ k by omega) with rfl | z
    · cases h; exact Or.inr ⟨1, _, rfl, rfl, rfl⟩
    · rw [List.getElem?_eq_none (by simpa using z)] at h; cases h
theorem zln8 {G : State} {M : zMd} {d rc rs pc : Nat} {ls : List (Option Value)} {rest : List Value} {ah : zH} {Q : zRs → zH → Prop} {c0 : Int} {c1 : Int} (hm : M.1 = ⟨"TrailGuide", "startTour", "(II)I"⟩) (hpc : pc = 3) (hd : decode M.2.1 3 = .ok (.invokedynamic 124, 5)) (hw : Nat.ble (rest.map fun v => v.category).sum 6 = true) (hd26 : 26 ≤ d) (hc : 1 ≤ rc) (hs' : 2 ≤ rs) (kk : ∀ q : Nat, ah q = none → zW G M d (rc - 1) (rs - 2) (3 + 5) ls (.ref q :: rest) (z_up ah q (.inl (1008, [.int (zi c0), .int (zi c1)]))) Q) : zW G M d rc rs pc ls (.int (zi c1) :: .int (zi c0) :: rest) ah Q := by
  subst hpc
  refine zr_indy (i := 8) (y := M.1) (σ := zSg9) (vals := [.int (zi c0), .int (zi c1)]) (bytes := zlb8) hd (by rw [hm]; exact z_site9) (by rw [hm]; exact zlB8) q2674 rfl rfl (by decide) rfl ?_ (by have := z_ble hw; simp [Value.category] at *; omega) hd26 hc hs' kk
  · intro q hq
    have hq2 := hq
    simp only [zSg9, List.zip_cons_cons, List.zip_nil_right, List.mem_cons, List.not_mem_nil, or_false] at hq2
    rcases hq2 with rfl | rfl <;> rfl
def zlb9 : ByteArray := ⟨#[42, 180, 0, 19, 42, 180, 0, 21, 42, 180, 0, 23, 27, 182, 0, 31, 172]⟩
theorem zlB9 : zLmB zSg10 "TrailGuide$State" zlb9 2 31 27 30 26 [(19, 2, 18), (21, 2, 20), (23, 2, 22)] = true := by decide +kernel
theorem zlm9 {G : State} {M : zMd} {d rc rs pc idx cnt b : Nat} {ls : List (Option Value)} {rest : List Value} {ah : zH} {Q : zRs → zH → Prop} {c0 : Nat} {c1 : Int} {c2 : Nat} {p0 : Int} (hd : decode M.2.1 pc = .ok (.invokeinterface idx cnt, 5)) (hl : Cond.methodLink M.1.cls idx ⟨"TrailGuide$WaypointTest", "isSo", "(I)Z"⟩ ∈ lw_all) (hw : Nat.ble (rest.map fun v => v.category).sum 8 = true) (d' mc ms : Nat) (hd' : d' + 2 ≤ d) (hc : mc ≤ rc) (hs' : ms ≤ rs) (hob : ah b = some (.inl (1009, [.ref c0, .int (zi c1), .ref c2]))) (hrc : zRc G ah c0 "TrailGuide$State") (k : zW G mX2_lambda_successor_4 d' mc ms 0 (zent ([.ref c0, .int (zi c1), .ref c2] ++ [.int (zi p0)])) [] ah (zQx (zK G M d (rc - mc) (rs - ms) pc 5 ls rest Q) (some .boolean))) : zW G M d rc rs pc ls (.int (zi p0) :: .ref b :: rest) ah Q := by
  refine zr_lam (i := 9) (σ := zSg10) (vals := [.ref c0, .int (zi c1), .ref c2]) (as := [.int (zi p0)]) (is := [.iload_n 1]) (bytes := zlb9) (maxL := 2) z_site10 zlB9 (by decide +kernel) rfl (by decide) ?_ rfl ?_ ?_ (Or.inr ⟨_, rfl, (by decide +kernel : decode zlb9 16 = .ok (.ireturn, 1))⟩) (z_ble rfl) hd hl q340 q339 (by decide) (by decide +kernel) (show zSig _ 1 from zSig.of (by decide +kernel)) q2674 hX2_lambda_successor_4 rfl (by decide +kernel) (z_ble rfl) (z_ble hw) hd' hc hs' rfl (Or.inl hob) rfl (Or.inr ⟨c0, _, "TrailGuide$State", (by decide +kernel : decode zlb9 13 = .ok (.invokevirtual 31, 3)), rfl, hrc, sp17, q1251, gX2_lambda_successor_4⟩) k
  · intro k hk
    have hk2 : k < 3 := hk
    rcases (show k = 0 ∨ k = 1 ∨ k = 2 by omega) with rfl | rfl | rfl <;> exact ⟨by decide +kernel, by decide +kernel⟩
  · intro k hk
    have hk2 : k < 1 := hk
    rcases (show k = 0 by omega) with rfl <;> decide +kernel
  · intro k v h
    rcases (show k = 0 ∨ 1 ≤ k by omega) with rfl | z
    · cases h; exact Or.inl ⟨1, _, rfl, rfl, rfl⟩
    · rw [List.getElem?_eq_none (by simpa using z)] at h; cases h
theorem zln9 {G : State} {M : zMd} {d rc rs pc : Nat} {ls : List (Option Value)} {rest : List Value} {ah : zH} {Q : zRs → zH → Prop} {c0 : Nat} {c1 : Int} {c2 : Nat} (hm : M.1 = ⟨"TrailGuide$State", "successor", "(I[I)I"⟩) (hpc : pc = 4) (hd : decode M.2.1 4 = .ok (.invokedynamic 179, 5)) (hw : Nat.ble (rest.map fun v => v.category).sum 5 = true) (hd26 : 26 ≤ d) (hc : 1 ≤ rc) (hs' : 3 ≤ rs) (kk : ∀ q : Nat, ah q = none → zW G M d (rc - 1) (rs - 3) (4 + 5) ls (.ref q :: rest) (z_up ah q (.inl (1009, [.ref c0, .int (zi c1), .ref c2]))) Q) : zW G M d rc rs pc ls (.ref c2 :: .int (zi c1) :: .ref c0 :: rest) ah Q := by
  subst hpc
  refine zr_indy (i := 9) (y := M.1) (σ := zSg10) (vals := [.ref c0, .int (zi c1), .ref c2]) (bytes := zlb9) hd (by rw [hm]; exact z_site10) (by rw [hm]; exact zlB9) q2674 rfl rfl (by decide) rfl ?_ (by have := z_ble hw; simp [Value.category] at *; omega) hd26 hc hs' kk
  · intro q hq
    have hq2 := hq
    simp only [zSg10, List.zip_cons_cons, List.zip_nil_right, List.mem_cons, List.not_mem_nil, or_false] at hq2
    rcases hq2 with rfl | rfl | rfl <;> rfl
def zlb10 : ByteArray := ⟨#[43, 184, 0, 17, 172]⟩
theorem zlB10 : zLmB zSg11 "TrailGuide" zlb10 2 17 14 16 13 [] = true := by decide +kernel
theorem zlm10 {G : State} {M : zMd} {d rc rs pc idx cnt b : Nat} {ls : List (Option Value)} {rest : List Value} {ah : zH} {Q : zRs → zH → Prop} {p0 : Nat} (hd : decode M.2.1 pc = .ok (.invokeinterface idx cnt, 5)) (hl : Cond.methodLink M.1.cls idx ⟨"TrailGuide$Change", "applyTo", "(LTrailGuide$State;)I"⟩ ∈ lw_all) (hw : Nat.ble (rest.map fun v => v.category).sum 8 = true) (d' mc ms : Nat) (hd' : d' + 2 ≤ d) (hc : mc ≤ rc) (hs' : ms ≤ rs) (hob : b = zLa G 10) (k : zW G mX1_lambda_stopTour_4 d' mc ms 0 (zent ([] ++ [.ref p0])) [] ah (zQx (zK G M d (rc - mc) (rs - ms) pc 5 ls rest Q) (some .int))) : zW G M d rc rs pc ls (.ref p0 :: .ref b :: rest) ah Q := by
  refine zr_lam (i := 10) (σ := zSg11) (vals := []) (as := [.ref p0]) (is := [.aload_n 1]) (bytes := zlb10) (maxL := 2) z_site11 zlB10 (by decide +kernel) rfl (by decide) ?_ rfl ?_ ?_ (Or.inr ⟨_, rfl, (by decide +kernel : decode zlb10 4 = .ok (.ireturn, 1))⟩) (z_ble rfl) hd hl q1108 q1107 (by decide) (by decide +kernel) (show zSig _ 1 from zSig.of (by decide +kernel)) q2674 hX1_lambda_stopTour_4 rfl (by decide +kernel) (z_ble rfl) (z_ble hw) hd' hc hs' rfl (Or.inr ⟨hob, rfl⟩) rfl (Or.inl ⟨(by decide +kernel : decode zlb10 1 = .ok (.invokestatic 17, 3)), q1276, gX1_lambda_stopTour_4⟩) k
  · exact fun k hk => absurd hk (Nat.not_lt_zero k)
  · intro k hk
    have hk2 : k < 1 := hk
    rcases (show k = 0 by omega) with rfl <;> decide +kernel
  · intro k v h
    rcases (show k = 0 ∨ 1 ≤ k by omega) with rfl | z
    · cases h; exact Or.inr ⟨1, _, rfl, rfl, rfl⟩
    · rw [List.getElem?_eq_none (by simpa using z)] at h; cases h
theorem zln10 {G : State} {M : zMd} {d rc rs pc : Nat} {ls : List (Option Value)} {rest : List Value} {ah : zH} {Q : zRs → zH → Prop} (hm : M.1 = ⟨"TrailGuide", "stopTour", "()I"⟩) (hpc : pc = 1) (hd : decode M.2.1 1 = .ok (.invokedynamic 125, 5)) (hw : Nat.ble (rest.map fun v => v.category).sum 8 = true) (hd26 : 26 ≤ d) (kk : zW G M d rc rs (1 + 5) ls (.ref (zLa G 10) :: rest) ah Q) : zW G M d rc rs pc ls rest ah Q := by
  subst hpc
  exact zr_indy0 (i := 10) (σ := zSg11) hd (by rw [hm]; exact z_site11) rfl (z_ble hw) hd26 kk
def zlb11 : ByteArray := ⟨#[42, 180, 0, 16, 42, 180, 0, 18, 43, 184, 0, 26, 172]⟩
theorem zlB11 : zLmB zSg12 "TrailGuide" zlb11 2 26 22 25 21 [(16, 2, 15), (18, 2, 17)] = true := by decide +kernel
theorem zlm11 {G : State} {M : zMd} {d rc rs pc idx cnt b : Nat} {ls : List (Option Value)} {rest : List Value} {ah : zH} {Q : zRs → zH → Prop} {c0 : Int} {c1 : Int} {p0 : Nat} (hd : decode M.2.1 pc = .ok (.invokeinterface idx cnt, 5)) (hl : Cond.methodLink M.1.cls idx ⟨"TrailGuide$Change", "applyTo", "(LTrailGuide$State;)I"⟩ ∈ lw_all) (hw : Nat.ble (rest.map fun v => v.category).sum 8 = true) (d' mc ms : Nat) (hd' : d' + 2 ≤ d) (hc : mc ≤ rc) (hs' : ms ≤ rs) (hob : ah b = some (.inl (1011, [.int (zi c0), .int (zi c1)]))) (k : zW G mX1_lambda_update_5 d' mc ms 0 (zent ([.int (zi c0), .int (zi c1)] ++ [.ref p0])) [] ah (zQx (zK G M d (rc - mc) (rs - ms) pc 5 ls rest Q) (some .int))) : zW G M d rc rs pc ls (.ref p0 :: .ref b :: rest) ah Q := by
  refine zr_lam (i := 11) (σ := zSg12) (vals := [.int (zi c0), .int (zi c1)]) (as := [.ref p0]) (is := [.aload_n 1]) (bytes := zlb11) (maxL := 2) z_site12 zlB11 (by decide +kernel) rfl (by decide) ?_ rfl ?_ ?_ (Or.inr ⟨_, rfl, (by decide +kernel : decode zlb11 12 = .ok (.ireturn, 1))⟩) (z_ble rfl) hd hl q1108 q1107 (by decide) (by decide +kernel) (show zSig _ 1 from zSig.of (by decide +kernel)) q2674 hX1_lambda_update_5 rfl (by decide +kernel) (z_ble rfl) (z_ble hw) hd' hc hs' rfl (Or.inl hob) rfl (Or.inl ⟨(by decide +kernel : decode zlb11 9 = .ok (.invokestatic 26, 3)), q1299, gX1_lambda_update_5⟩) k
  · intro k hk
    have hk2 : k < 2 := hk
    rcases (show k = 0 ∨ k = 1 by omega) with rfl | rfl <;> exact ⟨by decide +kernel, by decide +kernel⟩
  · intro k hk
    have hk2 : k < 1 := hk
    rcases (show k = 0 by omega) with rfl <;> decide +kernel
  · intro k v h
    rcases (show k = 0 ∨ 1 ≤ k by omega) with rfl | z
    · cases h; exact Or.inr ⟨1, _, rfl, rfl, rfl⟩
    · rw [List.getElem?_eq_none (by simpa using z)] at h; cases h
theorem zln11 {G : State} {M : zMd} {d rc rs pc : Nat} {ls : List (Option Value)} {rest : List Value} {ah : zH} {Q : zRs → zH → Prop} {c0 : Int} {c1 : Int} (hm : M.1 = ⟨"TrailGuide", "update", "(II)Z"⟩) (hpc : pc = 3) (hd : decode M.2.1 3 = .ok (.invokedynamic 128, 5)) (hw : Nat.ble (rest.map fun v => v.category).sum 6 = true) (hd26 : 26 ≤ d) (hc : 1 ≤ rc) (hs' : 2 ≤ rs) (kk : ∀ q : Nat, ah q = none → zW G M d (rc - 1) (rs - 2) (3 + 5) ls (.ref q :: rest) (z_up ah q (.inl (1011, [.int (zi c0), .int (zi c1)]))) Q) : zW G M d rc rs pc ls (.int (zi c1) :: .int (zi c0) :: rest) ah Q := by
  subst hpc
  refine zr_indy (i := 11) (y := M.1) (σ := zSg12) (vals := [.int (zi c0), .int (zi c1)]) (bytes := zlb11) hd (by rw [hm]; exact z_site12) (by rw [hm]; exact zlB11) q2674 rfl rfl (by decide) rfl ?_ (by have := z_ble hw; simp [Value.category] at *; omega) hd26 hc hs' kk
  · intro q hq
    have hq2 := hq
    simp only [zSg12, List.zip_cons_cons, List.zip_nil_right, List.mem_cons, List.not_mem_nil, or_false] at hq2
    rcases hq2 with rfl | rfl <;> rfl
def zlb12 : ByteArray := ⟨#[42, 180, 0, 15, 43, 184, 0, 23, 172]⟩
theorem zlB12 : zLmB zSg13 "TrailGuide" zlb12 2 23 19 22 18 [(15, 2, 14)] = true := by decide +kernel
theorem zlm12 {G : State} {M : zMd} {d rc rs pc idx cnt b : Nat} {ls : List (Option Value)} {rest : List Value} {ah : zH} {Q : zRs → zH → Prop} {c0 : Int} {p0 : Nat} (hd : decode M.2.1 pc = .ok (.invokeinterface idx cnt, 5)) (hl : Cond.methodLink M.1.cls idx ⟨"TrailGuide$Change", "applyTo", "(LTrailGuide$State;)I"⟩ ∈ lw_all) (hw : Nat.ble (rest.map fun v => v.category).sum 8 = true) (d' mc ms : Nat) (hd' : d' + 2 ≤ d) (hc : mc ≤ rc) (hs' : ms ≤ rs) (hob : ah b = some (.inl (1012, [.int (zi c0)]))) (k : zW G mX1_lambda_setTolerance_6 d' mc ms 0 (zent ([.int (zi c0)] ++ [.ref p0])) [] ah (zQx (zK G M d (rc - mc) (rs - ms) pc 5 ls rest Q) (some .int))) : zW G M d rc rs pc ls (.ref p0 :: .ref b :: rest) ah Q := by
  refine zr_lam (i := 12) (σ := zSg13) (vals := [.int (zi c0)]) (as := [.ref p0]) (is := [.aload_n 1]) (bytes := zlb12) (maxL := 2) z_site13 zlB12 (by decide +kernel) rfl (by decide) ?_ rfl ?_ ?_ (Or.inr ⟨_, rfl, (by decide +kernel : decode zlb12 8 = .ok (.ireturn, 1))⟩) (z_ble rfl) hd hl q1108 q1107 (by decide) (by decide +kernel) (show zSig _ 1 from zSig.of (by decide +kernel)) q2674 hX1_lambda_setTolerance_6 rfl (by decide +kernel) (z_ble rfl) (z_ble hw) hd' hc hs' rfl (Or.inl hob) rfl (Or.inl ⟨(by decide +kernel : decode zlb12 5 = .ok (.invokestatic 23, 3)), q1469, gX1_lambda_setTolerance_6⟩) k
  · intro k hk
    have hk2 : k < 1 := hk
    rcases (show k = 0 by omega) with rfl <;> exact ⟨by decide +kernel, by decide +kernel⟩
  · intro k hk
    have hk2 : k < 1 := hk
    rcases (show k = 0 by omega) with rfl <;> decide +kernel
  · intro k v h
    rcases (show k = 0 ∨ 1 ≤ k by omega) with rfl | z
    · cases h; exact Or.inr ⟨1, _, rfl, rfl, rfl⟩
    · rw [List.getElem?_eq_none (by simpa using z)] at h; cases h
theorem zln12 {G : State} {M : zMd} {d rc rs pc : Nat} {ls : List (Option Value)} {rest : List Value} {ah : zH} {Q : zRs → zH → Prop} {c0 : Int} (hm : M.1 = ⟨"TrailGuide", "setTolerance", "(I)I"⟩) (hpc : pc = 2) (hd : decode M.2.1 2 = .ok (.invokedynamic 129, 5)) (hw : Nat.ble (rest.map fun v => v.category).sum 7 = true) (hd26 : 26 ≤ d) (hc : 1 ≤ rc) (hs' : 1 ≤ rs) (kk : ∀ q : Nat, ah q = none → zW G M d (rc - 1) (rs - 1) (2 + 5) ls (.ref q :: rest) (z_up ah q (.inl (1012, [.int (zi c0)]))) Q) : zW G M d rc rs pc ls (.int (zi c0) :: rest) ah Q := by
  subst hpc
  refine zr_indy (i := 12) (y := M.1) (σ := zSg13) (vals := [.int (zi c0)]) (bytes := zlb12) hd (by rw [hm]; exact z_site13) (by rw [hm]; exact zlB12) q2674 rfl rfl (by decide) rfl ?_ (by have := z_ble hw; simp [Value.category] at *; omega) hd26 hc hs' kk
  · intro q hq
    have hq2 := hq
    simp only [zSg13, List.zip_cons_cons, List.zip_nil_right, List.mem_cons, List.not_mem_nil, or_false] at hq2
    rcases hq2 with rfl <;> rfl
def zlb13 : ByteArray := ⟨#[42, 180, 0, 15, 43, 184, 0, 23, 172]⟩
theorem zlB13 : zLmB zSg14 "TrailGuide" zlb13 2 23 19 22 18 [(15, 2, 14)] = true := by decide +kernel
theorem zlm13 {G : State} {M : zMd} {d rc rs pc idx cnt b : Nat} {ls : List (Option Value)} {rest : List Value} {ah : zH} {Q : zRs → zH → Prop} {c0 : Int} {p0 : Nat} (hd : decode M.2.1 pc = .ok (.invokeinterface idx cnt, 5)) (hl : Cond.methodLink M.1.cls idx ⟨"TrailGuide$Change", "applyTo", "(LTrailGuide$State;)I"⟩ ∈ lw_all) (hw : Nat.ble (rest.map fun v => v.category).sum 8 = true) (d' mc ms : Nat) (hd' : d' + 2 ≤ d) (hc : mc ≤ rc) (hs' : ms ≤ rs) (hob : ah b = some (.inl (1013, [.int (zi c0)]))) (k : zW G mX1_lambda_setMode_7 d' mc ms 0 (zent ([.int (zi c0)] ++ [.ref p0])) [] ah (zQx (zK G M d (rc - mc) (rs - ms) pc 5 ls rest Q) (some .int))) : zW G M d rc rs pc ls (.ref p0 :: .ref b :: rest) ah Q := by
  refine zr_lam (i := 13) (σ := zSg14) (vals := [.int (zi c0)]) (as := [.ref p0]) (is := [.aload_n 1]) (bytes := zlb13) (maxL := 2) z_site14 zlB13 (by decide +kernel) rfl (by decide) ?_ rfl ?_ ?_ (Or.inr ⟨_, rfl, (by decide +kernel : decode zlb13 8 = .ok (.ireturn, 1))⟩) (z_ble rfl) hd hl q1108 q1107 (by decide) (by decide +kernel) (show zSig _ 1 from zSig.of (by decide +kernel)) q2674 hX1_lambda_setMode_7 rfl (by decide +kernel) (z_ble rfl) (z_ble hw) hd' hc hs' rfl (Or.inl hob) rfl (Or.inl ⟨(by decide +kernel : decode zlb13 5 = .ok (.invokestatic 23, 3)), q1482, gX1_lambda_setMode_7⟩) k
  · intro k hk
    have hk2 : k < 1 := hk
    rcases (show k = 0 by omega) with rfl <;> exact ⟨by decide +kernel, by decide +kernel⟩
  · intro k hk
    have hk2 : k < 1 := hk
    rcases (show k = 0 by omega) with rfl <;> decide +kernel
  · intro k v h
    rcases (show k = 0 ∨ 1 ≤ k by omega) with rfl | z
    · cases h; exact Or.inr ⟨1, _, rfl, rfl, rfl⟩
    · rw [List.getElem?_eq_none (by simpa using z)] at h; cases h
theorem zln13 {G : State} {M : zMd} {d rc rs pc : Nat} {ls : List (Option Value)} {rest : List Value} {ah : zH} {Q : zRs → zH → Prop} {c0 : Int} (hm : M.1 = ⟨"TrailGuide", "setMode", "(I)I"⟩) (hpc : pc = 2) (hd : decode M.2.1 2 = .ok (.invokedynamic 132, 5)) (hw : Nat.ble (rest.map fun v => v.category).sum 7 = true) (hd26 : 26 ≤ d) (hc : 1 ≤ rc) (hs' : 1 ≤ rs) (kk : ∀ q : Nat, ah q = none → zW G M d (rc - 1) (rs - 1) (2 + 5) ls (.ref q :: rest) (z_up ah q (.inl (1013, [.int (zi c0)]))) Q) : zW G M d rc rs pc ls (.int (zi c0) :: rest) ah Q := by
  subst hpc
  refine zr_indy (i := 13) (y := M.1) (σ := zSg14) (vals := [.int (zi c0)]) (bytes := zlb13) hd (by rw [hm]; exact z_site14) (by rw [hm]; exact zlB13) q2674 rfl rfl (by decide) rfl ?_ (by have := z_ble hw; simp [Value.category] at *; omega) hd26 hc hs' kk
  · intro q hq
    have hq2 := hq
    simp only [zSg14, List.zip_cons_cons, List.zip_nil_right, List.mem_cons, List.not_mem_nil, or_false] at hq2
    rcases hq2 with rfl <;> rfl
def zlb14 : ByteArray := ⟨#[42, 180, 0, 15, 43, 184, 0, 23, 172]⟩
theorem zlB14 : zLmB zSg15 "TrailGuide" zlb14 2 23 19 22 18 [(15, 2, 14)] = true := by decide +kernel
theorem zlm14 {G : State} {M : zMd} {d rc rs pc idx cnt b : Nat} {ls : List (Option Value)} {rest : List Value} {ah : zH} {Q : zRs → zH → Prop} {c0 : Int} {p0 : Nat} (hd : decode M.2.1 pc = .ok (.invokeinterface idx cnt, 5)) (hl : Cond.methodLink M.1.cls idx ⟨"TrailGuide$Change", "applyTo", "(LTrailGuide$State;)I"⟩ ∈ lw_all) (hw : Nat.ble (rest.map fun v => v.category).sum 8 = true) (d' mc ms : Nat) (hd' : d' + 2 ≤ d) (hc : mc ≤ rc) (hs' : ms ≤ rs) (hob : ah b = some (.inl (1014, [.int (zi c0)]))) (k : zW G mX1_lambda_charge_8 d' mc ms 0 (zent ([.int (zi c0)] ++ [.ref p0])) [] ah (zQx (zK G M d (rc - mc) (rs - ms) pc 5 ls rest Q) (some .int))) : zW G M d rc rs pc ls (.ref p0 :: .ref b :: rest) ah Q := by
  refine zr_lam (i := 14) (σ := zSg15) (vals := [.int (zi c0)]) (as := [.ref p0]) (is := [.aload_n 1]) (bytes := zlb14) (maxL := 2) z_site15 zlB14 (by decide +kernel) rfl (by decide) ?_ rfl ?_ ?_ (Or.inr ⟨_, rfl, (by decide +kernel : decode zlb14 8 = .ok (.ireturn, 1))⟩) (z_ble rfl) hd hl q1108 q1107 (by decide) (by decide +kernel) (show zSig _ 1 from zSig.of (by decide +kernel)) q2674 hX1_lambda_charge_8 rfl (by decide +kernel) (z_ble rfl) (z_ble hw) hd' hc hs' rfl (Or.inl hob) rfl (Or.inl ⟨(by decide +kernel : decode zlb14 5 = .ok (.invokestatic 23, 3)), q1506, gX1_lambda_charge_8⟩) k
  · intro k hk
    have hk2 : k < 1 := hk
    rcases (show k = 0 by omega) with rfl <;> exact ⟨by decide +kernel, by decide +kernel⟩
  · intro k hk
    have hk2 : k < 1 := hk
    rcases (show k = 0 by omega) with rfl <;> decide +kernel
  · intro k v h
    rcases (show k = 0 ∨ 1 ≤ k by omega) with rfl | z
    · cases h; exact Or.inr ⟨1, _, rfl, rfl, rfl⟩
    · rw [List.getElem?_eq_none (by simpa using z)] at h; cases h
theorem zln14 {G : State} {M : zMd} {d rc rs pc : Nat} {ls : List (Option Value)} {rest : List Value} {ah : zH} {Q : zRs → zH → Prop} {c0 : Int} (hm : M.1 = ⟨"TrailGuide", "charge", "(I)I"⟩) (hpc : pc = 2) (hd : decode M.2.1 2 = .ok (.invokedynamic 133, 5)) (hw : Nat.ble (rest.map fun v => v.category).sum 7 = true) (hd26 : 26 ≤ d) (hc : 1 ≤ rc) (hs' : 1 ≤ rs) (kk : ∀ q : Nat, ah q = none → zW G M d (rc - 1) (rs - 1) (2 + 5) ls (.ref q :: rest) (z_up ah q (.inl (1014, [.int (zi c0)]))) Q) : zW G M d rc rs pc ls (.int (zi c0) :: rest) ah Q := by
  subst hpc
  refine zr_indy (i := 14) (y := M.1) (σ := zSg15) (vals := [.int (zi c0)]) (bytes := zlb14) hd (by rw [hm]; exact z_site15) (by rw [hm]; exact zlB14) q2674 rfl rfl (by decide) rfl ?_ (by have := z_ble hw; simp [Value.category] at *; omega) hd26 hc hs' kk
  · intro q hq
    have hq2 := hq
    simp only [zSg15, List.zip_cons_cons, List.zip_nil_right, List.mem_cons, List.not_mem_nil, or_false] at hq2
    rcases hq2 with rfl <;> rfl
def zlb15 : ByteArray := ⟨#[42, 180, 0, 15, 27, 28, 182, 0, 22, 177]⟩
theorem zlB15 : zLmB zSg16 "TrailGuide" zlb15 3 22 19 21 18 [(15, 2, 14)] = true := by decide +kernel
theorem zlm15 {G : State} {M : zMd} {d rc rs pc idx cnt b : Nat} {ls : List (Option Value)} {rest : List Value} {ah : zH} {Q : zRs → zH → Prop} {c0 : Nat} {p0 : Int} {p1 : Int} (hd : decode M.2.1 pc = .ok (.invokeinterface idx cnt, 5)) (hl : Cond.methodLink M.1.cls idx ⟨"TrailGuide$TrailVisitor", "visit", "(II)V"⟩ ∈ lw_all) (hw : Nat.ble (rest.map fun v => v.category).sum 8 = true) (d' mc ms : Nat) (hd' : d' + 2 ≤ d) (hc : mc ≤ rc) (hs' : ms ≤ rs) (hob : ah b = some (.inl (1015, [.ref c0]))) (hrc : zRc G ah c0 "TrailGuide") (k : zW G mX1_lambda_writeTrails_10 d' mc ms 0 (zent ([.ref c0] ++ [.int (zi p0), .int (zi p1)])) [] ah (zQx (zK G M d (rc - mc) (rs - ms) pc 5 ls rest Q) none)) : zW G M d rc rs pc ls (.int (zi p1) :: .int (zi p0) :: .ref b :: rest) ah Q := by
  refine zr_lam (i := 15) (σ := zSg16) (vals := [.ref c0]) (as := [.int (zi p0), .int (zi p1)]) (is := [.iload_n 1, .iload_n 2]) (bytes := zlb15) (maxL := 3) z_site16 zlB15 (by decide +kernel) rfl (by decide) ?_ rfl ?_ ?_ (Or.inl ⟨rfl, (by decide +kernel : decode zlb15 9 = .ok (.return_, 1))⟩) (z_ble rfl) hd hl q443 q442 (by decide) (by decide +kernel) (show zSig _ 2 from zSig.of (by decide +kernel)) q2674 hX1_lambda_writeTrails_10 rfl (by decide +kernel) (z_ble rfl) (z_ble hw) hd' hc hs' rfl (Or.inl hob) rfl (Or.inr ⟨c0, _, "TrailGuide", (by decide +kernel : decode zlb15 6 = .ok (.invokevirtual 22, 3)), rfl, hrc, sp24, q1734, gX1_lambda_writeTrails_10⟩) k
  · intro k hk
    have hk2 : k < 1 := hk
    rcases (show k = 0 by omega) with rfl <;> exact ⟨by decide +kernel, by decide +kernel⟩
  · intro k hk
    have hk2 : k < 2 := hk
    rcases (show k = 0 ∨ k = 1 by omega) with rfl | rfl <;> decide +kernel
  · intro k v h
    rcases (show k = 0 ∨ k = 1 ∨ 2 ≤ k by omega) with rfl | rfl | z
    · cases h; exact Or.inl ⟨1, _, rfl, rfl, rfl⟩
    · cases h; exact Or.inl ⟨2, _, rfl, rfl, rfl⟩
    · rw [List.getElem?_eq_none (by simpa using z)] at h; cases h
theorem zln15 {G : State} {M : zMd} {d rc rs pc : Nat} {ls : List (Option Value)} {rest : List Value} {ah : zH} {Q : zRs → zH → Prop} {c0 : Nat} (hm : M.1 = ⟨"TrailGuide", "writeTrails", "(I)I"⟩) (hpc : pc = 25) (hd : decode M.2.1 25 = .ok (.invokedynamic 332, 5)) (hw : Nat.ble (rest.map fun v => v.category).sum 7 = true) (hd26 : 26 ≤ d) (hc : 1 ≤ rc) (hs' : 1 ≤ rs) (kk : ∀ q : Nat, ah q = none → zW G M d (rc - 1) (rs - 1) (25 + 5) ls (.ref q :: rest) (z_up ah q (.inl (1015, [.ref c0]))) Q) : zW G M d rc rs pc ls (.ref c0 :: rest) ah Q := by
  subst hpc
  refine zr_indy (i := 15) (y := M.1) (σ := zSg16) (vals := [.ref c0]) (bytes := zlb15) hd (by rw [hm]; exact z_site16) (by rw [hm]; exact zlB15) q2674 rfl rfl (by decide) rfl ?_ (by have := z_ble hw; simp [Value.category] at *; omega) hd26 hc hs' kk
  · intro q hq
    have hq2 := hq
    simp only [zSg16, List.zip_cons_cons, List.zip_nil_right, List.mem_cons, List.not_mem_nil, or_false] at hq2
    rcases hq2 with rfl <;> rfl
def zlb16 : ByteArray := ⟨#[42, 180, 0, 17, 42, 180, 0, 19, 42, 180, 0, 21, 43, 184, 0, 29, 172]⟩
theorem zlB16 : zLmB zSg17 "TrailGuide$Parser" zlb16 2 29 25 28 24 [(17, 2, 16), (19, 2, 18), (21, 2, 20)] = true := by decide +kernel
theorem zlm16 {G : State} {M : zMd} {d rc rs pc idx cnt b : Nat} {ls : List (Option Value)} {rest : List Value} {ah : zH} {Q : zRs → zH → Prop} {c0 : Int} {c1 : Int} {c2 : Int} {p0 : Nat} (hd : decode M.2.1 pc = .ok (.invokeinterface idx cnt, 5)) (hl : Cond.methodLink M.1.cls idx ⟨"TrailGuide$Change", "applyTo", "(LTrailGuide$State;)I"⟩ ∈ lw_all) (hw : Nat.ble (rest.map fun v => v.category).sum 8 = true) (d' mc ms : Nat) (hd' : d' + 2 ≤ d) (hc : mc ≤ rc) (hs' : ms ≤ rs) (hob : ah b = some (.inl (1016, [.int (zi c0), .int (zi c1), .int (zi c2)]))) (k : zW G mX13_lambda_pointed_0 d' mc ms 0 (zent ([.int (zi c0), .int (zi c1), .int (zi c2)] ++ [.ref p0])) [] ah (zQx (zK G M d (rc - mc) (rs - ms) pc 5 ls rest Q) (some .int))) : zW G M d rc rs pc ls (.ref p0 :: .ref b :: rest) ah Q := by
  refine zr_lam (i := 16) (σ := zSg17) (vals := [.int (zi c0), .int (zi c1), .int (zi c2)]) (as := [.ref p0]) (is := [.aload_n 1]) (bytes := zlb16) (maxL := 2) z_site17 zlB16 (by decide +kernel) rfl (by decide) ?_ rfl ?_ ?_ (Or.inr ⟨_, rfl, (by decide +kernel : decode zlb16 16 = .ok (.ireturn, 1))⟩) (z_ble rfl) hd hl q1108 q1107 (by decide) (by decide +kernel) (show zSig _ 1 from zSig.of (by decide +kernel)) q2674 hX13_lambda_pointed_0 rfl (by decide +kernel) (z_ble rfl) (z_ble hw) hd' hc hs' rfl (Or.inl hob) rfl (Or.inl ⟨(by decide +kernel : decode zlb16 13 = .ok (.invokestatic 29, 3)), q1925, gX13_lambda_pointed_0⟩) k
  · intro k hk
    have hk2 : k < 3 := hk
    rcases (show k = 0 ∨ k = 1 ∨ k = 2 by omega) with rfl | rfl | rfl <;> exact ⟨by decide +kernel, by decide +kernel⟩
  · intro k hk
    have hk2 : k < 1 := hk
    rcases (show k = 0 by omega) with rfl <;> decide +kernel
  · intro k v h
    rcases (show k = 0 ∨ 1 ≤ k by omega) with rfl | z
    · cases h; exact Or.inr ⟨1, _, rfl, rfl, rfl⟩
    · rw [List.getElem?_eq_none (by simpa using z)] at h; cases h
theorem zln16 {G : State} {M : zMd} {d rc rs pc : Nat} {ls : List (Option Value)} {rest : List Value} {ah : zH} {Q : zRs → zH → Prop} {c0 : Int} {c1 : Int} {c2 : Int} (hm : M.1 = ⟨"TrailGuide$Parser", "pointed", "()LTrailGuide$Command;"⟩) (hpc : pc = 32) (hd : decode M.2.1 32 = .ok (.invokedynamic 94, 5)) (hw : Nat.ble (rest.map fun v => v.category).sum 5 = true) (hd26 : 26 ≤ d) (hc : 1 ≤ rc) (hs' : 3 ≤ rs) (kk : ∀ q : Nat, ah q = none → zW G M d (rc - 1) (rs - 3) (32 + 5) ls (.ref q :: rest) (z_up ah q (.inl (1016, [.int (zi c0), .int (zi c1), .int (zi c2)]))) Q) : zW G M d rc rs pc ls (.int (zi c2) :: .int (zi c1) :: .int (zi c0) :: rest) ah Q := by
  subst hpc
  refine zr_indy (i := 16) (y := M.1) (σ := zSg17) (vals := [.int (zi c0), .int (zi c1), .int (zi c2)]) (bytes := zlb16) hd (by rw [hm]; exact z_site17) (by rw [hm]; exact zlB16) q2674 rfl rfl (by decide) rfl ?_ (by have := z_ble hw; simp [Value.category] at *; omega) hd26 hc hs' kk
  · intro q hq
    have hq2 := hq
    simp only [zSg17, List.zip_cons_cons, List.zip_nil_right, List.mem_cons, List.not_mem_nil, or_false] at hq2
    rcases hq2 with rfl | rfl | rfl <;> rfl
def zlb17 : ByteArray := ⟨#[42, 180, 0, 17, 42, 180, 0, 19, 42, 180, 0, 21, 43, 184, 0, 29, 172]⟩
theorem zlB17 : zLmB zSg18 "TrailGuide$Parser" zlb17 2 29 25 28 24 [(17, 2, 16), (19, 2, 18), (21, 2, 20)] = true := by decide +kernel
theorem zlm17 {G : State} {M : zMd} {d rc rs pc idx cnt b : Nat} {ls : List (Option Value)} {rest : List Value} {ah : zH} {Q : zRs → zH → Prop} {c0 : Int} {c1 : Int} {c2 : Int} {p0 : Nat} (hd : decode M.2.1 pc = .ok (.invokeinterface idx cnt, 5)) (hl : Cond.methodLink M.1.cls idx ⟨"TrailGuide$Change", "applyTo", "(LTrailGuide$State;)I"⟩ ∈ lw_all) (hw : Nat.ble (rest.map fun v => v.category).sum 8 = true) (d' mc ms : Nat) (hd' : d' + 2 ≤ d) (hc : mc ≤ rc) (hs' : ms ≤ rs) (hob : ah b = some (.inl (1017, [.int (zi c0), .int (zi c1), .int (zi c2)]))) (k : zW G mX13_lambda_trailOrTour_1 d' mc ms 0 (zent ([.int (zi c0), .int (zi c1), .int (zi c2)] ++ [.ref p0])) [] ah (zQx (zK G M d (rc - mc) (rs - ms) pc 5 ls rest Q) (some .int))) : zW G M d rc rs pc ls (.ref p0 :: .ref b :: rest) ah Q := by
  refine zr_lam (i := 17) (σ := zSg18) (vals := [.int (zi c0), .int (zi c1), .int (zi c2)]) (as := [.ref p0]) (is := [.aload_n 1]) (bytes := zlb17) (maxL := 2) z_site18 zlB17 (by decide +kernel) rfl (by decide) ?_ rfl ?_ ?_ (Or.inr ⟨_, rfl, (by decide +kernel : decode zlb17 16 = .ok (.ireturn, 1))⟩) (z_ble rfl) hd hl q1108 q1107 (by decide) (by decide +kernel) (show zSig _ 1 from zSig.of (by decide +kernel)) q2674 hX13_lambda_trailOrTour_1 rfl (by decide +kernel) (z_ble rfl) (z_ble hw) hd' hc hs' rfl (Or.inl hob) rfl (Or.inl ⟨(by decide +kernel : decode zlb17 13 = .ok (.invokestatic 29, 3)), q1944, gX13_lambda_trailOrTour_1⟩) k
  · intro k hk
    have hk2 : k < 3 := hk
    rcases (show k = 0 ∨ k = 1 ∨ k = 2 by omega) with rfl | rfl | rfl <;> exact ⟨by decide +kernel, by decide +kernel⟩
  · intro k hk
    have hk2 : k < 1 := hk
    rcases (show k = 0 by omega) with rfl <;> decide +kernel
  · intro k v h
    rcases (show k = 0 ∨ 1 ≤ k by omega) with rfl | z
    · cases h; exact Or.inr ⟨1, _, rfl, rfl, rfl⟩
    · rw [List.getElem?_eq_none (by simpa using z)] at h; cases h
theorem zln17 {G : State} {M : zMd} {d rc rs pc : Nat} {ls : List (Option Value)} {rest : List Value} {ah : zH} {Q : zRs → zH → Prop} {c0 : Int} {c1 : Int} {c2 : Int} (hm : M.1 = ⟨"TrailGuide$Parser", "trailOrTour", "()LTrailGuide$Command;"⟩) (hpc : pc = 37) (hd : decode M.2.1 37 = .ok (.invokedynamic 107, 5)) (hw : Nat.ble (rest.map fun v => v.category).sum 5 = true) (hd26 : 26 ≤ d) (hc : 1 ≤ rc) (hs' : 3 ≤ rs) (kk : ∀ q : Nat, ah q = none → zW G M d (rc - 1) (rs - 3) (37 + 5) ls (.ref q :: rest) (z_up ah q (.inl (1017, [.int (zi c0), .int (zi c1), .int (zi c2)]))) Q) : zW G M d rc rs pc ls (.int (zi c2) :: .int (zi c1) :: .int (zi c0) :: rest) ah Q := by
  subst hpc
  refine zr_indy (i := 17) (y := M.1) (σ := zSg18) (vals := [.int (zi c0), .int (zi c1), .int (zi c2)]) (bytes := zlb17) hd (by rw [hm]; exact z_site18) (by rw [hm]; exact zlB17) q2674 rfl rfl (by decide) rfl ?_ (by have := z_ble hw; simp [Value.category] at *; omega) hd26 hc hs' kk
  · intro q hq
    have hq2 := hq
    simp only [zSg18, List.zip_cons_cons, List.zip_nil_right, List.mem_cons, List.not_mem_nil, or_false] at hq2
    rcases hq2 with rfl | rfl | rfl <;> rfl
def zlb18 : ByteArray := ⟨#[42, 180, 0, 16, 42, 180, 0, 18, 43, 184, 0, 26, 172]⟩
theorem zlB18 : zLmB zSg19 "TrailGuide$Parser" zlb18 2 26 22 25 21 [(16, 2, 15), (18, 2, 17)] = true := by decide +kernel
theorem zlm18 {G : State} {M : zMd} {d rc rs pc idx cnt b : Nat} {ls : List (Option Value)} {rest : List Value} {ah : zH} {Q : zRs → zH → Prop} {c0 : Int} {c1 : Int} {p0 : Nat} (hd : decode M.2.1 pc = .ok (.invokeinterface idx cnt, 5)) (hl : Cond.methodLink M.1.cls idx ⟨"TrailGuide$Change", "applyTo", "(LTrailGuide$State;)I"⟩ ∈ lw_all) (hw : Nat.ble (rest.map fun v => v.category).sum 8 = true) (d' mc ms : Nat) (hd' : d' + 2 ≤ d) (hc : mc ≤ rc) (hs' : ms ≤ rs) (hob : ah b = some (.inl (1018, [.int (zi c0), .int (zi c1)]))) (k : zW G mX13_lambda_trailOrTour_2 d' mc ms 0 (zent ([.int (zi c0), .int (zi c1)] ++ [.ref p0])) [] ah (zQx (zK G M d (rc - mc) (rs - ms) pc 5 ls rest Q) (some .int))) : zW G M d rc rs pc ls (.ref p0 :: .ref b :: rest) ah Q := by
  refine zr_lam (i := 18) (σ := zSg19) (vals := [.int (zi c0), .int (zi c1)]) (as := [.ref p0]) (is := [.aload_n 1]) (bytes := zlb18) (maxL := 2) z_site19 zlB18 (by decide +kernel) rfl (by decide) ?_ rfl ?_ ?_ (Or.inr ⟨_, rfl, (by decide +kernel : decode zlb18 12 = .ok (.ireturn, 1))⟩) (z_ble rfl) hd hl q1108 q1107 (by decide) (by decide +kernel) (show zSig _ 1 from zSig.of (by decide +kernel)) q2674 hX13_lambda_trailOrTour_2 rfl (by decide +kernel) (z_ble rfl) (z_ble hw) hd' hc hs' rfl (Or.inl hob) rfl (Or.inl ⟨(by decide +kernel : decode zlb18 9 = .ok (.invokestatic 26, 3)), q1949, gX13_lambda_trailOrTour_2⟩) k
  · intro k hk
    have hk2 : k < 2 := hk
    rcases (show k = 0 ∨ k = 1 by omega) with rfl | rfl <;> exact ⟨by decide +kernel, by decide +kernel⟩
  · intro k hk
    have hk2 : k < 1 := hk
    rcases (show k = 0 by omega) with rfl <;> decide +kernel
  · intro k v h
    rcases (show k = 0 ∨ 1 ≤ k by omega) with rfl | z
    · cases h; exact Or.inr ⟨1, _, rfl, rfl, rfl⟩
    · rw [List.getElem?_eq_none (by simpa using z)] at h; cases h
theorem zln18 {G : State} {M : zMd} {d rc rs pc : Nat} {ls : List (Option Value)} {rest : List Value} {ah : zH} {Q : zRs → zH → Prop} {c0 : Int} {c1 : Int} (hm : M.1 = ⟨"TrailGuide$Parser", "trailOrTour", "()LTrailGuide$Command;"⟩) (hpc : pc = 66) (hd : decode M.2.1 66 = .ok (.invokedynamic 112, 5)) (hw : Nat.ble (rest.map fun v => v.category).sum 6 = true) (hd26 : 26 ≤ d) (hc : 1 ≤ rc) (hs' : 2 ≤ rs) (kk : ∀ q : Nat, ah q = none → zW G M d (rc - 1) (rs - 2) (66 + 5) ls (.ref q :: rest) (z_up ah q (.inl (1018, [.int (zi c0), .int (zi c1)]))) Q) : zW G M d rc rs pc ls (.int (zi c1) :: .int (zi c0) :: rest) ah Q := by
  subst hpc
  refine zr_indy (i := 18) (y := M.1) (σ := zSg19) (vals := [.int (zi c0), .int (zi c1)]) (bytes := zlb18) hd (by rw [hm]; exact z_site19) (by rw [hm]; exact zlB18) q2674 rfl rfl (by decide) rfl ?_ (by have := z_ble hw; simp [Value.category] at *; omega) hd26 hc hs' kk
  · intro q hq
    have hq2 := hq
    simp only [zSg19, List.zip_cons_cons, List.zip_nil_right, List.mem_cons, List.not_mem_nil, or_false] at hq2
    rcases hq2 with rfl | rfl <;> rfl
def zlb19 : ByteArray := ⟨#[42, 180, 0, 16, 42, 180, 0, 18, 43, 184, 0, 26, 172]⟩
theorem zlB19 : zLmB zSg20 "TrailGuide$Parser" zlb19 2 26 22 25 21 [(16, 2, 15), (18, 2, 17)] = true := by decide +kernel
theorem zlm19 {G : State} {M : zMd} {d rc rs pc idx cnt b : Nat} {ls : List (Option Value)} {rest : List Value} {ah : zH} {Q : zRs → zH → Prop} {c0 : Int} {c1 : Int} {p0 : Nat} (hd : decode M.2.1 pc = .ok (.invokeinterface idx cnt, 5)) (hl : Cond.methodLink M.1.cls idx ⟨"TrailGuide$Change", "applyTo", "(LTrailGuide$State;)I"⟩ ∈ lw_all) (hw : Nat.ble (rest.map fun v => v.category).sum 8 = true) (d' mc ms : Nat) (hd' : d' + 2 ≤ d) (hc : mc ≤ rc) (hs' : ms ≤ rs) (hob : ah b = some (.inl (1019, [.int (zi c0), .int (zi c1)]))) (k : zW G mX13_lambda_cutOrCharge_3 d' mc ms 0 (zent ([.int (zi c0), .int (zi c1)] ++ [.ref p0])) [] ah (zQx (zK G M d (rc - mc) (rs - ms) pc 5 ls rest Q) (some .int))) : zW G M d rc rs pc ls (.ref p0 :: .ref b :: rest) ah Q := by
  refine zr_lam (i := 19) (σ := zSg20) (vals := [.int (zi c0), .int (zi c1)]) (as := [.ref p0]) (is := [.aload_n 1]) (bytes := zlb19) (maxL := 2) z_site20 zlB19 (by decide +kernel) rfl (by decide) ?_ rfl ?_ ?_ (Or.inr ⟨_, rfl, (by decide +kernel : decode zlb19 12 = .ok (.ireturn, 1))⟩) (z_ble rfl) hd hl q1108 q1107 (by decide) (by decide +kernel) (show zSig _ 1 from zSig.of (by decide +kernel)) q2674 hX13_lambda_cutOrCharge_3 rfl (by decide +kernel) (z_ble rfl) (z_ble hw) hd' hc hs' rfl (Or.inl hob) rfl (Or.inl ⟨(by decide +kernel : decode zlb19 9 = .ok (.invokestatic 26, 3)), q1957, gX13_lambda_cutOrCharge_3⟩) k
  · intro k hk
    have hk2 : k < 2 := hk
    rcases (show k = 0 ∨ k = 1 by omega) with rfl | rfl <;> exact ⟨by decide +kernel, by decide +kernel⟩
  · intro k hk
    have hk2 : k < 1 := hk
    rcases (show k = 0 by omega) with rfl <;> decide +kernel
  · intro k v h
    rcases (show k = 0 ∨ 1 ≤ k by omega) with rfl | z
    · cases h; exact Or.inr ⟨1, _, rfl, rfl, rfl⟩
    · rw [List.getElem?_eq_none (by simpa using z)] at h; cases h
theorem zln19 {G : State} {M : zMd} {d rc rs pc : Nat} {ls : List (Option Value)} {rest : List Value} {ah : zH} {Q : zRs → zH → Prop} {c0 : Int} {c1 : Int} (hm : M.1 = ⟨"TrailGuide$Parser", "cutOrCharge", "()LTrailGuide$Command;"⟩) (hpc : pc = 29) (hd : decode M.2.1 29 = .ok (.invokedynamic 117, 5)) (hw : Nat.ble (rest.map fun v => v.category).sum 6 = true) (hd26 : 26 ≤ d) (hc : 1 ≤ rc) (hs' : 2 ≤ rs) (kk : ∀ q : Nat, ah q = none → zW G M d (rc - 1) (rs - 2) (29 + 5) ls (.ref q :: rest) (z_up ah q (.inl (1019, [.int (zi c0), .int (zi c1)]))) Q) : zW G M d rc rs pc ls (.int (zi c1) :: .int (zi c0) :: rest) ah Q := by
  subst hpc
  refine zr_indy (i := 19) (y := M.1) (σ := zSg20) (vals := [.int (zi c0), .int (zi c1)]) (bytes := zlb19) hd (by rw [hm]; exact z_site20) (by rw [hm]; exact zlB19) q2674 rfl rfl (by decide) rfl ?_ (by have := z_ble hw; simp [Value.category] at *; omega) hd26 hc hs' kk
  · intro q hq
    have hq2 := hq
    simp only [zSg20, List.zip_cons_cons, List.zip_nil_right, List.mem_cons, List.not_mem_nil, or_false] at hq2
    rcases hq2 with rfl | rfl <;> rfl
def zlb20 : ByteArray := ⟨#[42, 180, 0, 15, 43, 184, 0, 23, 172]⟩
theorem zlB20 : zLmB zSg21 "TrailGuide$Parser" zlb20 2 23 19 22 18 [(15, 2, 14)] = true := by decide +kernel
theorem zlm20 {G : State} {M : zMd} {d rc rs pc idx cnt b : Nat} {ls : List (Option Value)} {rest : List Value} {ah : zH} {Q : zRs → zH → Prop} {c0 : Int} {p0 : Nat} (hd : decode M.2.1 pc = .ok (.invokeinterface idx cnt, 5)) (hl : Cond.methodLink M.1.cls idx ⟨"TrailGuide$Change", "applyTo", "(LTrailGuide$State;)I"⟩ ∈ lw_all) (hw : Nat.ble (rest.map fun v => v.category).sum 8 = true) (d' mc ms : Nat) (hd' : d' + 2 ≤ d) (hc : mc ≤ rc) (hs' : ms ≤ rs) (hob : ah b = some (.inl (1020, [.int (zi c0)]))) (k : zW G mX13_lambda_cutOrCharge_4 d' mc ms 0 (zent ([.int (zi c0)] ++ [.ref p0])) [] ah (zQx (zK G M d (rc - mc) (rs - ms) pc 5 ls rest Q) (some .int))) : zW G M d rc rs pc ls (.ref p0 :: .ref b :: rest) ah Q := by
  refine zr_lam (i := 20) (σ := zSg21) (vals := [.int (zi c0)]) (as := [.ref p0]) (is := [.aload_n 1]) (bytes := zlb20) (maxL := 2) z_site21 zlB20 (by decide +kernel) rfl (by decide) ?_ rfl ?_ ?_ (Or.inr ⟨_, rfl, (by decide +kernel : decode zlb20 8 = .ok (.ireturn, 1))⟩) (z_ble rfl) hd hl q1108 q1107 (by decide) (by decide +kernel) (show zSig _ 1 from zSig.of (by decide +kernel)) q2674 hX13_lambda_cutOrCharge_4 rfl (by decide +kernel) (z_ble rfl) (z_ble hw) hd' hc hs' rfl (Or.inl hob) rfl (Or.inl ⟨(by decide +kernel : decode zlb20 5 = .ok (.invokestatic 23, 3)), q1961, gX13_lambda_cutOrCharge_4⟩) k
  · intro k hk
    have hk2 : k < 1 := hk
    rcases (show k = 0 by omega) with rfl <;> exact ⟨by decide +kernel, by decide +kernel⟩
  · intro k hk
    have hk2 : k < 1 := hk
    rcases (show k = 0 by omega) with rfl <;> decide +kernel
  · intro k v h
    rcases (show k = 0 ∨ 1 ≤ k by omega) with rfl | z
    · cases h; exact Or.inr ⟨1, _, rfl, rfl, rfl⟩
    · rw [List.getElem?_eq_none (by simpa using z)] at h; cases h
theorem zln20 {G : State} {M : zMd} {d rc rs pc : Nat} {ls : List (Option Value)} {rest : List Value} {ah : zH} {Q : zRs → zH → Prop} {c0 : Int} (hm : M.1 = ⟨"TrailGuide$Parser", "cutOrCharge", "()LTrailGuide$Command;"⟩) (hpc : pc = 50) (hd : decode M.2.1 50 = .ok (.invokedynamic 120, 5)) (hw : Nat.ble (rest.map fun v => v.category).sum 7 = true) (hd26 : 26 ≤ d) (hc : 1 ≤ rc) (hs' : 1 ≤ rs) (kk : ∀ q : Nat, ah q = none → zW G M d (rc - 1) (rs - 1) (50 + 5) ls (.ref q :: rest) (z_up ah q (.inl (1020, [.int (zi c0)]))) Q) : zW G M d rc rs pc ls (.int (zi c0) :: rest) ah Q := by
  subst hpc
  refine zr_indy (i := 20) (y := M.1) (σ := zSg21) (vals := [.int (zi c0)]) (bytes := zlb20) hd (by rw [hm]; exact z_site21) (by rw [hm]; exact zlB20) q2674 rfl rfl (by decide) rfl ?_ (by have := z_ble hw; simp [Value.category] at *; omega) hd26 hc hs' kk
  · intro q hq
    have hq2 := hq
    simp only [zSg21, List.zip_cons_cons, List.zip_nil_right, List.mem_cons, List.not_mem_nil, or_false] at hq2
    rcases hq2 with rfl <;> rfl
def zlb21 : ByteArray := ⟨#[42, 180, 0, 15, 43, 184, 0, 23, 172]⟩
theorem zlB21 : zLmB zSg22 "TrailGuide$Parser" zlb21 2 23 19 22 18 [(15, 2, 14)] = true := by decide +kernel
theorem zlm21 {G : State} {M : zMd} {d rc rs pc idx cnt b : Nat} {ls : List (Option Value)} {rest : List Value} {ah : zH} {Q : zRs → zH → Prop} {c0 : Int} {p0 : Nat} (hd : decode M.2.1 pc = .ok (.invokeinterface idx cnt, 5)) (hl : Cond.methodLink M.1.cls idx ⟨"TrailGuide$Change", "applyTo", "(LTrailGuide$State;)I"⟩ ∈ lw_all) (hw : Nat.ble (rest.map fun v => v.category).sum 8 = true) (d' mc ms : Nat) (hd' : d' + 2 ≤ d) (hc : mc ≤ rc) (hs' : ms ≤ rs) (hob : ah b = some (.inl (1021, [.int (zi c0)]))) (k : zW G mX13_lambda_modeOrMove_5 d' mc ms 0 (zent ([.int (zi c0)] ++ [.ref p0])) [] ah (zQx (zK G M d (rc - mc) (rs - ms) pc 5 ls rest Q) (some .int))) : zW G M d rc rs pc ls (.ref p0 :: .ref b :: rest) ah Q := by
  refine zr_lam (i := 21) (σ := zSg22) (vals := [.int (zi c0)]) (as := [.ref p0]) (is := [.aload_n 1]) (bytes := zlb21) (maxL := 2) z_site22 zlB21 (by decide +kernel) rfl (by decide) ?_ rfl ?_ ?_ (Or.inr ⟨_, rfl, (by decide +kernel : decode zlb21 8 = .ok (.ireturn, 1))⟩) (z_ble rfl) hd hl q1108 q1107 (by decide) (by decide +kernel) (show zSig _ 1 from zSig.of (by decide +kernel)) q2674 hX13_lambda_modeOrMove_5 rfl (by decide +kernel) (z_ble rfl) (z_ble hw) hd' hc hs' rfl (Or.inl hob) rfl (Or.inl ⟨(by decide +kernel : decode zlb21 5 = .ok (.invokestatic 23, 3)), q1986, gX13_lambda_modeOrMove_5⟩) k
  · intro k hk
    have hk2 : k < 1 := hk
    rcases (show k = 0 by omega) with rfl <;> exact ⟨by decide +kernel, by decide +kernel⟩
  · intro k hk
    have hk2 : k < 1 := hk
    rcases (show k = 0 by omega) with rfl <;> decide +kernel
  · intro k v h
    rcases (show k = 0 ∨ 1 ≤ k by omega) with rfl | z
    · cases h; exact Or.inr ⟨1, _, rfl, rfl, rfl⟩
    · rw [List.getElem?_eq_none (by simpa using z)] at h; cases h
theorem zln21 {G : State} {M : zMd} {d rc rs pc : Nat} {ls : List (Option Value)} {rest : List Value} {ah : zH} {Q : zRs → zH → Prop} {c0 : Int} (hm : M.1 = ⟨"TrailGuide$Parser", "modeOrMove", "()LTrailGuide$Command;"⟩) (hpc : pc = 31) (hd : decode M.2.1 31 = .ok (.invokedynamic 130, 5)) (hw : Nat.ble (rest.map fun v => v.category).sum 7 = true) (hd26 : 26 ≤ d) (hc : 1 ≤ rc) (hs' : 1 ≤ rs) (kk : ∀ q : Nat, ah q = none → zW G M d (rc - 1) (rs - 1) (31 + 5) ls (.ref q :: rest) (z_up ah q (.inl (1021, [.int (zi c0)]))) Q) : zW G M d rc rs pc ls (.int (zi c0) :: rest) ah Q := by
  subst hpc
  refine zr_indy (i := 21) (y := M.1) (σ := zSg22) (vals := [.int (zi c0)]) (bytes := zlb21) hd (by rw [hm]; exact z_site22) (by rw [hm]; exact zlB21) q2674 rfl rfl (by decide) rfl ?_ (by have := z_ble hw; simp [Value.category] at *; omega) hd26 hc hs' kk
  · intro q hq
    have hq2 := hq
    simp only [zSg22, List.zip_cons_cons, List.zip_nil_right, List.mem_cons, List.not_mem_nil, or_false] at hq2
    rcases hq2 with rfl <;> rfl
def zlb22 : ByteArray := ⟨#[42, 180, 0, 16, 42, 180, 0, 18, 43, 184, 0, 26, 172]⟩
theorem zlB22 : zLmB zSg23 "TrailGuide$Parser" zlb22 2 26 22 25 21 [(16, 2, 15), (18, 2, 17)] = true := by decide +kernel
theorem zlm22 {G : State} {M : zMd} {d rc rs pc idx cnt b : Nat} {ls : List (Option Value)} {rest : List Value} {ah : zH} {Q : zRs → zH → Prop} {c0 : Int} {c1 : Int} {p0 : Nat} (hd : decode M.2.1 pc = .ok (.invokeinterface idx cnt, 5)) (hl : Cond.methodLink M.1.cls idx ⟨"TrailGuide$Change", "applyTo", "(LTrailGuide$State;)I"⟩ ∈ lw_all) (hw : Nat.ble (rest.map fun v => v.category).sum 8 = true) (d' mc ms : Nat) (hd' : d' + 2 ≤ d) (hc : mc ≤ rc) (hs' : ms ≤ rs) (hob : ah b = some (.inl (1022, [.int (zi c0), .int (zi c1)]))) (k : zW G mX13_lambda_modeOrMove_6 d' mc ms 0 (zent ([.int (zi c0), .int (zi c1)] ++ [.ref p0])) [] ah (zQx (zK G M d (rc - mc) (rs - ms) pc 5 ls rest Q) (some .int))) : zW G M d rc rs pc ls (.ref p0 :: .ref b :: rest) ah Q := by
  refine zr_lam (i := 22) (σ := zSg23) (vals := [.int (zi c0), .int (zi c1)]) (as := [.ref p0]) (is := [.aload_n 1]) (bytes := zlb22) (maxL := 2) z_site23 zlB22 (by decide +kernel) rfl (by decide) ?_ rfl ?_ ?_ (Or.inr ⟨_, rfl, (by decide +kernel : decode zlb22 12 = .ok (.ireturn, 1))⟩) (z_ble rfl) hd hl q1108 q1107 (by decide) (by decide +kernel) (show zSig _ 1 from zSig.of (by decide +kernel)) q2674 hX13_lambda_modeOrMove_6 rfl (by decide +kernel) (z_ble rfl) (z_ble hw) hd' hc hs' rfl (Or.inl hob) rfl (Or.inl ⟨(by decide +kernel : decode zlb22 9 = .ok (.invokestatic 26, 3)), q1990, gX13_lambda_modeOrMove_6⟩) k
  · intro k hk
    have hk2 : k < 2 := hk
    rcases (show k = 0 ∨ k = 1 by omega) with rfl | rfl <;> exact ⟨by decide +kernel, by decide +kernel⟩
  · intro k hk
    have hk2 : k < 1 := hk
    rcases (show k = 0 by omega) with rfl <;> decide +kernel
  · intro k v h
    rcases (show k = 0 ∨ 1 ≤ k by omega) with rfl | z
    · cases h; exact Or.inr ⟨1, _, rfl, rfl, rfl⟩
    · rw [List.getElem?_eq_none (by simpa using z)] at h; cases h
theorem zln22 {G : State} {M : zMd} {d rc rs pc : Nat} {ls : List (Option Value)} {rest : List Value} {ah : zH} {Q : zRs → zH → Prop} {c0 : Int} {c1 : Int} (hm : M.1 = ⟨"TrailGuide$Parser", "modeOrMove", "()LTrailGuide$Command;"⟩) (hpc : pc = 60) (hd : decode M.2.1 60 = .ok (.invokedynamic 133, 5)) (hw : Nat.ble (rest.map fun v => v.category).sum 6 = true) (hd26 : 26 ≤ d) (hc : 1 ≤ rc) (hs' : 2 ≤ rs) (kk : ∀ q : Nat, ah q = none → zW G M d (rc - 1) (rs - 2) (60 + 5) ls (.ref q :: rest) (z_up ah q (.inl (1022, [.int (zi c0), .int (zi c1)]))) Q) : zW G M d rc rs pc ls (.int (zi c1) :: .int (zi c0) :: rest) ah Q := by
  subst hpc
  refine zr_indy (i := 22) (y := M.1) (σ := zSg23) (vals := [.int (zi c0), .int (zi c1)]) (bytes := zlb22) hd (by rw [hm]; exact z_site23) (by rw [hm]; exact zlB22) q2674 rfl rfl (by decide) rfl ?_ (by have := z_ble hw; simp [Value.category] at *; omega) hd26 hc hs' kk
  · intro q hq
    have hq2 := hq
    simp only [zSg23, List.zip_cons_cons, List.zip_nil_right, List.mem_cons, List.not_mem_nil, or_false] at hq2
    rcases hq2 with rfl | rfl <;> rfl
def zlb23 : ByteArray := ⟨#[42, 180, 0, 15, 43, 184, 0, 23, 172]⟩
theorem zlB23 : zLmB zSg24 "TrailGuide$Parser" zlb23 2 23 19 22 18 [(15, 2, 14)] = true := by decide +kernel
theorem zlm23 {G : State} {M : zMd} {d rc rs pc idx cnt b : Nat} {ls : List (Option Value)} {rest : List Value} {ah : zH} {Q : zRs → zH → Prop} {c0 : Int} {p0 : Nat} (hd : decode M.2.1 pc = .ok (.invokeinterface idx cnt, 5)) (hl : Cond.methodLink M.1.cls idx ⟨"TrailGuide$Change", "applyTo", "(LTrailGuide$State;)I"⟩ ∈ lw_all) (hw : Nat.ble (rest.map fun v => v.category).sum 8 = true) (d' mc ms : Nat) (hd' : d' + 2 ≤ d) (hc : mc ≤ rc) (hs' : ms ≤ rs) (hob : ah b = some (.inl (1023, [.int (zi c0)]))) (k : zW G mX13_lambda_limited_7 d' mc ms 0 (zent ([.int (zi c0)] ++ [.ref p0])) [] ah (zQx (zK G M d (rc - mc) (rs - ms) pc 5 ls rest Q) (some .int))) : zW G M d rc rs pc ls (.ref p0 :: .ref b :: rest) ah Q := by
  refine zr_lam (i := 23) (σ := zSg24) (vals := [.int (zi c0)]) (as := [.ref p0]) (is := [.aload_n 1]) (bytes := zlb23) (maxL := 2) z_site24 zlB23 (by decide +kernel) rfl (by decide) ?_ rfl ?_ ?_ (Or.inr ⟨_, rfl, (by decide +kernel : decode zlb23 8 = .ok (.ireturn, 1))⟩) (z_ble rfl) hd hl q1108 q1107 (by decide) (by decide +kernel) (show zSig _ 1 from zSig.of (by decide +kernel)) q2674 hX13_lambda_limited_7 rfl (by decide +kernel) (z_ble rfl) (z_ble hw) hd' hc hs' rfl (Or.inl hob) rfl (Or.inl ⟨(by decide +kernel : decode zlb23 5 = .ok (.invokestatic 23, 3)), q1998, gX13_lambda_limited_7⟩) k
  · intro k hk
    have hk2 : k < 1 := hk
    rcases (show k = 0 by omega) with rfl <;> exact ⟨by decide +kernel, by decide +kernel⟩
  · intro k hk
    have hk2 : k < 1 := hk
    rcases (show k = 0 by omega) with rfl <;> decide +kernel
  · intro k v h
    rcases (show k = 0 ∨ 1 ≤ k by omega) with rfl | z
    · cases h; exact Or.inr ⟨1, _, rfl, rfl, rfl⟩
    · rw [List.getElem?_eq_none (by simpa using z)] at h; cases h
theorem zln23 {G : State} {M : zMd} {d rc rs pc : Nat} {ls : List (Option Value)} {rest : List Value} {ah : zH} {Q : zRs → zH → Prop} {c0 : Int} (hm : M.1 = ⟨"TrailGuide$Parser", "limited", "()LTrailGuide$Command;"⟩) (hpc : pc = 12) (hd : decode M.2.1 12 = .ok (.invokedynamic 136, 5)) (hw : Nat.ble (rest.map fun v => v.category).sum 7 = true) (hd26 : 26 ≤ d) (hc : 1 ≤ rc) (hs' : 1 ≤ rs) (kk : ∀ q : Nat, ah q = none → zW G M d (rc - 1) (rs - 1) (12 + 5) ls (.ref q :: rest) (z_up ah q (.inl (1023, [.int (zi c0)]))) Q) : zW G M d rc rs pc ls (.int (zi c0) :: rest) ah Q := by
  subst hpc
  refine zr_indy (i := 23) (y := M.1) (σ := zSg24) (vals := [.int (zi c0)]) (bytes := zlb23) hd (by rw [hm]; exact z_site24) (by rw [hm]; exact zlB23) q2674 rfl rfl (by decide) rfl ?_ (by have := z_ble hw; simp [Value.category] at *; omega) hd26 hc hs' kk
  · intro q hq
    have hq2 := hq
    simp only [zSg24, List.zip_cons_cons, List.zip_nil_right, List.mem_cons, List.not_mem_nil, or_false] at hq2
    rcases hq2 with rfl <;> rfl
def zlb24 : ByteArray := ⟨#[43, 184, 0, 17, 172]⟩
theorem zlB24 : zLmB zSg25 "TrailGuide$Parser" zlb24 2 17 14 16 13 [] = true := by decide +kernel
theorem zlm24 {G : State} {M : zMd} {d rc rs pc idx cnt b : Nat} {ls : List (Option Value)} {rest : List Value} {ah : zH} {Q : zRs → zH → Prop} {p0 : Nat} (hd : decode M.2.1 pc = .ok (.invokeinterface idx cnt, 5)) (hl : Cond.methodLink M.1.cls idx ⟨"TrailGuide$Change", "applyTo", "(LTrailGuide$State;)I"⟩ ∈ lw_all) (hw : Nat.ble (rest.map fun v => v.category).sum 8 = true) (d' mc ms : Nat) (hd' : d' + 2 ≤ d) (hc : mc ≤ rc) (hs' : ms ≤ rs) (hob : b = zLa G 24) (k : zW G mX13_lambda_stopped_8 d' mc ms 0 (zent ([] ++ [.ref p0])) [] ah (zQx (zK G M d (rc - mc) (rs - ms) pc 5 ls rest Q) (some .int))) : zW G M d rc rs pc ls (.ref p0 :: .ref b :: rest) ah Q := by
  refine zr_lam (i := 24) (σ := zSg25) (vals := []) (as := [.ref p0]) (is := [.aload_n 1]) (bytes := zlb24) (maxL := 2) z_site25 zlB24 (by decide +kernel) rfl (by decide) ?_ rfl ?_ ?_ (Or.inr ⟨_, rfl, (by decide +kernel : decode zlb24 4 = .ok (.ireturn, 1))⟩) (z_ble rfl) hd hl q1108 q1107 (by decide) (by decide +kernel) (show zSig _ 1 from zSig.of (by decide +kernel)) q2674 hX13_lambda_stopped_8 rfl (by decide +kernel) (z_ble rfl) (z_ble hw) hd' hc hs' rfl (Or.inr ⟨hob, rfl⟩) rfl (Or.inl ⟨(by decide +kernel : decode zlb24 1 = .ok (.invokestatic 17, 3)), q2006, gX13_lambda_stopped_8⟩) k
  · exact fun k hk => absurd hk (Nat.not_lt_zero k)
  · intro k hk
    have hk2 : k < 1 := hk
    rcases (show k = 0 by omega) with rfl <;> decide +kernel
  · intro k v h
    rcases (show k = 0 ∨ 1 ≤ k by omega) with rfl | z
    · cases h; exact Or.inr ⟨1, _, rfl, rfl, rfl⟩
    · rw [List.getElem?_eq_none (by simpa using z)] at h; cases h
theorem zln24 {G : State} {M : zMd} {d rc rs pc : Nat} {ls : List (Option Value)} {rest : List Value} {ah : zH} {Q : zRs → zH → Prop} (hm : M.1 = ⟨"TrailGuide$Parser", "stopped", "()LTrailGuide$Command;"⟩) (hpc : pc = 10) (hd : decode M.2.1 10 = .ok (.invokedynamic 139, 5)) (hw : Nat.ble (rest.map fun v => v.category).sum 8 = true) (hd26 : 26 ≤ d) (kk : zW G M d rc rs (10 + 5) ls (.ref (zLa G 24) :: rest) ah Q) : zW G M d rc rs pc ls rest ah Q := by
  subst hpc
  exact zr_indy0 (i := 24) (σ := zSg25) hd (by rw [hm]; exact z_site25) rfl (z_ble hw) hd26 kk
