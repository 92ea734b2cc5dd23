set_option maxRecDepth 100000
/-! ===== the component: visits, distances ===== -/
/-- the first i on with t -/
def pFw (t : Int → Bool) : Nat → Int → Int
  | 0, _ => -1
  | k + 1, i => if t i = true then i else pFw t k (i + 1)
theorem kX2_firstWaypointL {G : State} {d rc rs : Nat} {ah : zH} {Q : zRs → zH → Prop} {F U : Nat → Prop} {a w e n l : Nat} {s : Int → Int} {mc : Int} {f g : Nat → Value} {ps : List Nat} {tv : Value} (H : zSt G F U ah a s w e n mc f ps l g tv) (hV : pV s) {b : Nat} {t : Int → Bool} (hd : 2 ≤ d) (hcl : ∀ (i : Int) (ls : List (Option Value)), 0 ≤ i → i < s 0 → zW G mX2_firstWaypoint d rc rs (12 + 5) ls [.int (zi (zB (t i)))] ah Q → zW G mX2_firstWaypoint d rc rs 12 ls [.int (zi i), .ref b] ah Q) (n9 : Nat) : ∀ (i : Nat), ((i + n9 : Nat) : Int) = s 0 → (Q (.inl (some (.int (zi (pFw t n9 i))))) ah) → zW G mX2_firstWaypoint d rc rs 2 [some (.ref a), some (.ref b), some (.int (zi ((i : Nat) : Int)))] [] ah Q := by
  induction n9 with
  | zero =>
    intro i g1 k
    have vv := hV.h
    refine zr_iload_n dX2_firstWaypoint_2 rfl ?_
    refine zr_aload_n dX2_firstWaypoint_3 rfl rfl ?_
    refine zc_v0 dX2_firstWaypoint_4 hX2_size gX2_size rfl rfl 1 0 0 (by omega) (Nat.zero_le _) (Nat.zero_le _) q336 q307 q308 H.rc ?_
    refine kX2_size H (by omega) (zK_i ?_)
    refine zr_icmpge dX2_firstWaypoint_7 (tgt := 28) (by decide) (by omega) (by omega) (fun h7 => ?_) (fun h7 => ?_)
    · refine zr_iconst dX2_firstWaypoint_28 ?_
      refine zr_ireturn dX2_firstWaypoint_29 rfl (by first | rfl | exact z_nb _) ?_
      exact k
    · exfalso; omega
  | succ n9 ih =>
    intro i g1 k
    have vv := hV.h
    unfold pFw at k
    refine zr_iload_n dX2_firstWaypoint_2 rfl ?_
    refine zr_aload_n dX2_firstWaypoint_3 rfl rfl ?_
    refine zc_v0 dX2_firstWaypoint_4 hX2_size gX2_size rfl rfl 1 0 0 (by omega) (Nat.zero_le _) (Nat.zero_le _) q336 q307 q308 H.rc ?_
    refine kX2_size H (by omega) (zK_i ?_)
    refine zr_icmpge dX2_firstWaypoint_7 (tgt := 28) (by decide) (by omega) (by omega) (fun h7 => ?_) (fun h7 => ?_)
    · exfalso; omega
    · refine zr_aload_n dX2_firstWaypoint_10 rfl rfl ?_
      refine zr_iload_n dX2_firstWaypoint_11 rfl ?_
      refine hcl _ _ (by omega) (by omega) ?_
      refine zr_ifeqB dX2_firstWaypoint_17 (tgt := 22) (by decide) (fun h17 => ?_) (fun h17 => ?_)
      · rw [if_neg (by rw [h17]; decide)] at k
        refine zr_iinc dX2_firstWaypoint_22 rfl (by decide) (zs3_2 rfl ?_)
        refine zr_goto dX2_firstWaypoint_25 (tgt := 2) (by decide) ?_
        exact ih (i + 1) (by omega) k
      · refine zr_iload_n dX2_firstWaypoint_20 rfl ?_
        refine zr_ireturn dX2_firstWaypoint_21 rfl (by first | rfl | exact z_nb _) ?_
        rw [if_pos h17] at k
        exact k
theorem kX2_firstWaypoint {G : State} {d rc rs : Nat} {ah : zH} {Q : zRs → zH → Prop} {F U : Nat → Prop} {a w e n l : Nat} {s : Int → Int} {mc : Int} {f g : Nat → Value} {ps : List Nat} {tv : Value} (H : zSt G F U ah a s w e n mc f ps l g tv) (hV : pV s) {b : Nat} {t : Int → Bool} (hd : 2 ≤ d) (hcl : ∀ (i : Int) (ls : List (Option Value)), 0 ≤ i → i < s 0 → zW G mX2_firstWaypoint d rc rs (12 + 5) ls [.int (zi (zB (t i)))] ah Q → zW G mX2_firstWaypoint d rc rs 12 ls [.int (zi i), .ref b] ah Q) (k : Q (.inl (some (.int (zi (pFw t (s 0).toNat 0))))) ah) : zW G mX2_firstWaypoint d rc rs 0 (zent [.ref a, .ref b]) [] ah Q := by
  refine zW_open 1 [some (.ref a), some (.ref b), none] rfl ?_
  refine zr_iconst dX2_firstWaypoint_0 ?_
  refine zr_istore_n dX2_firstWaypoint_1 (by decide) (zs3_2 rfl ?_)
  have vv := hV.h
  exact kX2_firstWaypointL H hV hd hcl (s 0).toNat 0 (by omega) k
theorem kX2_visitTrailsL {G : State} {d : Nat} {Q : zRs → zH → Prop} {F U : Nat → Prop} {a w e n l : Nat} {s : Int → Int} {mc : Int} {f g : Nat → Value} {ps : List Nat} {tv : Value} {b c9 s9 : Nat} {x : Int} {I : Int → zH → Prop} (hV : pV s) (hx : pR x) (hd : 2 ≤ d) (hI : ∀ k h, I k h → zSt G F U h a s w e n mc f ps l g tv) (hsk : ∀ k h, 0 ≤ k → k < s 0 → ¬ 0 < pTr s x k → I k h → I (k + 1) h) (hcl : ∀ (k : Int) (h : zH) (rc rs : Nat) (ls : List (Option Value)) (Q : zRs → zH → Prop), 0 ≤ k → k < s 0 → 0 < pTr s x k → I k h → c9 ≤ rc → s9 ≤ rs → (∀ h9, I (k + 1) h9 → zW G mX2_visitTrails d (rc - c9) (rs - s9) (27 + 5) ls [] h9 Q) → zW G mX2_visitTrails d rc rs 27 ls [.int (zi (pTr s x k)), .int (zi k), .ref b] h Q) (n9 : Nat) : ∀ (i rc rs : Nat) (ah : zH), ((i + n9 : Nat) : Int) = s 0 → n9 * c9 ≤ rc → n9 * s9 ≤ rs → I i ah → (∀ h9, I (s 0) h9 → Q (.inl none) h9) → zW G mX2_visitTrails d rc rs 2 [some (.ref a), some (.int (zi x)), some (.ref b), some (.int (zi ((i : Nat) : Int)))] [] ah Q := by
  induction n9 with
  | zero =>
    intro i rc rs ah g1 g2 g3 g4 k
    have vv := hV.h
    have H := hI _ _ g4
    refine zr_iload_n dX2_visitTrails_2 rfl ?_
    refine zr_aload_n dX2_visitTrails_3 rfl rfl ?_
    refine zc_v0 dX2_visitTrails_4 hX2_size gX2_size rfl rfl 1 0 0 (by omega) (Nat.zero_le _) (Nat.zero_le _) q336 q307 q308 H.rc ?_
    refine kX2_size H (by omega) (zK_i ?_)
    refine zr_icmpge dX2_visitTrails_7 (tgt := 38) (by decide) (by omega) (by omega) (fun h7 => ?_) (fun h7 => ?_)
    · refine zr_return dX2_visitTrails_38 rfl ?_
      rw [show ((i : Nat) : Int) = s 0 by omega] at g4
      exact k _ g4
    · exfalso; omega
  | succ n9 ih =>
    intro i rc rs ah g1 g2 g3 g4 k
    have vv := hV.h
    have H := hI _ _ g4
    refine zr_iload_n dX2_visitTrails_2 rfl ?_
    refine zr_aload_n dX2_visitTrails_3 rfl rfl ?_
    refine zc_v0 dX2_visitTrails_4 hX2_size gX2_size rfl rfl 1 0 0 (by omega) (Nat.zero_le _) (Nat.zero_le _) q336 q307 q308 H.rc ?_
    refine kX2_size H (by omega) (zK_i ?_)
    refine zr_icmpge dX2_visitTrails_7 (tgt := 38) (by decide) (by omega) (by omega) (fun h7 => ?_) (fun h7 => ?_)
    · exfalso; omega
    · refine zr_aload_n dX2_visitTrails_10 rfl rfl ?_
      refine zr_iload_n dX2_visitTrails_11 rfl ?_
      refine zr_iload_n dX2_visitTrails_12 rfl ?_
      refine zc_v2 dX2_visitTrails_13 hX2_lengthOf gX2_lengthOf rfl rfl 0 0 0 (by omega) (Nat.zero_le _) (Nat.zero_le _) q345 q346 q347 H.rc ?_
      refine kX2_lengthOf H (by first | assumption | exact ⟨by omega, by omega⟩) (by first | assumption | exact ⟨by omega, by omega⟩) (zK_i ?_)
      have hb := hV.tr (a := x) (b := (i : Int)) hx ⟨by omega, by omega⟩
      refine zr_ifle dX2_visitTrails_16 (tgt := 32) (by decide) (by omega) (fun h16 => ?_) (fun h16 => ?_)
      · rw [Nat.succ_mul] at g2 g3
        refine zr_iinc dX2_visitTrails_32 rfl (by decide) (zs4_3 rfl ?_)
        refine zr_goto dX2_visitTrails_35 (tgt := 2) (by decide) ?_
        exact ih (i + 1) _ _ ah (by omega) (by show n9 * c9 ≤ rc; omega) (by show n9 * s9 ≤ rs; omega) (hsk _ _ (by omega) (by omega) (by omega) g4) k
      · refine zr_aload_n dX2_visitTrails_19 rfl rfl ?_
        refine zr_iload_n dX2_visitTrails_20 rfl ?_
        refine zr_aload_n dX2_visitTrails_21 rfl rfl ?_
        refine zr_iload_n dX2_visitTrails_22 rfl ?_
        refine zr_iload_n dX2_visitTrails_23 rfl ?_
        refine zc_v2 dX2_visitTrails_24 hX2_lengthOf gX2_lengthOf rfl rfl 0 0 0 (by omega) (Nat.zero_le _) (Nat.zero_le _) q345 q346 q347 H.rc ?_
        refine kX2_lengthOf H (by first | assumption | exact ⟨by omega, by omega⟩) (by first | assumption | exact ⟨by omega, by omega⟩) (zK_i ?_)
        rw [Nat.succ_mul] at g2 g3
        refine hcl _ _ _ _ _ _ (by omega) (by omega) (by omega) g4 (by omega) (by omega) (fun h9 h10 => ?_)
        refine zr_iinc dX2_visitTrails_32 rfl (by decide) (zs4_3 rfl ?_)
        refine zr_goto dX2_visitTrails_35 (tgt := 2) (by decide) ?_
        exact ih (i + 1) _ _ h9 (by omega) (by omega) (by omega) h10 k
theorem kX2_visitTrails {G : State} {d rc rs : Nat} {Q : zRs → zH → Prop} {ah : zH} {F U : Nat → Prop} {a w e n l : Nat} {s : Int → Int} {mc : Int} {f g : Nat → Value} {ps : List Nat} {tv : Value} {b : Nat} (c9 s9 : Nat) {x : Int} (I : Int → zH → Prop) (hV : pV s) (hx : pR x) (hd : 2 ≤ d) (hc : 12 * c9 ≤ rc) (hs : 12 * s9 ≤ rs) (hI : ∀ k h, I k h → zSt G F U h a s w e n mc f ps l g tv) (hsk : ∀ k h, 0 ≤ k → k < s 0 → ¬ 0 < pTr s x k → I k h → I (k + 1) h) (hcl : ∀ (k : Int) (h : zH) (rc rs : Nat) (ls : List (Option Value)) (Q : zRs → zH → Prop), 0 ≤ k → k < s 0 → 0 < pTr s x k → I k h → c9 ≤ rc → s9 ≤ rs → (∀ h9, I (k + 1) h9 → zW G mX2_visitTrails d (rc - c9) (rs - s9) (27 + 5) ls [] h9 Q) → zW G mX2_visitTrails d rc rs 27 ls [.int (zi (pTr s x k)), .int (zi k), .ref b] h Q) (h0 : I 0 ah) (k : ∀ h9, I (s 0) h9 → Q (.inl none) h9) : zW G mX2_visitTrails d rc rs 0 (zent [.ref a, .int (zi x), .ref b]) [] ah Q := by
  refine zW_open 1 [some (.ref a), some (.int (zi x)), some (.ref b), none] rfl ?_
  refine zr_iconst dX2_visitTrails_0 ?_
  refine zr_istore_n dX2_visitTrails_1 (by decide) (zs4_3 rfl ?_)
  have vv := hV.h
  have m1 : (s 0).toNat * c9 ≤ 12 * c9 := Nat.mul_le_mul_right _ (by omega)
  have m2 : (s 0).toNat * s9 ≤ 12 * s9 := Nat.mul_le_mul_right _ (by omega)
  exact kX2_visitTrailsL hV hx hd hI hsk hcl (s 0).toNat 0 _ _ ah (by omega) (by omega) (by omega) h0 k
theorem kX2_lambda_distancesFrom_0 {G : State} {d rc rs : Nat} {ah : zH} {Q : zRs → zH → Prop} {r : Nat} {v : Int → Int} {g : Nat → Value} (hr : ah r = some (.inr (.int, 12, g))) (he : ∀ j : Nat, j < 12 → g j = .int (zi (v j))) {y i x : Int} (hi : pR i) (bx : -2147483648 ≤ y + x ∧ y + x ≤ 2147483647) (bv : -2147483648 ≤ v i ∧ v i ≤ 2147483647) (hd : 2 ≤ d) (k : Q (.inl none) (z_up ah r (.inr (.int, 12, z_upV g i.toNat (.int (zi (min (v i) (y + x)))))))) : zW G mX2_lambda_distancesFrom_0 d rc rs 0 (zent [.ref r, .int (zi y), .int (zi i), .int (zi x)]) [] ah Q := by
  refine zW_open 0 [some (.ref r), some (.int (zi y)), some (.int (zi i)), some (.int (zi x))] rfl ?_
  refine zr_aload_n dX2_lambda_distancesFrom_0_0 rfl rfl ?_
  refine zr_iload_n dX2_lambda_distancesFrom_0_1 rfl ?_
  refine zr_iload_n dX2_lambda_distancesFrom_0_2 rfl ?_
  refine zr_iload_n dX2_lambda_distancesFrom_0_3 rfl ?_
  refine zr_iadd dX2_lambda_distancesFrom_0_4 ?_
  refine zc_s3 dX2_lambda_distancesFrom_0_5 hX2_shorten gX2_shorten rfl rfl 1 0 0 (by omega) (Nat.zero_le _) (Nat.zero_le _) q430 q431 ?_
  refine kX2_shorten hr he hi bx bv (by omega) (zK_v ?_)
  refine zr_return dX2_lambda_distancesFrom_0_8 rfl ?_
  exact k
theorem kX2_lambda_distancesByRelaxation_1 {G : State} {d rc rs : Nat} {ah : zH} {Q : zRs → zH → Prop} {r : Nat} {v : Int → Int} {g : Nat → Value} (hr : ah r = some (.inr (.int, 12, g))) (he : ∀ j : Nat, j < 12 → g j = .int (zi (v j))) {y i x : Int} (hi : pR i) (bx : -2147483648 ≤ y + x ∧ y + x ≤ 2147483647) (bv : -2147483648 ≤ v i ∧ v i ≤ 2147483647) (hd : 2 ≤ d) (k : Q (.inl none) (z_up ah r (.inr (.int, 12, z_upV g i.toNat (.int (zi (min (v i) (y + x)))))))) : zW G mX2_lambda_distancesByRelaxation_1 d rc rs 0 (zent [.ref r, .int (zi y), .int (zi i), .int (zi x)]) [] ah Q := by
  refine zW_open 0 [some (.ref r), some (.int (zi y)), some (.int (zi i)), some (.int (zi x))] rfl ?_
  refine zr_aload_n dX2_lambda_distancesByRelaxation_1_0 rfl rfl ?_
  refine zr_iload_n dX2_lambda_distancesByRelaxation_1_1 rfl ?_
  refine zr_iload_n dX2_lambda_distancesByRelaxation_1_2 rfl ?_
  refine zr_iload_n dX2_lambda_distancesByRelaxation_1_3 rfl ?_
  refine zr_iadd dX2_lambda_distancesByRelaxation_1_4 ?_
  refine zc_s3 dX2_lambda_distancesByRelaxation_1_5 hX2_shorten gX2_shorten rfl rfl 1 0 0 (by omega) (Nat.zero_le _) (Nat.zero_le _) q430 q431 ?_
  refine kX2_shorten hr he hi bx bv (by omega) (zK_v ?_)
  refine zr_return dX2_lambda_distancesByRelaxation_1_8 rfl ?_
  exact k
/-- the visit under way -/
def zVI (s : Int → Int) (ahB : zH) (r b : Nat) (ci : Nat) (x y : Int) (v : Int → Int) (P : zH → Prop) (k : Int) (h : zH) : Prop := zGr ahB h ∧ zA12 h r (pVis s k x y v) ∧ h b = some (.inl (ci, [.ref r, .int (zi y)])) ∧ P h
theorem kX2_visD {G : State} {d rc rs : Nat} {Q : zRs → zH → Prop} {ah ahB : zH} {F U : Nat → Prop} {a w e n l : Nat} {s : Int → Int} {mc : Int} {f g : Nat → Value} {ps : List Nat} {tv : Value} {b r : Nat} {x y : Int} {v : Int → Int} (P : zH → Prop) (H : zSt G F U ahB a s w e n mc f ps l g tv) (hV : pV s) (hx : pR x) (hd : 5 ≤ d) (hr0 : ahB r = none) (hv : ∀ j, pR j → 0 ≤ v j ∧ v j ≤ 1000000) (hy : 0 ≤ y ∧ y ≤ 1000000) (hP : ∀ h o, P h → P (z_up h r o)) (h1 : zGr ahB ah) (h2 : zA12 ah r v) (h3 : ah b = some (.inl (1002, [.ref r, .int (zi y)]))) (h4 : P ah) (k : ∀ h9, zGr ahB h9 → zA12 h9 r (pVis s (s 0) x y v) → P h9 → Q (.inl none) h9) : zW G mX2_visitTrails d rc rs 0 (zent [.ref a, .int (zi x), .ref b]) [] ah Q := by
  have vv := hV.h
  refine kX2_visitTrails 0 0 (zVI s ahB r b 1002 x y v P) hV hx (by omega) (by omega) (by omega) (fun k h hI => H.gr hI.1) (fun k h k0 k1 kt hI => ?_) (fun k h rc rs ls Q k0 k1 kt hI c1 c2 kk => ?_) ⟨h1, by rw [pVis_0]; exact h2, h3, h4⟩ (fun h9 hI => k h9 hI.1 hI.2.1 hI.2.2.2)
  · refine ⟨hI.1, ?_, hI.2.2⟩
    rw [← pVis_k kt]
    exact hI.2.1
  · obtain ⟨i1, ⟨gr, i2, i3⟩, i4, i5⟩ := hI
    have hkr : pR k := ⟨k0, by omega⟩
    have tb := hV.tr hx hkr
    have hvk := hv k hkr
    have hvb : -2147483648 ≤ pVis s k x y v k ∧ pVis s k x y v k ≤ 2147483647 := by
      rcases pVis_or (s := s) (n := k) (w := x) (b := y) (f := v) k with z | ⟨z1, z2, z3⟩
      · rw [z]; omega
      · rw [z2]; omega
    refine zlm2 dX2_visitTrails_27 q441 rfl 2 0 0 (by omega) (Nat.zero_le _) (Nat.zero_le _) i4 ?_
    refine kX2_lambda_distancesFrom_0 i2 i3 hkr (by omega) hvb (by omega) ⟨zK_v ?_, rfl⟩
    refine kk _ ⟨i1.tu hr0, ?_, ?_, hP _ _ i5⟩
    · rw [← pVis_s k0 kt]
      exact z12u i3 hkr
    · rw [z_up_n (fun z => by rw [z, i2] at i4; cases i4)]
      exact i4
theorem kX2_visR {G : State} {d rc rs : Nat} {Q : zRs → zH → Prop} {ah ahB : zH} {F U : Nat → Prop} {a w e n l : Nat} {s : Int → Int} {mc : Int} {f g : Nat → Value} {ps : List Nat} {tv : Value} {b r : Nat} {x y : Int} {v : Int → Int} (P : zH → Prop) (H : zSt G F U ahB a s w e n mc f ps l g tv) (hV : pV s) (hx : pR x) (hd : 5 ≤ d) (hr0 : ahB r = none) (hv : ∀ j, pR j → 0 ≤ v j ∧ v j ≤ 1000000) (hy : 0 ≤ y ∧ y ≤ 1000000) (hP : ∀ h o, P h → P (z_up h r o)) (h1 : zGr ahB ah) (h2 : zA12 ah r v) (h3 : ah b = some (.inl (1003, [.ref r, .int (zi y)]))) (h4 : P ah) (k : ∀ h9, zGr ahB h9 → zA12 h9 r (pVis s (s 0) x y v) → P h9 → Q (.inl none) h9) : zW G mX2_visitTrails d rc rs 0 (zent [.ref a, .int (zi x), .ref b]) [] ah Q := by
  have vv := hV.h
  refine kX2_visitTrails 0 0 (zVI s ahB r b 1003 x y v P) hV hx (by omega) (by omega) (by omega) (fun k h hI => H.gr hI.1) (fun k h k0 k1 kt hI => ?_) (fun k h rc rs ls Q k0 k1 kt hI c1 c2 kk => ?_) ⟨h1, by rw [pVis_0]; exact h2, h3, h4⟩ (fun h9 hI => k h9 hI.1 hI.2.1 hI.2.2.2)
  · refine ⟨hI.1, ?_, hI.2.2⟩
    rw [← pVis_k kt]
    exact hI.2.1
  · obtain ⟨i1, ⟨gr, i2, i3⟩, i4, i5⟩ := hI
    have hkr : pR k := ⟨k0, by omega⟩
    have tb := hV.tr hx hkr
    have hvk := hv k hkr
    have hvb : -2147483648 ≤ pVis s k x y v k ∧ pVis s k x y v k ≤ 2147483647 := by
      rcases pVis_or (s := s) (n := k) (w := x) (b := y) (f := v) k with z | ⟨z1, z2, z3⟩
      · rw [z]; omega
      · rw [z2]; omega
    refine zlm3 dX2_visitTrails_27 q441 rfl 2 0 0 (by omega) (Nat.zero_le _) (Nat.zero_le _) i4 ?_
    refine kX2_lambda_distancesByRelaxation_1 i2 i3 hkr (by omega) hvb (by omega) ⟨zK_v ?_, rfl⟩
    refine kk _ ⟨i1.tu hr0, ?_, ?_, hP _ _ i5⟩
    · rw [← pVis_s k0 kt]
      exact z12u i3 hkr
    · rw [z_up_n (fun z => by rw [z, i2] at i4; cases i4)]
      exact i4
theorem pDj.step' {s : Int → Int} {src : Int} {f : Int → Int} {dn : Int → Bool} {w : Int} (h : pDj s src f dn w) (hV : pV s) (hY : pSy s) (hs : pR src) : pDn s src (pVis s (s 0) w (f w) f) (z_upB dn w true) := pDn.step hV hY hs h
theorem kX2_distancesFromL {G : State} {d : Nat} {Q : zRs → zH → Prop} {ahB : zH} {F U : Nat → Prop} {a w e n l : Nat} {s : Int → Int} {mc : Int} {f g : Nat → Value} {ps : List Nat} {tv : Value} {r t : Nat} {p : Int} (H : zSt G F U ahB a s w e n mc f ps l g tv) (hV : pV s) (hY : pSy s) (hp : pR p) (hp0 : p < s 0) (hd : 26 ≤ d) (hr0 : ahB r = none) (ht0 : ahB t = none) (hrt : r ≠ t) (n9 : Nat) : ∀ (rc rs : Nat) (ah : zH) (v : Int → Int) (dn : Int → Bool) (x : Int) (J : Option Value), zGr ahB ah → zA12 ah r v → zB12 ah t dn → ((x = -1 ∧ pDist 1000000 s p v) ∨ (x ≠ -1 ∧ pDj s p v dn x)) → pLf dn ≤ n9 → n9 ≤ rc → 2 * n9 ≤ rs → (∀ ah9 v9, zGr ahB ah9 → zA12 ah9 r v9 → pDist 1000000 s p v9 → Q (.inl (some (.ref r))) ah9) → zW G mX2_distancesFrom d rc rs 14 [some (.ref a), some (.int (zi p)), some (.ref r), some (.ref t), some (.int (zi x)), J] [] ah Q := by
  induction n9 with
  | zero =>
    intro rc rs ah v dn x J g1 g2 g3 g4 g5 g6 g7 k
    have vv := hV.h
    have hxb : -1 ≤ x ∧ x < 12 := by
      rcases g4 with ⟨e1, _⟩ | ⟨_, e2⟩
      · omega
      · have := e2.2.1.1; have := e2.2.1.2; omega
    refine zr_iload dX2_distancesFrom_14 rfl ?_
    refine zr_iconst dX2_distancesFrom_16 ?_
    refine zr_icmpeq dX2_distancesFrom_17 (tgt := 56) (by decide) (by omega) (by decide) (fun h17 => ?_) (fun h17 => ?_)
    · refine zr_aload_n dX2_distancesFrom_56 rfl rfl ?_
      refine zr_areturn dX2_distancesFrom_57 rfl rfl rfl ?_
      rcases g4 with ⟨e1, e2⟩ | ⟨e1, e2⟩
      · exact k ah v g1 g2 e2
      · exact absurd h17 e1
    · exfalso
      rcases g4 with ⟨e1, e2⟩ | ⟨e1, e2⟩
      · exact h17 e1
      · have := pLf_up e2.2.1 e2.2.2.2.1
        have := pLf_b (dn := z_upB dn x true)
        omega
  | succ n9 ih =>
    intro rc rs ah v dn x J g1 g2 g3 g4 g5 g6 g7 k
    have vv := hV.h
    have hxb : -1 ≤ x ∧ x < 12 := by
      rcases g4 with ⟨e1, _⟩ | ⟨_, e2⟩
      · omega
      · have := e2.2.1.1; have := e2.2.1.2; omega
    refine zr_iload dX2_distancesFrom_14 rfl ?_
    refine zr_iconst dX2_distancesFrom_16 ?_
    refine zr_icmpeq dX2_distancesFrom_17 (tgt := 56) (by decide) (by omega) (by decide) (fun h17 => ?_) (fun h17 => ?_)
    · refine zr_aload_n dX2_distancesFrom_56 rfl rfl ?_
      refine zr_areturn dX2_distancesFrom_57 rfl rfl rfl ?_
      rcases g4 with ⟨e1, e2⟩ | ⟨e1, e2⟩
      · exact k ah v g1 g2 e2
      · exact absurd h17 e1
    · obtain hJ : pDj s p v dn x := by
        rcases g4 with ⟨e1, e2⟩ | ⟨e1, e2⟩
        · exact absurd e1 h17
        · exact e2
      have hxr : pR x := hJ.2.1
      obtain ⟨x0, x1⟩ := id hxr
      have hv := hJ.1.1.2.1
      obtain ⟨gt, t1, t2⟩ := g3
      refine zr_aload_n dX2_distancesFrom_20 rfl rfl ?_
      refine zr_iload dX2_distancesFrom_21 rfl ?_
      refine zr_iconst dX2_distancesFrom_23 ?_
      refine zr_zastore dX2_distancesFrom_24 t1 (by decide) (by omega) rfl ?_
      have b1 : zB12 (z_up ah t (.inr (.boolean, 12, z_upV gt x.toNat (.int (zi 1))))) t (z_upB dn x true) := z12v t2 (x := true) hxr
      have a1 : zA12 (z_up ah t (.inr (.boolean, 12, z_upV gt x.toNat (.int (zi 1))))) r v := by
        obtain ⟨gr, r1, r2⟩ := g2
        exact ⟨gr, (z_up_n hrt).trans r1, r2⟩
      have gg := g1.tu (o := .inr (.boolean, 12, z_upV gt x.toNat (.int (zi 1)))) ht0
      generalize z_up ah t (.inr (.boolean, 12, z_upV gt x.toNat (.int (zi 1)))) = ah1 at b1 a1 gg ⊢
      obtain ⟨gr, r1, r2⟩ := id a1
      refine zr_aload_n dX2_distancesFrom_25 rfl rfl ?_
      refine zr_iload dX2_distancesFrom_26 rfl ?_
      refine zr_iaload dX2_distancesFrom_28 (Or.inl r1) (by decide) (by omega) (z12e r2 hxr) ?_
      refine zr_istore dX2_distancesFrom_29 (by decide) (zs6_5 rfl ?_)
      refine zr_aload_n dX2_distancesFrom_31 rfl rfl ?_
      refine zr_iload dX2_distancesFrom_32 rfl ?_
      refine zr_aload_n dX2_distancesFrom_34 rfl rfl ?_
      refine zr_iload dX2_distancesFrom_35 rfl ?_
      refine zln2 rfl rfl dX2_distancesFrom_37 rfl (by omega) (by omega) (by omega) (fun b hb => ?_)
      have hbr := hv x hxr
      refine zc_v2 dX2_distancesFrom_42 hX2_visitTrails gX2_visitTrails rfl rfl 5 0 0 (by omega) (Nat.zero_le _) (Nat.zero_le _) q436 q437 q438 (H.gr (gg.tr (zGr.up hb))).rc ?_
      refine kX2_visD (fun h => zB12 h t (z_upB dn x true)) H hV hxr (by omega) hr0 hv hbr (fun h o hh => ?_) (gg.tr (zGr.up hb)) (a1.gr (zGr.up hb)) z_up_s (b1.gr (zGr.up hb)) (fun ah2 i1 i2 i3 => zK_v ?_)
      · obtain ⟨gq, q1, q2⟩ := hh
        exact ⟨gq, (z_up_n hrt.symm).trans q1, q2⟩
      have hD := hJ.step' hV hY hp
      obtain ⟨gr2, r3, r4⟩ := id i2
      obtain ⟨gt2, t3, t4⟩ := id i3
      refine zr_aload_n dX2_distancesFrom_45 rfl rfl ?_
      refine zr_aload_n dX2_distancesFrom_46 rfl rfl ?_
      refine zr_aload_n dX2_distancesFrom_47 rfl rfl ?_
      refine zc_v2 dX2_distancesFrom_48 hX2_closest gX2_closest rfl rfl 2 0 0 (by omega) (Nat.zero_le _) (Nat.zero_le _) q444 q446 sp3 (H.gr i1).rc ?_
      refine kX2_closest (H.gr i1) hV (by omega) r3 r4 hD.1.2.1 t3 t4 (zK_i ?_)
      refine zr_istore dX2_distancesFrom_51 (by decide) (zs6_4 rfl ?_)
      refine zr_goto dX2_distancesFrom_53 (tgt := 14) (by decide) ?_
      have hl := pLf_up (dn := dn) hxr hJ.2.2.2.1
      refine ih _ _ ah2 _ _ _ _ i1 i2 i3 ?_ (by omega) (by omega) (by omega) k
      rcases hD.next hV hY hp hp0 with z | z
      · exact Or.inl z
      · exact Or.inr z
theorem kX2_distancesFrom {G : State} {d rc rs : Nat} {ah : zH} {Q : zRs → zH → Prop} {F U : Nat → Prop} {a w e n l : Nat} {s : Int → Int} {mc : Int} {f g : Nat → Value} {ps : List Nat} {tv : Value} (H : zSt G F U ah a s w e n mc f ps l g tv) (hV : pV s) (hY : pSy s) {p : Int} (hp : pR p) (hp0 : p < s 0) (hd : 27 ≤ d) (hc : 14 ≤ rc) (hs : 48 ≤ rs) (k : ∀ (ah9 : zH) (r : Nat) (v9 : Int → Int), zGr ah ah9 → ah r = none → zA12 ah9 r v9 → pDist 1000000 s p v9 → Q (.inl (some (.ref r))) ah9) : zW G mX2_distancesFrom d rc rs 0 (zent [.ref a, .int (zi p)]) [] ah Q := by
  refine zW_open 4 [some (.ref a), some (.int (zi p)), none, none, none, none] rfl ?_
  refine zr_aload_n dX2_distancesFrom_0 rfl rfl ?_
  refine zr_iload_n dX2_distancesFrom_1 rfl ?_
  refine zc_v1 dX2_distancesFrom_2 hX2_startingAt gX2_startingAt rfl rfl 0 1 12 (by omega) (by omega) (by omega) q423 q425 sp2 H.rc ?_
  refine kX2_startingAt hp (by omega) (by omega) (fun r gr hr0 hr1 => zK_i ?_)
  refine zr_astore_n dX2_distancesFrom_5 (by decide) rfl (zs6_2 rfl ?_)
  refine zr_bipush dX2_distancesFrom_6 rfl ?_
  refine zr_newarray (ty := .boolean) dX2_distancesFrom_8 rfl q351 (fun _ z => by cases z) (by omega) (by omega) (by show (12 : Int).toNat ≤ _; simp; omega) (fun t ht => ?_)
  have hrt : r ≠ t := fun z => by rw [← z, z_up_s] at ht; cases ht
  have ht0 : ah t = none := by rw [z_up_n hrt.symm] at ht; exact ht
  refine zr_astore_n dX2_distancesFrom_10 (by decide) rfl (zs6_3 rfl ?_)
  refine zr_iload_n dX2_distancesFrom_11 rfl ?_
  refine zr_istore dX2_distancesFrom_12 (by decide) (zs6_4 rfl ?_)
  refine kX2_distancesFromL H hV hY hp hp0 (by omega) hr0 ht0 hrt 12 _ _ _ (pIni 1000000 p (fun _ => 0) 12) (fun _ => false) _ _ ((zGr.up hr0).tr (zGr.up ht)) ⟨gr, (z_up_n hrt).trans z_up_s, hr1⟩ ⟨_, z_up_s, fun j hj => rfl⟩ (Or.inr ⟨by have := hp.1; omega, pDj.ini hp hp0⟩) (by have := (pLf_b (dn := fun _ => false)).2; exact this) (by omega) (by show 2 * 12 ≤ rs - 12 - (12 : Int).toNat; simp; omega) (fun ah9 v9 q1 q2 q3 => k ah9 r v9 q1 hr0 q2 q3)
