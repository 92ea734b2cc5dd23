set_option maxRecDepth 100000
theorem z_fb (b : Bool) : fits .boolean (.int (zi (zB b))) = true := by cases b <;> decide
/-! ===== the component: checks, small records, readers of the state ===== -/
theorem z_modeF {G : State} (T : zTb G) {k : Nat} (hk : k ≤ 2) : zSO G "TrailGuide$Mode" (zMo G k) ∧ zSF G "java/lang/Enum" "ordinal" "I" (.int (zi ((k : Nat) : Int))) (zMo G k) ∧ zSF G "TrailGuide$Mode" "letter" "C" (.int (zi (zMoL k))) (zMo G k) ∧ zSF G "TrailGuide$Mode" "cost" "I" (.int (zi (zMoC k))) (zMo G k) := by
  obtain ⟨A0, h⟩ := T
  rcases (show k = 0 ∨ k = 1 ∨ k = 2 by omega) with rfl | rfl | rfl
  · obtain ⟨-, -, h1, h2, h3, h4⟩ := z_mode0 h; exact ⟨h1, h2, h3, h4⟩
  · obtain ⟨-, -, h1, h2, h3, h4⟩ := z_mode1 h; exact ⟨h1, h2, h3, h4⟩
  · obtain ⟨-, -, h1, h2, h3, h4⟩ := z_mode2 h; exact ⟨h1, h2, h3, h4⟩
theorem z_modeV0 {G : State} (T : zTb G) : zSV G "TrailGuide$Mode" "ECO" "LTrailGuide$Mode;" (.ref (zMo G 0)) := by obtain ⟨A0, h⟩ := T; exact (z_mode0 h).2.1
theorem z_modeV1 {G : State} (T : zTb G) : zSV G "TrailGuide$Mode" "NORMAL" "LTrailGuide$Mode;" (.ref (zMo G 1)) := by obtain ⟨A0, h⟩ := T; exact (z_mode1 h).2.1
theorem z_modeV2 {G : State} (T : zTb G) : zSV G "TrailGuide$Mode" "FULL" "LTrailGuide$Mode;" (.ref (zMo G 2)) := by obtain ⟨A0, h⟩ := T; exact (z_mode2 h).2.1
theorem z_turnV0 {G : State} (T : zTb G) : zSV G "TrailGuide$Turn" "LEFT" "LTrailGuide$Turn;" (.ref (zTu G 0)) := by obtain ⟨A0, h⟩ := T; exact (z_turn0 h).1
theorem z_turnV1 {G : State} (T : zTb G) : zSV G "TrailGuide$Turn" "RIGHT" "LTrailGuide$Turn;" (.ref (zTu G 1)) := by obtain ⟨A0, h⟩ := T; exact (z_turn1 h).1
theorem z_turnV2 {G : State} (T : zTb G) : zSV G "TrailGuide$Turn" "STRAIGHT" "LTrailGuide$Turn;" (.ref (zTu G 2)) := by obtain ⟨A0, h⟩ := T; exact (z_turn2 h).1
theorem z_turnV3 {G : State} (T : zTb G) : zSV G "TrailGuide$Turn" "BACK" "LTrailGuide$Turn;" (.ref (zTu G 3)) := by obtain ⟨A0, h⟩ := T; exact (z_turn3 h).1
theorem pCost_mo {m : Int} (h : 0 ≤ m ∧ m ≤ 2) : pCost m = zMoC m.toNat := by
  rcases (show m = 0 ∨ m = 1 ∨ m = 2 by omega) with rfl | rfl | rfl <;> rfl
theorem kX1_checkArgument {G : State} {d rc rs : Nat} {ah : zH} {Q : zRs → zH → Prop} {b : Bool} (hd : 8 ≤ d) (hc : 1 ≤ rc) (hs : 6 ≤ rs) (k : b = true → Q (.inl none) ah) (kx : b = false → ∀ q, ah q = none → Q (.inr ("java/lang/IllegalArgumentException", q)) (z_up ah q (.inl (18, [])))) : zW G mX1_checkArgument d rc rs 0 (zent [.int (zi (zB b))]) [] ah Q := by
  refine zW_open 0 [some (.int (zi (zB b)))] rfl ?_
  refine zr_iload_n dX1_checkArgument_0 rfl ?_
  refine zr_ifneB dX1_checkArgument_1 (tgt := 12) (by decide) (fun h1 => ?_) (fun h1 => ?_)
  · refine zr_return dX1_checkArgument_12 rfl ?_
    exact k h1
  · refine zr_throw0 nJ12 exTrailGuide_1_3 z_thr dX1_checkArgument_4 dX1_checkArgument_7 dX1_checkArgument_8 dX1_checkArgument_11 (by decide) (by omega) (by omega) (by omega) (fun q hq => zX_out (fun x hx => nomatch hx) ?_)
    exact kx h1 q hq
theorem kX1_checkState {G : State} {d rc rs : Nat} {ah : zH} {Q : zRs → zH → Prop} {b : Bool} (hd : 8 ≤ d) (hc : 1 ≤ rc) (hs : 6 ≤ rs) (k : b = true → Q (.inl none) ah) (kx : b = false → ∀ q, ah q = none → Q (.inr ("java/lang/IllegalStateException", q)) (z_up ah q (.inl (19, [])))) : zW G mX1_checkState d rc rs 0 (zent [.int (zi (zB b))]) [] ah Q := by
  refine zW_open 0 [some (.int (zi (zB b)))] rfl ?_
  refine zr_iload_n dX1_checkState_0 rfl ?_
  refine zr_ifneB dX1_checkState_1 (tgt := 12) (by decide) (fun h1 => ?_) (fun h1 => ?_)
  · refine zr_return dX1_checkState_12 rfl ?_
    exact k h1
  · refine zr_throw0 nJ13 exTrailGuide_7_9 z_thr dX1_checkState_4 dX1_checkState_7 dX1_checkState_8 dX1_checkState_11 (by decide) (by omega) (by omega) (by omega) (fun q hq => zX_out (fun x hx => nomatch hx) ?_)
    exact kx h1 q hq
theorem kX1_checkElement {G : State} {d rc rs : Nat} {ah : zH} {Q : zRs → zH → Prop} {b : Bool} (hd : 8 ≤ d) (hc : 1 ≤ rc) (hs : 6 ≤ rs) (k : b = true → Q (.inl none) ah) (kx : b = false → ∀ q, ah q = none → Q (.inr ("java/util/NoSuchElementException", q)) (z_up ah q (.inl (20, [])))) : zW G mX1_checkElement d rc rs 0 (zent [.int (zi (zB b))]) [] ah Q := by
  refine zW_open 0 [some (.int (zi (zB b)))] rfl ?_
  refine zr_iload_n dX1_checkElement_0 rfl ?_
  refine zr_ifneB dX1_checkElement_1 (tgt := 12) (by decide) (fun h1 => ?_) (fun h1 => ?_)
  · refine zr_return dX1_checkElement_12 rfl ?_
    exact k h1
  · refine zr_throw0 nJ21 exTrailGuide_19_21 z_thr dX1_checkElement_4 dX1_checkElement_7 dX1_checkElement_8 dX1_checkElement_11 (by decide) (by omega) (by omega) (by omega) (fun q hq => zX_out (fun x hx => nomatch hx) ?_)
    exact kx h1 q hq
theorem kX1_checkSupported {G : State} {d rc rs : Nat} {ah : zH} {Q : zRs → zH → Prop} {b : Bool} (hd : 8 ≤ d) (hc : 1 ≤ rc) (hs : 6 ≤ rs) (k : b = true → Q (.inl none) ah) (kx : b = false → ∀ q, ah q = none → Q (.inr ("java/lang/UnsupportedOperationException", q)) (z_up ah q (.inl (22, [])))) : zW G mX1_checkSupported d rc rs 0 (zent [.int (zi (zB b))]) [] ah Q := by
  refine zW_open 0 [some (.int (zi (zB b)))] rfl ?_
  refine zr_iload_n dX1_checkSupported_0 rfl ?_
  refine zr_ifneB dX1_checkSupported_1 (tgt := 12) (by decide) (fun h1 => ?_) (fun h1 => ?_)
  · refine zr_return dX1_checkSupported_12 rfl ?_
    exact k h1
  · refine zr_throw0 nJ25 exTrailGuide_22_24 z_thr dX1_checkSupported_4 dX1_checkSupported_7 dX1_checkSupported_8 dX1_checkSupported_11 (by decide) (by omega) (by omega) (by omega) (fun q hq => zX_out (fun x hx => nomatch hx) ?_)
    exact kx h1 q hq
theorem kX1_inRange {G : State} {d rc rs : Nat} {ah : zH} {Q : zRs → zH → Prop} {v a b : Int} (qv : -2147483648 ≤ v ∧ v ≤ 2147483647) (qa : -2147483648 ≤ a ∧ a ≤ 2147483647) (qb : -2147483648 ≤ b ∧ b ≤ 2147483647) (k : Q (.inl (some (.int (zi (zB (pIn v a b)))))) ah) : zW G mX1_inRange d rc rs 0 (zent [.int (zi v), .int (zi a), .int (zi b)]) [] ah Q := by
  refine zW_open 0 [some (.int (zi v)), some (.int (zi a)), some (.int (zi b))] rfl ?_
  refine zr_iload_n dX1_inRange_0 rfl ?_
  refine zr_iload_n dX1_inRange_1 rfl ?_
  refine zr_icmplt dX1_inRange_2 (tgt := 14) (by decide) (by omega) (by omega) (fun h2 => ?_) (fun h2 => ?_)
  · refine zr_iconst dX1_inRange_14 ?_
    refine zr_ireturn dX1_inRange_15 rfl (by first | rfl | exact z_nb _) ?_
    first
      | (rw [pIn_iff.mpr (by omega)] at k; exact k)
      | (rw [pIn_iffF.mpr (by omega)] at k; exact k)
  · refine zr_iload_n dX1_inRange_5 rfl ?_
    refine zr_iload_n dX1_inRange_6 rfl ?_
    refine zr_icmpgt dX1_inRange_7 (tgt := 14) (by decide) (by omega) (by omega) (fun h7 => ?_) (fun h7 => ?_)
    · refine zr_iconst dX1_inRange_14 ?_
      refine zr_ireturn dX1_inRange_15 rfl (by first | rfl | exact z_nb _) ?_
      first
        | (rw [pIn_iff.mpr (by omega)] at k; exact k)
        | (rw [pIn_iffF.mpr (by omega)] at k; exact k)
    · refine zr_iconst dX1_inRange_10 ?_
      refine zr_goto dX1_inRange_11 (tgt := 15) (by decide) ?_
      refine zr_ireturn dX1_inRange_15 rfl (by first | rfl | exact z_nb _) ?_
      first
        | (rw [pIn_iff.mpr (by omega)] at k; exact k)
        | (rw [pIn_iffF.mpr (by omega)] at k; exact k)
theorem kX1_checkCoordinates {G : State} {d rc rs : Nat} {ah : zH} {Q : zRs → zH → Prop} {x y : Int} (qx : -2147483648 ≤ x ∧ x ≤ 2147483647) (qy : -2147483648 ≤ y ∧ y ≤ 2147483647) (hd : 9 ≤ d) (hc : 1 ≤ rc) (hs : 6 ≤ rs) (k : pPl x y = true → Q (.inl none) ah) (kx : pPl x y = false → ∀ q, ah q = none → Q (.inr ("java/lang/IllegalArgumentException", q)) (z_up ah q (.inl (18, [])))) : zW G mX1_checkCoordinates d rc rs 0 (zent [.int (zi x), .int (zi y)]) [] ah Q := by
  refine zW_open 0 [some (.int (zi x)), some (.int (zi y))] rfl ?_
  refine zr_iload_n dX1_checkCoordinates_0 rfl ?_
  refine zr_iconst dX1_checkCoordinates_1 ?_
  refine zr_bipush dX1_checkCoordinates_2 rfl ?_
  refine zc_s3 dX1_checkCoordinates_4 hX1_inRange gX1_inRange rfl rfl 0 0 0 (by omega) (Nat.zero_le _) (Nat.zero_le _) q1041 q830 ?_
  refine kX1_inRange (by omega) (by omega) (by omega) (zK_i ?_)
  refine zr_ifeqB dX1_checkCoordinates_7 (tgt := 24) (by decide) (fun h7 => ?_) (fun h7 => ?_)
  · refine zr_iconst dX1_checkCoordinates_24 ?_
    refine zc_s1 dX1_checkCoordinates_25 hX1_checkArgument gX1_checkArgument rfl rfl 8 1 6 (by omega) (by omega) (by omega) q1042 q1043 ?_
    refine kX1_checkArgument (b := false) (by omega) (by omega) (by omega) (fun h => absurd h (by decide)) (fun h25 q25 hq25 => zK_x (zX_out (fun x hx => nomatch hx) ?_))
    exact kx (by unfold pPl; first | simp [h7, h17] | simp [h7]) _ hq25
  · refine zr_iload_n dX1_checkCoordinates_10 rfl ?_
    refine zr_iconst dX1_checkCoordinates_11 ?_
    refine zr_bipush dX1_checkCoordinates_12 rfl ?_
    refine zc_s3 dX1_checkCoordinates_14 hX1_inRange gX1_inRange rfl rfl 0 0 0 (by omega) (Nat.zero_le _) (Nat.zero_le _) q1041 q830 ?_
    refine kX1_inRange (by omega) (by omega) (by omega) (zK_i ?_)
    refine zr_ifeqB dX1_checkCoordinates_17 (tgt := 24) (by decide) (fun h17 => ?_) (fun h17 => ?_)
    · refine zr_iconst dX1_checkCoordinates_24 ?_
      refine zc_s1 dX1_checkCoordinates_25 hX1_checkArgument gX1_checkArgument rfl rfl 8 1 6 (by omega) (by omega) (by omega) q1042 q1043 ?_
      refine kX1_checkArgument (b := false) (by omega) (by omega) (by omega) (fun h => absurd h (by decide)) (fun h25 q25 hq25 => zK_x (zX_out (fun x hx => nomatch hx) ?_))
      exact kx (by unfold pPl; first | simp [h7, h17] | simp [h7]) _ hq25
    · refine zr_iconst dX1_checkCoordinates_20 ?_
      refine zr_goto dX1_checkCoordinates_21 (tgt := 25) (by decide) ?_
      refine zc_s1 dX1_checkCoordinates_25 hX1_checkArgument gX1_checkArgument rfl rfl 8 1 6 (by omega) (by omega) (by omega) q1042 q1043 ?_
      refine kX1_checkArgument (b := true) (by omega) (by omega) (by omega) (fun _ => zK_v ?_) (fun h => absurd h (by decide))
      refine zr_return dX1_checkCoordinates_28 rfl ?_
      exact k (by unfold pPl; simp [h7, h17])
theorem kX1_checkIndex {G : State} {d rc rs : Nat} {ah : zH} {Q : zRs → zH → Prop} {i : Int} (qi : -2147483648 ≤ i ∧ i ≤ 2147483647) {n : Int} (bn : 0 ≤ n ∧ n ≤ 1000) (hd : 8 ≤ d) (hc : 1 ≤ rc) (hs : 6 ≤ rs) (k : pIn i 0 (n - 1) = true → Q (.inl none) ah) (kx : pIn i 0 (n - 1) = false → ∀ q, ah q = none → Q (.inr ("java/lang/IndexOutOfBoundsException", q)) (z_up ah q (.inl (21, [])))) : zW G mX1_checkIndex d rc rs 0 (zent [.int (zi i), .int (zi n)]) [] ah Q := by
  refine zW_open 0 [some (.int (zi i)), some (.int (zi n))] rfl ?_
  refine zr_iload_n dX1_checkIndex_0 rfl ?_
  refine zr_iconst dX1_checkIndex_1 ?_
  refine zr_iload_n dX1_checkIndex_2 rfl ?_
  refine zr_iconst dX1_checkIndex_3 ?_
  refine zr_isub dX1_checkIndex_4 ?_
  refine zc_s3 dX1_checkIndex_5 hX1_inRange gX1_inRange rfl rfl 0 0 0 (by omega) (Nat.zero_le _) (Nat.zero_le _) q1041 q830 ?_
  refine kX1_inRange (by omega) (by omega) (by omega) (zK_i ?_)
  refine zr_ifneB dX1_checkIndex_8 (tgt := 19) (by decide) (fun h8 => ?_) (fun h8 => ?_)
  · refine zr_return dX1_checkIndex_19 rfl ?_
    exact k h8
  · refine zr_throw0 nJ22 exTrailGuide_16_18 z_thr dX1_checkIndex_11 dX1_checkIndex_14 dX1_checkIndex_15 dX1_checkIndex_18 (by decide) (by omega) (by omega) (by omega) (fun q hq => zX_out (fun x hx => nomatch hx) ?_)
    exact kx h8 q hq
theorem kX5_init {G : State} {d rc rs : Nat} {ah : zH} {Q : zRs → zH → Prop} {a p : Nat} {v0 v1 : Value} {r : Int} (ha : ah a = some (.inl (3, [v0, v1]))) (hp : zRc G ah p "TrailGuide$Point") (hd : 2 ≤ d) (k : Q (.inl none) (z_up ah a (.inl (3, [.ref p, .int (zi r)])))) : zW G mX5_init d rc rs 0 (zent [.ref a, .ref p, .int (zi r)]) [] ah Q := by
  refine zW_open 0 [some (.ref a), some (.ref p), some (.int (zi r))] rfl ?_
  refine zr_aload_n dX5_init_0 rfl rfl ?_
  refine zc_i0 rfl rfl rfl dX5_init_1 hJ14_init gJ14_init rfl rfl 1 0 0 (by omega) (Nat.zero_le _) (Nat.zero_le _) q1081 q869 ?_
  refine kJ14_init (by omega) (zK_v ?_)
  refine zr_aload_n dX5_init_4 rfl rfl ?_
  refine zr_aload_n dX5_init_5 rfl rfl ?_
  refine zr_putf dX5_init_6 nX5 (k := 0) (by decide) q1082 (Or.inl rfl) (Or.inr ⟨rfl, rfl, rfl⟩) ha (z_ble rfl) rfl rfl ?_
  refine zr_aload_n dX5_init_9 rfl rfl ?_
  refine zr_iload_n dX5_init_10 rfl ?_
  refine zr_putf dX5_init_11 nX5 (k := 1) (by decide) q1083 (Or.inl rfl) (Or.inr ⟨rfl, rfl, rfl⟩) z_up_s (z_ble rfl) rfl rfl ?_
  rw [z_up_o]
  refine zr_return dX5_init_14 rfl ?_
  exact k
theorem kX5_point {G : State} {d rc rs : Nat} {ah : zH} {Q : zRs → zH → Prop} {w p : Nat} {v : Value} (ha : ah w = some (.inl (3, [.ref p, v]))) (k : Q (.inl (some (.ref p))) ah) : zW G mX5_point d rc rs 0 (zent [.ref w]) [] ah Q := by
  refine zW_open 0 [some (.ref w)] rfl ?_
  refine zr_aload_n dX5_point_0 rfl rfl ?_
  refine zr_getf dX5_point_1 nX5 (k := 0) (by decide) q1082 (Or.inl rfl) ha rfl ?_
  refine zr_areturn dX5_point_4 rfl rfl rfl ?_
  exact k
theorem kX5_radius {G : State} {d rc rs : Nat} {ah : zH} {Q : zRs → zH → Prop} {w : Nat} {v u : Value} {r : Int} (ha : ah w = some (.inl (3, [u, .int (zi r)]))) (k : Q (.inl (some (.int (zi r)))) ah) : zW G mX5_radius d rc rs 0 (zent [.ref w]) [] ah Q := by
  refine zW_open 0 [some (.ref w)] rfl ?_
  refine zr_aload_n dX5_radius_0 rfl rfl ?_
  refine zr_getf dX5_radius_1 nX5 (k := 1) (by decide) q1083 (Or.inl rfl) ha rfl ?_
  refine zr_ireturn dX5_radius_4 rfl (by first | rfl | exact z_nb _) ?_
  exact k
theorem kX5_contains {G : State} {d rc rs : Nat} {ah : zH} {Q : zRs → zH → Prop} {w p q : Nat} {x y r u v : Int} (ha : ah w = some (.inl (3, [.ref p, .int (zi r)]))) (H : zPt ah p x y) (H2 : zPt ah q u v) (hbx : 0 ≤ x ∧ x ≤ 99) (hby : 0 ≤ y ∧ y ≤ 99) (hbu : 0 ≤ u ∧ u ≤ 99) (hbv : 0 ≤ v ∧ v ≤ 99) (br : 0 ≤ r ∧ r ≤ 9) (hd : 5 ≤ d) (hc : 1 ≤ rc) (hs : 2 ≤ rs) (k : ∀ ah9, zGr ah ah9 → Q (.inl (some (.int (zi (zB (decide (pSq (x - u) (y - v) ≤ r * r))))))) ah9) : zW G mX5_contains d rc rs 0 (zent [.ref w, .ref q]) [] ah Q := by
  refine zW_open 0 [some (.ref w), some (.ref q)] rfl ?_
  refine zr_aload_n dX5_contains_0 rfl rfl ?_
  refine zr_getf dX5_contains_1 nX5 (k := 0) (by decide) q1082 (Or.inl rfl) ha rfl ?_
  refine zr_aload_n dX5_contains_4 rfl rfl ?_
  refine zc_v1 dX5_contains_5 hX6_squaredDistance gX6_squaredDistance rfl rfl 4 1 2 (by omega) (by omega) (by omega) q1350 q1351 q1352 H.rc ?_
  refine kX6_squaredDistance H H2 (by omega) (by omega) (by omega) (by omega) (by omega) (by omega) (by omega) (fun t ht => zK_i ?_)
  have a1 := pSb (a := x - u) (by omega)
  have a2 := pSb (a := y - v) (by omega)
  have a3 := pSb (a := r) (by omega)
  refine zr_aload_n dX5_contains_8 rfl rfl ?_
  refine zr_getf dX5_contains_9 nX5 (k := 1) (by decide) q1083 (Or.inl rfl) (z_upk ht ha) rfl ?_
  refine zr_i2l dX5_contains_12 (by omega) ?_
  refine zr_aload_n dX5_contains_13 rfl rfl ?_
  refine zr_getf dX5_contains_14 nX5 (k := 1) (by decide) q1083 (Or.inl rfl) (z_upk ht ha) rfl ?_
  refine zr_i2l dX5_contains_17 (by omega) ?_
  refine zr_lmul dX5_contains_18 ?_
  refine zr_lcmp dX5_contains_19 (by omega) (by omega) ?_
  refine zr_ifgt dX5_contains_20 (tgt := 27) (by decide) (zcmp_b _ _) (fun h20 => ?_) (fun h20 => ?_)
  · refine zr_iconst dX5_contains_27 ?_
    refine zr_ireturn dX5_contains_28 rfl (by first | rfl | exact z_nb _) ?_
    have w := k _ (zGr.up (o := .inl (4, [.int (zi (x - u)), .int (zi (y - v))])) ht)
    first
      | (have e : (x - u) * (x - u) + (y - v) * (y - v) ≤ r * r := zcmp_le.mp (by omega)
         rw [decide_eq_true (show pSq (x - u) (y - v) ≤ r * r from e)] at w; exact w)
      | (rw [decide_eq_false (show ¬ pSq (x - u) (y - v) ≤ r * r from fun z => by have := zcmp_le.mpr z; unfold pSq at *; omega)] at w; exact w)
  · refine zr_iconst dX5_contains_23 ?_
    refine zr_goto dX5_contains_24 (tgt := 28) (by decide) ?_
    refine zr_ireturn dX5_contains_28 rfl (by first | rfl | exact z_nb _) ?_
    have w := k _ (zGr.up (o := .inl (4, [.int (zi (x - u)), .int (zi (y - v))])) ht)
    first
      | (have e : (x - u) * (x - u) + (y - v) * (y - v) ≤ r * r := zcmp_le.mp (by omega)
         rw [decide_eq_true (show pSq (x - u) (y - v) ≤ r * r from e)] at w; exact w)
      | (rw [decide_eq_false (show ¬ pSq (x - u) (y - v) ≤ r * r from fun z => by have := zcmp_le.mpr z; unfold pSq at *; omega)] at w; exact w)
theorem kX7_init {G : State} {d rc rs : Nat} {ah : zH} {Q : zRs → zH → Prop} {a rt hk : Nat} {v0 v1 v2 : Value} {i : Int} (ha : ah a = some (.inl (5, [v0, v1, v2]))) (hr : ∃ n f, ah rt = some (.inr (.int, n, f))) (hp : zRc G ah hk "TrailGuide$Point") (hd : 2 ≤ d) (k : Q (.inl none) (z_up ah a (.inl (5, [.ref rt, .int (zi i), .ref hk])))) : zW G mX7_init d rc rs 0 (zent [.ref a, .ref rt, .int (zi i), .ref hk]) [] ah Q := by
  refine zW_open 0 [some (.ref a), some (.ref rt), some (.int (zi i)), some (.ref hk)] rfl ?_
  refine zr_aload_n dX7_init_0 rfl rfl ?_
  refine zc_i0 rfl rfl rfl dX7_init_1 hJ14_init gJ14_init rfl rfl 1 0 0 (by omega) (Nat.zero_le _) (Nat.zero_le _) q1258 q869 ?_
  refine kJ14_init (by omega) (zK_v ?_)
  refine zr_aload_n dX7_init_4 rfl rfl ?_
  refine zr_aload_n dX7_init_5 rfl rfl ?_
  refine zr_putf dX7_init_6 nX7 (k := 0) (by decide) q1259 (Or.inl rfl) (Or.inr ⟨rfl, rfl, rfl⟩) ha (z_ble rfl) rfl rfl ?_
  refine zr_aload_n dX7_init_9 rfl rfl ?_
  refine zr_iload_n dX7_init_10 rfl ?_
  refine zr_putf dX7_init_11 nX7 (k := 1) (by decide) q1260 (Or.inl rfl) (Or.inr ⟨rfl, rfl, rfl⟩) z_up_s (z_ble rfl) rfl rfl ?_
  rw [z_up_o]
  refine zr_aload_n dX7_init_14 rfl rfl ?_
  refine zr_aload_n dX7_init_15 rfl rfl ?_
  refine zr_putf dX7_init_16 nX7 (k := 2) (by decide) q1261 (Or.inl rfl) (Or.inr ⟨rfl, rfl, rfl⟩) z_up_s (z_ble rfl) rfl rfl ?_
  rw [z_up_o]
  refine zr_return dX7_init_19 rfl ?_
  exact k
theorem kX7_route {G : State} {d rc rs : Nat} {ah : zH} {Q : zRs → zH → Prop} {t rt hk : Nat} {i : Int} (ha : ah t = some (.inl (5, [.ref rt, .int (zi i), .ref hk]))) (k : Q (.inl (some (.ref rt))) ah) : zW G mX7_route d rc rs 0 (zent [.ref t]) [] ah Q := by
  refine zW_open 0 [some (.ref t)] rfl ?_
  refine zr_aload_n dX7_route_0 rfl rfl ?_
  refine zr_getf dX7_route_1 nX7 (k := 0) (by decide) q1259 (Or.inl rfl) ha rfl ?_
  refine zr_areturn dX7_route_4 rfl rfl rfl ?_
  exact k
theorem kX7_targetIndex {G : State} {d rc rs : Nat} {ah : zH} {Q : zRs → zH → Prop} {t rt hk : Nat} {i : Int} (ha : ah t = some (.inl (5, [.ref rt, .int (zi i), .ref hk]))) (k : Q (.inl (some (.int (zi i)))) ah) : zW G mX7_targetIndex d rc rs 0 (zent [.ref t]) [] ah Q := by
  refine zW_open 0 [some (.ref t)] rfl ?_
  refine zr_aload_n dX7_targetIndex_0 rfl rfl ?_
  refine zr_getf dX7_targetIndex_1 nX7 (k := 1) (by decide) q1260 (Or.inl rfl) ha rfl ?_
  refine zr_ireturn dX7_targetIndex_4 rfl (by first | rfl | exact z_nb _) ?_
  exact k
theorem kX7_hiker {G : State} {d rc rs : Nat} {ah : zH} {Q : zRs → zH → Prop} {t rt hk : Nat} {i : Int} (ha : ah t = some (.inl (5, [.ref rt, .int (zi i), .ref hk]))) (k : Q (.inl (some (.ref hk))) ah) : zW G mX7_hiker d rc rs 0 (zent [.ref t]) [] ah Q := by
  refine zW_open 0 [some (.ref t)] rfl ?_
  refine zr_aload_n dX7_hiker_0 rfl rfl ?_
  refine zr_getf dX7_hiker_1 nX7 (k := 2) (by decide) q1261 (Or.inl rfl) ha rfl ?_
  refine zr_areturn dX7_hiker_4 rfl rfl rfl ?_
  exact k
theorem kX7_target {G : State} {d rc rs : Nat} {ah : zH} {Q : zRs → zH → Prop} {t rt hk : Nat} {i : Int} (ha : ah t = some (.inl (5, [.ref rt, .int (zi i), .ref hk]))) {n : Nat} {f : Nat → Value} (hr : ah rt = some (.inr (.int, n, f))) (hn : n ≤ 12) (hi : 0 ≤ i ∧ i < n) {x : Int} (hx : f i.toNat = .int (zi x)) (k : Q (.inl (some (.int (zi x)))) ah) : zW G mX7_target d rc rs 0 (zent [.ref t]) [] ah Q := by
  refine zW_open 0 [some (.ref t)] rfl ?_
  refine zr_aload_n dX7_target_0 rfl rfl ?_
  refine zr_getf dX7_target_1 nX7 (k := 0) (by decide) q1259 (Or.inl rfl) ha rfl ?_
  refine zr_aload_n dX7_target_4 rfl rfl ?_
  refine zr_getf dX7_target_5 nX7 (k := 1) (by decide) q1260 (Or.inl rfl) ha rfl ?_
  refine zr_iaload dX7_target_8 (Or.inl hr) (by omega) (by omega) hx ?_
  refine zr_ireturn dX7_target_9 rfl (by first | rfl | exact z_nb _) ?_
  exact k
theorem kX7_isLast {G : State} {d rc rs : Nat} {ah : zH} {Q : zRs → zH → Prop} {t rt hk : Nat} {i : Int} (ha : ah t = some (.inl (5, [.ref rt, .int (zi i), .ref hk]))) {n : Nat} {f : Nat → Value} (hr : ah rt = some (.inr (.int, n, f))) (hn : n ≤ 12) (hi : 0 ≤ i ∧ i ≤ 12) (k : Q (.inl (some (.int (zi (zB (decide (i = n - 1))))))) ah) : zW G mX7_isLast d rc rs 0 (zent [.ref t]) [] ah Q := by
  refine zW_open 0 [some (.ref t)] rfl ?_
  refine zr_aload_n dX7_isLast_0 rfl rfl ?_
  refine zr_getf dX7_isLast_1 nX7 (k := 1) (by decide) q1260 (Or.inl rfl) ha rfl ?_
  refine zr_aload_n dX7_isLast_4 rfl rfl ?_
  refine zr_getf dX7_isLast_5 nX7 (k := 0) (by decide) q1259 (Or.inl rfl) ha rfl ?_
  refine zr_alen dX7_isLast_8 (Or.inl hr) ?_
  refine zr_iconst dX7_isLast_9 ?_
  refine zr_isub dX7_isLast_10 ?_
  refine zr_icmpne dX7_isLast_11 (tgt := 18) (by decide) (by omega) (by omega) (fun h11 => ?_) (fun h11 => ?_)
  · refine zr_iconst dX7_isLast_18 ?_
    refine zr_ireturn dX7_isLast_19 rfl (by first | rfl | exact z_nb _) ?_
    first
      | (rw [decide_eq_true (by omega)] at k; exact k)
      | (rw [decide_eq_false (by omega)] at k; exact k)
  · refine zr_iconst dX7_isLast_14 ?_
    refine zr_goto dX7_isLast_15 (tgt := 19) (by decide) ?_
    refine zr_ireturn dX7_isLast_19 rfl (by first | rfl | exact z_nb _) ?_
    first
      | (rw [decide_eq_true (by omega)] at k; exact k)
      | (rw [decide_eq_false (by omega)] at k; exact k)
theorem kX7_withHiker {G : State} {d rc rs : Nat} {ah : zH} {Q : zRs → zH → Prop} {t rt hk : Nat} {i : Int} (ha : ah t = some (.inl (5, [.ref rt, .int (zi i), .ref hk]))) {n : Nat} {f : Nat → Value} (hr : ah rt = some (.inr (.int, n, f))) (hn : n ≤ 12) {p : Nat} (hp : zRc G ah p "TrailGuide$Point") (hd : 3 ≤ d) (hc : 1 ≤ rc) (hs : 3 ≤ rs) (k : ∀ q, ah q = none → Q (.inl (some (.ref q))) (z_up ah q (.inl (5, [.ref rt, .int (zi i), .ref p])))) : zW G mX7_withHiker d rc rs 0 (zent [.ref t, .ref p]) [] ah Q := by
  refine zW_open 0 [some (.ref t), some (.ref p)] rfl ?_
  refine zr_new (fs := [.null, .int (zi 0), .null]) dX7_withHiker_0 nX7 q1332 q1254 q123 (z_ble rfl) dfX7 (by omega) (by omega) (fun q hq => ?_)
  refine zr_dup dX7_withHiker_3 rfl ?_
  refine zr_aload_n dX7_withHiker_4 rfl rfl ?_
  refine zr_getf dX7_withHiker_5 nX7 (k := 0) (by decide) q1259 (Or.inl rfl) (z_upk hq ha) rfl ?_
  refine zr_aload_n dX7_withHiker_8 rfl rfl ?_
  refine zr_getf dX7_withHiker_9 nX7 (k := 1) (by decide) q1260 (Or.inl rfl) (z_upk hq ha) rfl ?_
  refine zr_aload_n dX7_withHiker_12 rfl rfl ?_
  refine zc_i3 rfl rfl rfl dX7_withHiker_13 hX7_init gX7_init rfl rfl 2 0 0 (by omega) (Nat.zero_le _) (Nat.zero_le _) q1333 q1256 ?_
  refine kX7_init z_up_s ⟨n, f, z_upk hq hr⟩ (hp.up hq) (by omega) (zK_v ?_)
  rw [z_up_o]
  refine zr_areturn dX7_withHiker_16 rfl rfl rfl ?_
  exact k q hq
theorem kX7_withNextTarget {G : State} {d rc rs : Nat} {ah : zH} {Q : zRs → zH → Prop} {t rt hk : Nat} {i : Int} (ha : ah t = some (.inl (5, [.ref rt, .int (zi i), .ref hk]))) {n : Nat} {f : Nat → Value} (hr : ah rt = some (.inr (.int, n, f))) (hn : n ≤ 12) (hp : zRc G ah hk "TrailGuide$Point") (hd : 3 ≤ d) (hc : 1 ≤ rc) (hs : 3 ≤ rs) (k : ∀ q, ah q = none → Q (.inl (some (.ref q))) (z_up ah q (.inl (5, [.ref rt, .int (zi (i + 1)), .ref hk])))) : zW G mX7_withNextTarget d rc rs 0 (zent [.ref t]) [] ah Q := by
  refine zW_open 0 [some (.ref t)] rfl ?_
  refine zr_new (fs := [.null, .int (zi 0), .null]) dX7_withNextTarget_0 nX7 q1332 q1254 q123 (z_ble rfl) dfX7 (by omega) (by omega) (fun q hq => ?_)
  refine zr_dup dX7_withNextTarget_3 rfl ?_
  refine zr_aload_n dX7_withNextTarget_4 rfl rfl ?_
  refine zr_getf dX7_withNextTarget_5 nX7 (k := 0) (by decide) q1259 (Or.inl rfl) (z_upk hq ha) rfl ?_
  refine zr_aload_n dX7_withNextTarget_8 rfl rfl ?_
  refine zr_getf dX7_withNextTarget_9 nX7 (k := 1) (by decide) q1260 (Or.inl rfl) (z_upk hq ha) rfl ?_
  refine zr_iconst dX7_withNextTarget_12 ?_
  refine zr_iadd dX7_withNextTarget_13 ?_
  refine zr_aload_n dX7_withNextTarget_14 rfl rfl ?_
  refine zr_getf dX7_withNextTarget_15 nX7 (k := 2) (by decide) q1261 (Or.inl rfl) (z_upk hq ha) rfl ?_
  refine zc_i3 rfl rfl rfl dX7_withNextTarget_18 hX7_init gX7_init rfl rfl 2 0 0 (by omega) (Nat.zero_le _) (Nat.zero_le _) q1333 q1256 ?_
  refine kX7_init z_up_s ⟨n, f, z_upk hq hr⟩ (hp.up hq) (by omega) (zK_v ?_)
  rw [z_up_o]
  refine zr_areturn dX7_withNextTarget_21 rfl rfl rfl ?_
  exact k q hq
theorem kX8_init {G : State} {d rc rs : Nat} {ah : zH} {Q : zRs → zH → Prop} {a : Nat} {v0 : Value} {b : Bool} (ha : ah a = some (.inl (6, [v0]))) (hd : 2 ≤ d) (k : Q (.inl none) (z_up ah a (.inl (6, [.int (zi (zB b))])))) : zW G mX8_init d rc rs 0 (zent [.ref a, .int (zi (zB b))]) [] ah Q := by
  refine zW_open 0 [some (.ref a), some (.int (zi (zB b)))] rfl ?_
  refine zr_aload_n dX8_init_0 rfl rfl ?_
  refine zc_i0 rfl rfl rfl dX8_init_1 hJ14_init gJ14_init rfl rfl 1 0 0 (by omega) (Nat.zero_le _) (Nat.zero_le _) q1369 q869 ?_
  refine kJ14_init (by omega) (zK_v ?_)
  refine zr_aload_n dX8_init_4 rfl rfl ?_
  refine zr_iload_n dX8_init_5 rfl ?_
  refine zr_putf dX8_init_6 nX8 (k := 0) (by decide) q1370 (Or.inl rfl) (Or.inr ⟨rfl, rfl, rfl⟩) ha (z_ble rfl) (z_nb b) (z_fb b) ?_
  refine zr_return dX8_init_9 rfl ?_
  exact k
theorem kX8_isLast {G : State} {d rc rs : Nat} {ah : zH} {Q : zRs → zH → Prop} {a : Nat} {b : Bool} (ha : ah a = some (.inl (6, [.int (zi (zB b))]))) (k : Q (.inl (some (.int (zi (zB b))))) ah) : zW G mX8_isLast d rc rs 0 (zent [.ref a]) [] ah Q := by
  refine zW_open 0 [some (.ref a)] rfl ?_
  refine zr_aload_n dX8_isLast_0 rfl rfl ?_
  refine zr_getf dX8_isLast_1 nX8 (k := 0) (by decide) q1370 (Or.inl rfl) ha rfl ?_
  refine zr_ireturn dX8_isLast_4 rfl (by first | rfl | exact z_nb _) ?_
  exact k
theorem kX10_init {G : State} {d rc rs : Nat} {ah : zH} {Q : zRs → zH → Prop} {a : Nat} {v0 : Value} {b : Bool} (ha : ah a = some (.inl (8, [v0]))) (hd : 2 ≤ d) (k : Q (.inl none) (z_up ah a (.inl (8, [.int (zi (zB b))])))) : zW G mX10_init d rc rs 0 (zent [.ref a, .int (zi (zB b))]) [] ah Q := by
  refine zW_open 0 [some (.ref a), some (.int (zi (zB b)))] rfl ?_
  refine zr_aload_n dX10_init_0 rfl rfl ?_
  refine zc_i0 rfl rfl rfl dX10_init_1 hJ14_init gJ14_init rfl rfl 1 0 0 (by omega) (Nat.zero_le _) (Nat.zero_le _) q1412 q869 ?_
  refine kJ14_init (by omega) (zK_v ?_)
  refine zr_aload_n dX10_init_4 rfl rfl ?_
  refine zr_iload_n dX10_init_5 rfl ?_
  refine zr_putf dX10_init_6 nX10 (k := 0) (by decide) q1413 (Or.inl rfl) (Or.inr ⟨rfl, rfl, rfl⟩) ha (z_ble rfl) (z_nb b) (z_fb b) ?_
  refine zr_return dX10_init_9 rfl ?_
  exact k
theorem kX10_isNew {G : State} {d rc rs : Nat} {ah : zH} {Q : zRs → zH → Prop} {a : Nat} {b : Bool} (ha : ah a = some (.inl (8, [.int (zi (zB b))]))) (k : Q (.inl (some (.int (zi (zB b))))) ah) : zW G mX10_isNew d rc rs 0 (zent [.ref a]) [] ah Q := by
  refine zW_open 0 [some (.ref a)] rfl ?_
  refine zr_aload_n dX10_isNew_0 rfl rfl ?_
  refine zr_getf dX10_isNew_1 nX10 (k := 0) (by decide) q1413 (Or.inl rfl) ha rfl ?_
  refine zr_ireturn dX10_isNew_4 rfl (by first | rfl | exact z_nb _) ?_
  exact k
theorem kX11_init {G : State} {d rc rs : Nat} {ah : zH} {Q : zRs → zH → Prop} {a : Nat} (hd : 2 ≤ d) (k : Q (.inl none) ah) : zW G mX11_init d rc rs 0 (zent [.ref a]) [] ah Q := by
  refine zW_open 0 [some (.ref a)] rfl ?_
  refine zr_aload_n dX11_init_0 rfl rfl ?_
  refine zc_i0 rfl rfl rfl dX11_init_1 hJ14_init gJ14_init rfl rfl 1 0 0 (by omega) (Nat.zero_le _) (Nat.zero_le _) q1422 q869 ?_
  refine kJ14_init (by omega) (zK_v ?_)
  refine zr_return dX11_init_4 rfl ?_
  exact k
theorem kX8_cost {G : State} {d rc rs : Nat} {ah : zH} {Q : zRs → zH → Prop} {a : Nat} (k : Q (.inl (some (.int (zi 3)))) ah) : zW G mX8_cost d rc rs 0 (zent [.ref a]) [] ah Q := by
  refine zW_open 0 [some (.ref a)] rfl ?_
  refine zr_iconst dX8_cost_0 ?_
  refine zr_ireturn dX8_cost_1 rfl (by first | rfl | exact z_nb _) ?_
  exact k
theorem kX8_letter {G : State} {d rc rs : Nat} {ah : zH} {Q : zRs → zH → Prop} {a : Nat} (k : Q (.inl (some (.int (zi 116)))) ah) : zW G mX8_letter d rc rs 0 (zent [.ref a]) [] ah Q := by
  refine zW_open 0 [some (.ref a)] rfl ?_
  refine zr_bipush dX8_letter_0 rfl ?_
  refine zr_ireturn dX8_letter_2 rfl (by first | rfl | exact z_nb _) ?_
  exact k
theorem kX10_cost {G : State} {d rc rs : Nat} {ah : zH} {Q : zRs → zH → Prop} {a : Nat} {b : Bool} (ha : ah a = some (.inl (8, [.int (zi (zB b))]))) (k : Q (.inl (some (.int (zi (if b = true then 5 else 0))))) ah) : zW G mX10_cost d rc rs 0 (zent [.ref a]) [] ah Q := by
  refine zW_open 0 [some (.ref a)] rfl ?_
  refine zr_aload_n dX10_cost_0 rfl rfl ?_
  refine zr_getf dX10_cost_1 nX10 (k := 0) (by decide) q1413 (Or.inl rfl) ha rfl ?_
  refine zr_ifeqB dX10_cost_4 (tgt := 11) (by decide) (fun h4 => ?_) (fun h4 => ?_)
  · refine zr_iconst dX10_cost_11 ?_
    refine zr_ireturn dX10_cost_12 rfl (by first | rfl | exact z_nb _) ?_
    first
      | (rw [if_pos h4] at k; exact k)
      | (rw [if_neg (by rw [h4]; decide)] at k; exact k)
  · refine zr_iconst dX10_cost_7 ?_
    refine zr_goto dX10_cost_8 (tgt := 12) (by decide) ?_
    refine zr_ireturn dX10_cost_12 rfl (by first | rfl | exact z_nb _) ?_
    first
      | (rw [if_pos h4] at k; exact k)
      | (rw [if_neg (by rw [h4]; decide)] at k; exact k)
theorem kX10_letter {G : State} {d rc rs : Nat} {ah : zH} {Q : zRs → zH → Prop} {a : Nat} (k : Q (.inl (some (.int (zi 97)))) ah) : zW G mX10_letter d rc rs 0 (zent [.ref a]) [] ah Q := by
  refine zW_open 0 [some (.ref a)] rfl ?_
  refine zr_bipush dX10_letter_0 rfl ?_
  refine zr_ireturn dX10_letter_2 rfl (by first | rfl | exact z_nb _) ?_
  exact k
theorem kX11_cost {G : State} {d rc rs : Nat} {ah : zH} {Q : zRs → zH → Prop} {a : Nat} (k : Q (.inl (some (.int (zi 0)))) ah) : zW G mX11_cost d rc rs 0 (zent [.ref a]) [] ah Q := by
  refine zW_open 0 [some (.ref a)] rfl ?_
  refine zr_iconst dX11_cost_0 ?_
  refine zr_ireturn dX11_cost_1 rfl (by first | rfl | exact z_nb _) ?_
  exact k
theorem kX11_letter {G : State} {d rc rs : Nat} {ah : zH} {Q : zRs → zH → Prop} {a : Nat} (k : Q (.inl (some (.int (zi 113)))) ah) : zW G mX11_letter d rc rs 0 (zent [.ref a]) [] ah Q := by
  refine zW_open 0 [some (.ref a)] rfl ?_
  refine zr_bipush dX11_letter_0 rfl ?_
  refine zr_ireturn dX11_letter_2 rfl (by first | rfl | exact z_nb _) ?_
  exact k
/-- which turn -/
def pTnK (ux uy vx vy : Int) : Nat := if 0 < ux * vy - uy * vx then 0 else if ux * vy - uy * vx < 0 then 1 else if 0 ≤ ux * vx + uy * vy then 2 else 3
def pTnL (k : Nat) : Int := match k with
  | 0 => 108
  | 1 => 114
  | 2 => 115
  | _ => 98
theorem pTnL_k {ux uy vx vy : Int} : pTnL (pTnK ux uy vx vy) = pTn ux uy vx vy := by
  unfold pTnK pTn
  split
  · rfl
  · split
    · rfl
    · split <;> rfl
theorem kX12_between {G : State} {d rc rs : Nat} {ah : zH} {Q : zRs → zH → Prop} {p : Nat} {x y : Int} (H : zPt ah p x y) {q : Nat} {u v : Int} (H2 : zPt ah q u v) (hbx : -99 ≤ x ∧ x ≤ 99) (hby : -99 ≤ y ∧ y ≤ 99) (hbu : -99 ≤ u ∧ u ≤ 99) (hbv : -99 ≤ v ∧ v ≤ 99) (hd : 1 ≤ d) (k : Q (.inl (some (.ref (zTu G (pTnK x y u v))))) ah) : zW G mX12_between d rc rs 0 (zent [.ref p, .ref q]) [] ah Q := by
  refine zW_open 2 [some (.ref p), some (.ref q), none, none] rfl ?_
  refine zW_tb (fun T => ?_)
  have m1 := pMb (a := x) (b := v) (by omega) (by omega)
  have m2 := pMb (a := y) (b := u) (by omega) (by omega)
  have m3 := pMb (a := x) (b := u) (by omega) (by omega)
  have m4 := pMb (a := y) (b := v) (by omega) (by omega)
  refine zr_aload_n dX12_between_0 rfl rfl ?_
  refine zr_aload_n dX12_between_1 rfl rfl ?_
  refine zc_v1 dX12_between_2 hX6_cross gX6_cross rfl rfl 0 0 0 (by omega) (Nat.zero_le _) (Nat.zero_le _) q882 q883 q884 H.rc ?_
  refine kX6_cross H H2 (by omega) (by omega) (by omega) (by omega) (zK_i ?_)
  refine zr_lstore_n dX12_between_5 (by decide) (zt4_2 rfl ?_)
  refine zr_lload_n dX12_between_6 rfl ?_
  refine zr_lc0 dX12_between_7 ?_
  refine zr_lcmp dX12_between_8 (by omega) (by omega) ?_
  refine zr_ifeq dX12_between_9 (tgt := 28) (by decide) (zcmp_b _ _) (fun h9 => ?_) (fun h9 => ?_)
  · refine zr_aload_n dX12_between_28 rfl rfl ?_
    refine zr_aload_n dX12_between_29 rfl rfl ?_
    refine zc_v1 dX12_between_30 hX6_dot gX6_dot rfl rfl 0 0 0 (by omega) (Nat.zero_le _) (Nat.zero_le _) q890 q891 q892 H.rc ?_
    refine kX6_dot H H2 (by omega) (by omega) (by omega) (by omega) (zK_i ?_)
    refine zr_lc0 dX12_between_33 ?_
    refine zr_lcmp dX12_between_34 (by omega) (by omega) ?_
    refine zr_iflt dX12_between_35 (tgt := 44) (by decide) (zcmp_b _ _) (fun h35 => ?_) (fun h35 => ?_)
    · refine zr_getstatic dX12_between_44 q896 (z_turnV3 T) ?_
      have e8 : x * v - y * u = 0 := zcmp_eq.mp (by omega)
      have e9 : ¬ 0 ≤ x * u + y * v := fun z => by have := zcmp_ge.mpr z; omega
      refine zr_areturn dX12_between_47 rfl rfl rfl ?_
      first
        | (rw [show pTnK x y u v = 2 from by unfold pTnK; (first | rw [if_pos (by omega)] | rw [if_neg (by omega), if_pos (by omega)] | rw [if_neg (by omega), if_neg (by omega), if_pos (by omega)] | rw [if_neg (by omega), if_neg (by omega), if_neg (by omega)])] at k; exact k)
        | (rw [show pTnK x y u v = 3 from by unfold pTnK; (first | rw [if_pos (by omega)] | rw [if_neg (by omega), if_pos (by omega)] | rw [if_neg (by omega), if_neg (by omega), if_pos (by omega)] | rw [if_neg (by omega), if_neg (by omega), if_neg (by omega)])] at k; exact k)
    · refine zr_getstatic dX12_between_38 q894 (z_turnV2 T) ?_
      have e8 : x * v - y * u = 0 := zcmp_eq.mp (by omega)
      have e9 : 0 ≤ x * u + y * v := zcmp_ge.mp (by omega)
      refine zr_goto dX12_between_41 (tgt := 47) (by decide) ?_
      refine zr_areturn dX12_between_47 rfl rfl rfl ?_
      first
        | (rw [show pTnK x y u v = 2 from by unfold pTnK; (first | rw [if_pos (by omega)] | rw [if_neg (by omega), if_pos (by omega)] | rw [if_neg (by omega), if_neg (by omega), if_pos (by omega)] | rw [if_neg (by omega), if_neg (by omega), if_neg (by omega)])] at k; exact k)
        | (rw [show pTnK x y u v = 3 from by unfold pTnK; (first | rw [if_pos (by omega)] | rw [if_neg (by omega), if_pos (by omega)] | rw [if_neg (by omega), if_neg (by omega), if_pos (by omega)] | rw [if_neg (by omega), if_neg (by omega), if_neg (by omega)])] at k; exact k)
  · refine zr_lload_n dX12_between_12 rfl ?_
    refine zr_lc0 dX12_between_13 ?_
    refine zr_lcmp dX12_between_14 (by omega) (by omega) ?_
    refine zr_ifle dX12_between_15 (tgt := 24) (by decide) (zcmp_b _ _) (fun h15 => ?_) (fun h15 => ?_)
    · refine zr_getstatic dX12_between_24 q888 (z_turnV1 T) ?_
      have e9 : x * v - y * u < 0 := by
        have := mt zcmp_eq.mpr h9
        have := mt zcmp_gt.mpr (by omega : ¬ 0 < zcmp (x * v - y * u) 0)
        omega
      refine zr_areturn dX12_between_27 rfl rfl rfl ?_
      first
        | (rw [show pTnK x y u v = 0 from by unfold pTnK; (first | rw [if_pos (by omega)] | rw [if_neg (by omega), if_pos (by omega)] | rw [if_neg (by omega), if_neg (by omega), if_pos (by omega)] | rw [if_neg (by omega), if_neg (by omega), if_neg (by omega)])] at k; exact k)
        | (rw [show pTnK x y u v = 1 from by unfold pTnK; (first | rw [if_pos (by omega)] | rw [if_neg (by omega), if_pos (by omega)] | rw [if_neg (by omega), if_neg (by omega), if_pos (by omega)] | rw [if_neg (by omega), if_neg (by omega), if_neg (by omega)])] at k; exact k)
    · refine zr_getstatic dX12_between_18 q886 (z_turnV0 T) ?_
      have e9 : 0 < x * v - y * u := zcmp_gt.mp (by omega)
      refine zr_goto dX12_between_21 (tgt := 27) (by decide) ?_
      refine zr_areturn dX12_between_27 rfl rfl rfl ?_
      first
        | (rw [show pTnK x y u v = 0 from by unfold pTnK; (first | rw [if_pos (by omega)] | rw [if_neg (by omega), if_pos (by omega)] | rw [if_neg (by omega), if_neg (by omega), if_pos (by omega)] | rw [if_neg (by omega), if_neg (by omega), if_neg (by omega)])] at k; exact k)
        | (rw [show pTnK x y u v = 1 from by unfold pTnK; (first | rw [if_pos (by omega)] | rw [if_neg (by omega), if_pos (by omega)] | rw [if_neg (by omega), if_neg (by omega), if_pos (by omega)] | rw [if_neg (by omega), if_neg (by omega), if_neg (by omega)])] at k; exact k)
theorem kX3_of {G : State} {d rc rs : Nat} {ah : zH} {Q : zRs → zH → Prop} {m : Int} (qm : -2147483648 ≤ m ∧ m ≤ 2147483647) (hd : 9 ≤ d) (hc : 1 ≤ rc) (hs : 6 ≤ rs) (k : pIn m 0 2 = true → Q (.inl (some (.ref (zMo G m.toNat)))) ah) (kx : pIn m 0 2 = false → ∀ q, ah q = none → Q (.inr ("java/lang/IllegalArgumentException", q)) (z_up ah q (.inl (18, [])))) : zW G mX3_of d rc rs 0 (zent [.int (zi m)]) [] ah Q := by
  refine zW_open 0 [some (.int (zi m))] rfl ?_
  refine zW_tb (fun T => ?_)
  refine zr_iload_n dX3_of_0 rfl ?_
  refine zr_iconst dX3_of_1 ?_
  refine zr_iconst dX3_of_2 ?_
  refine zc_sN3 rfl dX3_of_3 hX1_inRange gX1_inRange rfl rfl 0 0 0 (by omega) (Nat.zero_le _) (Nat.zero_le _) q1491 q830 ?_
  refine kX1_inRange (by omega) (by omega) (by omega) (zK_i ?_)
  refine zc_sN1 rfl dX3_of_6 hX1_checkArgument gX1_checkArgument rfl rfl 8 1 6 (by omega) (by omega) (by omega) q1492 q1043 ?_
  refine kX1_checkArgument (by omega) (by omega) (by omega) (fun h6 => zK_v ?_) (fun h6 q6 hq6 => zK_x (zX_out (fun x hx => nomatch hx) ?_))
  rotate_left
  · exact kx h6 _ hq6
  have p6 := pIn_iff.mp h6
  refine zr_iload_n dX3_of_9 rfl ?_
  refine zr_ifne dX3_of_10 (tgt := 19) (by decide) (by omega) (fun h10 => ?_) (fun h10 => ?_)
  · refine zr_iload_n dX3_of_19 rfl ?_
    refine zr_iconst dX3_of_20 ?_
    refine zr_icmpne dX3_of_21 (tgt := 30) (by decide) (by omega) (by omega) (fun h21 => ?_) (fun h21 => ?_)
    · refine zr_getstatic dX3_of_30 q1496 (z_modeV2 T) ?_
      refine zr_areturn dX3_of_33 rfl rfl rfl ?_
      have w := k h6
      first
        | (rw [show m = 0 by omega] at w; exact w)
        | (rw [show m = 1 by omega] at w; exact w)
        | (rw [show m = 2 by omega] at w; exact w)
    · refine zr_getstatic dX3_of_24 q1495 (z_modeV1 T) ?_
      refine zr_goto dX3_of_27 (tgt := 33) (by decide) ?_
      refine zr_areturn dX3_of_33 rfl rfl rfl ?_
      have w := k h6
      first
        | (rw [show m = 0 by omega] at w; exact w)
        | (rw [show m = 1 by omega] at w; exact w)
        | (rw [show m = 2 by omega] at w; exact w)
  · refine zr_getstatic dX3_of_13 q1493 (z_modeV0 T) ?_
    refine zr_goto dX3_of_16 (tgt := 33) (by decide) ?_
    refine zr_areturn dX3_of_33 rfl rfl rfl ?_
    have w := k h6
    first
      | (rw [show m = 0 by omega] at w; exact w)
      | (rw [show m = 1 by omega] at w; exact w)
      | (rw [show m = 2 by omega] at w; exact w)
section ZSTL
variable {G : State} {F U : Nat → Prop} {ah : zH} {a w e n l : Nat} {s : Int → Int} {mc : Int} {f g : Nat → Value} {ps : List Nat} {tv : Value}
theorem zSt.len (H : zSt G F U ah a s w e n mc f ps l g tv) {x y : Int} (h1 : pR x) (h2 : pR y) : g (12 * x + y).toNat = .int (zi (pTr s x y)) := by
  obtain ⟨a1, a2⟩ := h1
  obtain ⟨b1, b2⟩ := h2
  rw [H.2.2.2.2.2.1 _ (by omega)]
  unfold pTr
  rw [show 48 + (((12 * x + y).toNat : Nat) : Int) = 48 + 12 * x + y by omega]
theorem zSt.wp (H : zSt G F U ah a s w e n mc f ps l g tv) {i : Int} (h0 : 0 ≤ i) (h1 : i < s 0) : ∃ p, ps[i.toNat]? = some p ∧ zWp F ah p (pOf s i 0) (pOf s i 1) (pOf s i 2) := by
  have hl := H.2.2.1
  have hi : i.toNat < ps.length := by omega
  refine ⟨ps[i.toNat], List.getElem?_eq_getElem hi, ?_⟩
  have := H.2.2.2.1 i.toNat _ (List.getElem?_eq_getElem hi)
  rw [show ((i.toNat : Nat) : Int) = i by omega] at this
  exact this
end ZSTL
theorem kX2_size {G : State} {d rc rs : Nat} {ah : zH} {Q : zRs → zH → Prop} {F U : Nat → Prop} {a w e n l : Nat} {s : Int → Int} {mc : Int} {f g : Nat → Value} {ps : List Nat} {tv : Value} (H : zSt G F U ah a s w e n mc f ps l g tv) (hd : 1 ≤ d) (k : Q (.inl (some (.int (zi (s 0))))) ah) : zW G mX2_size d rc rs 0 (zent [.ref a]) [] ah Q := by
  refine zW_open 0 [some (.ref a)] rfl ?_
  refine zr_aload_n dX2_size_0 rfl rfl ?_
  refine zr_getf dX2_size_1 nX2 (k := 0) (by decide) q183 (Or.inl rfl) H.1 rfl ?_
  refine zc_v0 dX2_size_4 hJ2_size gJ2_size rfl rfl 0 0 0 (by omega) (Nat.zero_le _) (Nat.zero_le _) q310 q311 q312 H.2.1.rc ?_
  refine kJ2_size H.2.1 (zK_i ?_)
  refine zr_ireturn dX2_size_7 rfl (by first | rfl | exact z_nb _) ?_
  rw [← H.2.2.1] at k
  exact k
theorem kX2_lengthOf {G : State} {d rc rs : Nat} {ah : zH} {Q : zRs → zH → Prop} {F U : Nat → Prop} {a w e n l : Nat} {s : Int → Int} {mc : Int} {f g : Nat → Value} {ps : List Nat} {tv : Value} (H : zSt G F U ah a s w e n mc f ps l g tv) {x y : Int} (h1 : pR x) (h2 : pR y) (k : Q (.inl (some (.int (zi (pTr s x y))))) ah) : zW G mX2_lengthOf d rc rs 0 (zent [.ref a, .int (zi x), .int (zi y)]) [] ah Q := by
  refine zW_open 0 [some (.ref a), some (.int (zi x)), some (.int (zi y))] rfl ?_
  refine zr_aload_n dX2_lengthOf_0 rfl rfl ?_
  refine zr_getf dX2_lengthOf_1 nX2 (k := 1) (by decide) q184 (Or.inl rfl) H.1 rfl ?_
  refine zr_bipush dX2_lengthOf_4 rfl ?_
  refine zr_iload_n dX2_lengthOf_6 rfl ?_
  refine zr_imul dX2_lengthOf_7 ?_
  refine zr_iload_n dX2_lengthOf_8 rfl ?_
  refine zr_iadd dX2_lengthOf_9 ?_
  refine zr_iaload dX2_lengthOf_10 (Or.inl H.2.2.2.2.1) (by decide) (by obtain ⟨_, _⟩ := h1; obtain ⟨_, _⟩ := h2; omega) (H.len h1 h2) ?_
  refine zr_ireturn dX2_lengthOf_11 rfl (by first | rfl | exact z_nb _) ?_
  exact k
theorem kX2_waypoint {G : State} {d rc rs : Nat} {ah : zH} {Q : zRs → zH → Prop} {F U : Nat → Prop} {a w e n l : Nat} {s : Int → Int} {mc : Int} {f g : Nat → Value} {ps : List Nat} {tv : Value} (H : zSt G F U ah a s w e n mc f ps l g tv) (hV : pV s) {i : Int} (qi : -2147483648 ≤ i ∧ i ≤ 2147483647) (hd : 9 ≤ d) (hc : 1 ≤ rc) (hs : 6 ≤ rs) (k : ∀ p, pPt s i = true → zWp F ah p (pOf s i 0) (pOf s i 1) (pOf s i 2) → Q (.inl (some (.ref p))) ah) (kx : pPt s i = false → ∀ q, ah q = none → Q (.inr ("java/lang/IndexOutOfBoundsException", q)) (z_up ah q (.inl (21, [])))) : zW G mX2_waypoint d rc rs 0 (zent [.ref a, .int (zi i)]) [] ah Q := by
  refine zW_open 0 [some (.ref a), some (.int (zi i))] rfl ?_
  have v := hV.h
  refine zr_iload_n dX2_waypoint_0 rfl ?_
  refine zr_aload_n dX2_waypoint_1 rfl rfl ?_
  refine zc_v0 dX2_waypoint_2 hX2_size gX2_size rfl rfl 1 0 0 (by omega) (Nat.zero_le _) (Nat.zero_le _) q336 q307 q308 H.rc ?_
  refine kX2_size H (by omega) (zK_i ?_)
  refine zc_sN2 rfl dX2_waypoint_5 hX1_checkIndex gX1_checkIndex rfl rfl 8 1 6 (by omega) (by omega) (by omega) q1190 q1191 ?_
  refine kX1_checkIndex (by omega) (by omega) (by omega) (by omega) (by omega) (fun h5 => zK_v ?_) (fun h5 q hq => zK_x (zX_out (fun x hx => nomatch hx) (kx h5 q hq)))
  have p5 := pIn_iff.mp h5
  obtain ⟨p, hp1, hp2⟩ := H.wp (i := i) (by omega) (by omega)
  refine zr_aload_n dX2_waypoint_8 rfl rfl ?_
  refine zr_getf dX2_waypoint_9 nX2 (k := 0) (by decide) q183 (Or.inl rfl) H.1 rfl ?_
  refine zr_iload_n dX2_waypoint_12 rfl ?_
  refine zc_v1 dX2_waypoint_13 hJ2_get gJ2_get rfl rfl 2 0 0 (by omega) (Nat.zero_le _) (Nat.zero_le _) q840 q841 q842 H.2.1.rc ?_
  refine kJ2_get H.2.1 (by omega) hp1 (by omega) (zK_i ?_)
  refine zr_cast dX2_waypoint_16 q854 hp2.rc ?_
  refine zr_areturn dX2_waypoint_19 rfl rfl rfl ?_
  exact k p h5 hp2
theorem kX2_checkPair {G : State} {d rc rs : Nat} {ah : zH} {Q : zRs → zH → Prop} {F U : Nat → Prop} {a w e n l : Nat} {s : Int → Int} {mc : Int} {f g : Nat → Value} {ps : List Nat} {tv : Value} (H : zSt G F U ah a s w e n mc f ps l g tv) (hV : pV s) {x y : Int} (qx : -2147483648 ≤ x ∧ x ≤ 2147483647) (qy : -2147483648 ≤ y ∧ y ≤ 2147483647) (hd : 9 ≤ d) (hc : 2 ≤ rc) (hs : 12 ≤ rs) (k : (pPt s x = true ∧ pPt s y = true) → Q (.inl none) ah) (kx : ¬ (pPt s x = true ∧ pPt s y = true) → ∀ q, ah q = none → Q (.inr ("java/lang/IndexOutOfBoundsException", q)) (z_up ah q (.inl (21, [])))) : zW G mX2_checkPair d rc rs 0 (zent [.ref a, .int (zi x), .int (zi y)]) [] ah Q := by
  refine zW_open 0 [some (.ref a), some (.int (zi x)), some (.int (zi y))] rfl ?_
  have v := hV.h
  refine zr_iload_n dX2_checkPair_0 rfl ?_
  refine zr_aload_n dX2_checkPair_1 rfl rfl ?_
  refine zc_v0 dX2_checkPair_2 hX2_size gX2_size rfl rfl 1 0 0 (by omega) (Nat.zero_le _) (Nat.zero_le _) q336 q307 q308 H.rc ?_
  refine kX2_size H (by omega) (zK_i ?_)
  refine zc_sN2 rfl dX2_checkPair_5 hX1_checkIndex gX1_checkIndex rfl rfl 8 1 6 (by omega) (by omega) (by omega) q1190 q1191 ?_
  refine kX1_checkIndex (by omega) (by omega) (by omega) (by omega) (by omega) (fun h5 => zK_v ?_) (fun h5 q hq => zK_x (zX_out (fun x hx => nomatch hx) (kx (fun z => by rw [show pPt s x = pIn x 0 (s 0 - 1) from rfl, h5] at z; exact absurd z.1 (by decide)) q hq)))
  refine zr_iload_n dX2_checkPair_8 rfl ?_
  refine zr_aload_n dX2_checkPair_9 rfl rfl ?_
  refine zc_v0 dX2_checkPair_10 hX2_size gX2_size rfl rfl 1 0 0 (by omega) (Nat.zero_le _) (Nat.zero_le _) q336 q307 q308 H.rc ?_
  refine kX2_size H (by omega) (zK_i ?_)
  refine zc_sN2 rfl dX2_checkPair_13 hX1_checkIndex gX1_checkIndex rfl rfl 8 1 6 (by omega) (by omega) (by omega) q1190 q1191 ?_
  refine kX1_checkIndex (by omega) (by omega) (by omega) (by omega) (by omega) (fun h13 => zK_v ?_) (fun h13 q hq => zK_x (zX_out (fun x hx => nomatch hx) (kx (fun z => by rw [show pPt s y = pIn y 0 (s 0 - 1) from rfl, h13] at z; exact absurd z.2 (by decide)) q hq)))
  refine zr_return dX2_checkPair_16 rfl ?_
  exact k ⟨h5, h13⟩
theorem kX2_pointOf {G : State} {d rc rs : Nat} {ah : zH} {Q : zRs → zH → Prop} {F U : Nat → Prop} {a w e n l : Nat} {s : Int → Int} {mc : Int} {f g : Nat → Value} {ps : List Nat} {tv : Value} (H : zSt G F U ah a s w e n mc f ps l g tv) {i : Int} (h0 : 0 ≤ i) (h1 : i < s 0) (hd : 3 ≤ d) (k : ∀ p, zPt ah p (pOf s i 0) (pOf s i 1) → Q (.inl (some (.ref p))) ah) : zW G mX2_pointOf d rc rs 0 (zent [.ref a, .int (zi i)]) [] ah Q := by
  refine zW_open 0 [some (.ref a), some (.int (zi i))] rfl ?_
  obtain ⟨wp, hp1, hp2⟩ := H.wp h0 h1
  obtain ⟨-, p, -, hp3, hp4⟩ := id hp2
  refine zr_aload_n dX2_pointOf_0 rfl rfl ?_
  refine zr_getf dX2_pointOf_1 nX2 (k := 0) (by decide) q183 (Or.inl rfl) H.1 rfl ?_
  refine zr_iload_n dX2_pointOf_4 rfl ?_
  refine zc_v1 dX2_pointOf_5 hJ2_get gJ2_get rfl rfl 2 0 0 (by omega) (Nat.zero_le _) (Nat.zero_le _) q840 q841 q842 H.2.1.rc ?_
  refine kJ2_get H.2.1 h0 hp1 (by omega) (zK_i ?_)
  refine zr_cast dX2_pointOf_8 q854 hp2.rc ?_
  refine zc_v0 dX2_pointOf_11 hX5_point gX5_point rfl rfl 0 0 0 (by omega) (Nat.zero_le _) (Nat.zero_le _) q855 q856 q857 hp2.rc ?_
  refine kX5_point hp3 (zK_i ?_)
  refine zr_areturn dX2_pointOf_14 rfl rfl rfl ?_
  exact k p hp4
