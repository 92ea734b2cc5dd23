set_option maxRecDepth 100000
/-! ===== the component: points, squares, tours, waypoints, events ===== -/
section ZLC
variable {G : State} {M : zMd} {d rc rs pc : Nat} {ls : List (Option Value)} {st : List Value} {ah : zH} {Q : zRs → zH → Prop}
theorem zr_lc0 (hd : decode M.2.1 pc = .ok (.lconst 0, 1)) (k : zW G M d rc rs (pc + 1) ls (.long (zl 0) :: st) ah Q) : zW G M d rc rs pc ls st ah Q := zr_lconst (n := 0) hd rfl k
theorem zr_lc1 (hd : decode M.2.1 pc = .ok (.lconst 1, 1)) (k : zW G M d rc rs (pc + 1) ls (.long (zl 1) :: st) ah Q) : zW G M d rc rs pc ls st ah Q := zr_lconst (n := 1) hd rfl k
end ZLC
theorem z_upk {ah : zH} {p q : Nat} {x y : zO} (hq : ah q = none) (h : ah p = some x) : z_up ah q y p = some x := by
  rw [z_up_n (fun z => by rw [z, hq] at h; cases h)]; exact h
theorem kJ14_init {G : State} {d rc rs : Nat} {ah : zH} {Q : zRs → zH → Prop} {a : Nat} (hd : 1 ≤ d) (k : Q (.inl none) ah) : zW G mJ14_init d rc rs 0 (zent [.ref a]) [] ah Q := by
  refine zW_open 0 [some (.ref a)] rfl ?_
  refine zr_aload_n dJ14_init_0 rfl rfl ?_
  refine zr_objInit dJ14_init_1 q871 q144 q145 (by decide) (by omega) ?_
  refine zr_return dJ14_init_4 rfl ?_
  exact k
theorem kX6_init {G : State} {d rc rs : Nat} {ah : zH} {Q : zRs → zH → Prop} {a : Nat} {v0 v1 : Value} {x y : Int} (ha : ah a = some (.inl (4, [v0, v1]))) (hd : 2 ≤ d) (k : Q (.inl none) (z_up ah a (.inl (4, [.int (zi x), .int (zi y)])))) : zW G mX6_init d rc rs 0 (zent [.ref a, .int (zi x), .int (zi y)]) [] ah Q := by
  refine zW_open 0 [some (.ref a), some (.int (zi x)), some (.int (zi y))] rfl ?_
  refine zr_aload_n dX6_init_0 rfl rfl ?_
  refine zc_i0 rfl rfl rfl dX6_init_1 hJ14_init gJ14_init rfl rfl 1 0 0 (by omega) (Nat.zero_le _) (Nat.zero_le _) q868 q869 ?_
  refine kJ14_init (by omega) (zK_v ?_)
  refine zr_aload_n dX6_init_4 rfl rfl ?_
  refine zr_iload_n dX6_init_5 rfl ?_
  refine zr_putf dX6_init_6 nX6 (k := 0) (by decide) q872 (Or.inl rfl) (Or.inr ⟨rfl, rfl, rfl⟩) ha (z_ble rfl) rfl rfl ?_
  refine zr_aload_n dX6_init_9 rfl rfl ?_
  refine zr_iload_n dX6_init_10 rfl ?_
  refine zr_putf dX6_init_11 nX6 (k := 1) (by decide) q873 (Or.inl rfl) (Or.inr ⟨rfl, rfl, rfl⟩) z_up_s (z_ble rfl) rfl rfl ?_
  rw [z_up_o]
  refine zr_return dX6_init_14 rfl ?_
  exact k
theorem kX6_x {G : State} {d rc rs : Nat} {ah : zH} {Q : zRs → zH → Prop} {p : Nat} {x y : Int} (H : zPt ah p x y) (k : Q (.inl (some (.int (zi x)))) ah) : zW G mX6_x d rc rs 0 (zent [.ref p]) [] ah Q := by
  refine zW_open 0 [some (.ref p)] rfl ?_
  refine zr_aload_n dX6_x_0 rfl rfl ?_
  refine zr_getf dX6_x_1 nX6 (k := 0) (by decide) q872 (Or.inl rfl) H rfl ?_
  refine zr_ireturn dX6_x_4 rfl (by first | rfl | exact z_nb _) ?_
  exact k
theorem kX6_y {G : State} {d rc rs : Nat} {ah : zH} {Q : zRs → zH → Prop} {p : Nat} {x y : Int} (H : zPt ah p x y) (k : Q (.inl (some (.int (zi y)))) ah) : zW G mX6_y d rc rs 0 (zent [.ref p]) [] ah Q := by
  refine zW_open 0 [some (.ref p)] rfl ?_
  refine zr_aload_n dX6_y_0 rfl rfl ?_
  refine zr_getf dX6_y_1 nX6 (k := 1) (by decide) q873 (Or.inl rfl) H rfl ?_
  refine zr_ireturn dX6_y_4 rfl (by first | rfl | exact z_nb _) ?_
  exact k
theorem kX6_minus {G : State} {d rc rs : Nat} {ah : zH} {Q : zRs → zH → Prop} {p : Nat} {x y : Int} (H : zPt ah p x y) {q : Nat} {u v : Int} (H2 : zPt ah q u v) (hd : 3 ≤ d) (hc : 1 ≤ rc) (hs : 2 ≤ rs) (k : ∀ r, ah r = none → Q (.inl (some (.ref r))) (z_up ah r (.inl (4, [.int (zi (x - u)), .int (zi (y - v))])))) : zW G mX6_minus d rc rs 0 (zent [.ref p, .ref q]) [] ah Q := by
  refine zW_open 0 [some (.ref p), some (.ref q)] rfl ?_
  refine zr_new (fs := [.int (zi 0), .int (zi 0)]) dX6_minus_0 nX6 q863 q864 q111 (z_ble rfl) dfX6 (by omega) (by omega) (fun r hr => ?_)
  refine zr_dup dX6_minus_3 rfl ?_
  refine zr_aload_n dX6_minus_4 rfl rfl ?_
  refine zr_getf dX6_minus_5 nX6 (k := 0) (by decide) q872 (Or.inl rfl) (z_upk hr H) rfl ?_
  refine zr_aload_n dX6_minus_8 rfl rfl ?_
  refine zr_getf dX6_minus_9 nX6 (k := 0) (by decide) q872 (Or.inl rfl) (z_upk hr H2) rfl ?_
  refine zr_isub dX6_minus_12 ?_
  refine zr_aload_n dX6_minus_13 rfl rfl ?_
  refine zr_getf dX6_minus_14 nX6 (k := 1) (by decide) q873 (Or.inl rfl) (z_upk hr H) rfl ?_
  refine zr_aload_n dX6_minus_17 rfl rfl ?_
  refine zr_getf dX6_minus_18 nX6 (k := 1) (by decide) q873 (Or.inl rfl) (z_upk hr H2) rfl ?_
  refine zr_isub dX6_minus_21 ?_
  refine zc_i2 rfl rfl rfl dX6_minus_22 hX6_init gX6_init rfl rfl 2 0 0 (by omega) (Nat.zero_le _) (Nat.zero_le _) q865 q866 ?_
  refine kX6_init z_up_s (by omega) (zK_v ?_)
  rw [z_up_o]
  refine zr_areturn dX6_minus_25 rfl rfl rfl ?_
  exact k r hr
theorem kX6_cross {G : State} {d rc rs : Nat} {ah : zH} {Q : zRs → zH → Prop} {p : Nat} {x y : Int} (H : zPt ah p x y) {q : Nat} {u v : Int} (H2 : zPt ah q u v) (hbx : -99 ≤ x ∧ x ≤ 99) (hby : -99 ≤ y ∧ y ≤ 99) (hbu : -99 ≤ u ∧ u ≤ 99) (hbv : -99 ≤ v ∧ v ≤ 99) (k : Q (.inl (some (.long (zl (x * v - y * u))))) ah) : zW G mX6_cross d rc rs 0 (zent [.ref p, .ref q]) [] ah Q := by
  refine zW_open 0 [some (.ref p), some (.ref q)] rfl ?_
  refine zr_aload_n dX6_cross_0 rfl rfl ?_
  refine zr_getf dX6_cross_1 nX6 (k := 0) (by decide) q872 (Or.inl rfl) H rfl ?_
  refine zr_i2l dX6_cross_4 (by omega) ?_
  refine zr_aload_n dX6_cross_5 rfl rfl ?_
  refine zr_getf dX6_cross_6 nX6 (k := 1) (by decide) q873 (Or.inl rfl) H2 rfl ?_
  refine zr_i2l dX6_cross_9 (by omega) ?_
  refine zr_lmul dX6_cross_10 ?_
  refine zr_aload_n dX6_cross_11 rfl rfl ?_
  refine zr_getf dX6_cross_12 nX6 (k := 1) (by decide) q873 (Or.inl rfl) H rfl ?_
  refine zr_i2l dX6_cross_15 (by omega) ?_
  refine zr_aload_n dX6_cross_16 rfl rfl ?_
  refine zr_getf dX6_cross_17 nX6 (k := 0) (by decide) q872 (Or.inl rfl) H2 rfl ?_
  refine zr_i2l dX6_cross_20 (by omega) ?_
  refine zr_lmul dX6_cross_21 ?_
  refine zr_lsub dX6_cross_22 ?_
  refine zr_lreturn dX6_cross_23 rfl ?_
  exact k
theorem kX6_dot {G : State} {d rc rs : Nat} {ah : zH} {Q : zRs → zH → Prop} {p : Nat} {x y : Int} (H : zPt ah p x y) {q : Nat} {u v : Int} (H2 : zPt ah q u v) (hbx : -99 ≤ x ∧ x ≤ 99) (hby : -99 ≤ y ∧ y ≤ 99) (hbu : -99 ≤ u ∧ u ≤ 99) (hbv : -99 ≤ v ∧ v ≤ 99) (k : Q (.inl (some (.long (zl (x * u + y * v))))) ah) : zW G mX6_dot d rc rs 0 (zent [.ref p, .ref q]) [] ah Q := by
  refine zW_open 0 [some (.ref p), some (.ref q)] rfl ?_
  refine zr_aload_n dX6_dot_0 rfl rfl ?_
  refine zr_getf dX6_dot_1 nX6 (k := 0) (by decide) q872 (Or.inl rfl) H rfl ?_
  refine zr_i2l dX6_dot_4 (by omega) ?_
  refine zr_aload_n dX6_dot_5 rfl rfl ?_
  refine zr_getf dX6_dot_6 nX6 (k := 0) (by decide) q872 (Or.inl rfl) H2 rfl ?_
  refine zr_i2l dX6_dot_9 (by omega) ?_
  refine zr_lmul dX6_dot_10 ?_
  refine zr_aload_n dX6_dot_11 rfl rfl ?_
  refine zr_getf dX6_dot_12 nX6 (k := 1) (by decide) q873 (Or.inl rfl) H rfl ?_
  refine zr_i2l dX6_dot_15 (by omega) ?_
  refine zr_aload_n dX6_dot_16 rfl rfl ?_
  refine zr_getf dX6_dot_17 nX6 (k := 1) (by decide) q873 (Or.inl rfl) H2 rfl ?_
  refine zr_i2l dX6_dot_20 (by omega) ?_
  refine zr_lmul dX6_dot_21 ?_
  refine zr_ladd dX6_dot_22 ?_
  refine zr_lreturn dX6_dot_23 rfl ?_
  exact k
theorem kX6_squared {G : State} {d rc rs : Nat} {ah : zH} {Q : zRs → zH → Prop} {p : Nat} {x y : Int} (H : zPt ah p x y) (hbx : -99 ≤ x ∧ x ≤ 99) (hby : -99 ≤ y ∧ y ≤ 99) (hd : 1 ≤ d) (k : Q (.inl (some (.long (zl (x * x + y * y))))) ah) : zW G mX6_squared d rc rs 0 (zent [.ref p]) [] ah Q := by
  refine zW_open 0 [some (.ref p)] rfl ?_
  refine zr_aload_n dX6_squared_0 rfl rfl ?_
  refine zr_aload_n dX6_squared_1 rfl rfl ?_
  refine zc_v1 dX6_squared_2 hX6_dot gX6_dot rfl rfl 0 0 0 (by omega) (Nat.zero_le _) (Nat.zero_le _) q1359 q891 q892 H.rc ?_
  refine kX6_dot H H (by omega) (by omega) (by omega) (by omega) (zK_i ?_)
  refine zr_lreturn dX6_squared_5 rfl ?_
  exact k
theorem kX6_squaredDistance {G : State} {d rc rs : Nat} {ah : zH} {Q : zRs → zH → Prop} {p : Nat} {x y : Int} (H : zPt ah p x y) {q : Nat} {u v : Int} (H2 : zPt ah q u v) (hbx : 0 ≤ x ∧ x ≤ 99) (hby : 0 ≤ y ∧ y ≤ 99) (hbu : 0 ≤ u ∧ u ≤ 99) (hbv : 0 ≤ v ∧ v ≤ 99) (hd : 4 ≤ d) (hc : 1 ≤ rc) (hs : 2 ≤ rs) (k : ∀ r, ah r = none → Q (.inl (some (.long (zl ((x - u) * (x - u) + (y - v) * (y - v)))))) (z_up ah r (.inl (4, [.int (zi (x - u)), .int (zi (y - v))])))) : zW G mX6_squaredDistance d rc rs 0 (zent [.ref p, .ref q]) [] ah Q := by
  refine zW_open 0 [some (.ref p), some (.ref q)] rfl ?_
  refine zr_aload_n dX6_squaredDistance_0 rfl rfl ?_
  refine zr_aload_n dX6_squaredDistance_1 rfl rfl ?_
  refine zc_v1 dX6_squaredDistance_2 hX6_minus gX6_minus rfl rfl 3 1 2 (by omega) (by omega) (by omega) q1354 q860 q861 H.rc ?_
  refine kX6_minus H H2 (by omega) (by omega) (by omega) (fun r hr => zK_i ?_)
  have H3 : zPt (z_up ah r (.inl (4, [.int (zi (x - u)), .int (zi (y - v))]))) r (x - u) (y - v) := z_up_s
  refine zc_v0 dX6_squaredDistance_5 hX6_squared gX6_squared rfl rfl 1 0 0 (by omega) (Nat.zero_le _) (Nat.zero_le _) q1355 q1356 q1357 H3.rc ?_
  refine kX6_squared H3 (by omega) (by omega) (by omega) (zK_i ?_)
  refine zr_lreturn dX6_squaredDistance_8 rfl ?_
  exact k r hr
/-- a square: numerator, denominator -/
def zSq (ah : zH) (q : Nat) (n m : Int) : Prop := ah q = some (.inl (7, [.long (zl n), .long (zl m)]))
theorem zSq.rc {G : State} {ah : zH} {q : Nat} {n m : Int} (h : zSq ah q n m) : zRc G ah q "TrailGuide$Square" := Or.inl ⟨7, _, TX9, 2, tyX9, nX9, h⟩
theorem pLL {L m : Int} (hL : 0 ≤ L ∧ L ≤ 200) (hm : 0 ≤ m ∧ m ≤ 100000) : 0 ≤ L * L * m ∧ L * L * m ≤ 4000000000 := by
  have a1 : 0 ≤ L * L := Int.mul_nonneg hL.1 hL.1
  have a2 : L * L ≤ 200 * 200 := Int.mul_le_mul hL.2 hL.2 hL.1 (by decide)
  have a3 := Int.mul_le_mul a2 hm.2 hm.1 (by decide)
  exact ⟨Int.mul_nonneg a1 hm.1, by omega⟩
theorem kX9_init {G : State} {d rc rs : Nat} {ah : zH} {Q : zRs → zH → Prop} {a : Nat} {v0 v1 : Value} {n m : Int} (ha : ah a = some (.inl (7, [v0, v1]))) (hd : 2 ≤ d) (k : Q (.inl none) (z_up ah a (.inl (7, [.long (zl n), .long (zl m)])))) : zW G mX9_init d rc rs 0 (zent [.ref a, .long (zl n), .long (zl m)]) [] ah Q := by
  refine zW_open 0 [some (.ref a), some (.long (zl n)), none, some (.long (zl m)), none] rfl ?_
  refine zr_aload_n dX9_init_0 rfl rfl ?_
  refine zc_i0 rfl rfl rfl dX9_init_1 hJ14_init gJ14_init rfl rfl 1 0 0 (by omega) (Nat.zero_le _) (Nat.zero_le _) q1393 q869 ?_
  refine kJ14_init (by omega) (zK_v ?_)
  refine zr_aload_n dX9_init_4 rfl rfl ?_
  refine zr_lload_n dX9_init_5 rfl ?_
  refine zr_putf dX9_init_6 nX9 (k := 0) (by decide) q1394 (Or.inl rfl) (Or.inr ⟨rfl, rfl, rfl⟩) ha (z_ble rfl) rfl rfl ?_
  refine zr_aload_n dX9_init_9 rfl rfl ?_
  refine zr_lload_n dX9_init_10 rfl ?_
  refine zr_putf dX9_init_11 nX9 (k := 1) (by decide) q1395 (Or.inl rfl) (Or.inr ⟨rfl, rfl, rfl⟩) z_up_s (z_ble rfl) rfl rfl ?_
  rw [z_up_o]
  refine zr_return dX9_init_14 rfl ?_
  exact k
theorem kX9_isGreaterThan {G : State} {d rc rs : Nat} {ah : zH} {Q : zRs → zH → Prop} {q : Nat} {n m : Int} (H : zSq ah q n m) (bn : 0 ≤ n ∧ n ≤ 4000000000) (bm : 0 ≤ m ∧ m ≤ 100000) {L : Int} (bL : 0 ≤ L ∧ L ≤ 200) (k : Q (.inl (some (.int (zi (zB (decide (L * L * m < n))))))) ah) : zW G mX9_isGreaterThan d rc rs 0 (zent [.ref q, .long (zl L)]) [] ah Q := by
  refine zW_open 0 [some (.ref q), some (.long (zl L)), none] rfl ?_
  have bb := pLL bL bm
  refine zr_aload_n dX9_isGreaterThan_0 rfl rfl ?_
  refine zr_getf dX9_isGreaterThan_1 nX9 (k := 0) (by decide) q1394 (Or.inl rfl) H rfl ?_
  refine zr_lload_n dX9_isGreaterThan_4 rfl ?_
  refine zr_lload_n dX9_isGreaterThan_5 rfl ?_
  refine zr_lmul dX9_isGreaterThan_6 ?_
  refine zr_aload_n dX9_isGreaterThan_7 rfl rfl ?_
  refine zr_getf dX9_isGreaterThan_8 nX9 (k := 1) (by decide) q1395 (Or.inl rfl) H rfl ?_
  refine zr_lmul dX9_isGreaterThan_11 ?_
  refine zr_lcmp dX9_isGreaterThan_12 (by omega) (by omega) ?_
  refine zr_ifle dX9_isGreaterThan_13 (tgt := 20) (by decide) (zcmp_b _ _) (fun h13 => ?_) (fun h13 => ?_)
  · refine zr_iconst dX9_isGreaterThan_20 ?_
    refine zr_ireturn dX9_isGreaterThan_21 rfl (by first | rfl | exact z_nb _) ?_
    first
      | (rw [decide_eq_true (zcmp_gt.mp (by omega))] at k; exact k)
      | (rw [decide_eq_false (fun z => by have := zcmp_gt.mpr z; omega)] at k; exact k)
  · refine zr_iconst dX9_isGreaterThan_16 ?_
    refine zr_goto dX9_isGreaterThan_17 (tgt := 21) (by decide) ?_
    refine zr_ireturn dX9_isGreaterThan_21 rfl (by first | rfl | exact z_nb _) ?_
    first
      | (rw [decide_eq_true (zcmp_gt.mp (by omega))] at k; exact k)
      | (rw [decide_eq_false (fun z => by have := zcmp_gt.mpr z; omega)] at k; exact k)
theorem kX9_isLessThan {G : State} {d rc rs : Nat} {ah : zH} {Q : zRs → zH → Prop} {q : Nat} {n m : Int} (H : zSq ah q n m) (bn : 0 ≤ n ∧ n ≤ 4000000000) (bm : 0 ≤ m ∧ m ≤ 100000) {L : Int} (bL : 0 ≤ L ∧ L ≤ 200) (k : Q (.inl (some (.int (zi (zB (decide (n < L * L * m))))))) ah) : zW G mX9_isLessThan d rc rs 0 (zent [.ref q, .long (zl L)]) [] ah Q := by
  refine zW_open 0 [some (.ref q), some (.long (zl L)), none] rfl ?_
  have bb := pLL bL bm
  refine zr_aload_n dX9_isLessThan_0 rfl rfl ?_
  refine zr_getf dX9_isLessThan_1 nX9 (k := 0) (by decide) q1394 (Or.inl rfl) H rfl ?_
  refine zr_lload_n dX9_isLessThan_4 rfl ?_
  refine zr_lload_n dX9_isLessThan_5 rfl ?_
  refine zr_lmul dX9_isLessThan_6 ?_
  refine zr_aload_n dX9_isLessThan_7 rfl rfl ?_
  refine zr_getf dX9_isLessThan_8 nX9 (k := 1) (by decide) q1395 (Or.inl rfl) H rfl ?_
  refine zr_lmul dX9_isLessThan_11 ?_
  refine zr_lcmp dX9_isLessThan_12 (by omega) (by omega) ?_
  refine zr_ifge dX9_isLessThan_13 (tgt := 20) (by decide) (zcmp_b _ _) (fun h13 => ?_) (fun h13 => ?_)
  · refine zr_iconst dX9_isLessThan_20 ?_
    refine zr_ireturn dX9_isLessThan_21 rfl (by first | rfl | exact z_nb _) ?_
    first
      | (rw [decide_eq_true (zcmp_lt.mp (by omega))] at k; exact k)
      | (rw [decide_eq_false (fun z => by have := zcmp_lt.mpr z; omega)] at k; exact k)
  · refine zr_iconst dX9_isLessThan_16 ?_
    refine zr_goto dX9_isLessThan_17 (tgt := 21) (by decide) ?_
    refine zr_ireturn dX9_isLessThan_21 rfl (by first | rfl | exact z_nb _) ?_
    first
      | (rw [decide_eq_true (zcmp_lt.mp (by omega))] at k; exact k)
      | (rw [decide_eq_false (fun z => by have := zcmp_lt.mpr z; omega)] at k; exact k)
/-- the root, in whole steps -/
def pRoot (n m : Int) : Nat → Int → Int
  | 0, r => r
  | k + 1, r => if n < (r + 1) * (r + 1) * m then r else pRoot n m k (r + 1)
theorem kX9_rootL {G : State} {d rc rs : Nat} {ah : zH} {Q : zRs → zH → Prop} {q : Nat} {n m : Int} (H : zSq ah q n m) (bn : 0 ≤ n ∧ n ≤ 4000000000) (bm : 0 ≤ m ∧ m ≤ 100000) (hd : 1 ≤ d) (fr : n < 142 * 142 * m) (j : Nat) : ∀ (r : Int), 0 ≤ r → r + j = 141 → (Q (.inl (some (.int (zi (pRoot n m j r))))) ah) → zW G mX9_root d rc rs 2 [some (.ref q), some (.int (zi r))] [] ah Q := by
  induction j with
  | zero =>
    intro r g1 g2 k
    obtain rfl : r = 141 := by omega
    refine zr_aload_n dX9_root_2 rfl rfl ?_
    refine zr_iload_n dX9_root_3 rfl ?_
    refine zr_iconst dX9_root_4 ?_
    refine zr_iadd dX9_root_5 ?_
    refine zr_i2l dX9_root_6 (by omega) ?_
    refine zc_v1 dX9_root_7 hX9_isLessThan gX9_isLessThan rfl rfl 0 0 0 (by omega) (Nat.zero_le _) (Nat.zero_le _) q1658 q1660 sp23 H.rc ?_
    refine kX9_isLessThan H bn bm (by omega) (zK_i ?_)
    refine zr_ifneB dX9_root_10 (tgt := 19) (by decide) (fun h10 => ?_) (fun h10 => ?_)
    · refine zr_iload_n dX9_root_19 rfl ?_
      refine zr_ireturn dX9_root_20 rfl (by first | rfl | exact z_nb _) ?_
      exact k
    · exfalso; exact of_decide_eq_false h10 fr
  | succ j ih =>
    intro r g1 g2 k
    unfold pRoot at k
    refine zr_aload_n dX9_root_2 rfl rfl ?_
    refine zr_iload_n dX9_root_3 rfl ?_
    refine zr_iconst dX9_root_4 ?_
    refine zr_iadd dX9_root_5 ?_
    refine zr_i2l dX9_root_6 (by omega) ?_
    refine zc_v1 dX9_root_7 hX9_isLessThan gX9_isLessThan rfl rfl 0 0 0 (by omega) (Nat.zero_le _) (Nat.zero_le _) q1658 q1660 sp23 H.rc ?_
    refine kX9_isLessThan H bn bm (by omega) (zK_i ?_)
    refine zr_ifneB dX9_root_10 (tgt := 19) (by decide) (fun h10 => ?_) (fun h10 => ?_)
    · refine zr_iload_n dX9_root_19 rfl ?_
      refine zr_ireturn dX9_root_20 rfl (by first | rfl | exact z_nb _) ?_
      rw [if_pos (of_decide_eq_true h10)] at k
      exact k
    · refine zr_iinc dX9_root_13 rfl (by decide) (zs2_1 rfl ?_)
      refine zr_goto dX9_root_16 (tgt := 2) (by decide) ?_
      rw [if_neg (of_decide_eq_false h10)] at k
      exact ih (r + 1) (by omega) (by omega) k
theorem kX9_root {G : State} {d rc rs : Nat} {ah : zH} {Q : zRs → zH → Prop} {q : Nat} {n m : Int} (H : zSq ah q n m) (bn : 0 ≤ n ∧ n ≤ 4000000000) (bm : 0 ≤ m ∧ m ≤ 100000) (hd : 1 ≤ d) (fr : n < 142 * 142 * m) (k : Q (.inl (some (.int (zi (pRoot n m 141 0))))) ah) : zW G mX9_root d rc rs 0 (zent [.ref q]) [] ah Q := by
  refine zW_open 1 [some (.ref q), none] rfl ?_
  refine zr_iconst dX9_root_0 ?_
  refine zr_istore_n dX9_root_1 (by decide) (zs2_1 rfl ?_)
  exact kX9_rootL H bn bm hd fr 141 0 (by omega) (by omega) k
/-- the squared distance of (x, y) from the leg (b, a): numerator, denominator -/
def pSd (x y bx b_y ax ay : Int) : Int × Int := if (x - bx) * (ax - bx) + (y - b_y) * (ay - b_y) ≤ 0 then ((x - bx) * (x - bx) + (y - b_y) * (y - b_y), 1) else if (ax - bx) * (ax - bx) + (ay - b_y) * (ay - b_y) ≤ (x - bx) * (ax - bx) + (y - b_y) * (ay - b_y) then ((x - ax) * (x - ax) + (y - ay) * (y - ay), 1) else
  (((x - bx) * (ay - b_y) - (y - b_y) * (ax - bx)) * ((x - bx) * (ay - b_y) - (y - b_y) * (ax - bx)), (ax - bx) * (ax - bx) + (ay - b_y) * (ay - b_y))
theorem pSd_cmp {x y bx b_y ax ay L : Int} : (pSd x y bx b_y ax ay).1 - L * L * (pSd x y bx b_y ax ay).2 = pCmp x y ax ay bx b_y L := by
  unfold pSd pCmp pSq
  split
  · simp
  · split
    · simp
    · rfl
theorem pMb {a b : Int} (ha : -99 ≤ a ∧ a ≤ 99) (hb : -99 ≤ b ∧ b ≤ 99) : -9801 ≤ a * b ∧ a * b ≤ 9801 := by
  have h1 : (99 - a) * (99 - b) ≥ 0 := Int.mul_nonneg (by omega) (by omega)
  have h2 : (99 + a) * (99 + b) ≥ 0 := Int.mul_nonneg (by omega) (by omega)
  have h3 : (99 - a) * (99 + b) ≥ 0 := Int.mul_nonneg (by omega) (by omega)
  have h4 : (99 + a) * (99 - b) ≥ 0 := Int.mul_nonneg (by omega) (by omega)
  have e1 : (99 - a) * (99 - b) = 9801 - 99 * b - 99 * a + a * b := by rw [Int.sub_mul, Int.mul_sub, Int.mul_sub]; omega
  have e2 : (99 + a) * (99 + b) = 9801 + 99 * b + 99 * a + a * b := by rw [Int.add_mul, Int.mul_add, Int.mul_add]; omega
  have e3 : (99 - a) * (99 + b) = 9801 + 99 * b - 99 * a - a * b := by rw [Int.sub_mul, Int.mul_add, Int.mul_add]; omega
  have e4 : (99 + a) * (99 - b) = 9801 - 99 * b + 99 * a - a * b := by rw [Int.add_mul, Int.mul_sub, Int.mul_sub]; omega
  omega
theorem pSb {a : Int} (ha : -99 ≤ a ∧ a ≤ 99) : 0 ≤ a * a ∧ a * a ≤ 9801 := by
  have := pMb ha ha
  refine ⟨?_, this.2⟩
  rcases Int.le_total 0 a with h | h
  · exact Int.mul_nonneg h h
  · have := Int.mul_nonneg (a := -a) (b := -a) (by omega) (by omega)
    rw [Int.neg_mul_neg] at this
    exact this
theorem pCb {c : Int} (h : -19602 ≤ c ∧ c ≤ 19602) : 0 ≤ c * c ∧ c * c ≤ 384238404 := by
  rcases Int.le_total 0 c with z | z
  · exact ⟨Int.mul_nonneg z z, Int.mul_le_mul h.2 h.2 z (by decide)⟩
  · have e : (-c) * (-c) = c * c := Int.neg_mul_neg c c
    have a := Int.mul_nonneg (a := -c) (b := -c) (by omega) (by omega)
    have b := Int.mul_le_mul (a := -c) (b := -c) (c := 19602) (d := 19602) (by omega) (by omega) (by omega) (by decide)
    rw [e] at a b
    exact ⟨a, b⟩
theorem pSd_b {x y bx b_y ax ay : Int} (h1 : 0 ≤ x ∧ x ≤ 99) (h2 : 0 ≤ y ∧ y ≤ 99) (h3 : 0 ≤ bx ∧ bx ≤ 99) (h4 : 0 ≤ b_y ∧ b_y ≤ 99) (h5 : 0 ≤ ax ∧ ax ≤ 99) (h6 : 0 ≤ ay ∧ ay ≤ 99) : (0 ≤ (pSd x y bx b_y ax ay).1 ∧ (pSd x y bx b_y ax ay).1 ≤ 4000000000) ∧ (0 ≤ (pSd x y bx b_y ax ay).2 ∧ (pSd x y bx b_y ax ay).2 ≤ 100000) := by
  have a1 := pSb (a := x - bx) (by omega)
  have a2 := pSb (a := y - b_y) (by omega)
  have a3 := pSb (a := ax - bx) (by omega)
  have a4 := pSb (a := ay - b_y) (by omega)
  have a5 := pSb (a := x - ax) (by omega)
  have a6 := pSb (a := y - ay) (by omega)
  have m1 := pMb (a := x - bx) (b := ay - b_y) (by omega) (by omega)
  have m2 := pMb (a := y - b_y) (b := ax - bx) (by omega) (by omega)
  have c1 := pCb (c := (x - bx) * (ay - b_y) - (y - b_y) * (ax - bx)) (by omega)
  unfold pSd
  split
  · dsimp only; omega
  · split
    · dsimp only; omega
    · dsimp only; omega
theorem kX1_squaredDrift {G : State} {d rc rs : Nat} {ah : zH} {Q : zRs → zH → Prop} {p q r : Nat} {x y bx b_y ax ay : Int} (H : zPt ah p x y) (H2 : zPt ah q bx b_y) (H3 : zPt ah r ax ay) (b1 : 0 ≤ x ∧ x ≤ 99) (b2 : 0 ≤ y ∧ y ≤ 99) (b3 : 0 ≤ bx ∧ bx ≤ 99) (b4 : 0 ≤ b_y ∧ b_y ≤ 99) (b5 : 0 ≤ ax ∧ ax ≤ 99) (b6 : 0 ≤ ay ∧ ay ≤ 99) (hd : 5 ≤ d) (hc : 4 ≤ rc) (hs : 8 ≤ rs) (k : ∀ (ah9 : zH) (w : Nat), zGr ah ah9 → ah w = none → zSq ah9 w (pSd x y bx b_y ax ay).1 (pSd x y bx b_y ax ay).2 → Q (.inl (some (.ref w))) ah9) : zW G mX1_squaredDrift d rc rs 0 (zent [.ref p, .ref q, .ref r]) [] ah Q := by
  refine zW_open 6 [some (.ref p), some (.ref q), some (.ref r), none, none, none, none, none, none] rfl ?_
  have a1 := pMb (a := x - bx) (b := ax - bx) (by omega) (by omega)
  have a2 := pMb (a := y - b_y) (b := ay - b_y) (by omega) (by omega)
  have a3 := pSb (a := ax - bx) (by omega)
  have a4 := pSb (a := ay - b_y) (by omega)
  refine zr_aload_n dX1_squaredDrift_0 rfl rfl ?_
  refine zr_aload_n dX1_squaredDrift_1 rfl rfl ?_
  refine zc_v1 dX1_squaredDrift_2 hX6_minus gX6_minus rfl rfl 3 1 2 (by omega) (by omega) (by omega) q1385 q860 q861 H3.rc ?_
  refine kX6_minus H3 H2 (by omega) (by omega) (by omega) (fun t1 e1 => zK_i ?_)
  have K1 : zPt (z_up ah t1 (.inl (4, [.int (zi (ax - bx)), .int (zi (ay - b_y))]))) t1 (ax - bx) (ay - b_y) := z_up_s
  have g1 := zGr.up (o := .inl (4, [.int (zi (ax - bx)), .int (zi (ay - b_y))])) e1
  generalize z_up ah t1 (.inl (4, [.int (zi (ax - bx)), .int (zi (ay - b_y))])) = ah1 at K1 g1 ⊢
  refine zr_astore_n dX1_squaredDrift_5 (by decide) rfl (zs9_3 rfl ?_)
  refine zr_aload_n dX1_squaredDrift_6 rfl rfl ?_
  refine zr_aload_n dX1_squaredDrift_7 rfl rfl ?_
  refine zc_v1 dX1_squaredDrift_8 hX6_minus gX6_minus rfl rfl 3 1 2 (by omega) (by omega) (by omega) q1385 q860 q861 (H.gr g1).rc ?_
  refine kX6_minus (H.gr g1) (H2.gr g1) (by omega) (by omega) (by omega) (fun t2 e2 => zK_i ?_)
  have K2 : zPt (z_up ah1 t2 (.inl (4, [.int (zi (x - bx)), .int (zi (y - b_y))]))) t2 (x - bx) (y - b_y) := z_up_s
  have g2 := zGr.up (o := .inl (4, [.int (zi (x - bx)), .int (zi (y - b_y))])) e2
  generalize z_up ah1 t2 (.inl (4, [.int (zi (x - bx)), .int (zi (y - b_y))])) = ah2 at K2 g2 ⊢
  have K3 := K1.gr g2
  refine zr_astore dX1_squaredDrift_11 (by decide) rfl (zs9_4 rfl ?_)
  refine zr_aload dX1_squaredDrift_13 rfl rfl ?_
  refine zr_aload_n dX1_squaredDrift_15 rfl rfl ?_
  refine zc_v1 dX1_squaredDrift_16 hX6_dot gX6_dot rfl rfl 0 0 0 (by omega) (Nat.zero_le _) (Nat.zero_le _) q1386 q891 q892 K2.rc ?_
  refine kX6_dot K2 K3 (by omega) (by omega) (by omega) (by omega) (zK_i ?_)
  refine zr_lstore dX1_squaredDrift_19 (by decide) (zt9_5 rfl ?_)
  refine zr_lload dX1_squaredDrift_21 rfl ?_
  refine zr_lc0 dX1_squaredDrift_23 ?_
  refine zr_lcmp dX1_squaredDrift_24 (by omega) (by omega) ?_
  refine zr_ifgt dX1_squaredDrift_25 (tgt := 42) (by decide) (zcmp_b _ _) (fun h25 => ?_) (fun h25 => ?_)
  · refine zr_lload dX1_squaredDrift_42 rfl ?_
    refine zr_aload_n dX1_squaredDrift_44 rfl rfl ?_
    refine zc_v0 dX1_squaredDrift_45 hX6_squared gX6_squared rfl rfl 1 0 0 (by omega) (Nat.zero_le _) (Nat.zero_le _) q1389 q1356 q1357 K3.rc ?_
    refine kX6_squared K3 (by omega) (by omega) (by omega) (zK_i ?_)
    refine zr_lcmp dX1_squaredDrift_48 (by omega) (by omega) ?_
    refine zr_iflt dX1_squaredDrift_49 (tgt := 66) (by decide) (zcmp_b _ _) (fun h49 => ?_) (fun h49 => ?_)
    · refine zr_aload dX1_squaredDrift_66 rfl rfl ?_
      refine zr_aload_n dX1_squaredDrift_68 rfl rfl ?_
      refine zc_v1 dX1_squaredDrift_69 hX6_cross gX6_cross rfl rfl 0 0 0 (by omega) (Nat.zero_le _) (Nat.zero_le _) q1402 q883 q884 K2.rc ?_
      refine kX6_cross K2 K3 (by omega) (by omega) (by omega) (by omega) (zK_i ?_)
      refine zr_lstore dX1_squaredDrift_72 (by decide) (zt9_7 rfl ?_)
      refine zr_new (fs := [.long (zl 0), .long (zl 0)]) dX1_squaredDrift_74 nX9 q1387 q1388 q127 (z_ble rfl) dfX9 (by omega) (by omega) (fun w hw => ?_)
      refine zr_dup dX1_squaredDrift_77 rfl ?_
      refine zr_lload dX1_squaredDrift_78 rfl ?_
      refine zr_lload dX1_squaredDrift_80 rfl ?_
      refine zr_lmul dX1_squaredDrift_82 ?_
      refine zr_aload_n dX1_squaredDrift_83 rfl rfl ?_
      refine zc_v0 dX1_squaredDrift_84 hX6_squared gX6_squared rfl rfl 1 0 0 (by omega) (Nat.zero_le _) (Nat.zero_le _) q1389 q1356 q1357 (K3.gr (zGr.up hw)).rc ?_
      refine kX6_squared (K3.gr (zGr.up hw)) (by omega) (by omega) (by omega) (zK_i ?_)
      refine zc_iN2 rfl rfl rfl dX1_squaredDrift_87 hX9_init gX9_init rfl rfl 2 0 0 (by omega) (Nat.zero_le _) (Nat.zero_le _) q1390 q1391 ?_
      refine kX9_init z_up_s (by omega) (zK_v ?_)
      rw [z_up_o]
      refine zr_areturn dX1_squaredDrift_90 rfl rfl rfl ?_
      have hc1 : ¬ (x - bx) * (ax - bx) + (y - b_y) * (ay - b_y) ≤ 0 := fun z => by have := zcmp_le.mpr z; omega
      have hc2 : ¬ (ax - bx) * (ax - bx) + (ay - b_y) * (ay - b_y) ≤ (x - bx) * (ax - bx) + (y - b_y) * (ay - b_y) := fun z => by have := zcmp_ge.mpr z; omega
      refine k _ w ((g1.tr g2).tr (zGr.up hw)) ((g1.tr g2).no hw) ?_
      unfold pSd
      rw [if_neg hc1, if_neg hc2]
      exact z_up_s
    · refine zr_new (fs := [.long (zl 0), .long (zl 0)]) dX1_squaredDrift_52 nX9 q1387 q1388 q127 (z_ble rfl) dfX9 (by omega) (by omega) (fun w hw => ?_)
      refine zr_dup dX1_squaredDrift_55 rfl ?_
      refine zr_aload_n dX1_squaredDrift_56 rfl rfl ?_
      refine zr_aload_n dX1_squaredDrift_57 rfl rfl ?_
      refine zc_v1 dX1_squaredDrift_58 hX6_squaredDistance gX6_squaredDistance rfl rfl 4 1 2 (by omega) (by omega) (by omega) q1401 q1351 q1352 ((H.gr (g1.tr g2)).gr (zGr.up hw)).rc ?_
      refine kX6_squaredDistance ((H.gr (g1.tr g2)).gr (zGr.up hw)) ((H3.gr (g1.tr g2)).gr (zGr.up hw)) (by omega) (by omega) (by omega) (by omega) (by omega) (by omega) (by omega) (fun t3 e3 => zK_i ?_)
      refine zr_lc1 dX1_squaredDrift_61 ?_
      refine zc_iN2 rfl rfl rfl dX1_squaredDrift_62 hX9_init gX9_init rfl rfl 2 0 0 (by omega) (Nat.zero_le _) (Nat.zero_le _) q1390 q1391 ?_
      refine kX9_init (z_upk e3 z_up_s) (by omega) (zK_v ?_)
      refine zr_areturn dX1_squaredDrift_65 rfl rfl rfl ?_
      have hc1 : ¬ (x - bx) * (ax - bx) + (y - b_y) * (ay - b_y) ≤ 0 := fun z => by have := zcmp_le.mpr z; omega
      have hc2 : (ax - bx) * (ax - bx) + (ay - b_y) * (ay - b_y) ≤ (x - bx) * (ax - bx) + (y - b_y) * (ay - b_y) := zcmp_ge.mp (by omega)
      refine k _ w ((g1.tr g2).tr (((zGr.up hw).tr (zGr.up e3)).tu hw)) ((g1.tr g2).no hw) ?_
      unfold pSd
      rw [if_neg hc1, if_pos hc2]
      exact z_up_s
  · refine zr_new (fs := [.long (zl 0), .long (zl 0)]) dX1_squaredDrift_28 nX9 q1387 q1388 q127 (z_ble rfl) dfX9 (by omega) (by omega) (fun w hw => ?_)
    refine zr_dup dX1_squaredDrift_31 rfl ?_
    refine zr_aload dX1_squaredDrift_32 rfl rfl ?_
    refine zc_v0 dX1_squaredDrift_34 hX6_squared gX6_squared rfl rfl 1 0 0 (by omega) (Nat.zero_le _) (Nat.zero_le _) q1389 q1356 q1357 (K2.gr (zGr.up hw)).rc ?_
    refine kX6_squared (K2.gr (zGr.up hw)) (by omega) (by omega) (by omega) (zK_i ?_)
    refine zr_lc1 dX1_squaredDrift_37 ?_
    refine zc_iN2 rfl rfl rfl dX1_squaredDrift_38 hX9_init gX9_init rfl rfl 2 0 0 (by omega) (Nat.zero_le _) (Nat.zero_le _) q1390 q1391 ?_
    refine kX9_init z_up_s (by omega) (zK_v ?_)
    rw [z_up_o]
    refine zr_areturn dX1_squaredDrift_41 rfl rfl rfl ?_
    have hc1 : (x - bx) * (ax - bx) + (y - b_y) * (ay - b_y) ≤ 0 := zcmp_le.mp (by omega)
    refine k _ w ((g1.tr g2).tr (zGr.up hw)) ((g1.tr g2).no hw) ?_
    unfold pSd
    rw [if_pos hc1]
    exact z_up_s
