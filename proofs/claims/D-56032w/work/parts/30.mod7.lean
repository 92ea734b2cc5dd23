set_option maxRecDepth 100000
/-! ===== the reference: drift, nearest, floats, undo ===== -/
theorem z_lagr (a b c e : Int) : (a * e - b * c) * (a * e - b * c) + (a * c + b * e) * (a * c + b * e) = (a * a + b * b) * (c * c + e * e) := by grind
theorem pCmp_far {x y ax ay bx b_y m : Int} (hx : 0 ≤ x ∧ x ≤ 99) (hy : 0 ≤ y ∧ y ≤ 99) (h1 : 0 ≤ ax ∧ ax ≤ 99) (h2 : 0 ≤ ay ∧ ay ≤ 99) (h3 : 0 ≤ bx ∧ bx ≤ 99) (h4 : 0 ≤ b_y ∧ b_y ≤ 99) (hm : 141 ≤ m) : pCmp x y ax ay bx b_y m < 0 := by
  have q1 := pSq_b (u := x - bx) (v := y - b_y) (by omega) (by omega)
  have q2 := pSq_b (u := x - ax) (v := y - ay) (by omega) (by omega)
  have q3 := pSq_b (u := ax - bx) (v := ay - b_y) (by omega) (by omega)
  have q4 : 19881 ≤ m * m := by
    have := Int.mul_le_mul hm hm (by omega) (by omega)
    omega
  unfold pCmp
  split
  · omega
  · rename_i n1
    split
    · omega
    · rename_i n2
      have l := z_lagr (x - bx) (y - b_y) (ax - bx) (ay - b_y)
      have e1 : pSq (x - bx) (y - b_y) = (x - bx) * (x - bx) + (y - b_y) * (y - b_y) := rfl
      have e2 : pSq (ax - bx) (ay - b_y) = (ax - bx) * (ax - bx) + (ay - b_y) * (ay - b_y) := rfl
      rw [← e1, ← e2] at l
      have s0 : 0 ≤ ((x - bx) * (ax - bx) + (y - b_y) * (ay - b_y)) * ((x - bx) * (ax - bx) + (y - b_y) * (ay - b_y)) := Int.mul_nonneg (by omega) (by omega)
      have s1 := Int.mul_le_mul_of_nonneg_right q4 q3.1
      have s2 := Int.mul_le_mul_of_nonneg_right q1.2 q3.1
      omega
/-- how far, in whole steps -/
def pDf (s : Int → Int) : Nat → Int → Int
  | 0, m => m
  | n + 1, m => if 0 ≤ pCm s (s 3) (s 4) (m + 1) then pDf s n (m + 1) else m
def qDrift (s : Int → Int) : Int × Int := if ¬ (0 < s 1) then (1, 0) else (0, pDf s 141 0)
theorem kX4_driftL {G : State} {d rc rs : Nat} {ah : zH} {A : Nat → Nat} {S : zMS} {Q : zRs → zH → Prop} (hA : zMi A) (hd : 3 ≤ d) (hV : pV (S.1 0)) (ht : 1 ≤ S.1 0 2 ∧ S.1 0 2 < 12) (n : Nat) : ∀ (m : Int), 0 ≤ m → m + n = 141 → (Q (.inl (some (.int (zi (pDf (S.1 0) n m))))) (zMh ah A S)) → zW G mX4_drift d rc rs 24 [some (.ref (A 18)), some (.int (zi m))] [] (zMh ah A S) Q := by
  induction n with
  | zero =>
    intro m g1 g2 k
    have v := hV.h
    have x1 := hV.x (hV.rt (i := 192 + S.1 0 2) (by omega) |> fun h => ⟨h.1, by omega⟩)
    have y1 := hV.y (hV.rt (i := 192 + S.1 0 2) (by omega) |> fun h => ⟨h.1, by omega⟩)
    have x2 := hV.x (hV.rt (i := 192 + S.1 0 2 - 1) (by omega) |> fun h => ⟨h.1, by omega⟩)
    have y2 := hV.y (hV.rt (i := 192 + S.1 0 2 - 1) (by omega) |> fun h => ⟨h.1, by omega⟩)
    have fr : pCm (S.1 0) (S.1 0 3) (S.1 0 4) (m + 1) < 0 := pCmp_far v.2.2.2.1 v.2.2.2.2.1 x1 y1 x2 y2 (by omega)
    refine zr_aload_n dX4_drift_24 rfl rfl ?_
    refine zr_aload_n dX4_drift_25 rfl rfl ?_
    refine zm_geta 0 dX4_drift_26 q2119 rfl ?_
    try simp only [zuf_1, zua_s, zua_2, zuf_s, zuf_zuf, zua_zuf, zua_zua, zua_e, zuf_e, Nat.reduceBEq]
    refine zr_iconst dX4_drift_29 ?_
    refine zm_load hA (by decide) dX4_drift_30 (by constructor <;> (try simp only [zMn]) <;> omega) ?_
    try simp only [zuf_1, zua_s, zua_2, zuf_s, zuf_zuf, zua_zuf, zua_zua, zua_e, zuf_e, Nat.reduceBEq]
    refine zr_aload_n dX4_drift_31 rfl rfl ?_
    refine zm_geta 0 dX4_drift_32 q2119 rfl ?_
    try simp only [zuf_1, zua_s, zua_2, zuf_s, zuf_zuf, zua_zuf, zua_zua, zua_e, zuf_e, Nat.reduceBEq]
    refine zr_iconst dX4_drift_35 ?_
    refine zm_load hA (by decide) dX4_drift_36 (by constructor <;> (try simp only [zMn]) <;> omega) ?_
    try simp only [zuf_1, zua_s, zua_2, zuf_s, zuf_zuf, zua_zuf, zua_zua, zua_e, zuf_e, Nat.reduceBEq]
    refine zr_iload_n dX4_drift_37 rfl ?_
    refine zr_iconst dX4_drift_38 ?_
    refine zr_iadd dX4_drift_39 ?_
    refine zc_v3 dX4_drift_40 hX4_isBeyond gX4_isBeyond rfl rfl 2 0 0 (by omega) (Nat.zero_le _) (Nat.zero_le _) q2436 q2438 sp74 zM_rc ?_
    refine kX4_isBeyond hA (by first | omega | (simp only [zuf_1, zua_s, zua_2, zuf_s, zua_e, zuf_e, Nat.reduceBEq]; omega)) hV (by first | omega | (simp only [zuf_1, zua_s, zua_2, zuf_s, zua_e, zuf_e, Nat.reduceBEq]; omega)) (by first | omega | (simp only [zuf_1, zua_s, zua_2, zuf_s, zua_e, zuf_e, Nat.reduceBEq]; omega)) (by first | omega | (simp only [zuf_1, zua_s, zua_2, zuf_s, zua_e, zuf_e, Nat.reduceBEq]; omega)) (by first | omega | (simp only [zuf_1, zua_s, zua_2, zuf_s, zua_e, zuf_e, Nat.reduceBEq]; omega)) (zK_i ?_)
    try simp only [zuf_1, zua_s, zua_2, zuf_s, zuf_zuf, zua_zuf, zua_zua, zua_e, zuf_e, Nat.reduceBEq]
    refine zr_ifeqB dX4_drift_43 (tgt := 52) (by decide) (fun h43 => ?_) (fun h43 => ?_)
    · refine zr_iload_n dX4_drift_52 rfl ?_
      refine zr_ireturn dX4_drift_53 rfl (by first | rfl | exact z_nb _) ?_
      exact k
    · exfalso; have := of_decide_eq_true h43; omega
  | succ n ih =>
    intro m g1 g2 k
    have v := hV.h
    refine zr_aload_n dX4_drift_24 rfl rfl ?_
    refine zr_aload_n dX4_drift_25 rfl rfl ?_
    refine zm_geta 0 dX4_drift_26 q2119 rfl ?_
    try simp only [zuf_1, zua_s, zua_2, zuf_s, zuf_zuf, zua_zuf, zua_zua, zua_e, zuf_e, Nat.reduceBEq]
    refine zr_iconst dX4_drift_29 ?_
    refine zm_load hA (by decide) dX4_drift_30 (by constructor <;> (try simp only [zMn]) <;> omega) ?_
    try simp only [zuf_1, zua_s, zua_2, zuf_s, zuf_zuf, zua_zuf, zua_zua, zua_e, zuf_e, Nat.reduceBEq]
    refine zr_aload_n dX4_drift_31 rfl rfl ?_
    refine zm_geta 0 dX4_drift_32 q2119 rfl ?_
    try simp only [zuf_1, zua_s, zua_2, zuf_s, zuf_zuf, zua_zuf, zua_zua, zua_e, zuf_e, Nat.reduceBEq]
    refine zr_iconst dX4_drift_35 ?_
    refine zm_load hA (by decide) dX4_drift_36 (by constructor <;> (try simp only [zMn]) <;> omega) ?_
    try simp only [zuf_1, zua_s, zua_2, zuf_s, zuf_zuf, zua_zuf, zua_zua, zua_e, zuf_e, Nat.reduceBEq]
    refine zr_iload_n dX4_drift_37 rfl ?_
    refine zr_iconst dX4_drift_38 ?_
    refine zr_iadd dX4_drift_39 ?_
    refine zc_v3 dX4_drift_40 hX4_isBeyond gX4_isBeyond rfl rfl 2 0 0 (by omega) (Nat.zero_le _) (Nat.zero_le _) q2436 q2438 sp74 zM_rc ?_
    refine kX4_isBeyond hA (by first | omega | (simp only [zuf_1, zua_s, zua_2, zuf_s, zua_e, zuf_e, Nat.reduceBEq]; omega)) hV (by first | omega | (simp only [zuf_1, zua_s, zua_2, zuf_s, zua_e, zuf_e, Nat.reduceBEq]; omega)) (by first | omega | (simp only [zuf_1, zua_s, zua_2, zuf_s, zua_e, zuf_e, Nat.reduceBEq]; omega)) (by first | omega | (simp only [zuf_1, zua_s, zua_2, zuf_s, zua_e, zuf_e, Nat.reduceBEq]; omega)) (by first | omega | (simp only [zuf_1, zua_s, zua_2, zuf_s, zua_e, zuf_e, Nat.reduceBEq]; omega)) (zK_i ?_)
    try simp only [zuf_1, zua_s, zua_2, zuf_s, zuf_zuf, zua_zuf, zua_zua, zua_e, zuf_e, Nat.reduceBEq]
    refine zr_ifeqB dX4_drift_43 (tgt := 52) (by decide) (fun h43 => ?_) (fun h43 => ?_)
    · refine zr_iload_n dX4_drift_52 rfl ?_
      refine zr_ireturn dX4_drift_53 rfl (by first | rfl | exact z_nb _) ?_
      unfold pDf at k
      rw [if_neg (of_decide_eq_false h43)] at k
      exact k
    · refine zr_iinc dX4_drift_46 rfl (by decide) (zs2_1 rfl ?_)
      refine zr_goto dX4_drift_49 (tgt := 24) (by decide) ?_
      exact ih (m + 1) (by omega) (by omega) (by unfold pDf at k; rw [if_pos (of_decide_eq_true h43)] at k; exact k)
theorem kX4_drift {G : State} {d rc rs : Nat} {ah : zH} {A : Nat → Nat} {S : zMS} {Q : zRs → zH → Prop} (hA : zMi A) (hd : 3 ≤ d) (hV : pV (S.1 0)) (htg : 0 < S.1 0 1 → 1 ≤ S.1 0 2 ∧ S.1 0 2 < S.1 0 1) (k : Q (.inl (some (.int (zi (qDrift (S.1 0)).2)))) (zMh ah A (zuf S 6 (qDrift (S.1 0)).1))) : zW G mX4_drift d rc rs 0 (zent [.ref (A 18)]) [] (zMh ah A S) Q := by
  refine zW_open 1 [some (.ref (A 18)), none] rfl ?_
  refine zr_aload_n dX4_drift_0 rfl rfl ?_
  refine zr_aload_n dX4_drift_1 rfl rfl ?_
  refine zc_v0 dX4_drift_2 hX4_isOnTour gX4_isOnTour rfl rfl 0 0 0 (by omega) (Nat.zero_le _) (Nat.zero_le _) q2247 q2249 sp54 zM_rc ?_
  refine kX4_isOnTour hA hV (zK_i ?_)
  try simp only [zuf_1, zua_s, zua_2, zuf_s, zuf_zuf, zua_zuf, zua_zua, zua_e, zuf_e, Nat.reduceBEq]
  refine zr_ifneB dX4_drift_5 (tgt := 12) (by decide) (fun h5 => ?_) (fun h5 => ?_)
  · refine zr_iconst dX4_drift_12 ?_
    refine zr_iconst dX4_drift_13 ?_
    refine zc_v2 dX4_drift_14 hX4_isThrown gX4_isThrown rfl rfl 0 0 0 (by omega) (Nat.zero_le _) (Nat.zero_le _) q2199 q2201 sp45 zM_rc ?_
    refine kX4_isThrown0 hA (zK_i ?_)
    try simp only [zuf_1, zua_s, zua_2, zuf_s, zuf_zuf, zua_zuf, zua_zua, zua_e, zuf_e, Nat.reduceBEq]
    refine zr_ifeq dX4_drift_17 (tgt := 22) (by decide) (by decide) (fun _ => ?_) (fun h => absurd h (by decide))
    refine zr_iconst dX4_drift_22 ?_
    refine zr_istore_n dX4_drift_23 (by decide) (zs2_1 rfl ?_)
    have v := hV.h
    have i5 := of_decide_eq_true h5
    have tg := htg i5
    have e : qDrift (S.1 0) = (0, pDf (S.1 0) 141 0) := by unfold qDrift; rw [if_neg (fun z => z i5)]
    exact kX4_driftL hA (by omega) (by simpa only [zuf_1] using hV) (by simp only [zuf_1]; omega) 141 0 (by omega) (by omega) (zQm k (by rw [e]; rfl) (by rw [e]))
  · refine zr_iconst dX4_drift_8 ?_
    refine zr_goto dX4_drift_9 (tgt := 13) (by decide) ?_
    refine zr_iconst dX4_drift_13 ?_
    refine zc_v2 dX4_drift_14 hX4_isThrown gX4_isThrown rfl rfl 0 0 0 (by omega) (Nat.zero_le _) (Nat.zero_le _) q2199 q2201 sp45 zM_rc ?_
    refine kX4_isThrown1 hA (zK_i ?_)
    try simp only [zuf_1, zua_s, zua_2, zuf_s, zuf_zuf, zua_zuf, zua_zua, zua_e, zuf_e, Nat.reduceBEq]
    refine zr_ifeq dX4_drift_17 (tgt := 22) (by decide) (by decide) (fun h => absurd h (by decide)) (fun _ => ?_)
    refine zr_iconst dX4_drift_20 ?_
    refine zr_ireturn dX4_drift_21 rfl (by first | rfl | exact z_nb _) ?_
    try have ih5 := of_decide_eq_true h5
    try have ih5 := of_decide_eq_false h5
    have e : qDrift (S.1 0) = (1, 0) := by unfold qDrift; simp [*]
    exact zQm k (by rw [e]) (by rw [e])
def pNr (s : Int → Int) (x y : Int) : Nat → Int
  | 0 => 0
  | n + 1 => if n = 0 then 0 else if pAw s n x y < pAw s (pNr s x y n) x y then n else pNr s x y n
theorem pNr_b {s : Int → Int} {x y : Int} : ∀ n : Nat, 0 ≤ pNr s x y n ∧ (1 ≤ n → pNr s x y n < n) := by
  intro n
  induction n with
  | zero => exact ⟨Int.le_refl _, fun h => by omega⟩
  | succ n ih =>
    unfold pNr
    split
    · omega
    · split
      · omega
      · have := ih.2 (by omega)
        omega
theorem pNr_s {s : Int → Int} {x y : Int} {n : Nat} (h : 1 ≤ n) : pNr s x y (n + 1) = if pAw s n x y < pAw s (pNr s x y n) x y then (n : Int) else pNr s x y n := by
  rw [pNr, if_neg (by omega)]
def qNear (s : Int → Int) (x y : Int) : Int × Int := if ¬ pPl x y = true then (1, 0) else if s 0 = 0 then (2, 0) else (0, pNr s x y (s 0).toNat)
theorem kX4_nearestL {G : State} {d rc rs : Nat} {ah : zH} {A : Nat → Nat} {S : zMS} {Q : zRs → zH → Prop} (hA : zMi A) {x y : Int} (hd : 2 ≤ d) (hV : pV (S.1 0)) (hx : 0 ≤ x ∧ x ≤ 99) (hy : 0 ≤ y ∧ y ≤ 99) (n : Nat) : ∀ (i : Nat), 1 ≤ i → (i : Int) + n = S.1 0 0 → (Q (.inl (some (.int (zi (pNr (S.1 0) x y (S.1 0 0).toNat))))) (zMh ah A S)) → zW G mX4_nearest d rc rs 50 [some (.ref (A 18)), some (.int (zi x)), some (.int (zi y)), some (.int (zi (pNr (S.1 0) x y i))), some (.int (zi ((i : Nat) : Int)))] [] (zMh ah A S) Q := by
  induction n with
  | zero =>
    intro i g1 g2 k
    have v := hV.h
    have nb := pNr_b (s := S.1 0) (x := x) (y := y) i
    refine zr_iload dX4_nearest_50 rfl ?_
    refine zr_aload_n dX4_nearest_52 rfl rfl ?_
    refine zm_geta 0 dX4_nearest_53 q2119 rfl ?_
    try simp only [zuf_1, zua_s, zua_2, zuf_s, zuf_zuf, zua_zuf, zua_zua, zua_e, zuf_e, Nat.reduceBEq]
    refine zr_iconst dX4_nearest_56 ?_
    refine zm_load hA (by decide) dX4_nearest_57 (by constructor <;> (try simp only [zMn]) <;> omega) ?_
    try simp only [zuf_1, zua_s, zua_2, zuf_s, zuf_zuf, zua_zuf, zua_zua, zua_e, zuf_e, Nat.reduceBEq]
    refine zr_icmpge dX4_nearest_58 (tgt := 92) (by decide) (by omega) (by omega) (fun h58 => ?_) (fun h58 => ?_)
    · refine zr_iload_n dX4_nearest_92 rfl ?_
      refine zr_ireturn dX4_nearest_93 rfl (by first | rfl | exact z_nb _) ?_
      rw [show (S.1 0 0).toNat = i by omega] at k
      exact k
    · exfalso; omega
  | succ n ih =>
    intro i g1 g2 k
    have v := hV.h
    have nb := pNr_b (s := S.1 0) (x := x) (y := y) i
    have nc := nb.2 g1
    have ns := pNr_s (s := S.1 0) (x := x) (y := y) g1
    refine zr_iload dX4_nearest_50 rfl ?_
    refine zr_aload_n dX4_nearest_52 rfl rfl ?_
    refine zm_geta 0 dX4_nearest_53 q2119 rfl ?_
    try simp only [zuf_1, zua_s, zua_2, zuf_s, zuf_zuf, zua_zuf, zua_zua, zua_e, zuf_e, Nat.reduceBEq]
    refine zr_iconst dX4_nearest_56 ?_
    refine zm_load hA (by decide) dX4_nearest_57 (by constructor <;> (try simp only [zMn]) <;> omega) ?_
    try simp only [zuf_1, zua_s, zua_2, zuf_s, zuf_zuf, zua_zuf, zua_zua, zua_e, zuf_e, Nat.reduceBEq]
    refine zr_icmpge dX4_nearest_58 (tgt := 92) (by decide) (by omega) (by omega) (fun h58 => ?_) (fun h58 => ?_)
    · exfalso; omega
    · refine zr_aload_n dX4_nearest_61 rfl rfl ?_
      refine zr_iload dX4_nearest_62 rfl ?_
      refine zr_iload_n dX4_nearest_64 rfl ?_
      refine zr_iload_n dX4_nearest_65 rfl ?_
      refine zc_v3 dX4_nearest_66 hX4_away gX4_away rfl rfl 1 0 0 (by omega) (Nat.zero_le _) (Nat.zero_le _) q2388 q2390 sp70 zM_rc ?_
      refine kX4_away hA (by first | omega | (simp only [zuf_1, zua_s, zua_2, zuf_s, zua_e, zuf_e, Nat.reduceBEq]; omega)) hV (by first | omega | (simp only [zuf_1, zua_s, zua_2, zuf_s, zua_e, zuf_e, Nat.reduceBEq]; omega)) (by first | omega | (simp only [zuf_1, zua_s, zua_2, zuf_s, zua_e, zuf_e, Nat.reduceBEq]; omega)) (by first | omega | (simp only [zuf_1, zua_s, zua_2, zuf_s, zua_e, zuf_e, Nat.reduceBEq]; omega)) (fun t66 => zK_i ?_)
      try simp only [zuf_1, zua_s, zua_2, zuf_s, zuf_zuf, zua_zuf, zua_zua, zua_e, zuf_e, Nat.reduceBEq] at t66 ⊢
      refine zr_aload_n dX4_nearest_69 rfl rfl ?_
      refine zr_iload_n dX4_nearest_70 rfl ?_
      refine zr_iload_n dX4_nearest_71 rfl ?_
      refine zr_iload_n dX4_nearest_72 rfl ?_
      refine zc_v3 dX4_nearest_73 hX4_away gX4_away rfl rfl 1 0 0 (by omega) (Nat.zero_le _) (Nat.zero_le _) q2388 q2390 sp70 zM_rc ?_
      refine kX4_away hA (by first | omega | (simp only [zuf_1, zua_s, zua_2, zuf_s, zua_e, zuf_e, Nat.reduceBEq]; omega)) hV (by first | omega | (simp only [zuf_1, zua_s, zua_2, zuf_s, zua_e, zuf_e, Nat.reduceBEq]; omega)) (by first | omega | (simp only [zuf_1, zua_s, zua_2, zuf_s, zua_e, zuf_e, Nat.reduceBEq]; omega)) (by first | omega | (simp only [zuf_1, zua_s, zua_2, zuf_s, zua_e, zuf_e, Nat.reduceBEq]; omega)) (fun t73 => zK_i ?_)
      try simp only [zuf_1, zua_s, zua_2, zuf_s, zuf_zuf, zua_zuf, zua_zua, zua_e, zuf_e, Nat.reduceBEq] at t73 ⊢
      refine zr_icmpge dX4_nearest_76 (tgt := 84) (by decide) (by omega) (by omega) (fun h76 => ?_) (fun h76 => ?_)
      · refine zr_iload_n dX4_nearest_84 rfl ?_
        refine zr_istore_n dX4_nearest_85 (by decide) (zs5_3 rfl ?_)
        refine zr_iinc dX4_nearest_86 rfl (by decide) (zs5_4 rfl ?_)
        refine zr_goto dX4_nearest_89 (tgt := 50) (by decide) ?_
        first | (rw [if_pos (by omega)] at ns) | (rw [if_neg (by omega)] at ns)
        have w := ih (i + 1) (by omega) (by omega) k
        rw [ns] at w
        exact w
      · refine zr_iload dX4_nearest_79 rfl ?_
        refine zr_goto dX4_nearest_81 (tgt := 85) (by decide) ?_
        refine zr_istore_n dX4_nearest_85 (by decide) (zs5_3 rfl ?_)
        refine zr_iinc dX4_nearest_86 rfl (by decide) (zs5_4 rfl ?_)
        refine zr_goto dX4_nearest_89 (tgt := 50) (by decide) ?_
        first | (rw [if_pos (by omega)] at ns) | (rw [if_neg (by omega)] at ns)
        have w := ih (i + 1) (by omega) (by omega) k
        rw [ns] at w
        exact w
theorem kX4_nearest {G : State} {d rc rs : Nat} {ah : zH} {A : Nat → Nat} {S : zMS} {Q : zRs → zH → Prop} {x y : Int} (hA : zMi A) (hd : 3 ≤ d) (hV : pV (S.1 0)) (qx : -2147483648 ≤ x ∧ x ≤ 2147483647) (qy : -2147483648 ≤ y ∧ y ≤ 2147483647) (k : Q (.inl (some (.int (zi (qNear (S.1 0) x y).2)))) (zMh ah A (zuf S 6 (qNear (S.1 0) x y).1))) : zW G mX4_nearest d rc rs 0 (zent [.ref (A 18), .int (zi x), .int (zi y)]) [] (zMh ah A S) Q := by
  refine zW_open 2 [some (.ref (A 18)), some (.int (zi x)), some (.int (zi y)), none, none] rfl ?_
  have v := hV.h
  refine zr_aload_n dX4_nearest_0 rfl rfl ?_
  refine zr_iload_n dX4_nearest_1 rfl ?_
  refine zr_iload_n dX4_nearest_2 rfl ?_
  refine zc_s2 dX4_nearest_3 hX4_isPlace gX4_isPlace rfl rfl 1 0 0 (by omega) (Nat.zero_le _) (Nat.zero_le _) q2193 q2194 ?_
  refine kX4_isPlace (by omega) (by omega) (by omega) (zK_i ?_)
  refine zr_ifneB dX4_nearest_6 (tgt := 13) (by decide) (fun h6 => ?_) (fun h6 => ?_)
  · refine zr_iconst dX4_nearest_13 ?_
    refine zr_iconst dX4_nearest_14 ?_
    refine zc_v2 dX4_nearest_15 hX4_isThrown gX4_isThrown rfl rfl 0 0 0 (by omega) (Nat.zero_le _) (Nat.zero_le _) q2199 q2201 sp45 zM_rc ?_
    refine kX4_isThrown0 hA (zK_i ?_)
    try simp only [zuf_1, zua_s, zua_2, zuf_s, zuf_zuf, zua_zuf, zua_zua, zua_e, zuf_e, Nat.reduceBEq]
    refine zr_ifne dX4_nearest_18 (tgt := 43) (by decide) (by decide) (fun h => absurd h (by decide)) (fun _ => ?_)
    refine zr_aload_n dX4_nearest_21 rfl rfl ?_
    refine zr_aload_n dX4_nearest_22 rfl rfl ?_
    refine zm_geta 0 dX4_nearest_23 q2119 rfl ?_
    try simp only [zuf_1, zua_s, zua_2, zuf_s, zuf_zuf, zua_zuf, zua_zua, zua_e, zuf_e, Nat.reduceBEq]
    refine zr_iconst dX4_nearest_26 ?_
    refine zm_load hA (by decide) dX4_nearest_27 (by constructor <;> (try simp only [zMn]) <;> omega) ?_
    try simp only [zuf_1, zua_s, zua_2, zuf_s, zuf_zuf, zua_zuf, zua_zua, zua_e, zuf_e, Nat.reduceBEq]
    refine zr_ifne dX4_nearest_28 (tgt := 35) (by decide) (by omega) (fun h28 => ?_) (fun h28 => ?_)
    · refine zr_iconst dX4_nearest_35 ?_
      refine zr_iconst dX4_nearest_36 ?_
      refine zc_v2 dX4_nearest_37 hX4_isThrown gX4_isThrown rfl rfl 0 0 0 (by omega) (Nat.zero_le _) (Nat.zero_le _) q2199 q2201 sp45 zM_rc ?_
      refine kX4_isThrown0 hA (zK_i ?_)
      try simp only [zuf_1, zua_s, zua_2, zuf_s, zuf_zuf, zua_zuf, zua_zua, zua_e, zuf_e, Nat.reduceBEq]
      refine zr_ifeq dX4_nearest_40 (tgt := 45) (by decide) (by decide) (fun _ => ?_) (fun h => absurd h (by decide))
      refine zr_iconst dX4_nearest_45 ?_
      refine zr_istore_n dX4_nearest_46 (by decide) (zs5_3 rfl ?_)
      refine zr_iconst dX4_nearest_47 ?_
      refine zr_istore dX4_nearest_48 (by decide) (zs5_4 rfl ?_)
      have pb := pPl_b h6
      have e : qNear (S.1 0) x y = (0, pNr (S.1 0) x y (S.1 0 0).toNat) := by unfold qNear; simp [*]
      exact kX4_nearestL hA (by omega) (by simpa only [zuf_1] using hV) pb.1 pb.2 (S.1 0 0 - 1).toNat 1 (by omega) (by simp only [zuf_1]; omega) (zQm k (by rw [e]; rfl) (by rw [e]))
    · refine zr_iconst dX4_nearest_31 ?_
      refine zr_goto dX4_nearest_32 (tgt := 36) (by decide) ?_
      refine zr_iconst dX4_nearest_36 ?_
      refine zc_v2 dX4_nearest_37 hX4_isThrown gX4_isThrown rfl rfl 0 0 0 (by omega) (Nat.zero_le _) (Nat.zero_le _) q2199 q2201 sp45 zM_rc ?_
      refine kX4_isThrown1 hA (zK_i ?_)
      try simp only [zuf_1, zua_s, zua_2, zuf_s, zuf_zuf, zua_zuf, zua_zua, zua_e, zuf_e, Nat.reduceBEq]
      refine zr_ifeq dX4_nearest_40 (tgt := 45) (by decide) (by decide) (fun h => absurd h (by decide)) (fun _ => ?_)
      refine zr_iconst dX4_nearest_43 ?_
      refine zr_ireturn dX4_nearest_44 rfl (by first | rfl | exact z_nb _) ?_
      have e : qNear (S.1 0) x y = (2, 0) := by unfold qNear; simp [*]
      exact zQm k (by rw [e]) (by rw [e])
  · refine zr_iconst dX4_nearest_9 ?_
    refine zr_goto dX4_nearest_10 (tgt := 14) (by decide) ?_
    refine zr_iconst dX4_nearest_14 ?_
    refine zc_v2 dX4_nearest_15 hX4_isThrown gX4_isThrown rfl rfl 0 0 0 (by omega) (Nat.zero_le _) (Nat.zero_le _) q2199 q2201 sp45 zM_rc ?_
    refine kX4_isThrown1 hA (zK_i ?_)
    try simp only [zuf_1, zua_s, zua_2, zuf_s, zuf_zuf, zua_zuf, zua_zua, zua_e, zuf_e, Nat.reduceBEq]
    refine zr_ifne dX4_nearest_18 (tgt := 43) (by decide) (by decide) (fun _ => ?_) (fun h => absurd h (by decide))
    refine zr_iconst dX4_nearest_43 ?_
    refine zr_ireturn dX4_nearest_44 rfl (by first | rfl | exact z_nb _) ?_
    have e : qNear (S.1 0) x y = (1, 0) := by unfold qNear; simp [*]
    exact zQm k (by rw [e]) (by rw [e])
def q7 (S : zMS) : Int × Int := if S.2 7 < 0 then (1, 0) else (0, S.2 7)
theorem kX4_errorPosition {G : State} {d rc rs : Nat} {ah : zH} {A : Nat → Nat} {S : zMS} {Q : zRs → zH → Prop} (hA : zMi A) (hd : 1 ≤ d) (hb : -1 ≤ S.2 7 ∧ S.2 7 ≤ 1000) (k : Q (.inl (some (.int (zi (q7 S).2)))) (zMh ah A (zuf S 6 (q7 S).1))) : zW G mX4_errorPosition d rc rs 0 (zent [.ref (A 18)]) [] (zMh ah A S) Q := by
  refine zW_open 0 [some (.ref (A 18))] rfl ?_
  refine zr_aload_n dX4_errorPosition_0 rfl rfl ?_
  refine zr_aload_n dX4_errorPosition_1 rfl rfl ?_
  refine zm_geti 7 dX4_errorPosition_2 q2126 rfl ?_
  refine zr_ifge dX4_errorPosition_5 (tgt := 12) (by decide) (by omega) (fun h5 => ?_) (fun h5 => ?_)
  · refine zr_iconst dX4_errorPosition_12 ?_
    refine zr_iconst dX4_errorPosition_13 ?_
    refine zc_v2 dX4_errorPosition_14 hX4_isThrown gX4_isThrown rfl rfl 0 0 0 (by omega) (Nat.zero_le _) (Nat.zero_le _) q2199 q2201 sp45 zM_rc ?_
    refine kX4_isThrown0 hA (zK_i ?_)
    try simp only [zuf_1, zua_s, zua_2, zuf_s, zuf_zuf, zua_zuf, zua_zua, zua_e, zuf_e, Nat.reduceBEq]
    refine zr_ifeq dX4_errorPosition_17 (tgt := 24) (by decide) (by decide) (fun _ => ?_) (fun h => absurd h (by decide))
    refine zr_aload_n dX4_errorPosition_24 rfl rfl ?_
    refine zm_geti 7 dX4_errorPosition_25 q2126 rfl ?_
    try simp only [zuf_1, zua_s, zua_2, zuf_s, zuf_zuf, zua_zuf, zua_zua, zua_e, zuf_e, Nat.reduceBEq]
    try rw [show (zuf S 6 0).2 7 = S.2 7 from rfl]
    refine zr_ireturn dX4_errorPosition_28 rfl (by first | rfl | exact z_nb _) ?_
    have e : q7 S = (0, S.2 7) := by unfold q7; rw [if_neg (by omega)]
    exact zQm k (by rw [e]) (by rw [e])
  · refine zr_iconst dX4_errorPosition_8 ?_
    refine zr_goto dX4_errorPosition_9 (tgt := 13) (by decide) ?_
    refine zr_iconst dX4_errorPosition_13 ?_
    refine zc_v2 dX4_errorPosition_14 hX4_isThrown gX4_isThrown rfl rfl 0 0 0 (by omega) (Nat.zero_le _) (Nat.zero_le _) q2199 q2201 sp45 zM_rc ?_
    refine kX4_isThrown1 hA (zK_i ?_)
    try simp only [zuf_1, zua_s, zua_2, zuf_s, zuf_zuf, zua_zuf, zua_zua, zua_e, zuf_e, Nat.reduceBEq]
    refine zr_ifeq dX4_errorPosition_17 (tgt := 24) (by decide) (by decide) (fun h => absurd h (by decide)) (fun _ => ?_)
    refine zr_iconst dX4_errorPosition_20 ?_
    refine zr_goto dX4_errorPosition_21 (tgt := 28) (by decide) ?_
    refine zr_ireturn dX4_errorPosition_28 rfl (by first | rfl | exact z_nb _) ?_
    have e : q7 S = (1, 0) := by unfold q7; simp [*]
    exact zQm k (by rw [e]) (by rw [e])
def q8 (S : zMS) : Int × Int := if S.2 8 < 0 then (1, 0) else (0, S.2 8)
theorem kX4_failedCommand {G : State} {d rc rs : Nat} {ah : zH} {A : Nat → Nat} {S : zMS} {Q : zRs → zH → Prop} (hA : zMi A) (hd : 1 ≤ d) (hb : -1 ≤ S.2 8 ∧ S.2 8 ≤ 1000) (k : Q (.inl (some (.int (zi (q8 S).2)))) (zMh ah A (zuf S 6 (q8 S).1))) : zW G mX4_failedCommand d rc rs 0 (zent [.ref (A 18)]) [] (zMh ah A S) Q := by
  refine zW_open 0 [some (.ref (A 18))] rfl ?_
  refine zr_aload_n dX4_failedCommand_0 rfl rfl ?_
  refine zr_aload_n dX4_failedCommand_1 rfl rfl ?_
  refine zm_geti 8 dX4_failedCommand_2 q2127 rfl ?_
  refine zr_ifge dX4_failedCommand_5 (tgt := 12) (by decide) (by omega) (fun h5 => ?_) (fun h5 => ?_)
  · refine zr_iconst dX4_failedCommand_12 ?_
    refine zr_iconst dX4_failedCommand_13 ?_
    refine zc_v2 dX4_failedCommand_14 hX4_isThrown gX4_isThrown rfl rfl 0 0 0 (by omega) (Nat.zero_le _) (Nat.zero_le _) q2199 q2201 sp45 zM_rc ?_
    refine kX4_isThrown0 hA (zK_i ?_)
    try simp only [zuf_1, zua_s, zua_2, zuf_s, zuf_zuf, zua_zuf, zua_zua, zua_e, zuf_e, Nat.reduceBEq]
    refine zr_ifeq dX4_failedCommand_17 (tgt := 24) (by decide) (by decide) (fun _ => ?_) (fun h => absurd h (by decide))
    refine zr_aload_n dX4_failedCommand_24 rfl rfl ?_
    refine zm_geti 8 dX4_failedCommand_25 q2127 rfl ?_
    try simp only [zuf_1, zua_s, zua_2, zuf_s, zuf_zuf, zua_zuf, zua_zua, zua_e, zuf_e, Nat.reduceBEq]
    try rw [show (zuf S 6 0).2 8 = S.2 8 from rfl]
    refine zr_ireturn dX4_failedCommand_28 rfl (by first | rfl | exact z_nb _) ?_
    have e : q8 S = (0, S.2 8) := by unfold q8; rw [if_neg (by omega)]
    exact zQm k (by rw [e]) (by rw [e])
  · refine zr_iconst dX4_failedCommand_8 ?_
    refine zr_goto dX4_failedCommand_9 (tgt := 13) (by decide) ?_
    refine zr_iconst dX4_failedCommand_13 ?_
    refine zc_v2 dX4_failedCommand_14 hX4_isThrown gX4_isThrown rfl rfl 0 0 0 (by omega) (Nat.zero_le _) (Nat.zero_le _) q2199 q2201 sp45 zM_rc ?_
    refine kX4_isThrown1 hA (zK_i ?_)
    try simp only [zuf_1, zua_s, zua_2, zuf_s, zuf_zuf, zua_zuf, zua_zua, zua_e, zuf_e, Nat.reduceBEq]
    refine zr_ifeq dX4_failedCommand_17 (tgt := 24) (by decide) (by decide) (fun h => absurd h (by decide)) (fun _ => ?_)
    refine zr_iconst dX4_failedCommand_20 ?_
    refine zr_goto dX4_failedCommand_21 (tgt := 28) (by decide) ?_
    refine zr_ireturn dX4_failedCommand_28 rfl (by first | rfl | exact z_nb _) ?_
    have e : q8 S = (1, 0) := by unfold q8; simp [*]
    exact zQm k (by rw [e]) (by rw [e])
def pSave (S : zMS) : zMS := zuf (zua (zuf S 6 0) 2 (pCp (S.1 0) 0 (S.1 2) 0)) 10 1
def pRest (S : zMS) : zMS := zuf (zua (zuf S 6 0) 0 (pCp (S.1 2) 0 (S.1 0) 0)) 5 0
def pUndo (S : zMS) : zMS := zuf (zua (zuf S 6 0) 0 (pCp (S.1 3) (204 * (S.2 5 - 1)) (S.1 0) 0)) 5 (S.2 5 - 1)
theorem zuf_c {S : zMS} {j k : Nat} {u v : Int} (h : j ≠ k) : zuf (zuf S j u) k v = zuf (zuf S k v) j u := by
  unfold zuf
  refine Prod.ext rfl (funext fun i => ?_)
  by_cases h1 : i = j <;> by_cases h2 : i = k <;> simp [h1, h2] <;> omega
theorem kX4_save {G : State} {d rc rs : Nat} {ah : zH} {A : Nat → Nat} {S : zMS} {Q : zRs → zH → Prop} (hA : zMi A) (hd : 1 ≤ d) (k : Q (.inl (some (.int (zi (S.1 0 0))))) (zMh ah A (pSave S))) : zW G mX4_save d rc rs 0 (zent [.ref (A 18)]) [] (zMh ah A S) Q := by
  refine zW_open 0 [some (.ref (A 18))] rfl ?_
  refine zr_aload_n dX4_save_0 rfl rfl ?_
  refine zr_iconst dX4_save_1 ?_
  refine zm_put 6 dX4_save_2 q2125 (by decide) ?_
  try simp only [zuf_1, zua_s, zua_2, zuf_s, zuf_zuf, zua_zuf, zua_zua, zua_e, zuf_e, Nat.reduceBEq]
  refine zr_aload_n dX4_save_5 rfl rfl ?_
  refine zm_geta 0 dX4_save_6 q2119 rfl ?_
  try simp only [zuf_1, zua_s, zua_2, zuf_s, zuf_zuf, zua_zuf, zua_zua, zua_e, zuf_e, Nat.reduceBEq]
  refine zr_iconst dX4_save_9 ?_
  refine zr_aload_n dX4_save_10 rfl rfl ?_
  refine zm_geta 2 dX4_save_11 q2121 rfl ?_
  try simp only [zuf_1, zua_s, zua_2, zuf_s, zuf_zuf, zua_zuf, zua_zua, zua_e, zuf_e, Nat.reduceBEq]
  refine zr_iconst dX4_save_14 ?_
  refine zc_s4 dX4_save_15 hX4_copies gX4_copies rfl rfl 0 0 0 (by omega) (Nat.zero_le _) (Nat.zero_le _) q2186 q2187 ?_
  refine kX4_copies hA (by decide) (by decide) (by simp only [zMn]; omega) (by simp only [zMn]; omega) (by first | (left; decide) | (right; omega)) (by decide) (zK_v ?_)
  try simp only [zuf_1, zua_s, zua_2, zuf_s, zuf_zuf, zua_zuf, zua_zua, zua_e, zuf_e, Nat.reduceBEq]
  refine zr_aload_n dX4_save_18 rfl rfl ?_
  refine zr_iconst dX4_save_19 ?_
  refine zm_putB (b := true) dX4_save_20 q2129 ?_
  try simp only [zuf_1, zua_s, zua_2, zuf_s, zuf_zuf, zua_zuf, zua_zua, zua_e, zuf_e, Nat.reduceBEq]
  refine zr_aload_n dX4_save_23 rfl rfl ?_
  refine zm_geta 0 dX4_save_24 q2119 rfl ?_
  try simp only [zuf_1, zua_s, zua_2, zuf_s, zuf_zuf, zua_zuf, zua_zua, zua_e, zuf_e, Nat.reduceBEq]
  refine zr_iconst dX4_save_27 ?_
  refine zm_load hA (by decide) dX4_save_28 (by constructor <;> (try simp only [zMn]) <;> omega) ?_
  try simp only [zuf_1, zua_s, zua_2, zuf_s, zuf_zuf, zua_zuf, zua_zua, zua_e, zuf_e, Nat.reduceBEq]
  refine zr_ireturn dX4_save_29 rfl (by first | rfl | exact z_nb _) ?_
  exact k
theorem kX4_restore {G : State} {d rc rs : Nat} {ah : zH} {A : Nat → Nat} {S : zMS} {Q : zRs → zH → Prop} (hA : zMi A) (hd : 1 ≤ d) (hb : S.2 10 = 0 ∨ S.2 10 = 1) (k0 : S.2 10 = 0 → Q (.inl (some (.int (zi 0)))) (zMh ah A (zuf S 6 1))) (k : S.2 10 = 1 → Q (.inl (some (.int (zi (pCp (S.1 2) 0 (S.1 0) 0 0))))) (zMh ah A (pRest S))) : zW G mX4_restore d rc rs 0 (zent [.ref (A 18)]) [] (zMh ah A S) Q := by
  refine zW_open 0 [some (.ref (A 18))] rfl ?_
  refine zr_aload_n dX4_restore_0 rfl rfl ?_
  refine zr_aload_n dX4_restore_1 rfl rfl ?_
  refine zm_geti 10 dX4_restore_2 q2129 rfl ?_
  refine zr_ifne dX4_restore_5 (tgt := 12) (by decide) (by omega) (fun h5 => ?_) (fun h5 => ?_)
  · refine zr_iconst dX4_restore_12 ?_
    refine zr_iconst dX4_restore_13 ?_
    refine zc_v2 dX4_restore_14 hX4_isThrown gX4_isThrown rfl rfl 0 0 0 (by omega) (Nat.zero_le _) (Nat.zero_le _) q2199 q2201 sp45 zM_rc ?_
    refine kX4_isThrown0 hA (zK_i ?_)
    try simp only [zuf_1, zua_s, zua_2, zuf_s, zuf_zuf, zua_zuf, zua_zua, zua_e, zuf_e, Nat.reduceBEq]
    refine zr_ifeq dX4_restore_17 (tgt := 22) (by decide) (by decide) (fun _ => ?_) (fun h => absurd h (by decide))
    refine zr_aload_n dX4_restore_22 rfl rfl ?_
    refine zm_geta 2 dX4_restore_23 q2121 rfl ?_
    try simp only [zuf_1, zua_s, zua_2, zuf_s, zuf_zuf, zua_zuf, zua_zua, zua_e, zuf_e, Nat.reduceBEq]
    refine zr_iconst dX4_restore_26 ?_
    refine zr_aload_n dX4_restore_27 rfl rfl ?_
    refine zm_geta 0 dX4_restore_28 q2119 rfl ?_
    try simp only [zuf_1, zua_s, zua_2, zuf_s, zuf_zuf, zua_zuf, zua_zua, zua_e, zuf_e, Nat.reduceBEq]
    refine zr_iconst dX4_restore_31 ?_
    refine zc_s4 dX4_restore_32 hX4_copies gX4_copies rfl rfl 0 0 0 (by omega) (Nat.zero_le _) (Nat.zero_le _) q2186 q2187 ?_
    refine kX4_copies hA (by decide) (by decide) (by simp only [zMn]; omega) (by simp only [zMn]; omega) (by first | (left; decide) | (right; omega)) (by decide) (zK_v ?_)
    try simp only [zuf_1, zua_s, zua_2, zuf_s, zuf_zuf, zua_zuf, zua_zua, zua_e, zuf_e, Nat.reduceBEq]
    refine zr_aload_n dX4_restore_35 rfl rfl ?_
    refine zr_iconst dX4_restore_36 ?_
    refine zm_put 5 dX4_restore_37 q2124 (by decide) ?_
    try simp only [zuf_1, zua_s, zua_2, zuf_s, zuf_zuf, zua_zuf, zua_zua, zua_e, zuf_e, Nat.reduceBEq]
    refine zr_aload_n dX4_restore_40 rfl rfl ?_
    refine zm_geta 0 dX4_restore_41 q2119 rfl ?_
    try simp only [zuf_1, zua_s, zua_2, zuf_s, zuf_zuf, zua_zuf, zua_zua, zua_e, zuf_e, Nat.reduceBEq]
    refine zr_iconst dX4_restore_44 ?_
    refine zm_load hA (by decide) dX4_restore_45 (by constructor <;> (try simp only [zMn]) <;> omega) ?_
    try simp only [zuf_1, zua_s, zua_2, zuf_s, zuf_zuf, zua_zuf, zua_zua, zua_e, zuf_e, Nat.reduceBEq]
    refine zr_ireturn dX4_restore_46 rfl (by first | rfl | exact z_nb _) ?_
    exact zQm (k (by omega)) rfl rfl
  · refine zr_iconst dX4_restore_8 ?_
    refine zr_goto dX4_restore_9 (tgt := 13) (by decide) ?_
    refine zr_iconst dX4_restore_13 ?_
    refine zc_v2 dX4_restore_14 hX4_isThrown gX4_isThrown rfl rfl 0 0 0 (by omega) (Nat.zero_le _) (Nat.zero_le _) q2199 q2201 sp45 zM_rc ?_
    refine kX4_isThrown1 hA (zK_i ?_)
    try simp only [zuf_1, zua_s, zua_2, zuf_s, zuf_zuf, zua_zuf, zua_zua, zua_e, zuf_e, Nat.reduceBEq]
    refine zr_ifeq dX4_restore_17 (tgt := 22) (by decide) (by decide) (fun h => absurd h (by decide)) (fun _ => ?_)
    refine zr_iconst dX4_restore_20 ?_
    refine zr_ireturn dX4_restore_21 rfl (by first | rfl | exact z_nb _) ?_
    exact k0 (by omega)
theorem kX4_undo {G : State} {d rc rs : Nat} {ah : zH} {A : Nat → Nat} {S : zMS} {Q : zRs → zH → Prop} (hA : zMi A) (hd : 1 ≤ d) (hc : 0 ≤ S.2 5 ∧ S.2 5 ≤ 8) (k0 : S.2 5 = 0 → Q (.inl (some (.int (zi 0)))) (zMh ah A (zuf S 6 1))) (k : ¬ S.2 5 = 0 → Q (.inl (some (.int (zi (S.2 5 - 1))))) (zMh ah A (pUndo S))) : zW G mX4_undo d rc rs 0 (zent [.ref (A 18)]) [] (zMh ah A S) Q := by
  refine zW_open 0 [some (.ref (A 18))] rfl ?_
  refine zr_aload_n dX4_undo_0 rfl rfl ?_
  refine zr_aload_n dX4_undo_1 rfl rfl ?_
  refine zm_geti 5 dX4_undo_2 q2124 rfl ?_
  refine zr_ifne dX4_undo_5 (tgt := 12) (by decide) (by omega) (fun h5 => ?_) (fun h5 => ?_)
  · refine zr_iconst dX4_undo_12 ?_
    refine zr_iconst dX4_undo_13 ?_
    refine zc_v2 dX4_undo_14 hX4_isThrown gX4_isThrown rfl rfl 0 0 0 (by omega) (Nat.zero_le _) (Nat.zero_le _) q2199 q2201 sp45 zM_rc ?_
    refine kX4_isThrown0 hA (zK_i ?_)
    try simp only [zuf_1, zua_s, zua_2, zuf_s, zuf_zuf, zua_zuf, zua_zua, zua_e, zuf_e, Nat.reduceBEq]
    refine zr_ifeq dX4_undo_17 (tgt := 22) (by decide) (by decide) (fun _ => ?_) (fun h => absurd h (by decide))
    refine zr_aload_n dX4_undo_22 rfl rfl ?_
    refine zr_dup dX4_undo_23 rfl ?_
    refine zm_geti 5 dX4_undo_24 q2124 rfl ?_
    try simp only [zuf_1, zua_s, zua_2, zuf_s, zuf_zuf, zua_zuf, zua_zua, zua_e, zuf_e, Nat.reduceBEq]
    try rw [show (zuf S 6 0).2 5 = S.2 5 from rfl]
    refine zr_iconst dX4_undo_27 ?_
    refine zr_isub dX4_undo_28 ?_
    refine zm_put 5 dX4_undo_29 q2124 (by decide) ?_
    try simp only [zuf_1, zua_s, zua_2, zuf_s, zuf_zuf, zua_zuf, zua_zua, zua_e, zuf_e, Nat.reduceBEq]
    refine zr_aload_n dX4_undo_32 rfl rfl ?_
    refine zm_geta 3 dX4_undo_33 q2122 rfl ?_
    try simp only [zuf_1, zua_s, zua_2, zuf_s, zuf_zuf, zua_zuf, zua_zua, zua_e, zuf_e, Nat.reduceBEq]
    refine zr_sipush dX4_undo_36 rfl ?_
    refine zr_aload_n dX4_undo_39 rfl rfl ?_
    refine zm_geti 5 dX4_undo_40 q2124 rfl ?_
    try simp only [zuf_1, zua_s, zua_2, zuf_s, zuf_zuf, zua_zuf, zua_zua, zua_e, zuf_e, Nat.reduceBEq]
    try rw [zuf_s]
    refine zr_imul dX4_undo_43 ?_
    refine zr_aload_n dX4_undo_44 rfl rfl ?_
    refine zm_geta 0 dX4_undo_45 q2119 rfl ?_
    try simp only [zuf_1, zua_s, zua_2, zuf_s, zuf_zuf, zua_zuf, zua_zua, zua_e, zuf_e, Nat.reduceBEq]
    refine zr_iconst dX4_undo_48 ?_
    refine zc_s4 dX4_undo_49 hX4_copies gX4_copies rfl rfl 0 0 0 (by omega) (Nat.zero_le _) (Nat.zero_le _) q2186 q2187 ?_
    refine kX4_copies hA (by decide) (by decide) (by simp only [zMn]; omega) (by simp only [zMn]; omega) (by first | (left; decide) | (right; omega)) (by decide) (zK_v ?_)
    try simp only [zuf_1, zua_s, zua_2, zuf_s, zuf_zuf, zua_zuf, zua_zua, zua_e, zuf_e, Nat.reduceBEq]
    refine zr_aload_n dX4_undo_52 rfl rfl ?_
    refine zm_geti 5 dX4_undo_53 q2124 rfl ?_
    try simp only [zuf_1, zua_s, zua_2, zuf_s, zuf_zuf, zua_zuf, zua_zua, zua_e, zuf_e, Nat.reduceBEq]
    try rw [zuf_s]
    refine zr_ireturn dX4_undo_56 rfl (by first | rfl | exact z_nb _) ?_
    exact zQm (k (by omega)) rfl rfl
  · refine zr_iconst dX4_undo_8 ?_
    refine zr_goto dX4_undo_9 (tgt := 13) (by decide) ?_
    refine zr_iconst dX4_undo_13 ?_
    refine zc_v2 dX4_undo_14 hX4_isThrown gX4_isThrown rfl rfl 0 0 0 (by omega) (Nat.zero_le _) (Nat.zero_le _) q2199 q2201 sp45 zM_rc ?_
    refine kX4_isThrown1 hA (zK_i ?_)
    try simp only [zuf_1, zua_s, zua_2, zuf_s, zuf_zuf, zua_zuf, zua_zua, zua_e, zuf_e, Nat.reduceBEq]
    refine zr_ifeq dX4_undo_17 (tgt := 22) (by decide) (by decide) (fun h => absurd h (by decide)) (fun _ => ?_)
    refine zr_iconst dX4_undo_20 ?_
    refine zr_ireturn dX4_undo_21 rfl (by first | rfl | exact z_nb _) ?_
    exact k0 (by omega)
def pType (S : zMS) (c : Int) : zMS := zuf (zua (zuf S 6 0) 13 (z_upF (S.1 13) (S.2 15) c)) 15 (S.2 15 + 1)
theorem kX4_type {G : State} {d rc rs : Nat} {ah : zH} {A : Nat → Nat} {S : zMS} {Q : zRs → zH → Prop} {c : Int} (hA : zMi A) (hd : 1 ≤ d) (hc : 0 ≤ S.2 15 ∧ S.2 15 ≤ 60) (k0 : S.2 15 = 60 → Q (.inl (some (.int (zi 0)))) (zMh ah A (zuf S 6 1))) (k : S.2 15 < 60 → Q (.inl (some (.int (zi (S.2 15 + 1))))) (zMh ah A (pType S c))) : zW G mX4_type d rc rs 0 (zent [.ref (A 18), .int (zi c)]) [] (zMh ah A S) Q := by
  refine zW_open 0 [some (.ref (A 18)), some (.int (zi c))] rfl ?_
  refine zr_aload_n dX4_type_0 rfl rfl ?_
  refine zr_aload_n dX4_type_1 rfl rfl ?_
  refine zm_geti 15 dX4_type_2 q2134 rfl ?_
  refine zr_bipush dX4_type_5 rfl ?_
  refine zr_icmpne dX4_type_7 (tgt := 14) (by decide) (by omega) (by omega) (fun h7 => ?_) (fun h7 => ?_)
  · refine zr_iconst dX4_type_14 ?_
    refine zr_iconst dX4_type_15 ?_
    refine zc_v2 dX4_type_16 hX4_isThrown gX4_isThrown rfl rfl 0 0 0 (by omega) (Nat.zero_le _) (Nat.zero_le _) q2199 q2201 sp45 zM_rc ?_
    refine kX4_isThrown0 hA (zK_i ?_)
    try simp only [zuf_1, zua_s, zua_2, zuf_s, zuf_zuf, zua_zuf, zua_zua, zua_e, zuf_e, Nat.reduceBEq]
    refine zr_ifeq dX4_type_19 (tgt := 24) (by decide) (by decide) (fun _ => ?_) (fun h => absurd h (by decide))
    refine zr_aload_n dX4_type_24 rfl rfl ?_
    refine zm_geta 13 dX4_type_25 q2132 rfl ?_
    try simp only [zuf_1, zua_s, zua_2, zuf_s, zuf_zuf, zua_zuf, zua_zua, zua_e, zuf_e, Nat.reduceBEq]
    refine zr_aload_n dX4_type_28 rfl rfl ?_
    refine zm_geti 15 dX4_type_29 q2134 rfl ?_
    try simp only [zuf_1, zua_s, zua_2, zuf_s, zuf_zuf, zua_zuf, zua_zua, zua_e, zuf_e, Nat.reduceBEq]
    try rw [show (zuf S 6 0).2 15 = S.2 15 from rfl]
    refine zr_iload_n dX4_type_32 rfl ?_
    refine zm_store hA (by decide) dX4_type_33 (by constructor <;> (try simp only [zMn]) <;> omega) ?_
    try simp only [zuf_1, zua_s, zua_2, zuf_s, zuf_zuf, zua_zuf, zua_zua, zua_e, zuf_e, Nat.reduceBEq]
    refine zr_aload_n dX4_type_34 rfl rfl ?_
    refine zr_dup dX4_type_35 rfl ?_
    refine zm_geti 15 dX4_type_36 q2134 rfl ?_
    try simp only [zuf_1, zua_s, zua_2, zuf_s, zuf_zuf, zua_zuf, zua_zua, zua_e, zuf_e, Nat.reduceBEq]
    try rw [show (zuf (zua S 13 (z_upF (S.1 13) (S.2 15) c)) 6 0).2 15 = S.2 15 from rfl]
    refine zr_iconst dX4_type_39 ?_
    refine zr_iadd dX4_type_40 ?_
    refine zm_put 15 dX4_type_41 q2134 (by decide) ?_
    try simp only [zuf_1, zua_s, zua_2, zuf_s, zuf_zuf, zua_zuf, zua_zua, zua_e, zuf_e, Nat.reduceBEq]
    refine zr_aload_n dX4_type_44 rfl rfl ?_
    refine zm_geti 15 dX4_type_45 q2134 rfl ?_
    try simp only [zuf_1, zua_s, zua_2, zuf_s, zuf_zuf, zua_zuf, zua_zua, zua_e, zuf_e, Nat.reduceBEq]
    try rw [zuf_s]
    refine zr_ireturn dX4_type_48 rfl (by first | rfl | exact z_nb _) ?_
    exact zQm (k (by omega)) rfl rfl
  · refine zr_iconst dX4_type_10 ?_
    refine zr_goto dX4_type_11 (tgt := 15) (by decide) ?_
    refine zr_iconst dX4_type_15 ?_
    refine zc_v2 dX4_type_16 hX4_isThrown gX4_isThrown rfl rfl 0 0 0 (by omega) (Nat.zero_le _) (Nat.zero_le _) q2199 q2201 sp45 zM_rc ?_
    refine kX4_isThrown1 hA (zK_i ?_)
    try simp only [zuf_1, zua_s, zua_2, zuf_s, zuf_zuf, zua_zuf, zua_zua, zua_e, zuf_e, Nat.reduceBEq]
    refine zr_ifeq dX4_type_19 (tgt := 24) (by decide) (by decide) (fun h => absurd h (by decide)) (fun _ => ?_)
    refine zr_iconst dX4_type_22 ?_
    refine zr_ireturn dX4_type_23 rfl (by first | rfl | exact z_nb _) ?_
    exact k0 (by omega)
def qCh (S : zMS) (i : Int) : Int × Int := if ¬ pIn i 0 (S.2 12 - 1) = true then (1, 0) else (0, S.1 11 i)
theorem kX4_charAt {G : State} {d rc rs : Nat} {ah : zH} {A : Nat → Nat} {S : zMS} {Q : zRs → zH → Prop} {i : Int} (hA : zMi A) (hd : 1 ≤ d) (hb : 0 ≤ S.2 12 ∧ S.2 12 ≤ 120) (hch : ∀ j, 0 ≤ j → j < S.2 12 → 0 ≤ S.1 11 j ∧ S.1 11 j ≤ 255) (qi : -2147483648 ≤ i ∧ i ≤ 2147483647) (k : Q (.inl (some (.int (zi (qCh S i).2)))) (zMh ah A (zuf S 6 (qCh S i).1))) : zW G mX4_charAt d rc rs 0 (zent [.ref (A 18), .int (zi i)]) [] (zMh ah A S) Q := by
  refine zW_open 0 [some (.ref (A 18)), some (.int (zi i))] rfl ?_
  refine zr_aload_n dX4_charAt_0 rfl rfl ?_
  refine zr_iload_n dX4_charAt_1 rfl ?_
  refine zr_iconst dX4_charAt_2 ?_
  refine zr_aload_n dX4_charAt_3 rfl rfl ?_
  refine zm_geti 12 dX4_charAt_4 q2131 rfl ?_
  refine zr_iconst dX4_charAt_7 ?_
  refine zr_isub dX4_charAt_8 ?_
  refine zc_s3 dX4_charAt_9 hX4_isIn gX4_isIn rfl rfl 0 0 0 (by omega) (Nat.zero_le _) (Nat.zero_le _) q2196 q2197 ?_
  refine kX4_isIn (by omega) (by omega) (by omega) (zK_i ?_)
  refine zr_ifneB dX4_charAt_12 (tgt := 19) (by decide) (fun h12 => ?_) (fun h12 => ?_)
  · refine zr_iconst dX4_charAt_19 ?_
    refine zr_iconst dX4_charAt_20 ?_
    refine zc_v2 dX4_charAt_21 hX4_isThrown gX4_isThrown rfl rfl 0 0 0 (by omega) (Nat.zero_le _) (Nat.zero_le _) q2199 q2201 sp45 zM_rc ?_
    refine kX4_isThrown0 hA (zK_i ?_)
    try simp only [zuf_1, zua_s, zua_2, zuf_s, zuf_zuf, zua_zuf, zua_zua, zua_e, zuf_e, Nat.reduceBEq]
    refine zr_ifeq dX4_charAt_24 (tgt := 31) (by decide) (by decide) (fun _ => ?_) (fun h => absurd h (by decide))
    have p1 := pIn_iff.mp h12
    have p2 := hch i (by omega) (by omega)
    refine zr_aload_n dX4_charAt_31 rfl rfl ?_
    refine zm_geta 11 dX4_charAt_32 q2130 rfl ?_
    try simp only [zuf_1, zua_s, zua_2, zuf_s, zuf_zuf, zua_zuf, zua_zua, zua_e, zuf_e, Nat.reduceBEq]
    refine zr_iload_n dX4_charAt_35 rfl ?_
    refine zm_load hA (by decide) dX4_charAt_36 (by constructor <;> (try simp only [zMn]) <;> omega) ?_
    try simp only [zuf_1, zua_s, zua_2, zuf_s, zuf_zuf, zua_zuf, zua_zua, zua_e, zuf_e, Nat.reduceBEq]
    refine zr_i2c (v := S.1 11 i) dX4_charAt_37 (z_c16 (by omega)) ?_
    refine zr_ireturn dX4_charAt_38 rfl (z_nc (by omega)) ?_
    have e : qCh S i = (0, S.1 11 i) := by unfold qCh; simp [*]
    exact zQm k (by rw [e]) (by rw [e])
  · refine zr_iconst dX4_charAt_15 ?_
    refine zr_goto dX4_charAt_16 (tgt := 20) (by decide) ?_
    refine zr_iconst dX4_charAt_20 ?_
    refine zc_v2 dX4_charAt_21 hX4_isThrown gX4_isThrown rfl rfl 0 0 0 (by omega) (Nat.zero_le _) (Nat.zero_le _) q2199 q2201 sp45 zM_rc ?_
    refine kX4_isThrown1 hA (zK_i ?_)
    try simp only [zuf_1, zua_s, zua_2, zuf_s, zuf_zuf, zua_zuf, zua_zua, zua_e, zuf_e, Nat.reduceBEq]
    refine zr_ifeq dX4_charAt_24 (tgt := 31) (by decide) (by decide) (fun h => absurd h (by decide)) (fun _ => ?_)
    refine zr_iconst dX4_charAt_27 ?_
    refine zr_goto dX4_charAt_28 (tgt := 38) (by decide) ?_
    refine zr_ireturn dX4_charAt_38 rfl (z_nc (by omega)) ?_
    have e : qCh S i = (1, 0) := by unfold qCh; simp [*]
    exact zQm k (by rw [e]) (by rw [e])
