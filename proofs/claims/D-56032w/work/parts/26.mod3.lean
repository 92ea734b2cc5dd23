set_option maxRecDepth 100000
/-! ===== the reference: the tour ===== -/
def pZr (s : Int → Int) (n : Int) : Int → Int := fun j => if 192 ≤ j ∧ j < 192 + n then 0 else s j
theorem pZr_0 {s : Int → Int} : pZr s 0 = s := by
  funext j
  unfold pZr
  rw [if_neg (by omega)]
theorem pZr_s {s : Int → Int} {i : Int} (hi : 0 ≤ i) : z_upF (pZr s i) (192 + i) 0 = pZr s (i + 1) := by
  funext j
  unfold pZr z_upF
  by_cases h : j = 192 + i
  · rw [if_pos h, if_pos (by omega)]
  · rw [if_neg h]
    dsimp only
    by_cases h2 : 192 ≤ j ∧ j < 192 + i
    · rw [if_pos h2, if_pos (by omega)]
    · rw [if_neg h2, if_neg (by omega)]
def pOv (s : Int → Int) : Int → Int := z_upF (z_upF (z_upF (z_upF (z_upF (pZr s 12) 1 0) 2 0) 3 0) 4 0) 5 0
theorem kX4_overL {G : State} {d rc rs : Nat} {ah : zH} {A : Nat → Nat} {S : zMS} {Q : zRs → zH → Prop} (hA : zMi A) (n : Nat) : ∀ (i : Int), 0 ≤ i → i + n = 12 → (Q (.inl none) (zMh ah A (zua S 0 (pOv (S.1 0))))) → zW G mX4_over d rc rs 2 [some (.ref (A 18)), some (.int (zi i))] [] (zMh ah A (zua S 0 (pZr (S.1 0) i))) Q := by
  induction n with
  | zero =>
    intro i g1 g2 k
    refine zr_iload_n dX4_over_2 rfl ?_
    refine zr_bipush dX4_over_3 rfl ?_
    refine zr_icmpge dX4_over_5 (tgt := 25) (by decide) (by omega) (by omega) (fun h5 => ?_) (fun h5 => ?_)
    · obtain rfl : i = 12 := by omega
      refine zr_aload_n dX4_over_25 rfl rfl ?_
      refine zm_geta 0 dX4_over_26 q2119 rfl ?_
      try simp only [zuf_1, zua_s, zua_2, zuf_s, zuf_zuf, zua_zuf, zua_zua, zua_e, zuf_e, Nat.reduceBEq]
      refine zr_iconst dX4_over_29 ?_
      refine zr_iconst dX4_over_30 ?_
      refine zm_store hA (by decide) dX4_over_31 (by constructor <;> (try simp only [zMn]) <;> omega) ?_
      try simp only [zuf_1, zua_s, zua_2, zuf_s, zuf_zuf, zua_zuf, zua_zua, zua_e, zuf_e, Nat.reduceBEq]
      refine zr_aload_n dX4_over_32 rfl rfl ?_
      refine zm_geta 0 dX4_over_33 q2119 rfl ?_
      try simp only [zuf_1, zua_s, zua_2, zuf_s, zuf_zuf, zua_zuf, zua_zua, zua_e, zuf_e, Nat.reduceBEq]
      refine zr_iconst dX4_over_36 ?_
      refine zr_iconst dX4_over_37 ?_
      refine zm_store hA (by decide) dX4_over_38 (by constructor <;> (try simp only [zMn]) <;> omega) ?_
      try simp only [zuf_1, zua_s, zua_2, zuf_s, zuf_zuf, zua_zuf, zua_zua, zua_e, zuf_e, Nat.reduceBEq]
      refine zr_aload_n dX4_over_39 rfl rfl ?_
      refine zm_geta 0 dX4_over_40 q2119 rfl ?_
      try simp only [zuf_1, zua_s, zua_2, zuf_s, zuf_zuf, zua_zuf, zua_zua, zua_e, zuf_e, Nat.reduceBEq]
      refine zr_iconst dX4_over_43 ?_
      refine zr_iconst dX4_over_44 ?_
      refine zm_store hA (by decide) dX4_over_45 (by constructor <;> (try simp only [zMn]) <;> omega) ?_
      try simp only [zuf_1, zua_s, zua_2, zuf_s, zuf_zuf, zua_zuf, zua_zua, zua_e, zuf_e, Nat.reduceBEq]
      refine zr_aload_n dX4_over_46 rfl rfl ?_
      refine zm_geta 0 dX4_over_47 q2119 rfl ?_
      try simp only [zuf_1, zua_s, zua_2, zuf_s, zuf_zuf, zua_zuf, zua_zua, zua_e, zuf_e, Nat.reduceBEq]
      refine zr_iconst dX4_over_50 ?_
      refine zr_iconst dX4_over_51 ?_
      refine zm_store hA (by decide) dX4_over_52 (by constructor <;> (try simp only [zMn]) <;> omega) ?_
      try simp only [zuf_1, zua_s, zua_2, zuf_s, zuf_zuf, zua_zuf, zua_zua, zua_e, zuf_e, Nat.reduceBEq]
      refine zr_aload_n dX4_over_53 rfl rfl ?_
      refine zm_geta 0 dX4_over_54 q2119 rfl ?_
      try simp only [zuf_1, zua_s, zua_2, zuf_s, zuf_zuf, zua_zuf, zua_zua, zua_e, zuf_e, Nat.reduceBEq]
      refine zr_iconst dX4_over_57 ?_
      refine zr_iconst dX4_over_58 ?_
      refine zm_store hA (by decide) dX4_over_59 (by constructor <;> (try simp only [zMn]) <;> omega) ?_
      try simp only [zuf_1, zua_s, zua_2, zuf_s, zuf_zuf, zua_zuf, zua_zua, zua_e, zuf_e, Nat.reduceBEq]
      refine zr_return dX4_over_60 rfl ?_
      exact k
    · exfalso; omega
  | succ n ih =>
    intro i g1 g2 k
    refine zr_iload_n dX4_over_2 rfl ?_
    refine zr_bipush dX4_over_3 rfl ?_
    refine zr_icmpge dX4_over_5 (tgt := 25) (by decide) (by omega) (by omega) (fun h5 => ?_) (fun h5 => ?_)
    · exfalso; omega
    · refine zr_aload_n dX4_over_8 rfl rfl ?_
      refine zm_geta 0 dX4_over_9 q2119 rfl ?_
      try simp only [zuf_1, zua_s, zua_2, zuf_s, zuf_zuf, zua_zuf, zua_zua, zua_e, zuf_e, Nat.reduceBEq]
      refine zr_sipush dX4_over_12 rfl ?_
      refine zr_iload_n dX4_over_15 rfl ?_
      refine zr_iadd dX4_over_16 ?_
      refine zr_iconst dX4_over_17 ?_
      refine zm_store hA (by decide) dX4_over_18 (by constructor <;> (try simp only [zMn]) <;> omega) ?_
      try simp only [zuf_1, zua_s, zua_2, zuf_s, zuf_zuf, zua_zuf, zua_zua, zua_e, zuf_e, Nat.reduceBEq]
      rw [pZr_s g1]
      refine zr_iinc dX4_over_19 rfl (by decide) (zs2_1 rfl ?_)
      refine zr_goto dX4_over_22 (tgt := 2) (by decide) ?_
      exact ih (i + 1) (by omega) (by omega) k
theorem kX4_over {G : State} {d rc rs : Nat} {ah : zH} {A : Nat → Nat} {S : zMS} {Q : zRs → zH → Prop} (hA : zMi A) (k : Q (.inl none) (zMh ah A (zua S 0 (pOv (S.1 0))))) : zW G mX4_over d rc rs 0 (zent [.ref (A 18)]) [] (zMh ah A S) Q := by
  refine zW_open 1 [some (.ref (A 18)), none] rfl ?_
  refine zr_iconst dX4_over_0 ?_
  refine zr_istore_n dX4_over_1 (by decide) (zs2_1 rfl ?_)
  rw [show zMh ah A S = zMh ah A (zua S 0 (pZr (S.1 0) 0)) by rw [pZr_0, zua_self]]
  exact kX4_overL hA 12 0 (by omega) (by omega) k
def pStop (s : Int → Int) : Int × Int × (Int → Int) := if ¬ (0 < s 1) then (1, 0, s) else (0, s 1 - s 2, pOv s)
theorem kX4_stops {G : State} {d rc rs : Nat} {ah : zH} {A : Nat → Nat} {S : zMS} {Q : zRs → zH → Prop} (hA : zMi A) (hd : 1 ≤ d) (hV : pV (S.1 0)) (k : Q (.inl (some (.int (zi (pStop (S.1 0)).2.1)))) (zMh ah A (pAf S (pStop (S.1 0))))) : zW G mX4_stops d rc rs 0 (zent [.ref (A 18)]) [] (zMh ah A S) Q := by
  refine zW_open 1 [some (.ref (A 18)), none] rfl ?_
  refine zr_aload_n dX4_stops_0 rfl rfl ?_
  refine zr_aload_n dX4_stops_1 rfl rfl ?_
  refine zc_v0 dX4_stops_2 hX4_isOnTour gX4_isOnTour rfl rfl 0 0 0 (by omega) (Nat.zero_le _) (Nat.zero_le _) q2247 q2249 sp54 zM_rc ?_
  refine kX4_isOnTour hA hV (zK_i ?_)
  try simp only [zuf_1, zua_s, zua_2, zuf_s, zuf_zuf, zua_zuf, zua_zua, zua_e, zuf_e, Nat.reduceBEq]
  refine zr_ifneB dX4_stops_5 (tgt := 12) (by decide) (fun h5 => ?_) (fun h5 => ?_)
  · refine zr_iconst dX4_stops_12 ?_
    refine zr_iconst dX4_stops_13 ?_
    refine zc_v2 dX4_stops_14 hX4_isThrown gX4_isThrown rfl rfl 0 0 0 (by omega) (Nat.zero_le _) (Nat.zero_le _) q2199 q2201 sp45 zM_rc ?_
    refine kX4_isThrown0 hA (zK_i ?_)
    try simp only [zuf_1, zua_s, zua_2, zuf_s, zuf_zuf, zua_zuf, zua_zua, zua_e, zuf_e, Nat.reduceBEq]
    refine zr_ifeq dX4_stops_17 (tgt := 22) (by decide) (by decide) (fun _ => ?_) (fun h => absurd h (by decide))
    have h9 := of_decide_eq_true h5
    refine zr_aload_n dX4_stops_22 rfl rfl ?_
    refine zm_geta 0 dX4_stops_23 q2119 rfl ?_
    try simp only [zuf_1, zua_s, zua_2, zuf_s, zuf_zuf, zua_zuf, zua_zua, zua_e, zuf_e, Nat.reduceBEq]
    refine zr_iconst dX4_stops_26 ?_
    refine zm_load hA (by decide) dX4_stops_27 (by constructor <;> (try simp only [zMn]) <;> omega) ?_
    try simp only [zuf_1, zua_s, zua_2, zuf_s, zuf_zuf, zua_zuf, zua_zua, zua_e, zuf_e, Nat.reduceBEq]
    refine zr_aload_n dX4_stops_28 rfl rfl ?_
    refine zm_geta 0 dX4_stops_29 q2119 rfl ?_
    try simp only [zuf_1, zua_s, zua_2, zuf_s, zuf_zuf, zua_zuf, zua_zua, zua_e, zuf_e, Nat.reduceBEq]
    refine zr_iconst dX4_stops_32 ?_
    refine zm_load hA (by decide) dX4_stops_33 (by constructor <;> (try simp only [zMn]) <;> omega) ?_
    try simp only [zuf_1, zua_s, zua_2, zuf_s, zuf_zuf, zua_zuf, zua_zua, zua_e, zuf_e, Nat.reduceBEq]
    refine zr_isub dX4_stops_34 ?_
    refine zr_istore_n dX4_stops_35 (by decide) (zs2_1 rfl ?_)
    refine zr_aload_n dX4_stops_36 rfl rfl ?_
    refine zc_v0 dX4_stops_37 hX4_over gX4_over rfl rfl 0 0 0 (by omega) (Nat.zero_le _) (Nat.zero_le _) q2272 q2274 sp59 zM_rc ?_
    refine kX4_over hA (zK_v ?_)
    try simp only [zuf_1, zua_s, zua_2, zuf_s, zuf_zuf, zua_zuf, zua_zua, zua_e, zuf_e, Nat.reduceBEq]
    refine zr_iload_n dX4_stops_40 rfl ?_
    refine zr_ireturn dX4_stops_41 rfl (by first | rfl | exact z_nb _) ?_
    try have h9 := of_decide_eq_false h5
    have e : pStop (S.1 0) = (0, S.1 0 1 - S.1 0 2, pOv (S.1 0)) := by unfold pStop; simp [*]
    exact zQm k (by rw [e]) (by rw [e]; rfl)
  · refine zr_iconst dX4_stops_8 ?_
    refine zr_goto dX4_stops_9 (tgt := 13) (by decide) ?_
    refine zr_iconst dX4_stops_13 ?_
    refine zc_v2 dX4_stops_14 hX4_isThrown gX4_isThrown rfl rfl 0 0 0 (by omega) (Nat.zero_le _) (Nat.zero_le _) q2199 q2201 sp45 zM_rc ?_
    refine kX4_isThrown1 hA (zK_i ?_)
    try simp only [zuf_1, zua_s, zua_2, zuf_s, zuf_zuf, zua_zuf, zua_zua, zua_e, zuf_e, Nat.reduceBEq]
    refine zr_ifeq dX4_stops_17 (tgt := 22) (by decide) (by decide) (fun h => absurd h (by decide)) (fun _ => ?_)
    refine zr_iconst dX4_stops_20 ?_
    refine zr_ireturn dX4_stops_21 rfl (by first | rfl | exact z_nb _) ?_
    try have h9 := of_decide_eq_false h5
    have e : pStop (S.1 0) = (1, 0, S.1 0) := by unfold pStop; simp [*]
    exact zQm k (by rw [e]) (by rw [e, pAf_s])
def pRe (s : Int → Int) (x y : Int) : Bool := decide (pSq (x - pOf s (s (192 + s 2)) 0) (y - pOf s (s (192 + s 2)) 1) ≤ pOf s (s (192 + s 2)) 2 * pOf s (s (192 + s 2)) 2)

/-- the reference's comparison, of a point, the leg's ends, and so much -/
def pCmp (x y ax ay bx b_y m : Int) : Int := if (x - bx) * (ax - bx) + (y - b_y) * (ay - b_y) ≤ 0 then pSq (x - bx) (y - b_y) - m * m else if pSq (ax - bx) (ay - b_y) ≤ (x - bx) * (ax - bx) + (y - b_y) * (ay - b_y) then pSq (x - ax) (y - ay) - m * m else
  ((x - bx) * (ay - b_y) - (y - b_y) * (ax - bx)) * ((x - bx) * (ay - b_y) - (y - b_y) * (ax - bx)) - m * m * pSq (ax - bx) (ay - b_y)
def pCm (s : Int → Int) (x y m : Int) : Int := pCmp x y (pOf s (s (192 + s 2)) 0) (pOf s (s (192 + s 2)) 1) (pOf s (s (192 + s 2 - 1)) 0) (pOf s (s (192 + s 2 - 1)) 1) m
theorem pCmp_b {x y ax ay bx b_y m : Int} (hx : 0 ≤ x ∧ x ≤ 99) (hy : 0 ≤ y ∧ y ≤ 99) (h1 : 0 ≤ ax ∧ ax ≤ 99) (h2 : 0 ≤ ay ∧ ay ≤ 99) (h3 : 0 ≤ bx ∧ bx ≤ 99) (h4 : 0 ≤ b_y ∧ b_y ≤ 99) (hm : 0 ≤ m ∧ m ≤ 200) : -2000000000 ≤ pCmp x y ax ay bx b_y m ∧ pCmp x y ax ay bx b_y m ≤ 2000000000 := by
  have q1 := pSq_b (u := x - bx) (v := y - b_y) (by omega) (by omega)
  have q2 := pSq_b (u := x - ax) (v := y - ay) (by omega) (by omega)
  have q3 := pSq_b (u := ax - bx) (v := ay - b_y) (by omega) (by omega)
  have q4 := z_sq_b (x := m) (a := 200) (by omega)
  have q5 := z_mul_b (x := x - bx) (y := ay - b_y) (a := 99) (b := 99) (by omega) (by omega)
  have q6 := z_mul_b (x := y - b_y) (y := ax - bx) (a := 99) (b := 99) (by omega) (by omega)
  have q7 := z_sq_b (x := (x - bx) * (ay - b_y) - (y - b_y) * (ax - bx)) (a := 19602) (by omega)
  have q8 := z_mul_b (x := m * m) (y := pSq (ax - bx) (ay - b_y)) (a := 40000) (b := 19602) (by omega) (by omega)
  unfold pCmp
  split
  · omega
  · split <;> omega
theorem kX4_reaches {G : State} {d rc rs : Nat} {ah : zH} {A : Nat → Nat} {S : zMS} {Q : zRs → zH → Prop} {x y : Int} (hA : zMi A) (hd : 1 ≤ d) (hV : pV (S.1 0)) (ht : S.1 0 2 < 12) (hx : 0 ≤ x ∧ x ≤ 99) (hy : 0 ≤ y ∧ y ≤ 99) (k : Q (.inl (some (.int (zi (zB (pRe (S.1 0) x y)))))) (zMh ah A S)) : zW G mX4_reaches d rc rs 0 (zent [.ref (A 18), .int (zi x), .int (zi y)]) [] (zMh ah A S) Q := by
  refine zW_open 1 [some (.ref (A 18)), some (.int (zi x)), some (.int (zi y)), none] rfl ?_
  refine zr_aload_n dX4_reaches_0 rfl rfl ?_
  refine zc_v0 dX4_reaches_1 hX4_aim gX4_aim rfl rfl 0 0 0 (by omega) (Nat.zero_le _) (Nat.zero_le _) q2295 q2297 sp63 zM_rc ?_
  refine kX4_aim hA hV (by omega) (fun t1 => zK_i ?_)
  try simp only [zuf_1, zua_s, zua_2, zuf_s, zuf_zuf, zua_zuf, zua_zua, zua_e, zuf_e, Nat.reduceBEq] at t1 ⊢
  have x1 := hV.x (p := S.1 0 (192 + S.1 0 2)) (by omega)
  have y1 := hV.y (p := S.1 0 (192 + S.1 0 2)) (by omega)
  have r1 := hV.r (p := S.1 0 (192 + S.1 0 2)) (by omega)
  refine zr_istore_n dX4_reaches_4 (by decide) (zs4_3 rfl ?_)
  refine zr_iload_n dX4_reaches_5 rfl ?_
  refine zr_aload_n dX4_reaches_6 rfl rfl ?_
  refine zr_iload_n dX4_reaches_7 rfl ?_
  refine zr_iconst dX4_reaches_8 ?_
  refine zc_v2 dX4_reaches_9 hX4_of gX4_of rfl rfl 0 0 0 (by omega) (Nat.zero_le _) (Nat.zero_le _) q2260 q2262 sp57 zM_rc ?_
  refine kX4_of hA (by omega) (by omega) (zK_i ?_)
  try simp only [zuf_1, zua_s, zua_2, zuf_s, zuf_zuf, zua_zuf, zua_zua, zua_e, zuf_e, Nat.reduceBEq]
  refine zr_isub dX4_reaches_12 ?_
  refine zr_iload_n dX4_reaches_13 rfl ?_
  refine zr_aload_n dX4_reaches_14 rfl rfl ?_
  refine zr_iload_n dX4_reaches_15 rfl ?_
  refine zr_iconst dX4_reaches_16 ?_
  refine zc_v2 dX4_reaches_17 hX4_of gX4_of rfl rfl 0 0 0 (by omega) (Nat.zero_le _) (Nat.zero_le _) q2260 q2262 sp57 zM_rc ?_
  refine kX4_of hA (by omega) (by omega) (zK_i ?_)
  try simp only [zuf_1, zua_s, zua_2, zuf_s, zuf_zuf, zua_zuf, zua_zua, zua_e, zuf_e, Nat.reduceBEq]
  refine zr_isub dX4_reaches_20 ?_
  refine zc_s2 dX4_reaches_21 hX4_square gX4_square rfl rfl 0 0 0 (by omega) (Nat.zero_le _) (Nat.zero_le _) q2299 q2300 ?_
  refine kX4_square (zK_i ?_)
  refine zr_aload_n dX4_reaches_24 rfl rfl ?_
  refine zr_iload_n dX4_reaches_25 rfl ?_
  refine zr_iconst dX4_reaches_26 ?_
  refine zc_v2 dX4_reaches_27 hX4_of gX4_of rfl rfl 0 0 0 (by omega) (Nat.zero_le _) (Nat.zero_le _) q2260 q2262 sp57 zM_rc ?_
  refine kX4_of hA (by omega) (by omega) (zK_i ?_)
  try simp only [zuf_1, zua_s, zua_2, zuf_s, zuf_zuf, zua_zuf, zua_zua, zua_e, zuf_e, Nat.reduceBEq]
  refine zr_aload_n dX4_reaches_30 rfl rfl ?_
  refine zr_iload_n dX4_reaches_31 rfl ?_
  refine zr_iconst dX4_reaches_32 ?_
  refine zc_v2 dX4_reaches_33 hX4_of gX4_of rfl rfl 0 0 0 (by omega) (Nat.zero_le _) (Nat.zero_le _) q2260 q2262 sp57 zM_rc ?_
  refine kX4_of hA (by omega) (by omega) (zK_i ?_)
  try simp only [zuf_1, zua_s, zua_2, zuf_s, zuf_zuf, zua_zuf, zua_zua, zua_e, zuf_e, Nat.reduceBEq]
  refine zr_imul dX4_reaches_36 ?_
  have s1 := pSq_b (u := x - pOf (S.1 0) (S.1 0 (192 + S.1 0 2)) 0) (v := y - pOf (S.1 0) (S.1 0 (192 + S.1 0 2)) 1) (by omega) (by omega)
  have s2 := z_sq_b (x := pOf (S.1 0) (S.1 0 (192 + S.1 0 2)) 2) (a := 9) (by omega)
  refine zr_icmpgt dX4_reaches_37 (tgt := 44) (by decide) (by omega) (by omega) (fun h37 => ?_) (fun h37 => ?_)
  · refine zr_iconst dX4_reaches_44 ?_
    refine zr_ireturn dX4_reaches_45 rfl (by first | rfl | exact z_nb _) ?_
    exact zQi k (by unfold pRe; first | (rw [decide_eq_true (by omega)]; rfl) | (rw [decide_eq_false (by omega)]; rfl))
  · refine zr_iconst dX4_reaches_40 ?_
    refine zr_goto dX4_reaches_41 (tgt := 45) (by decide) ?_
    refine zr_ireturn dX4_reaches_45 rfl (by first | rfl | exact z_nb _) ?_
    exact zQi k (by unfold pRe; first | (rw [decide_eq_true (by omega)]; rfl) | (rw [decide_eq_false (by omega)]; rfl))
theorem kX4_compared {G : State} {d rc rs : Nat} {ah : zH} {A : Nat → Nat} {S : zMS} {Q : zRs → zH → Prop} {x y m : Int} (hA : zMi A) (hd : 1 ≤ d) (hV : pV (S.1 0)) (ht : 1 ≤ S.1 0 2 ∧ S.1 0 2 < 12) (hx : 0 ≤ x ∧ x ≤ 99) (hy : 0 ≤ y ∧ y ≤ 99) (hm : 0 ≤ m ∧ m ≤ 200) (k : (-2000000000 ≤ pCm (S.1 0) x y m ∧ pCm (S.1 0) x y m ≤ 2000000000) → Q (.inl (some (.int (zi (pCm (S.1 0) x y m))))) (zMh ah A S)) : zW G mX4_compared d rc rs 0 (zent [.ref (A 18), .int (zi x), .int (zi y), .int (zi m)]) [] (zMh ah A S) Q := by
  refine zW_open 9 [some (.ref (A 18)), some (.int (zi x)), some (.int (zi y)), some (.int (zi m)), none, none, none, none, none, none, none, none, none] rfl ?_
  have tt := hV.rt (i := 192 + S.1 0 2) (by omega)
  have x1 := hV.x (p := S.1 0 (192 + S.1 0 2)) (by omega)
  have y1 := hV.y (p := S.1 0 (192 + S.1 0 2)) (by omega)
  have r1 := hV.r (p := S.1 0 (192 + S.1 0 2)) (by omega)
  have v := hV.h
  have bg := hV.rt (i := 192 + S.1 0 2 - 1) (by omega)
  have x2 := hV.x (p := S.1 0 (192 + S.1 0 2 - 1)) (by omega)
  have y2 := hV.y (p := S.1 0 (192 + S.1 0 2 - 1)) (by omega)
  have n1 := z_mul_b (x := x - pOf (S.1 0) (S.1 0 (192 + S.1 0 2 - 1)) 0) (y := pOf (S.1 0) (S.1 0 (192 + S.1 0 2)) 0 - pOf (S.1 0) (S.1 0 (192 + S.1 0 2 - 1)) 0) (a := 99) (b := 99) (by omega) (by omega)
  have n2 := z_mul_b (x := y - pOf (S.1 0) (S.1 0 (192 + S.1 0 2 - 1)) 1) (y := pOf (S.1 0) (S.1 0 (192 + S.1 0 2)) 1 - pOf (S.1 0) (S.1 0 (192 + S.1 0 2 - 1)) 1) (a := 99) (b := 99) (by omega) (by omega)
  have n3 := pSq_b (u := pOf (S.1 0) (S.1 0 (192 + S.1 0 2)) 0 - pOf (S.1 0) (S.1 0 (192 + S.1 0 2 - 1)) 0) (v := pOf (S.1 0) (S.1 0 (192 + S.1 0 2)) 1 - pOf (S.1 0) (S.1 0 (192 + S.1 0 2 - 1)) 1) (by omega) (by omega)
  have bb := pCmp_b hx hy x1 y1 x2 y2 hm
  refine zr_aload_n dX4_compared_0 rfl rfl ?_
  refine zm_geta 0 dX4_compared_1 q2119 rfl ?_
  refine zr_sipush dX4_compared_4 rfl ?_
  refine zr_aload_n dX4_compared_7 rfl rfl ?_
  refine zm_geta 0 dX4_compared_8 q2119 rfl ?_
  refine zr_iconst dX4_compared_11 ?_
  refine zm_load hA (by decide) dX4_compared_12 (by constructor <;> (try simp only [zMn]) <;> omega) ?_
  refine zr_iadd dX4_compared_13 ?_
  refine zr_iconst dX4_compared_14 ?_
  refine zr_isub dX4_compared_15 ?_
  refine zm_load hA (by decide) dX4_compared_16 (by constructor <;> (try simp only [zMn]) <;> omega) ?_
  refine zr_istore dX4_compared_17 (by decide) (zs13_4 rfl ?_)
  refine zr_aload_n dX4_compared_19 rfl rfl ?_
  refine zc_v0 dX4_compared_20 hX4_aim gX4_aim rfl rfl 0 0 0 (by omega) (Nat.zero_le _) (Nat.zero_le _) q2295 q2297 sp63 zM_rc ?_
  refine kX4_aim hA hV (by omega) (fun t20 => zK_i ?_)
  try simp only [zuf_1, zua_s, zua_2, zuf_s, zuf_zuf, zua_zuf, zua_zua, zua_e, zuf_e, Nat.reduceBEq] at t20 ⊢
  refine zr_istore dX4_compared_23 (by decide) (zs13_5 rfl ?_)
  refine zr_aload_n dX4_compared_25 rfl rfl ?_
  refine zr_iload dX4_compared_26 rfl ?_
  refine zr_iconst dX4_compared_28 ?_
  refine zc_v2 dX4_compared_29 hX4_of gX4_of rfl rfl 0 0 0 (by omega) (Nat.zero_le _) (Nat.zero_le _) q2260 q2262 sp57 zM_rc ?_
  refine kX4_of hA (by omega) (by omega) (zK_i ?_)
  try simp only [zuf_1, zua_s, zua_2, zuf_s, zuf_zuf, zua_zuf, zua_zua, zua_e, zuf_e, Nat.reduceBEq]
  refine zr_aload_n dX4_compared_32 rfl rfl ?_
  refine zr_iload dX4_compared_33 rfl ?_
  refine zr_iconst dX4_compared_35 ?_
  refine zc_v2 dX4_compared_36 hX4_of gX4_of rfl rfl 0 0 0 (by omega) (Nat.zero_le _) (Nat.zero_le _) q2260 q2262 sp57 zM_rc ?_
  refine kX4_of hA (by omega) (by omega) (zK_i ?_)
  try simp only [zuf_1, zua_s, zua_2, zuf_s, zuf_zuf, zua_zuf, zua_zua, zua_e, zuf_e, Nat.reduceBEq]
  refine zr_isub dX4_compared_39 ?_
  refine zr_istore dX4_compared_40 (by decide) (zs13_6 rfl ?_)
  refine zr_aload_n dX4_compared_42 rfl rfl ?_
  refine zr_iload dX4_compared_43 rfl ?_
  refine zr_iconst dX4_compared_45 ?_
  refine zc_v2 dX4_compared_46 hX4_of gX4_of rfl rfl 0 0 0 (by omega) (Nat.zero_le _) (Nat.zero_le _) q2260 q2262 sp57 zM_rc ?_
  refine kX4_of hA (by omega) (by omega) (zK_i ?_)
  try simp only [zuf_1, zua_s, zua_2, zuf_s, zuf_zuf, zua_zuf, zua_zua, zua_e, zuf_e, Nat.reduceBEq]
  refine zr_aload_n dX4_compared_49 rfl rfl ?_
  refine zr_iload dX4_compared_50 rfl ?_
  refine zr_iconst dX4_compared_52 ?_
  refine zc_v2 dX4_compared_53 hX4_of gX4_of rfl rfl 0 0 0 (by omega) (Nat.zero_le _) (Nat.zero_le _) q2260 q2262 sp57 zM_rc ?_
  refine kX4_of hA (by omega) (by omega) (zK_i ?_)
  try simp only [zuf_1, zua_s, zua_2, zuf_s, zuf_zuf, zua_zuf, zua_zua, zua_e, zuf_e, Nat.reduceBEq]
  refine zr_isub dX4_compared_56 ?_
  refine zr_istore dX4_compared_57 (by decide) (zs13_7 rfl ?_)
  refine zr_iload_n dX4_compared_59 rfl ?_
  refine zr_aload_n dX4_compared_60 rfl rfl ?_
  refine zr_iload dX4_compared_61 rfl ?_
  refine zr_iconst dX4_compared_63 ?_
  refine zc_v2 dX4_compared_64 hX4_of gX4_of rfl rfl 0 0 0 (by omega) (Nat.zero_le _) (Nat.zero_le _) q2260 q2262 sp57 zM_rc ?_
  refine kX4_of hA (by omega) (by omega) (zK_i ?_)
  try simp only [zuf_1, zua_s, zua_2, zuf_s, zuf_zuf, zua_zuf, zua_zua, zua_e, zuf_e, Nat.reduceBEq]
  refine zr_isub dX4_compared_67 ?_
  refine zr_istore dX4_compared_68 (by decide) (zs13_8 rfl ?_)
  refine zr_iload_n dX4_compared_70 rfl ?_
  refine zr_aload_n dX4_compared_71 rfl rfl ?_
  refine zr_iload dX4_compared_72 rfl ?_
  refine zr_iconst dX4_compared_74 ?_
  refine zc_v2 dX4_compared_75 hX4_of gX4_of rfl rfl 0 0 0 (by omega) (Nat.zero_le _) (Nat.zero_le _) q2260 q2262 sp57 zM_rc ?_
  refine kX4_of hA (by omega) (by omega) (zK_i ?_)
  try simp only [zuf_1, zua_s, zua_2, zuf_s, zuf_zuf, zua_zuf, zua_zua, zua_e, zuf_e, Nat.reduceBEq]
  refine zr_isub dX4_compared_78 ?_
  refine zr_istore dX4_compared_79 (by decide) (zs13_9 rfl ?_)
  refine zr_iload dX4_compared_81 rfl ?_
  refine zr_iload dX4_compared_83 rfl ?_
  refine zr_imul dX4_compared_85 ?_
  refine zr_iload dX4_compared_86 rfl ?_
  refine zr_iload dX4_compared_88 rfl ?_
  refine zr_imul dX4_compared_90 ?_
  refine zr_iadd dX4_compared_91 ?_
  refine zr_istore dX4_compared_92 (by decide) (zs13_10 rfl ?_)
  refine zr_iload dX4_compared_94 rfl ?_
  refine zr_iload dX4_compared_96 rfl ?_
  refine zc_s2 dX4_compared_98 hX4_square gX4_square rfl rfl 0 0 0 (by omega) (Nat.zero_le _) (Nat.zero_le _) q2299 q2300 ?_
  refine kX4_square (zK_i ?_)
  refine zr_istore dX4_compared_101 (by decide) (zs13_11 rfl ?_)
  refine zr_iload dX4_compared_103 rfl ?_
  refine zr_ifgt dX4_compared_105 (tgt := 120) (by decide) (by omega) (fun h105 => ?_) (fun h105 => ?_)
  · refine zr_iload dX4_compared_120 rfl ?_
    refine zr_iload dX4_compared_122 rfl ?_
    refine zr_icmplt dX4_compared_124 (tgt := 153) (by decide) (by omega) (by omega) (fun h124 => ?_) (fun h124 => ?_)
    · refine zr_iload dX4_compared_153 rfl ?_
      refine zr_iload dX4_compared_155 rfl ?_
      refine zr_imul dX4_compared_157 ?_
      refine zr_iload dX4_compared_158 rfl ?_
      refine zr_iload dX4_compared_160 rfl ?_
      refine zr_imul dX4_compared_162 ?_
      refine zr_isub dX4_compared_163 ?_
      refine zr_istore dX4_compared_164 (by decide) (zs13_12 rfl ?_)
      refine zr_iload dX4_compared_166 rfl ?_
      refine zr_iload dX4_compared_168 rfl ?_
      refine zr_imul dX4_compared_170 ?_
      refine zr_iload_n dX4_compared_171 rfl ?_
      refine zr_iload_n dX4_compared_172 rfl ?_
      refine zr_imul dX4_compared_173 ?_
      refine zr_iload dX4_compared_174 rfl ?_
      refine zr_imul dX4_compared_176 ?_
      refine zr_isub dX4_compared_177 ?_
      refine zr_ireturn dX4_compared_178 rfl (by first | rfl | exact z_nb _) ?_
      exact zQi (k bb) (by unfold pCm pCmp; first | rw [if_pos (by omega)] | rw [if_neg (by omega), if_pos (by omega)] | rw [if_neg (by omega), if_neg (by omega)])
    · refine zr_iload_n dX4_compared_127 rfl ?_
      refine zr_aload_n dX4_compared_128 rfl rfl ?_
      refine zr_iload dX4_compared_129 rfl ?_
      refine zr_iconst dX4_compared_131 ?_
      refine zc_v2 dX4_compared_132 hX4_of gX4_of rfl rfl 0 0 0 (by omega) (Nat.zero_le _) (Nat.zero_le _) q2260 q2262 sp57 zM_rc ?_
      refine kX4_of hA (by omega) (by omega) (zK_i ?_)
      try simp only [zuf_1, zua_s, zua_2, zuf_s, zuf_zuf, zua_zuf, zua_zua, zua_e, zuf_e, Nat.reduceBEq]
      refine zr_isub dX4_compared_135 ?_
      refine zr_iload_n dX4_compared_136 rfl ?_
      refine zr_aload_n dX4_compared_137 rfl rfl ?_
      refine zr_iload dX4_compared_138 rfl ?_
      refine zr_iconst dX4_compared_140 ?_
      refine zc_v2 dX4_compared_141 hX4_of gX4_of rfl rfl 0 0 0 (by omega) (Nat.zero_le _) (Nat.zero_le _) q2260 q2262 sp57 zM_rc ?_
      refine kX4_of hA (by omega) (by omega) (zK_i ?_)
      try simp only [zuf_1, zua_s, zua_2, zuf_s, zuf_zuf, zua_zuf, zua_zua, zua_e, zuf_e, Nat.reduceBEq]
      refine zr_isub dX4_compared_144 ?_
      refine zc_s2 dX4_compared_145 hX4_square gX4_square rfl rfl 0 0 0 (by omega) (Nat.zero_le _) (Nat.zero_le _) q2299 q2300 ?_
      refine kX4_square (zK_i ?_)
      refine zr_iload_n dX4_compared_148 rfl ?_
      refine zr_iload_n dX4_compared_149 rfl ?_
      refine zr_imul dX4_compared_150 ?_
      refine zr_isub dX4_compared_151 ?_
      refine zr_ireturn dX4_compared_152 rfl (by first | rfl | exact z_nb _) ?_
      exact zQi (k bb) (by unfold pCm pCmp; first | rw [if_pos (by omega)] | rw [if_neg (by omega), if_pos (by omega)] | rw [if_neg (by omega), if_neg (by omega)])
  · refine zr_iload dX4_compared_108 rfl ?_
    refine zr_iload dX4_compared_110 rfl ?_
    refine zc_s2 dX4_compared_112 hX4_square gX4_square rfl rfl 0 0 0 (by omega) (Nat.zero_le _) (Nat.zero_le _) q2299 q2300 ?_
    refine kX4_square (zK_i ?_)
    refine zr_iload_n dX4_compared_115 rfl ?_
    refine zr_iload_n dX4_compared_116 rfl ?_
    refine zr_imul dX4_compared_117 ?_
    refine zr_isub dX4_compared_118 ?_
    refine zr_ireturn dX4_compared_119 rfl (by first | rfl | exact z_nb _) ?_
    exact zQi (k bb) (by unfold pCm pCmp; first | rw [if_pos (by omega)] | rw [if_neg (by omega), if_pos (by omega)] | rw [if_neg (by omega), if_neg (by omega)])
theorem kX4_isWithin {G : State} {d rc rs : Nat} {ah : zH} {A : Nat → Nat} {S : zMS} {Q : zRs → zH → Prop} {x y m : Int} (hA : zMi A) (hd : 2 ≤ d) (hV : pV (S.1 0)) (ht : 1 ≤ S.1 0 2 ∧ S.1 0 2 < 12) (hx : 0 ≤ x ∧ x ≤ 99) (hy : 0 ≤ y ∧ y ≤ 99) (hm : 0 ≤ m ∧ m ≤ 200) (k : Q (.inl (some (.int (zi (zB (decide (pCm (S.1 0) x y m ≤ 0))))))) (zMh ah A S)) : zW G mX4_isWithin d rc rs 0 (zent [.ref (A 18), .int (zi x), .int (zi y), .int (zi m)]) [] (zMh ah A S) Q := by
  refine zW_open 0 [some (.ref (A 18)), some (.int (zi x)), some (.int (zi y)), some (.int (zi m))] rfl ?_
  refine zr_aload_n dX4_isWithin_0 rfl rfl ?_
  refine zr_iload_n dX4_isWithin_1 rfl ?_
  refine zr_iload_n dX4_isWithin_2 rfl ?_
  refine zr_iload_n dX4_isWithin_3 rfl ?_
  refine zc_v3 dX4_isWithin_4 hX4_compared gX4_compared rfl rfl 1 0 0 (by omega) (Nat.zero_le _) (Nat.zero_le _) q2310 q2312 sp66 zM_rc ?_
  refine kX4_compared hA (by omega) hV (by omega) (by omega) (by omega) (by omega) (fun t4 => zK_i ?_)
  try simp only [zuf_1, zua_s, zua_2, zuf_s, zuf_zuf, zua_zuf, zua_zua, zua_e, zuf_e, Nat.reduceBEq] at t4 ⊢
  refine zr_ifgt dX4_isWithin_7 (tgt := 14) (by decide) (by omega) (fun h7 => ?_) (fun h7 => ?_)
  · refine zr_iconst dX4_isWithin_14 ?_
    refine zr_ireturn dX4_isWithin_15 rfl (by first | rfl | exact z_nb _) ?_
    exact zQi k (by first | (rw [decide_eq_true (by omega)]; rfl) | (rw [decide_eq_false (by omega)]; rfl))
  · refine zr_iconst dX4_isWithin_10 ?_
    refine zr_goto dX4_isWithin_11 (tgt := 15) (by decide) ?_
    refine zr_ireturn dX4_isWithin_15 rfl (by first | rfl | exact z_nb _) ?_
    exact zQi k (by first | (rw [decide_eq_true (by omega)]; rfl) | (rw [decide_eq_false (by omega)]; rfl))
theorem kX4_isBeyond {G : State} {d rc rs : Nat} {ah : zH} {A : Nat → Nat} {S : zMS} {Q : zRs → zH → Prop} {x y m : Int} (hA : zMi A) (hd : 2 ≤ d) (hV : pV (S.1 0)) (ht : 1 ≤ S.1 0 2 ∧ S.1 0 2 < 12) (hx : 0 ≤ x ∧ x ≤ 99) (hy : 0 ≤ y ∧ y ≤ 99) (hm : 0 ≤ m ∧ m ≤ 200) (k : Q (.inl (some (.int (zi (zB (decide (0 ≤ pCm (S.1 0) x y m))))))) (zMh ah A S)) : zW G mX4_isBeyond d rc rs 0 (zent [.ref (A 18), .int (zi x), .int (zi y), .int (zi m)]) [] (zMh ah A S) Q := by
  refine zW_open 0 [some (.ref (A 18)), some (.int (zi x)), some (.int (zi y)), some (.int (zi m))] rfl ?_
  refine zr_aload_n dX4_isBeyond_0 rfl rfl ?_
  refine zr_iload_n dX4_isBeyond_1 rfl ?_
  refine zr_iload_n dX4_isBeyond_2 rfl ?_
  refine zr_iload_n dX4_isBeyond_3 rfl ?_
  refine zc_v3 dX4_isBeyond_4 hX4_compared gX4_compared rfl rfl 1 0 0 (by omega) (Nat.zero_le _) (Nat.zero_le _) q2310 q2312 sp66 zM_rc ?_
  refine kX4_compared hA (by omega) hV (by omega) (by omega) (by omega) (by omega) (fun t4 => zK_i ?_)
  try simp only [zuf_1, zua_s, zua_2, zuf_s, zuf_zuf, zua_zuf, zua_zua, zua_e, zuf_e, Nat.reduceBEq] at t4 ⊢
  refine zr_iflt dX4_isBeyond_7 (tgt := 14) (by decide) (by omega) (fun h7 => ?_) (fun h7 => ?_)
  · refine zr_iconst dX4_isBeyond_14 ?_
    refine zr_ireturn dX4_isBeyond_15 rfl (by first | rfl | exact z_nb _) ?_
    exact zQi k (by first | (rw [decide_eq_true (by omega)]; rfl) | (rw [decide_eq_false (by omega)]; rfl))
  · refine zr_iconst dX4_isBeyond_10 ?_
    refine zr_goto dX4_isBeyond_11 (tgt := 15) (by decide) ?_
    refine zr_ireturn dX4_isBeyond_15 rfl (by first | rfl | exact z_nb _) ?_
    exact zQi k (by first | (rw [decide_eq_true (by omega)]; rfl) | (rw [decide_eq_false (by omega)]; rfl))
def pWa (s : Int → Int) : Int → Int := if 0 < pCm s (s 3) (s 4) (s 8) then (if s 5 = 0 then z_upF (pDr (z_upF s 10 (s 10 + 1)) 5) 5 1 else z_upF s 5 1) else z_upF s 5 0
theorem pV.dr {s : Int → Int} (h : pV s) {u : Int} (hu : 0 ≤ u) : pV (pDr s u) := by
  have := h.h
  unfold pDr
  by_cases e : s 6 > u
  · rw [if_pos e]; exact h.up (by omega) (by refine ⟨?_, ?_, ?_, ?_, ?_, ?_, fun p _ _ => ?_, ?_, ?_⟩ <;> omega)
  · rw [if_neg e]; exact h.up (by omega) (by refine ⟨?_, ?_, ?_, ?_, ?_, ?_, fun p _ _ => ?_, ?_, ?_⟩ <;> omega)
theorem kX4_watches {G : State} {d rc rs : Nat} {ah : zH} {A : Nat → Nat} {S : zMS} {Q : zRs → zH → Prop} (hA : zMi A) (hd : 3 ≤ d) (hV : pV (S.1 0)) (ht : 1 ≤ S.1 0 2 ∧ S.1 0 2 < 12) (hal : S.1 0 10 < 100000) (k : Q (.inl none) (zMh ah A (zua S 0 (pWa (S.1 0))))) : zW G mX4_watches d rc rs 0 (zent [.ref (A 18)]) [] (zMh ah A S) Q := by
  refine zW_open 1 [some (.ref (A 18)), none] rfl ?_
  have v := hV.h
  have al := hV.g 10
  refine zr_aload_n dX4_watches_0 rfl rfl ?_
  refine zr_aload_n dX4_watches_1 rfl rfl ?_
  refine zm_geta 0 dX4_watches_2 q2119 rfl ?_
  refine zr_iconst dX4_watches_5 ?_
  refine zm_load hA (by decide) dX4_watches_6 (by constructor <;> (try simp only [zMn]) <;> omega) ?_
  refine zr_aload_n dX4_watches_7 rfl rfl ?_
  refine zm_geta 0 dX4_watches_8 q2119 rfl ?_
  refine zr_iconst dX4_watches_11 ?_
  refine zm_load hA (by decide) dX4_watches_12 (by constructor <;> (try simp only [zMn]) <;> omega) ?_
  refine zr_aload_n dX4_watches_13 rfl rfl ?_
  refine zm_geta 0 dX4_watches_14 q2119 rfl ?_
  refine zr_bipush dX4_watches_17 rfl ?_
  refine zm_load hA (by decide) dX4_watches_19 (by constructor <;> (try simp only [zMn]) <;> omega) ?_
  refine zc_v3 dX4_watches_20 hX4_isWithin gX4_isWithin rfl rfl 2 0 0 (by omega) (Nat.zero_le _) (Nat.zero_le _) q2306 q2308 sp65 zM_rc ?_
  refine kX4_isWithin hA (by omega) hV (by omega) (by omega) (by omega) (by omega) (zK_i ?_)
  try simp only [zuf_1, zua_s, zua_2, zuf_s, zuf_zuf, zua_zuf, zua_zua, zua_e, zuf_e, Nat.reduceBEq]
  refine zr_ifneB dX4_watches_23 (tgt := 30) (by decide) (fun h23 => ?_) (fun h23 => ?_)
  · have c := of_decide_eq_true h23
    refine zr_iconst dX4_watches_30 ?_
    refine zr_istore_n dX4_watches_31 (by decide) (zs2_1 rfl ?_)
    refine zr_iload_n dX4_watches_32 rfl ?_
    refine zr_ifeq dX4_watches_33 (tgt := 61) (by decide) (by decide) (fun _ => ?_) (fun h => absurd h (by decide))
    refine zr_aload_n dX4_watches_61 rfl rfl ?_
    refine zm_geta 0 dX4_watches_62 q2119 rfl ?_
    refine zr_iconst dX4_watches_65 ?_
    refine zr_iload_n dX4_watches_66 rfl ?_
    refine zr_ifeq dX4_watches_67 (tgt := 74) (by decide) (by decide) (fun _ => ?_) (fun h => absurd h (by decide))
    refine zr_iconst dX4_watches_74 ?_
    refine zm_store hA (by decide) dX4_watches_75 (by constructor <;> (try simp only [zMn]) <;> omega) ?_
    try simp only [zuf_1, zua_s, zua_2, zuf_s, zuf_zuf, zua_zuf, zua_zua, zua_e, zuf_e, Nat.reduceBEq]
    refine zr_return dX4_watches_76 rfl ?_
    exact zQv k (by unfold pWa; first | rw [if_pos (by omega), if_pos (by omega)] | rw [if_pos (by omega), if_neg (by omega)] | rw [if_neg (by omega)])
  · have c := of_decide_eq_false h23
    refine zr_iconst dX4_watches_26 ?_
    refine zr_goto dX4_watches_27 (tgt := 31) (by decide) ?_
    refine zr_istore_n dX4_watches_31 (by decide) (zs2_1 rfl ?_)
    refine zr_iload_n dX4_watches_32 rfl ?_
    refine zr_ifeq dX4_watches_33 (tgt := 61) (by decide) (by decide) (fun h => absurd h (by decide)) (fun _ => ?_)
    refine zr_aload_n dX4_watches_36 rfl rfl ?_
    refine zm_geta 0 dX4_watches_37 q2119 rfl ?_
    refine zr_iconst dX4_watches_40 ?_
    refine zm_load hA (by decide) dX4_watches_41 (by constructor <;> (try simp only [zMn]) <;> omega) ?_
    refine zr_ifne dX4_watches_42 (tgt := 61) (by decide) (by omega) (fun h42 => ?_) (fun h42 => ?_)
    · refine zr_aload_n dX4_watches_61 rfl rfl ?_
      refine zm_geta 0 dX4_watches_62 q2119 rfl ?_
      refine zr_iconst dX4_watches_65 ?_
      refine zr_iload_n dX4_watches_66 rfl ?_
      refine zr_ifeq dX4_watches_67 (tgt := 74) (by decide) (by decide) (fun h => absurd h (by decide)) (fun _ => ?_)
      refine zr_iconst dX4_watches_70 ?_
      refine zr_goto dX4_watches_71 (tgt := 75) (by decide) ?_
      refine zm_store hA (by decide) dX4_watches_75 (by constructor <;> (try simp only [zMn]) <;> omega) ?_
      try simp only [zuf_1, zua_s, zua_2, zuf_s, zuf_zuf, zua_zuf, zua_zua, zua_e, zuf_e, Nat.reduceBEq]
      refine zr_return dX4_watches_76 rfl ?_
      exact zQv k (by unfold pWa; first | rw [if_pos (by omega), if_pos (by omega)] | rw [if_pos (by omega), if_neg (by omega)] | rw [if_neg (by omega)])
    · refine zr_aload_n dX4_watches_45 rfl rfl ?_
      refine zm_geta 0 dX4_watches_46 q2119 rfl ?_
      refine zr_bipush dX4_watches_49 rfl ?_
      refine zr_dup2 dX4_watches_51 rfl rfl ?_
      refine zm_load hA (by decide) dX4_watches_52 (by constructor <;> (try simp only [zMn]) <;> omega) ?_
      refine zr_iconst dX4_watches_53 ?_
      refine zr_iadd dX4_watches_54 ?_
      refine zm_store hA (by decide) dX4_watches_55 (by constructor <;> (try simp only [zMn]) <;> omega) ?_
      try simp only [zuf_1, zua_s, zua_2, zuf_s, zuf_zuf, zua_zuf, zua_zua, zua_e, zuf_e, Nat.reduceBEq]
      have hV0 := hV
      have hV := hV.up (i := 10) (v := S.1 0 10 + 1) (by omega) (by refine ⟨?_, ?_, ?_, ?_, ?_, ?_, fun p _ _ => ?_, ?_, ?_⟩ <;> omega)
      refine zr_aload_n dX4_watches_56 rfl rfl ?_
      refine zr_iconst dX4_watches_57 ?_
      refine zc_v1 dX4_watches_58 hX4_drains gX4_drains rfl rfl 0 0 0 (by omega) (Nat.zero_le _) (Nat.zero_le _) q2287 q2289 sp61 zM_rc ?_
      refine kX4_drains hA hV (by first | omega | (simp only [zuf_1, zua_s, zua_2, zuf_s, zua_e, zuf_e, Nat.reduceBEq]; omega)) (zK_v ?_)
      try simp only [zuf_1, zua_s, zua_2, zuf_s, zuf_zuf, zua_zuf, zua_zua, zua_e, zuf_e, Nat.reduceBEq]
      refine zr_aload_n dX4_watches_61 rfl rfl ?_
      refine zm_geta 0 dX4_watches_62 q2119 rfl ?_
      try simp only [zuf_1, zua_s, zua_2, zuf_s, zuf_zuf, zua_zuf, zua_zua, zua_e, zuf_e, Nat.reduceBEq]
      refine zr_iconst dX4_watches_65 ?_
      refine zr_iload_n dX4_watches_66 rfl ?_
      refine zr_ifeq dX4_watches_67 (tgt := 74) (by decide) (by decide) (fun h => absurd h (by decide)) (fun _ => ?_)
      refine zr_iconst dX4_watches_70 ?_
      refine zr_goto dX4_watches_71 (tgt := 75) (by decide) ?_
      refine zm_store hA (by decide) dX4_watches_75 (by constructor <;> (try simp only [zMn]) <;> omega) ?_
      try simp only [zuf_1, zua_s, zua_2, zuf_s, zuf_zuf, zua_zuf, zua_zua, zua_e, zuf_e, Nat.reduceBEq]
      refine zr_return dX4_watches_76 rfl ?_
      exact zQv k (by unfold pWa; first | rw [if_pos (by omega), if_pos (by omega)] | rw [if_pos (by omega), if_neg (by omega)] | rw [if_neg (by omega)])
