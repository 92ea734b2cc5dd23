set_option maxRecDepth 100000
/-! ===== the reference: changes of the row ===== -/
theorem z_mul_b {x y a b : Int} (hx : -a ≤ x ∧ x ≤ a) (hy : -b ≤ y ∧ y ≤ b) : -(a * b) ≤ x * y ∧ x * y ≤ a * b := by
  have h1 : (x * y).natAbs ≤ a.natAbs * b.natAbs := by
    rw [Int.natAbs_mul]
    exact Nat.mul_le_mul (by omega) (by omega)
  have h2 : ((a.natAbs * b.natAbs : Nat) : Int) = a * b := by
    rw [Int.natCast_mul, Int.natAbs_of_nonneg (by omega), Int.natAbs_of_nonneg (by omega)]
  omega
theorem z_sq_b {x a : Int} (hx : -a ≤ x ∧ x ≤ a) : 0 ≤ x * x ∧ x * x ≤ a * a := ⟨by
  rcases Int.le_total 0 x with h | h
  · exact Int.mul_nonneg h h
  · exact Int.mul_nonneg_of_nonpos_of_nonpos h h, (z_mul_b hx hx).2⟩
theorem pSq_b {u v : Int} (hu : -99 ≤ u ∧ u ≤ 99) (hv : -99 ≤ v ∧ v ≤ 99) : 0 ≤ pSq u v ∧ pSq u v ≤ 19602 := by
  have := z_sq_b hu
  have := z_sq_b hv
  unfold pSq
  omega
theorem pV.up {s : Int → Int} {i v : Int} (h : pV s) (hv : 0 ≤ v ∧ v ≤ 100000) (hc : (i = 0 ∨ i = 1 ∨ i = 2 → v ≤ 12) ∧ (i = 3 ∨ i = 4 → v ≤ 99) ∧ (i = 5 → v ≤ 1) ∧ (i = 6 → v ≤ 1000) ∧ (i = 7 → v ≤ 2) ∧ (i = 8 → 1 ≤ v ∧ v ≤ 30) ∧ (∀ p, 0 ≤ p → p < 12 → (i = 12 + 3 * p ∨ i = 12 + 3 * p + 1 → v ≤ 99) ∧ (i = 12 + 3 * p + 2 → v ≤ 9)) ∧ (48 ≤ i → i < 192 → v ≤ 99) ∧ (192 ≤ i → i < 204 → v ≤ 11)) : pV (z_upF s i v) := by
  obtain ⟨g, a, b, c, e⟩ := h
  obtain ⟨c1, c2, c3, c4, c5, c6, c7, c8, c9⟩ := hc
  have key : ∀ j (P : Int → Prop), (j = i → P v) → P (s j) → P (z_upF s i v j) := fun j P h1 h2 => by
    unfold z_upF
    by_cases e : j = i
    · rw [if_pos e]; exact h1 e
    · rw [if_neg e]; exact h2
  refine ⟨fun j => key j (fun z => 0 ≤ z ∧ z ≤ 100000) (fun _ => hv) (g j), ⟨?_, ?_, ?_, ?_, ?_, ?_, ?_, ?_, ?_, ?_⟩, fun p p1 p2 => ⟨?_, ?_, ?_⟩, fun j j1 j2 => ?_, fun j j1 j2 => ?_⟩
  · exact key 0 (fun z => z ≤ 12) (fun h => c1 (by omega)) a.1
  · exact key 1 (fun z => z ≤ 12) (fun h => c1 (by omega)) a.2.1
  · exact key 2 (fun z => z ≤ 12) (fun h => c1 (by omega)) a.2.2.1
  · exact key 3 (fun z => z ≤ 99) (fun h => c2 (by omega)) a.2.2.2.1
  · exact key 4 (fun z => z ≤ 99) (fun h => c2 (by omega)) a.2.2.2.2.1
  · exact key 5 (fun z => z ≤ 1) (fun h => c3 (by omega)) a.2.2.2.2.2.1
  · exact key 6 (fun z => z ≤ 1000) (fun h => c4 (by omega)) a.2.2.2.2.2.2.1
  · exact key 7 (fun z => z ≤ 2) (fun h => c5 (by omega)) a.2.2.2.2.2.2.2.1
  · exact key 8 (fun z => 1 ≤ z) (fun h => (c6 (by omega)).1) a.2.2.2.2.2.2.2.2.1
  · exact key 8 (fun z => z ≤ 30) (fun h => (c6 (by omega)).2) a.2.2.2.2.2.2.2.2.2
  · exact key _ (fun z => z ≤ 99) (fun h => (c7 p p1 p2).1 (by omega)) (b p p1 p2).1
  · exact key _ (fun z => z ≤ 99) (fun h => (c7 p p1 p2).1 (by omega)) (b p p1 p2).2.1
  · exact key _ (fun z => z ≤ 9) (fun h => (c7 p p1 p2).2 (by omega)) (b p p1 p2).2.2
  · exact key j (fun z => z ≤ 99) (fun h => c8 (by omega) (by omega)) (c j j1 j2)
  · exact key j (fun z => z ≤ 11) (fun h => c9 (by omega) (by omega)) (e j j1 j2)
def pSet (s : Int → Int) (a b v : Int) : Int → Int := z_upF (z_upF s (48 + 12 * a + b) v) (48 + 12 * b + a) v
theorem kX4_setsTrail {G : State} {d rc rs : Nat} {ah : zH} {A : Nat → Nat} {S : zMS} {Q : zRs → zH → Prop} {a b v : Int} (hA : zMi A) (ha : 0 ≤ a ∧ a < 12) (hb : 0 ≤ b ∧ b < 12) (k : Q (.inl none) (zMh ah A (zua S 0 (pSet (S.1 0) a b v)))) : zW G mX4_setsTrail d rc rs 0 (zent [.ref (A 18), .int (zi a), .int (zi b), .int (zi v)]) [] (zMh ah A S) Q := by
  refine zW_open 0 [some (.ref (A 18)), some (.int (zi a)), some (.int (zi b)), some (.int (zi v))] rfl ?_
  refine zr_aload_n dX4_setsTrail_0 rfl rfl ?_
  refine zm_geta 0 dX4_setsTrail_1 q2119 rfl ?_
  refine zr_bipush dX4_setsTrail_4 rfl ?_
  refine zr_bipush dX4_setsTrail_6 rfl ?_
  refine zr_iload_n dX4_setsTrail_8 rfl ?_
  refine zr_imul dX4_setsTrail_9 ?_
  refine zr_iadd dX4_setsTrail_10 ?_
  refine zr_iload_n dX4_setsTrail_11 rfl ?_
  refine zr_iadd dX4_setsTrail_12 ?_
  refine zr_iload_n dX4_setsTrail_13 rfl ?_
  refine zm_store hA (by decide) dX4_setsTrail_14 (by constructor <;> (try simp only [zMn]) <;> omega) ?_
  try simp only [zuf_1, zua_s, zua_2, zuf_s, zuf_zuf, zua_zuf, zua_zua, zua_e, zuf_e, Nat.reduceBEq]
  try simp only [zuf_1, zua_s, zua_2, zuf_s, zuf_zuf, zua_zuf, zua_zua, zua_e, zuf_e, Nat.reduceBEq]
  refine zr_aload_n dX4_setsTrail_15 rfl rfl ?_
  refine zm_geta 0 dX4_setsTrail_16 q2119 rfl ?_
  try simp only [zuf_1, zua_s, zua_2, zuf_s, zuf_zuf, zua_zuf, zua_zua, zua_e, zuf_e, Nat.reduceBEq]
  refine zr_bipush dX4_setsTrail_19 rfl ?_
  refine zr_bipush dX4_setsTrail_21 rfl ?_
  refine zr_iload_n dX4_setsTrail_23 rfl ?_
  refine zr_imul dX4_setsTrail_24 ?_
  refine zr_iadd dX4_setsTrail_25 ?_
  refine zr_iload_n dX4_setsTrail_26 rfl ?_
  refine zr_iadd dX4_setsTrail_27 ?_
  refine zr_iload_n dX4_setsTrail_28 rfl ?_
  refine zm_store hA (by decide) dX4_setsTrail_29 (by constructor <;> (try simp only [zMn]) <;> omega) ?_
  try simp only [zuf_1, zua_s, zua_2, zuf_s, zuf_zuf, zua_zuf, zua_zua, zua_e, zuf_e, Nat.reduceBEq]
  try simp only [zuf_1, zua_s, zua_2, zuf_s, zuf_zuf, zua_zuf, zua_zua, zua_e, zuf_e, Nat.reduceBEq]
  refine zr_return dX4_setsTrail_30 rfl ?_
  exact k
def pSum : Nat → (Nat → Int) → Int
  | 0, _ => 0
  | n + 1, f => pSum n f + f n
def pMr (s : Int → Int) (a : Nat) (n : Nat) : Int := pSum n (fun b => if 0 < pTr s a b then 1 else 0)
def pMn (s : Int → Int) (n : Nat) : Int := pSum n (fun a => pMr s a a)
theorem pMr_s {s : Int → Int} {a n : Nat} : pMr s a (n + 1) = pMr s a n + (if 0 < pTr s a n then 1 else 0) := rfl
theorem pMn_s {s : Int → Int} {n : Nat} : pMn s (n + 1) = pMn s n + pMr s n n := rfl
theorem pMr_b {s : Int → Int} {a : Nat} : ∀ n : Nat, 0 ≤ pMr s a n ∧ pMr s a n ≤ n := by
  intro n
  induction n with
  | zero => exact ⟨Int.le_refl _, Int.le_refl _⟩
  | succ n ih =>
    rw [pMr_s]
    by_cases h : 0 < pTr s a n
    · rw [if_pos h]; omega
    · rw [if_neg h]; omega
theorem pMn_b {s : Int → Int} : ∀ n : Nat, n ≤ 12 → 0 ≤ pMn s n ∧ pMn s n ≤ 12 * n := by
  intro n
  induction n with
  | zero => intro _; exact ⟨Int.le_refl _, Int.le_refl _⟩
  | succ n ih =>
    intro h
    rw [pMn_s]
    have := ih (by omega)
    have := pMr_b (s := s) (a := n) n
    omega
theorem kX4_manyTrailsI {G : State} {d rc rs : Nat} {ah : zH} {A : Nat → Nat} {S : zMS} {Q : zRs → zH → Prop} (hA : zMi A) (hd : 1 ≤ d) (hV : pV (S.1 0)) {i : Nat} (hi : i < 12) {N0 : Int} (n : Nat) : ∀ (j : Nat) (N : Int), j + n = i → N = N0 + pMr (S.1 0) i j → 0 ≤ N0 ∧ N0 ≤ 200 → (∀ j : Nat, zW G mX4_manyTrails d rc rs 40 [some (.ref (A 18)), some (.int (zi (N0 + pMr (S.1 0) i i))), some (.int (zi ((i : Nat) : Int))), some (.int (zi ((j : Nat) : Int)))] [] (zMh ah A S) Q) → zW G mX4_manyTrails d rc rs 12 [some (.ref (A 18)), some (.int (zi (N))), some (.int (zi ((i : Nat) : Int))), some (.int (zi ((j : Nat) : Int)))] [] (zMh ah A S) Q := by
  induction n with
  | zero =>
    intro j N g1 g2 g3 k
    refine zr_iload_n dX4_manyTrails_12 rfl ?_
    refine zr_iload_n dX4_manyTrails_13 rfl ?_
    refine zr_icmpge dX4_manyTrails_14 (tgt := 40) (by decide) (by omega) (by omega) (fun h14 => ?_) (fun h14 => ?_)
    · obtain rfl : j = i := by omega
      rw [g2]
      exact k j
    · exfalso; omega
  | succ n ih =>
    intro j N g1 g2 g3 k
    refine zr_iload_n dX4_manyTrails_12 rfl ?_
    refine zr_iload_n dX4_manyTrails_13 rfl ?_
    refine zr_icmpge dX4_manyTrails_14 (tgt := 40) (by decide) (by omega) (by omega) (fun h14 => ?_) (fun h14 => ?_)
    · exfalso; omega
    · refine zr_iload_n dX4_manyTrails_17 rfl ?_
      refine zr_aload_n dX4_manyTrails_18 rfl rfl ?_
      refine zr_iload_n dX4_manyTrails_19 rfl ?_
      refine zr_iload_n dX4_manyTrails_20 rfl ?_
      refine zc_v2 dX4_manyTrails_21 hX4_trail gX4_trail rfl rfl 0 0 0 (by omega) (Nat.zero_le _) (Nat.zero_le _) q2219 q2221 sp49 zM_rc ?_
      refine kX4_trail hA hV (by first | omega | (simp only [zuf_1, zua_s, zua_2, zuf_s, zua_e, zuf_e, Nat.reduceBEq]; omega)) (by first | omega | (simp only [zuf_1, zua_s, zua_2, zuf_s, zua_e, zuf_e, Nat.reduceBEq]; omega)) (fun t21 => zK_i ?_)
      try simp only [zuf_1, zua_s, zua_2, zuf_s, zuf_zuf, zua_zuf, zua_zua, zua_e, zuf_e, Nat.reduceBEq] at t21 ⊢
      refine zr_ifle dX4_manyTrails_24 (tgt := 31) (by decide) (by omega) (fun h24 => ?_) (fun h24 => ?_)
      · refine zr_iconst dX4_manyTrails_31 ?_
        refine zr_iadd dX4_manyTrails_32 ?_
        refine zr_istore_n dX4_manyTrails_33 (by decide) (zs4_1 rfl ?_)
        refine zr_iinc dX4_manyTrails_34 rfl (by decide) (zs4_3 rfl ?_)
        refine zr_goto dX4_manyTrails_37 (tgt := 12) (by decide) ?_
        refine ih (j + 1) _ (by omega) ?_ g3 k
        rw [g2, pMr_s]
        (first | rw [if_pos (by omega)] | rw [if_neg (by omega)]) <;> omega
      · refine zr_iconst dX4_manyTrails_27 ?_
        refine zr_goto dX4_manyTrails_28 (tgt := 32) (by decide) ?_
        refine zr_iadd dX4_manyTrails_32 ?_
        refine zr_istore_n dX4_manyTrails_33 (by decide) (zs4_1 rfl ?_)
        refine zr_iinc dX4_manyTrails_34 rfl (by decide) (zs4_3 rfl ?_)
        refine zr_goto dX4_manyTrails_37 (tgt := 12) (by decide) ?_
        refine ih (j + 1) _ (by omega) ?_ g3 k
        rw [g2, pMr_s]
        (first | rw [if_pos (by omega)] | rw [if_neg (by omega)]) <;> omega
theorem kX4_manyTrailsO {G : State} {d rc rs : Nat} {ah : zH} {A : Nat → Nat} {S : zMS} {Q : zRs → zH → Prop} (hA : zMi A) (hd : 1 ≤ d) (hV : pV (S.1 0)) (n : Nat) : ∀ (i : Nat) (J : Option Value), i + n = 12 → (Q (.inl (some (.int (zi (pMn (S.1 0) 12))))) (zMh ah A S)) → zW G mX4_manyTrails d rc rs 4 [some (.ref (A 18)), some (.int (zi (pMn (S.1 0) i))), some (.int (zi ((i : Nat) : Int))), J] [] (zMh ah A S) Q := by
  induction n with
  | zero =>
    intro i J g1 k
    refine zr_iload_n dX4_manyTrails_4 rfl ?_
    refine zr_bipush dX4_manyTrails_5 rfl ?_
    refine zr_icmpge dX4_manyTrails_7 (tgt := 46) (by decide) (by omega) (by omega) (fun h7 => ?_) (fun h7 => ?_)
    · refine zr_iload_n dX4_manyTrails_46 rfl ?_
      refine zr_ireturn dX4_manyTrails_47 rfl (by first | rfl | exact z_nb _) ?_
      obtain rfl : i = 12 := by omega
      exact k
    · exfalso; omega
  | succ n ih =>
    intro i J g1 k
    refine zr_iload_n dX4_manyTrails_4 rfl ?_
    refine zr_bipush dX4_manyTrails_5 rfl ?_
    refine zr_icmpge dX4_manyTrails_7 (tgt := 46) (by decide) (by omega) (by omega) (fun h7 => ?_) (fun h7 => ?_)
    · exfalso; omega
    · refine zr_iconst dX4_manyTrails_10 ?_
      refine zr_istore_n dX4_manyTrails_11 (by decide) (zs4_3 rfl ?_)
      have b := pMn_b (s := S.1 0) i (by omega)
      have e : zi (pMn (S.1 0) i) = zi (pMn (S.1 0) i + pMr (S.1 0) i 0) := congrArg zi (Int.add_zero _).symm
      refine kX4_manyTrailsI hA hd hV (i := i) (N0 := pMn (S.1 0) i) (by omega) i 0 _ (by omega) (Int.add_zero _).symm (by omega) (fun j => ?_)
      refine zr_iinc dX4_manyTrails_40 rfl (by decide) (zs4_2 rfl ?_)
      refine zr_goto dX4_manyTrails_43 (tgt := 4) (by decide) ?_
      exact ih (i + 1) _ (by omega) k
theorem kX4_manyTrails {G : State} {d rc rs : Nat} {ah : zH} {A : Nat → Nat} {S : zMS} {Q : zRs → zH → Prop} (hA : zMi A) (hd : 1 ≤ d) (hV : pV (S.1 0)) (k : Q (.inl (some (.int (zi (pMn (S.1 0) 12))))) (zMh ah A S)) : zW G mX4_manyTrails d rc rs 0 (zent [.ref (A 18)]) [] (zMh ah A S) Q := by
  refine zW_open 3 [some (.ref (A 18)), none, none, none] rfl ?_
  refine zr_iconst dX4_manyTrails_0 ?_
  refine zr_istore_n dX4_manyTrails_1 (by decide) (zs4_1 rfl ?_)
  refine zr_iconst dX4_manyTrails_2 ?_
  refine zr_istore_n dX4_manyTrails_3 (by decide) (zs4_2 rfl ?_)
  exact kX4_manyTrailsO hA hd hV 12 0 _ (by omega) k
def pJoin (s : Int → Int) (a b v : Int) : Int × Int × (Int → Int) := if ¬ (pPt s a = true ∧ pPt s b = true) then (1, 0, s) else if a = b ∨ ¬ pIn v 1 99 = true then (2, 0, s) else if 0 < pTr s a b then (3, 0, s) else (0, pMn (pSet s a b v) 12, pSet s a b v)
def pCut (s : Int → Int) (a b : Int) : Int × Int × (Int → Int) := if ¬ (pPt s a = true ∧ pPt s b = true) then (1, 0, s) else if pTr s a b = 0 then (2, 0, s) else (0, pTr s a b, pSet s a b 0)
/-- the row's state behind a change -/
def pAf (S : zMS) (X : Int × Int × (Int → Int)) : zMS := zuf (zua S 0 X.2.2) 6 X.1
theorem pAf_s {S : zMS} {t r : Int} : pAf S (t, r, S.1 0) = zuf S 6 t := by unfold pAf; rw [zua_self]
theorem pPt_b {s : Int → Int} {a : Int} (h : pPt s a = true) (hV : pV s) : 0 ≤ a ∧ a < s 0 ∧ s 0 ≤ 12 := by
  have := pIn_iff.mp h
  have := hV.h
  omega
theorem pV.set {s : Int → Int} (h : pV s) {a b v : Int} (ha : 0 ≤ a ∧ a < 12) (hb : 0 ≤ b ∧ b < 12) (hv : 0 ≤ v ∧ v ≤ 99) : pV (pSet s a b v) :=
  (h.up (by omega) (by refine ⟨?_, ?_, ?_, ?_, ?_, ?_, fun p _ _ => ?_, ?_, ?_⟩ <;> omega)).up (by omega) (by refine ⟨?_, ?_, ?_, ?_, ?_, ?_, fun p _ _ => ?_, ?_, ?_⟩ <;> omega)
theorem kX4_joins {G : State} {d rc rs : Nat} {ah : zH} {A : Nat → Nat} {S : zMS} {Q : zRs → zH → Prop} {a b v : Int} (hA : zMi A) (hd : 2 ≤ d) (hV : pV (S.1 0)) (qa : -2147483648 ≤ a ∧ a ≤ 2147483647) (qb : -2147483648 ≤ b ∧ b ≤ 2147483647) (qv : -2147483648 ≤ v ∧ v ≤ 2147483647) (k : Q (.inl (some (.int (zi (pJoin (S.1 0) a b v).2.1)))) (zMh ah A (pAf S (pJoin (S.1 0) a b v)))) : zW G mX4_joins d rc rs 0 (zent [.ref (A 18), .int (zi a), .int (zi b), .int (zi v)]) [] (zMh ah A S) Q := by
  refine zW_open 0 [some (.ref (A 18)), some (.int (zi a)), some (.int (zi b)), some (.int (zi v))] rfl ?_
  refine zr_aload_n dX4_joins_0 rfl rfl ?_
  refine zr_aload_n dX4_joins_1 rfl rfl ?_
  refine zr_iload_n dX4_joins_2 rfl ?_
  refine zc_v1 dX4_joins_3 hX4_isPoint gX4_isPoint rfl rfl 1 0 0 (by omega) (Nat.zero_le _) (Nat.zero_le _) q2215 q2217 sp48 zM_rc ?_
  refine kX4_isPoint hA (by omega) hV (by omega) (zK_i ?_)
  try simp only [zuf_1, zua_s, zua_2, zuf_s, zuf_zuf, zua_zuf, zua_zua, zua_e, zuf_e, Nat.reduceBEq]
  refine zr_ifeqB dX4_joins_6 (tgt := 17) (by decide) (fun h6 => ?_) (fun h6 => ?_)
  · refine zr_iconst dX4_joins_17 ?_
    refine zr_goto dX4_joins_18 (tgt := 22) (by decide) ?_
    refine zr_iconst dX4_joins_22 ?_
    refine zc_v2 dX4_joins_23 hX4_isThrown gX4_isThrown rfl rfl 0 0 0 (by omega) (Nat.zero_le _) (Nat.zero_le _) q2199 q2201 sp45 zM_rc ?_
    refine kX4_isThrown1 hA (zK_i ?_)
    try simp only [zuf_1, zua_s, zua_2, zuf_s, zuf_zuf, zua_zuf, zua_zua, zua_e, zuf_e, Nat.reduceBEq]
    refine zr_ifne dX4_joins_26 (tgt := 79) (by decide) (by decide) (fun _ => ?_) (fun h => absurd h (by decide))
    refine zr_iconst dX4_joins_79 ?_
    refine zr_ireturn dX4_joins_80 rfl (by first | rfl | exact z_nb _) ?_
    have e : pJoin (S.1 0) a b v = (1, 0, S.1 0) := by unfold pJoin; simp [*]
    exact zQm k (by rw [e]) (by rw [e, pAf_s])
  · refine zr_aload_n dX4_joins_9 rfl rfl ?_
    refine zr_iload_n dX4_joins_10 rfl ?_
    refine zc_v1 dX4_joins_11 hX4_isPoint gX4_isPoint rfl rfl 1 0 0 (by omega) (Nat.zero_le _) (Nat.zero_le _) q2215 q2217 sp48 zM_rc ?_
    refine kX4_isPoint hA (by omega) hV (by omega) (zK_i ?_)
    try simp only [zuf_1, zua_s, zua_2, zuf_s, zuf_zuf, zua_zuf, zua_zua, zua_e, zuf_e, Nat.reduceBEq]
    refine zr_ifneB dX4_joins_14 (tgt := 21) (by decide) (fun h14 => ?_) (fun h14 => ?_)
    · refine zr_iconst dX4_joins_21 ?_
      refine zr_iconst dX4_joins_22 ?_
      refine zc_v2 dX4_joins_23 hX4_isThrown gX4_isThrown rfl rfl 0 0 0 (by omega) (Nat.zero_le _) (Nat.zero_le _) q2199 q2201 sp45 zM_rc ?_
      refine kX4_isThrown0 hA (zK_i ?_)
      try simp only [zuf_1, zua_s, zua_2, zuf_s, zuf_zuf, zua_zuf, zua_zua, zua_e, zuf_e, Nat.reduceBEq]
      refine zr_ifne dX4_joins_26 (tgt := 79) (by decide) (by decide) (fun h => absurd h (by decide)) (fun _ => ?_)
      refine zr_aload_n dX4_joins_29 rfl rfl ?_
      refine zr_iload_n dX4_joins_30 rfl ?_
      refine zr_iload_n dX4_joins_31 rfl ?_
      refine zr_icmpeq dX4_joins_32 (tgt := 45) (by decide) (by omega) (by omega) (fun h32 => ?_) (fun h32 => ?_)
      · refine zr_iconst dX4_joins_45 ?_
        refine zr_goto dX4_joins_46 (tgt := 50) (by decide) ?_
        refine zr_iconst dX4_joins_50 ?_
        refine zc_v2 dX4_joins_51 hX4_isThrown gX4_isThrown rfl rfl 0 0 0 (by omega) (Nat.zero_le _) (Nat.zero_le _) q2199 q2201 sp45 zM_rc ?_
        refine kX4_isThrown1 hA (zK_i ?_)
        try simp only [zuf_1, zua_s, zua_2, zuf_s, zuf_zuf, zua_zuf, zua_zua, zua_e, zuf_e, Nat.reduceBEq]
        refine zr_ifne dX4_joins_54 (tgt := 79) (by decide) (by decide) (fun _ => ?_) (fun h => absurd h (by decide))
        refine zr_iconst dX4_joins_79 ?_
        refine zr_ireturn dX4_joins_80 rfl (by first | rfl | exact z_nb _) ?_
        have e : pJoin (S.1 0) a b v = (2, 0, S.1 0) := by unfold pJoin; simp [*]
        exact zQm k (by rw [e]) (by rw [e, pAf_s])
      · refine zr_iload_n dX4_joins_35 rfl ?_
        refine zr_iconst dX4_joins_36 ?_
        refine zr_bipush dX4_joins_37 rfl ?_
        refine zc_s3 dX4_joins_39 hX4_isIn gX4_isIn rfl rfl 0 0 0 (by omega) (Nat.zero_le _) (Nat.zero_le _) q2196 q2197 ?_
        refine kX4_isIn (by first | omega | (simp only [zuf_1, zua_s, zua_2, zuf_s, zua_e, zuf_e, Nat.reduceBEq]; omega)) (by first | omega | (simp only [zuf_1, zua_s, zua_2, zuf_s, zua_e, zuf_e, Nat.reduceBEq]; omega)) (by first | omega | (simp only [zuf_1, zua_s, zua_2, zuf_s, zua_e, zuf_e, Nat.reduceBEq]; omega)) (zK_i ?_)
        refine zr_ifneB dX4_joins_42 (tgt := 49) (by decide) (fun h42 => ?_) (fun h42 => ?_)
        · refine zr_iconst dX4_joins_49 ?_
          refine zr_iconst dX4_joins_50 ?_
          refine zc_v2 dX4_joins_51 hX4_isThrown gX4_isThrown rfl rfl 0 0 0 (by omega) (Nat.zero_le _) (Nat.zero_le _) q2199 q2201 sp45 zM_rc ?_
          refine kX4_isThrown0 hA (zK_i ?_)
          try simp only [zuf_1, zua_s, zua_2, zuf_s, zuf_zuf, zua_zuf, zua_zua, zua_e, zuf_e, Nat.reduceBEq]
          refine zr_ifne dX4_joins_54 (tgt := 79) (by decide) (by decide) (fun h => absurd h (by decide)) (fun _ => ?_)
          refine zr_aload_n dX4_joins_57 rfl rfl ?_
          have v1 := pPt_b h6 hV
          have v2 := pPt_b h14 hV
          refine zr_aload_n dX4_joins_58 rfl rfl ?_
          refine zr_iload_n dX4_joins_59 rfl ?_
          refine zr_iload_n dX4_joins_60 rfl ?_
          refine zc_v2 dX4_joins_61 hX4_trail gX4_trail rfl rfl 0 0 0 (by omega) (Nat.zero_le _) (Nat.zero_le _) q2219 q2221 sp49 zM_rc ?_
          refine kX4_trail hA hV (by first | omega | (simp only [zuf_1, zua_s, zua_2, zuf_s, zua_e, zuf_e, Nat.reduceBEq]; omega)) (by first | omega | (simp only [zuf_1, zua_s, zua_2, zuf_s, zua_e, zuf_e, Nat.reduceBEq]; omega)) (fun t61 => zK_i ?_)
          try simp only [zuf_1, zua_s, zua_2, zuf_s, zuf_zuf, zua_zuf, zua_zua, zua_e, zuf_e, Nat.reduceBEq] at t61 ⊢
          refine zr_ifle dX4_joins_64 (tgt := 71) (by decide) (by omega) (fun h64 => ?_) (fun h64 => ?_)
          · refine zr_iconst dX4_joins_71 ?_
            refine zr_iconst dX4_joins_72 ?_
            refine zc_v2 dX4_joins_73 hX4_isThrown gX4_isThrown rfl rfl 0 0 0 (by omega) (Nat.zero_le _) (Nat.zero_le _) q2199 q2201 sp45 zM_rc ?_
            refine kX4_isThrown0 hA (zK_i ?_)
            try simp only [zuf_1, zua_s, zua_2, zuf_s, zuf_zuf, zua_zuf, zua_zua, zua_e, zuf_e, Nat.reduceBEq]
            refine zr_ifeq dX4_joins_76 (tgt := 81) (by decide) (by decide) (fun _ => ?_) (fun h => absurd h (by decide))
            refine zr_aload_n dX4_joins_81 rfl rfl ?_
            refine zr_iload_n dX4_joins_82 rfl ?_
            refine zr_iload_n dX4_joins_83 rfl ?_
            refine zr_iload_n dX4_joins_84 rfl ?_
            refine zc_v3 dX4_joins_85 hX4_setsTrail gX4_setsTrail rfl rfl 0 0 0 (by omega) (Nat.zero_le _) (Nat.zero_le _) q2223 q2225 sp50 zM_rc ?_
            refine kX4_setsTrail hA (by first | omega | (simp only [zuf_1, zua_s, zua_2, zuf_s, zua_e, zuf_e, Nat.reduceBEq]; omega)) (by first | omega | (simp only [zuf_1, zua_s, zua_2, zuf_s, zua_e, zuf_e, Nat.reduceBEq]; omega)) (zK_v ?_)
            have hW := hV.set (v := v) (a := a) (b := b) (by omega) (by omega) (by have := pIn_iff.mp h42; omega)
            refine zr_aload_n dX4_joins_88 rfl rfl ?_
            refine zc_v0 dX4_joins_89 hX4_manyTrails gX4_manyTrails rfl rfl 1 0 0 (by omega) (Nat.zero_le _) (Nat.zero_le _) q2227 q2229 sp51 zM_rc ?_
            refine kX4_manyTrails hA (by omega) (by simpa only [zua_s, zuf_1] using hW) (zK_i ?_)
            try simp only [zuf_1, zua_s, zua_2, zuf_s, zuf_zuf, zua_zuf, zua_zua, zua_e, zuf_e, Nat.reduceBEq]
            refine zr_ireturn dX4_joins_92 rfl (by first | rfl | exact z_nb _) ?_
            have e : pJoin (S.1 0) a b v = (0, pMn (pSet (S.1 0) a b v) 12, pSet (S.1 0) a b v) := by unfold pJoin; simp [*]
            exact zQm k (by rw [e]) (by rw [e]; rfl)
          · refine zr_iconst dX4_joins_67 ?_
            refine zr_goto dX4_joins_68 (tgt := 72) (by decide) ?_
            refine zr_iconst dX4_joins_72 ?_
            refine zc_v2 dX4_joins_73 hX4_isThrown gX4_isThrown rfl rfl 0 0 0 (by omega) (Nat.zero_le _) (Nat.zero_le _) q2199 q2201 sp45 zM_rc ?_
            refine kX4_isThrown1 hA (zK_i ?_)
            try simp only [zuf_1, zua_s, zua_2, zuf_s, zuf_zuf, zua_zuf, zua_zua, zua_e, zuf_e, Nat.reduceBEq]
            refine zr_ifeq dX4_joins_76 (tgt := 81) (by decide) (by decide) (fun h => absurd h (by decide)) (fun _ => ?_)
            refine zr_iconst dX4_joins_79 ?_
            refine zr_ireturn dX4_joins_80 rfl (by first | rfl | exact z_nb _) ?_
            have e : pJoin (S.1 0) a b v = (3, 0, S.1 0) := by unfold pJoin; simp [*]
            exact zQm k (by rw [e]) (by rw [e, pAf_s])
        · refine zr_iconst dX4_joins_45 ?_
          refine zr_goto dX4_joins_46 (tgt := 50) (by decide) ?_
          refine zr_iconst dX4_joins_50 ?_
          refine zc_v2 dX4_joins_51 hX4_isThrown gX4_isThrown rfl rfl 0 0 0 (by omega) (Nat.zero_le _) (Nat.zero_le _) q2199 q2201 sp45 zM_rc ?_
          refine kX4_isThrown1 hA (zK_i ?_)
          try simp only [zuf_1, zua_s, zua_2, zuf_s, zuf_zuf, zua_zuf, zua_zua, zua_e, zuf_e, Nat.reduceBEq]
          refine zr_ifne dX4_joins_54 (tgt := 79) (by decide) (by decide) (fun _ => ?_) (fun h => absurd h (by decide))
          refine zr_iconst dX4_joins_79 ?_
          refine zr_ireturn dX4_joins_80 rfl (by first | rfl | exact z_nb _) ?_
          have e : pJoin (S.1 0) a b v = (2, 0, S.1 0) := by unfold pJoin; simp [*]
          exact zQm k (by rw [e]) (by rw [e, pAf_s])
    · refine zr_iconst dX4_joins_17 ?_
      refine zr_goto dX4_joins_18 (tgt := 22) (by decide) ?_
      refine zr_iconst dX4_joins_22 ?_
      refine zc_v2 dX4_joins_23 hX4_isThrown gX4_isThrown rfl rfl 0 0 0 (by omega) (Nat.zero_le _) (Nat.zero_le _) q2199 q2201 sp45 zM_rc ?_
      refine kX4_isThrown1 hA (zK_i ?_)
      try simp only [zuf_1, zua_s, zua_2, zuf_s, zuf_zuf, zua_zuf, zua_zua, zua_e, zuf_e, Nat.reduceBEq]
      refine zr_ifne dX4_joins_26 (tgt := 79) (by decide) (by decide) (fun _ => ?_) (fun h => absurd h (by decide))
      refine zr_iconst dX4_joins_79 ?_
      refine zr_ireturn dX4_joins_80 rfl (by first | rfl | exact z_nb _) ?_
      have e : pJoin (S.1 0) a b v = (1, 0, S.1 0) := by unfold pJoin; simp [*]
      exact zQm k (by rw [e]) (by rw [e, pAf_s])
theorem kX4_cuts {G : State} {d rc rs : Nat} {ah : zH} {A : Nat → Nat} {S : zMS} {Q : zRs → zH → Prop} {a b : Int} (hA : zMi A) (hd : 2 ≤ d) (hV : pV (S.1 0)) (qa : -2147483648 ≤ a ∧ a ≤ 2147483647) (qb : -2147483648 ≤ b ∧ b ≤ 2147483647) (k : Q (.inl (some (.int (zi (pCut (S.1 0) a b).2.1)))) (zMh ah A (pAf S (pCut (S.1 0) a b)))) : zW G mX4_cuts d rc rs 0 (zent [.ref (A 18), .int (zi a), .int (zi b)]) [] (zMh ah A S) Q := by
  refine zW_open 1 [some (.ref (A 18)), some (.int (zi a)), some (.int (zi b)), none] rfl ?_
  refine zr_aload_n dX4_cuts_0 rfl rfl ?_
  refine zr_aload_n dX4_cuts_1 rfl rfl ?_
  refine zr_iload_n dX4_cuts_2 rfl ?_
  refine zc_v1 dX4_cuts_3 hX4_isPoint gX4_isPoint rfl rfl 1 0 0 (by omega) (Nat.zero_le _) (Nat.zero_le _) q2215 q2217 sp48 zM_rc ?_
  refine kX4_isPoint hA (by omega) hV (by omega) (zK_i ?_)
  try simp only [zuf_1, zua_s, zua_2, zuf_s, zuf_zuf, zua_zuf, zua_zua, zua_e, zuf_e, Nat.reduceBEq]
  refine zr_ifeqB dX4_cuts_6 (tgt := 17) (by decide) (fun h6 => ?_) (fun h6 => ?_)
  · refine zr_iconst dX4_cuts_17 ?_
    refine zr_goto dX4_cuts_18 (tgt := 22) (by decide) ?_
    refine zr_iconst dX4_cuts_22 ?_
    refine zc_v2 dX4_cuts_23 hX4_isThrown gX4_isThrown rfl rfl 0 0 0 (by omega) (Nat.zero_le _) (Nat.zero_le _) q2199 q2201 sp45 zM_rc ?_
    refine kX4_isThrown1 hA (zK_i ?_)
    try simp only [zuf_1, zua_s, zua_2, zuf_s, zuf_zuf, zua_zuf, zua_zua, zua_e, zuf_e, Nat.reduceBEq]
    refine zr_ifne dX4_cuts_26 (tgt := 51) (by decide) (by decide) (fun _ => ?_) (fun h => absurd h (by decide))
    refine zr_iconst dX4_cuts_51 ?_
    refine zr_ireturn dX4_cuts_52 rfl (by first | rfl | exact z_nb _) ?_
    have e : pCut (S.1 0) a b = (1, 0, S.1 0) := by unfold pCut; simp [*]
    exact zQm k (by rw [e]) (by rw [e, pAf_s])
  · refine zr_aload_n dX4_cuts_9 rfl rfl ?_
    refine zr_iload_n dX4_cuts_10 rfl ?_
    refine zc_v1 dX4_cuts_11 hX4_isPoint gX4_isPoint rfl rfl 1 0 0 (by omega) (Nat.zero_le _) (Nat.zero_le _) q2215 q2217 sp48 zM_rc ?_
    refine kX4_isPoint hA (by omega) hV (by omega) (zK_i ?_)
    try simp only [zuf_1, zua_s, zua_2, zuf_s, zuf_zuf, zua_zuf, zua_zua, zua_e, zuf_e, Nat.reduceBEq]
    refine zr_ifneB dX4_cuts_14 (tgt := 21) (by decide) (fun h14 => ?_) (fun h14 => ?_)
    · refine zr_iconst dX4_cuts_21 ?_
      refine zr_iconst dX4_cuts_22 ?_
      refine zc_v2 dX4_cuts_23 hX4_isThrown gX4_isThrown rfl rfl 0 0 0 (by omega) (Nat.zero_le _) (Nat.zero_le _) q2199 q2201 sp45 zM_rc ?_
      refine kX4_isThrown0 hA (zK_i ?_)
      try simp only [zuf_1, zua_s, zua_2, zuf_s, zuf_zuf, zua_zuf, zua_zua, zua_e, zuf_e, Nat.reduceBEq]
      refine zr_ifne dX4_cuts_26 (tgt := 51) (by decide) (by decide) (fun h => absurd h (by decide)) (fun _ => ?_)
      refine zr_aload_n dX4_cuts_29 rfl rfl ?_
      have v1 := pPt_b h6 hV
      have v2 := pPt_b h14 hV
      refine zr_aload_n dX4_cuts_30 rfl rfl ?_
      refine zr_iload_n dX4_cuts_31 rfl ?_
      refine zr_iload_n dX4_cuts_32 rfl ?_
      refine zc_v2 dX4_cuts_33 hX4_trail gX4_trail rfl rfl 0 0 0 (by omega) (Nat.zero_le _) (Nat.zero_le _) q2219 q2221 sp49 zM_rc ?_
      refine kX4_trail hA hV (by first | omega | (simp only [zuf_1, zua_s, zua_2, zuf_s, zua_e, zuf_e, Nat.reduceBEq]; omega)) (by first | omega | (simp only [zuf_1, zua_s, zua_2, zuf_s, zua_e, zuf_e, Nat.reduceBEq]; omega)) (fun t33 => zK_i ?_)
      try simp only [zuf_1, zua_s, zua_2, zuf_s, zuf_zuf, zua_zuf, zua_zua, zua_e, zuf_e, Nat.reduceBEq] at t33 ⊢
      refine zr_ifne dX4_cuts_36 (tgt := 43) (by decide) (by omega) (fun h36 => ?_) (fun h36 => ?_)
      · refine zr_iconst dX4_cuts_43 ?_
        refine zr_iconst dX4_cuts_44 ?_
        refine zc_v2 dX4_cuts_45 hX4_isThrown gX4_isThrown rfl rfl 0 0 0 (by omega) (Nat.zero_le _) (Nat.zero_le _) q2199 q2201 sp45 zM_rc ?_
        refine kX4_isThrown0 hA (zK_i ?_)
        try simp only [zuf_1, zua_s, zua_2, zuf_s, zuf_zuf, zua_zuf, zua_zua, zua_e, zuf_e, Nat.reduceBEq]
        refine zr_ifeq dX4_cuts_48 (tgt := 53) (by decide) (by decide) (fun _ => ?_) (fun h => absurd h (by decide))
        refine zr_aload_n dX4_cuts_53 rfl rfl ?_
        refine zr_iload_n dX4_cuts_54 rfl ?_
        refine zr_iload_n dX4_cuts_55 rfl ?_
        refine zc_v2 dX4_cuts_56 hX4_trail gX4_trail rfl rfl 0 0 0 (by omega) (Nat.zero_le _) (Nat.zero_le _) q2219 q2221 sp49 zM_rc ?_
        refine kX4_trail hA hV (by first | omega | (simp only [zuf_1, zua_s, zua_2, zuf_s, zua_e, zuf_e, Nat.reduceBEq]; omega)) (by first | omega | (simp only [zuf_1, zua_s, zua_2, zuf_s, zua_e, zuf_e, Nat.reduceBEq]; omega)) (fun t56 => zK_i ?_)
        try simp only [zuf_1, zua_s, zua_2, zuf_s, zuf_zuf, zua_zuf, zua_zua, zua_e, zuf_e, Nat.reduceBEq] at t56 ⊢
        refine zr_istore_n dX4_cuts_59 (by decide) (zs4_3 rfl ?_)
        refine zr_aload_n dX4_cuts_60 rfl rfl ?_
        refine zr_iload_n dX4_cuts_61 rfl ?_
        refine zr_iload_n dX4_cuts_62 rfl ?_
        refine zr_iconst dX4_cuts_63 ?_
        refine zc_v3 dX4_cuts_64 hX4_setsTrail gX4_setsTrail rfl rfl 0 0 0 (by omega) (Nat.zero_le _) (Nat.zero_le _) q2223 q2225 sp50 zM_rc ?_
        refine kX4_setsTrail hA (by first | omega | (simp only [zuf_1, zua_s, zua_2, zuf_s, zua_e, zuf_e, Nat.reduceBEq]; omega)) (by first | omega | (simp only [zuf_1, zua_s, zua_2, zuf_s, zua_e, zuf_e, Nat.reduceBEq]; omega)) (zK_v ?_)
        try simp only [zuf_1, zua_s, zua_2, zuf_s, zuf_zuf, zua_zuf, zua_zua, zua_e, zuf_e, Nat.reduceBEq]
        refine zr_iload_n dX4_cuts_67 rfl ?_
        refine zr_ireturn dX4_cuts_68 rfl (by first | rfl | exact z_nb _) ?_
        have e : pCut (S.1 0) a b = (0, pTr (S.1 0) a b, pSet (S.1 0) a b 0) := by unfold pCut; simp [*]
        exact zQm k (by rw [e]) (by rw [e]; rfl)
      · refine zr_iconst dX4_cuts_39 ?_
        refine zr_goto dX4_cuts_40 (tgt := 44) (by decide) ?_
        refine zr_iconst dX4_cuts_44 ?_
        refine zc_v2 dX4_cuts_45 hX4_isThrown gX4_isThrown rfl rfl 0 0 0 (by omega) (Nat.zero_le _) (Nat.zero_le _) q2199 q2201 sp45 zM_rc ?_
        refine kX4_isThrown1 hA (zK_i ?_)
        try simp only [zuf_1, zua_s, zua_2, zuf_s, zuf_zuf, zua_zuf, zua_zua, zua_e, zuf_e, Nat.reduceBEq]
        refine zr_ifeq dX4_cuts_48 (tgt := 53) (by decide) (by decide) (fun h => absurd h (by decide)) (fun _ => ?_)
        refine zr_iconst dX4_cuts_51 ?_
        refine zr_ireturn dX4_cuts_52 rfl (by first | rfl | exact z_nb _) ?_
        have e : pCut (S.1 0) a b = (2, 0, S.1 0) := by unfold pCut; simp [*]
        exact zQm k (by rw [e]) (by rw [e, pAf_s])
    · refine zr_iconst dX4_cuts_17 ?_
      refine zr_goto dX4_cuts_18 (tgt := 22) (by decide) ?_
      refine zr_iconst dX4_cuts_22 ?_
      refine zc_v2 dX4_cuts_23 hX4_isThrown gX4_isThrown rfl rfl 0 0 0 (by omega) (Nat.zero_le _) (Nat.zero_le _) q2199 q2201 sp45 zM_rc ?_
      refine kX4_isThrown1 hA (zK_i ?_)
      try simp only [zuf_1, zua_s, zua_2, zuf_s, zuf_zuf, zua_zuf, zua_zua, zua_e, zuf_e, Nat.reduceBEq]
      refine zr_ifne dX4_cuts_26 (tgt := 51) (by decide) (by decide) (fun _ => ?_) (fun h => absurd h (by decide))
      refine zr_iconst dX4_cuts_51 ?_
      refine zr_ireturn dX4_cuts_52 rfl (by first | rfl | exact z_nb _) ?_
      have e : pCut (S.1 0) a b = (1, 0, S.1 0) := by unfold pCut; simp [*]
      exact zQm k (by rw [e]) (by rw [e, pAf_s])
def pAdd (s : Int → Int) (x y r : Int) : Int × Int × (Int → Int) := if ¬ (pPl x y = true ∧ pIn r 1 9 = true) then (1, 0, s) else if s 0 = 12 then (2, 0, s) else
  (0, s 0, z_upF (z_upF (z_upF (z_upF s (12 + 3 * s 0) x) (12 + 3 * s 0 + 1) y) (12 + 3 * s 0 + 2) r) 0 (s 0 + 1))
theorem kX4_points {G : State} {d rc rs : Nat} {ah : zH} {A : Nat → Nat} {S : zMS} {Q : zRs → zH → Prop} {x y r : Int} (hA : zMi A) (hd : 2 ≤ d) (hV : pV (S.1 0)) (qx : -2147483648 ≤ x ∧ x ≤ 2147483647) (qy : -2147483648 ≤ y ∧ y ≤ 2147483647) (qr : -2147483648 ≤ r ∧ r ≤ 2147483647) (k : Q (.inl (some (.int (zi (pAdd (S.1 0) x y r).2.1)))) (zMh ah A (pAf S (pAdd (S.1 0) x y r)))) : zW G mX4_points d rc rs 0 (zent [.ref (A 18), .int (zi x), .int (zi y), .int (zi r)]) [] (zMh ah A S) Q := by
  refine zW_open 1 [some (.ref (A 18)), some (.int (zi x)), some (.int (zi y)), some (.int (zi r)), none] rfl ?_
  refine zr_aload_n dX4_points_0 rfl rfl ?_
  refine zr_iload_n dX4_points_1 rfl ?_
  refine zr_iload_n dX4_points_2 rfl ?_
  refine zc_s2 dX4_points_3 hX4_isPlace gX4_isPlace rfl rfl 1 0 0 (by omega) (Nat.zero_le _) (Nat.zero_le _) q2193 q2194 ?_
  refine kX4_isPlace (by omega) (by omega) (by omega) (zK_i ?_)
  refine zr_ifeqB dX4_points_6 (tgt := 19) (by decide) (fun h6 => ?_) (fun h6 => ?_)
  · refine zr_iconst dX4_points_19 ?_
    refine zr_goto dX4_points_20 (tgt := 24) (by decide) ?_
    refine zr_iconst dX4_points_24 ?_
    refine zc_v2 dX4_points_25 hX4_isThrown gX4_isThrown rfl rfl 0 0 0 (by omega) (Nat.zero_le _) (Nat.zero_le _) q2199 q2201 sp45 zM_rc ?_
    refine kX4_isThrown1 hA (zK_i ?_)
    try simp only [zuf_1, zua_s, zua_2, zuf_s, zuf_zuf, zua_zuf, zua_zua, zua_e, zuf_e, Nat.reduceBEq]
    refine zr_ifne dX4_points_28 (tgt := 55) (by decide) (by decide) (fun _ => ?_) (fun h => absurd h (by decide))
    refine zr_iconst dX4_points_55 ?_
    refine zr_ireturn dX4_points_56 rfl (by first | rfl | exact z_nb _) ?_
    have e : pAdd (S.1 0) x y r = (1, 0, S.1 0) := by unfold pAdd; simp [*]
    exact zQm k (by rw [e]) (by rw [e, pAf_s])
  · refine zr_iload_n dX4_points_9 rfl ?_
    refine zr_iconst dX4_points_10 ?_
    refine zr_bipush dX4_points_11 rfl ?_
    refine zc_s3 dX4_points_13 hX4_isIn gX4_isIn rfl rfl 0 0 0 (by omega) (Nat.zero_le _) (Nat.zero_le _) q2196 q2197 ?_
    refine kX4_isIn (by omega) (by omega) (by omega) (zK_i ?_)
    refine zr_ifneB dX4_points_16 (tgt := 23) (by decide) (fun h16 => ?_) (fun h16 => ?_)
    · refine zr_iconst dX4_points_23 ?_
      refine zr_iconst dX4_points_24 ?_
      refine zc_v2 dX4_points_25 hX4_isThrown gX4_isThrown rfl rfl 0 0 0 (by omega) (Nat.zero_le _) (Nat.zero_le _) q2199 q2201 sp45 zM_rc ?_
      refine kX4_isThrown0 hA (zK_i ?_)
      try simp only [zuf_1, zua_s, zua_2, zuf_s, zuf_zuf, zua_zuf, zua_zua, zua_e, zuf_e, Nat.reduceBEq]
      refine zr_ifne dX4_points_28 (tgt := 55) (by decide) (by decide) (fun h => absurd h (by decide)) (fun _ => ?_)
      have v := hV.h
      refine zr_aload_n dX4_points_31 rfl rfl ?_
      refine zr_aload_n dX4_points_32 rfl rfl ?_
      refine zm_geta 0 dX4_points_33 q2119 rfl ?_
      try simp only [zuf_1, zua_s, zua_2, zuf_s, zuf_zuf, zua_zuf, zua_zua, zua_e, zuf_e, Nat.reduceBEq]
      refine zr_iconst dX4_points_36 ?_
      refine zm_load hA (by decide) dX4_points_37 (by constructor <;> (try simp only [zMn]) <;> omega) ?_
      try simp only [zuf_1, zua_s, zua_2, zuf_s, zuf_zuf, zua_zuf, zua_zua, zua_e, zuf_e, Nat.reduceBEq]
      refine zr_bipush dX4_points_38 rfl ?_
      refine zr_icmpne dX4_points_40 (tgt := 47) (by decide) (by omega) (by omega) (fun h40 => ?_) (fun h40 => ?_)
      · refine zr_iconst dX4_points_47 ?_
        refine zr_iconst dX4_points_48 ?_
        refine zc_v2 dX4_points_49 hX4_isThrown gX4_isThrown rfl rfl 0 0 0 (by omega) (Nat.zero_le _) (Nat.zero_le _) q2199 q2201 sp45 zM_rc ?_
        refine kX4_isThrown0 hA (zK_i ?_)
        try simp only [zuf_1, zua_s, zua_2, zuf_s, zuf_zuf, zua_zuf, zua_zua, zua_e, zuf_e, Nat.reduceBEq]
        refine zr_ifeq dX4_points_52 (tgt := 57) (by decide) (by decide) (fun _ => ?_) (fun h => absurd h (by decide))
        refine zr_bipush dX4_points_57 rfl ?_
        refine zr_iconst dX4_points_59 ?_
        refine zr_aload_n dX4_points_60 rfl rfl ?_
        refine zm_geta 0 dX4_points_61 q2119 rfl ?_
        try simp only [zuf_1, zua_s, zua_2, zuf_s, zuf_zuf, zua_zuf, zua_zua, zua_e, zuf_e, Nat.reduceBEq]
        refine zr_iconst dX4_points_64 ?_
        refine zm_load hA (by decide) dX4_points_65 (by constructor <;> (try simp only [zMn]) <;> omega) ?_
        try simp only [zuf_1, zua_s, zua_2, zuf_s, zuf_zuf, zua_zuf, zua_zua, zua_e, zuf_e, Nat.reduceBEq]
        refine zr_imul dX4_points_66 ?_
        refine zr_iadd dX4_points_67 ?_
        refine zr_istore dX4_points_68 (by decide) (zs5_4 rfl ?_)
        refine zr_aload_n dX4_points_70 rfl rfl ?_
        refine zm_geta 0 dX4_points_71 q2119 rfl ?_
        try simp only [zuf_1, zua_s, zua_2, zuf_s, zuf_zuf, zua_zuf, zua_zua, zua_e, zuf_e, Nat.reduceBEq]
        refine zr_iload dX4_points_74 rfl ?_
        refine zr_iconst dX4_points_76 ?_
        refine zr_iadd dX4_points_77 ?_
        refine zr_iload_n dX4_points_78 rfl ?_
        refine zm_store hA (by decide) dX4_points_79 (by constructor <;> (try simp only [zMn]) <;> omega) ?_
        try simp only [zuf_1, zua_s, zua_2, zuf_s, zuf_zuf, zua_zuf, zua_zua, zua_e, zuf_e, Nat.reduceBEq]
        refine zr_aload_n dX4_points_80 rfl rfl ?_
        refine zm_geta 0 dX4_points_81 q2119 rfl ?_
        try simp only [zuf_1, zua_s, zua_2, zuf_s, zuf_zuf, zua_zuf, zua_zua, zua_e, zuf_e, Nat.reduceBEq]
        refine zr_iload dX4_points_84 rfl ?_
        refine zr_iconst dX4_points_86 ?_
        refine zr_iadd dX4_points_87 ?_
        refine zr_iload_n dX4_points_88 rfl ?_
        refine zm_store hA (by decide) dX4_points_89 (by constructor <;> (try simp only [zMn]) <;> omega) ?_
        try simp only [zuf_1, zua_s, zua_2, zuf_s, zuf_zuf, zua_zuf, zua_zua, zua_e, zuf_e, Nat.reduceBEq]
        refine zr_aload_n dX4_points_90 rfl rfl ?_
        refine zm_geta 0 dX4_points_91 q2119 rfl ?_
        try simp only [zuf_1, zua_s, zua_2, zuf_s, zuf_zuf, zua_zuf, zua_zua, zua_e, zuf_e, Nat.reduceBEq]
        refine zr_iload dX4_points_94 rfl ?_
        refine zr_iconst dX4_points_96 ?_
        refine zr_iadd dX4_points_97 ?_
        refine zr_iload_n dX4_points_98 rfl ?_
        refine zm_store hA (by decide) dX4_points_99 (by constructor <;> (try simp only [zMn]) <;> omega) ?_
        try simp only [zuf_1, zua_s, zua_2, zuf_s, zuf_zuf, zua_zuf, zua_zua, zua_e, zuf_e, Nat.reduceBEq]
        rw [Int.add_zero]
        have u0 : z_upF (z_upF (z_upF (S.1 0) (12 + 3 * S.1 0 0) x) (12 + 3 * S.1 0 0 + 1) y) (12 + 3 * S.1 0 0 + 2) r 0 = S.1 0 0 := by rw [z_upF_n (by omega), z_upF_n (by omega), z_upF_n (by omega)]
        refine zr_aload_n dX4_points_100 rfl rfl ?_
        refine zm_geta 0 dX4_points_101 q2119 rfl ?_
        try simp only [zuf_1, zua_s, zua_2, zuf_s, zuf_zuf, zua_zuf, zua_zua, zua_e, zuf_e, Nat.reduceBEq]
        refine zr_iconst dX4_points_104 ?_
        refine zr_dup2 dX4_points_105 rfl rfl ?_
        refine zm_load hA (by decide) dX4_points_106 (by constructor <;> (try simp only [zMn]) <;> omega) ?_
        try simp only [zuf_1, zua_s, zua_2, zuf_s, zuf_zuf, zua_zuf, zua_zua, zua_e, zuf_e, Nat.reduceBEq]
        rw [u0]
        refine zr_iconst dX4_points_107 ?_
        refine zr_iadd dX4_points_108 ?_
        refine zm_store hA (by decide) dX4_points_109 (by constructor <;> (try simp only [zMn]) <;> omega) ?_
        try simp only [zuf_1, zua_s, zua_2, zuf_s, zuf_zuf, zua_zuf, zua_zua, zua_e, zuf_e, Nat.reduceBEq]
        refine zr_aload_n dX4_points_110 rfl rfl ?_
        refine zm_geta 0 dX4_points_111 q2119 rfl ?_
        try simp only [zuf_1, zua_s, zua_2, zuf_s, zuf_zuf, zua_zuf, zua_zua, zua_e, zuf_e, Nat.reduceBEq]
        refine zr_iconst dX4_points_114 ?_
        refine zm_load hA (by decide) dX4_points_115 (by constructor <;> (try simp only [zMn]) <;> omega) ?_
        try simp only [zuf_1, zua_s, zua_2, zuf_s, zuf_zuf, zua_zuf, zua_zua, zua_e, zuf_e, Nat.reduceBEq]
        rw [z_upF_s]
        refine zr_iconst dX4_points_116 ?_
        refine zr_isub dX4_points_117 ?_
        refine zr_ireturn dX4_points_118 rfl (by first | rfl | exact z_nb _) ?_
        have e : pAdd (S.1 0) x y r = (0, S.1 0 0, z_upF (z_upF (z_upF (z_upF (S.1 0) (12 + 3 * S.1 0 0) x) (12 + 3 * S.1 0 0 + 1) y) (12 + 3 * S.1 0 0 + 2) r) 0 (S.1 0 0 + 1)) := by unfold pAdd; simp [*]
        exact zQm k (by rw [e]; show S.1 0 0 = S.1 0 0 + 1 - 1; omega) (by rw [e]; rfl)
      · refine zr_iconst dX4_points_43 ?_
        refine zr_goto dX4_points_44 (tgt := 48) (by decide) ?_
        refine zr_iconst dX4_points_48 ?_
        refine zc_v2 dX4_points_49 hX4_isThrown gX4_isThrown rfl rfl 0 0 0 (by omega) (Nat.zero_le _) (Nat.zero_le _) q2199 q2201 sp45 zM_rc ?_
        refine kX4_isThrown1 hA (zK_i ?_)
        try simp only [zuf_1, zua_s, zua_2, zuf_s, zuf_zuf, zua_zuf, zua_zua, zua_e, zuf_e, Nat.reduceBEq]
        refine zr_ifeq dX4_points_52 (tgt := 57) (by decide) (by decide) (fun h => absurd h (by decide)) (fun _ => ?_)
        refine zr_iconst dX4_points_55 ?_
        refine zr_ireturn dX4_points_56 rfl (by first | rfl | exact z_nb _) ?_
        have e : pAdd (S.1 0) x y r = (2, 0, S.1 0) := by unfold pAdd; simp [*]
        exact zQm k (by rw [e]) (by rw [e, pAf_s])
    · refine zr_iconst dX4_points_19 ?_
      refine zr_goto dX4_points_20 (tgt := 24) (by decide) ?_
      refine zr_iconst dX4_points_24 ?_
      refine zc_v2 dX4_points_25 hX4_isThrown gX4_isThrown rfl rfl 0 0 0 (by omega) (Nat.zero_le _) (Nat.zero_le _) q2199 q2201 sp45 zM_rc ?_
      refine kX4_isThrown1 hA (zK_i ?_)
      try simp only [zuf_1, zua_s, zua_2, zuf_s, zuf_zuf, zua_zuf, zua_zua, zua_e, zuf_e, Nat.reduceBEq]
      refine zr_ifne dX4_points_28 (tgt := 55) (by decide) (by decide) (fun _ => ?_) (fun h => absurd h (by decide))
      refine zr_iconst dX4_points_55 ?_
      refine zr_ireturn dX4_points_56 rfl (by first | rfl | exact z_nb _) ?_
      have e : pAdd (S.1 0) x y r = (1, 0, S.1 0) := by unfold pAdd; simp [*]
      exact zQm k (by rw [e]) (by rw [e, pAf_s])
