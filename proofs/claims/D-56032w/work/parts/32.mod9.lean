set_option maxRecDepth 100000
/-! ===== the reference: distances told, components, tours ===== -/
theorem pDist_le {I : Int} {s : Int → Int} {src : Int} {f g : Int → Int} (hs : pR src) (hf : pDist I s src f) (hg : pDist I s src g) : ∀ (n : Nat) (v : Int), pR v → f v < n → f v < I → g v ≤ f v := by
  intro n
  induction n with
  | zero => intro v hv h _; have := (hf.2.1 v hv).1; omega
  | succ n ih =>
    intro v hv h hI
    by_cases e : v = src
    · subst e; rw [hf.1, hg.1]; exact Int.le_refl _
    · obtain ⟨u, u1, u2, u3⟩ := hf.2.2.2 v hv e hI
      have := ih u u1 (by omega) (by omega)
      have := hg.2.2.1 u v u1 hv u2
      omega
theorem pDist_u {I : Int} {s : Int → Int} {src : Int} {f g : Int → Int} (hs : pR src) (hf : pDist I s src f) (hg : pDist I s src g) {v : Int} (hv : pR v) : f v = g v := by
  have h1 := hf.2.1 v hv
  have h2 := hg.2.1 v hv
  have a : g v ≤ f v := by
    by_cases e : f v < I
    · exact pDist_le hs hf hg (f v + 1).toNat v hv (by omega) e
    · omega
  have b : f v ≤ g v := by
    by_cases e : g v < I
    · exact pDist_le hs hg hf (g v + 1).toNat v hv (by omega) e
    · omega
  omega
/-- the distances from p -/
noncomputable def pFr (I : Int) (s : Int → Int) (p : Int) : Int → Int := Classical.epsilon (fun f => pDist I s p f)
theorem pFr_ok {I : Int} {s : Int → Int} {p : Int} {f : Int → Int} (hf : pDist I s p f) : pDist I s p (pFr I s p) := Classical.epsilon_spec (p := fun f => pDist I s p f) ⟨f, hf⟩
theorem pFr_eq {I : Int} {s : Int → Int} {p : Int} {f : Int → Int} (hp : pR p) (hf : pDist I s p f) {v : Int} (hv : pR v) : f v = pFr I s p v := pDist_u hp hf (pFr_ok hf) hv
theorem pPt_r {s : Int → Int} {a : Int} (h : pPt s a = true) (hV : pV s) : pR a := by
  have := pPt_b h hV
  exact ⟨by omega, by omega⟩
noncomputable def qDis (s : Int → Int) (a b : Int) : Int × Int := if ¬ (pPt s a = true ∧ pPt s b = true) then (1, 0) else if 99999 ≤ pFr 99999 s a b then (2, 0) else (0, pFr 99999 s a b)
theorem kX4_distance {G : State} {d rc rs : Nat} {ah : zH} {A : Nat → Nat} {S : zMS} {Q : zRs → zH → Prop} {a b : Int} (hA : zMi A) (hd : 2 ≤ d) (hV : pV (S.1 0)) (qa : -2147483648 ≤ a ∧ a ≤ 2147483647) (qb : -2147483648 ≤ b ∧ b ≤ 2147483647) (k : ∀ f, Q (.inl (some (.int (zi (qDis (S.1 0) a b).2)))) (zMh ah A (zuf (zua S 4 f) 6 (qDis (S.1 0) a b).1))) : zW G mX4_distance d rc rs 0 (zent [.ref (A 18), .int (zi a), .int (zi b)]) [] (zMh ah A S) Q := by
  refine zW_open 0 [some (.ref (A 18)), some (.int (zi a)), some (.int (zi b))] rfl ?_
  refine zr_aload_n dX4_distance_0 rfl rfl ?_
  refine zr_aload_n dX4_distance_1 rfl rfl ?_
  refine zr_iload_n dX4_distance_2 rfl ?_
  refine zc_v1 dX4_distance_3 hX4_isPoint gX4_isPoint rfl rfl 1 0 0 (by omega) (Nat.zero_le _) (Nat.zero_le _) q2215 q2217 sp48 zM_rc ?_
  refine kX4_isPoint hA (by omega) hV (by omega) (zK_i ?_)
  try simp only [zuf_1, zua_s, zua_2, zuf_s, zuf_zuf, zua_zuf, zua_zua, zua_e, zuf_e, Nat.reduceBEq]
  refine zr_ifeqB dX4_distance_6 (tgt := 17) (by decide) (fun h6 => ?_) (fun h6 => ?_)
  · refine zr_iconst dX4_distance_17 ?_
    refine zr_goto dX4_distance_18 (tgt := 22) (by decide) ?_
    refine zr_iconst dX4_distance_22 ?_
    refine zc_v2 dX4_distance_23 hX4_isThrown gX4_isThrown rfl rfl 0 0 0 (by omega) (Nat.zero_le _) (Nat.zero_le _) q2199 q2201 sp45 zM_rc ?_
    refine kX4_isThrown1 hA (zK_i ?_)
    try simp only [zuf_1, zua_s, zua_2, zuf_s, zuf_zuf, zua_zuf, zua_zua, zua_e, zuf_e, Nat.reduceBEq]
    refine zr_ifeq dX4_distance_26 (tgt := 31) (by decide) (by decide) (fun h => absurd h (by decide)) (fun _ => ?_)
    refine zr_iconst dX4_distance_29 ?_
    refine zr_ireturn dX4_distance_30 rfl (by first | rfl | exact z_nb _) ?_
    have e : qDis (S.1 0) a b = (1, 0) := by unfold qDis; simp [*]
    have w := k (S.1 4)
    rw [zua_self, e] at w
    exact w
  · refine zr_aload_n dX4_distance_9 rfl rfl ?_
    refine zr_iload_n dX4_distance_10 rfl ?_
    refine zc_v1 dX4_distance_11 hX4_isPoint gX4_isPoint rfl rfl 1 0 0 (by omega) (Nat.zero_le _) (Nat.zero_le _) q2215 q2217 sp48 zM_rc ?_
    refine kX4_isPoint hA (by omega) hV (by omega) (zK_i ?_)
    try simp only [zuf_1, zua_s, zua_2, zuf_s, zuf_zuf, zua_zuf, zua_zua, zua_e, zuf_e, Nat.reduceBEq]
    refine zr_ifneB dX4_distance_14 (tgt := 21) (by decide) (fun h14 => ?_) (fun h14 => ?_)
    · refine zr_iconst dX4_distance_21 ?_
      refine zr_iconst dX4_distance_22 ?_
      refine zc_v2 dX4_distance_23 hX4_isThrown gX4_isThrown rfl rfl 0 0 0 (by omega) (Nat.zero_le _) (Nat.zero_le _) q2199 q2201 sp45 zM_rc ?_
      refine kX4_isThrown0 hA (zK_i ?_)
      try simp only [zuf_1, zua_s, zua_2, zuf_s, zuf_zuf, zua_zuf, zua_zua, zua_e, zuf_e, Nat.reduceBEq]
      refine zr_ifeq dX4_distance_26 (tgt := 31) (by decide) (by decide) (fun _ => ?_) (fun h => absurd h (by decide))
      have v1 := pPt_b h6 hV
      have v2 := pPt_b h14 hV
      refine zr_aload_n dX4_distance_31 rfl rfl ?_
      refine zr_iload_n dX4_distance_32 rfl ?_
      refine zc_v1 dX4_distance_33 hX4_finds gX4_finds rfl rfl 1 0 0 (by omega) (Nat.zero_le _) (Nat.zero_le _) q2251 q2253 sp55 zM_rc ?_
      refine kX4_finds hA (by first | omega | (simp only [zuf_1, zua_s, zua_2, zuf_s, zua_e, zuf_e, Nat.reduceBEq]; omega)) hV (by first | omega | (simp only [zuf_1, zua_s, zua_2, zuf_s, zua_e, zuf_e, Nat.reduceBEq]; omega)) (fun f33 e33 => zK_v ?_)
      try simp only [zuf_1, zua_s, zua_2, zuf_s, zuf_zuf, zua_zuf, zua_zua, zua_e, zuf_e, Nat.reduceBEq] at e33 ⊢
      have fe := (pFr_eq ⟨by omega, by omega⟩ e33 (v := b) ⟨by omega, by omega⟩).symm
      have fb := e33.2.1 b ⟨by omega, by omega⟩
      refine zr_aload_n dX4_distance_36 rfl rfl ?_
      refine zr_aload_n dX4_distance_37 rfl rfl ?_
      refine zm_geta 4 dX4_distance_38 q2123 rfl ?_
      try simp only [zuf_1, zua_s, zua_2, zuf_s, zuf_zuf, zua_zuf, zua_zua, zua_e, zuf_e, Nat.reduceBEq]
      refine zr_iload_n dX4_distance_41 rfl ?_
      refine zm_load hA (by decide) dX4_distance_42 (by constructor <;> (try simp only [zMn]) <;> omega) ?_
      try simp only [zuf_1, zua_s, zua_2, zuf_s, zuf_zuf, zua_zuf, zua_zua, zua_e, zuf_e, Nat.reduceBEq]
      refine zr_ldc dX4_distance_43 q2255 (n := 99999) rfl ?_
      refine zr_icmplt dX4_distance_45 (tgt := 52) (by decide) (by omega) (by omega) (fun h45 => ?_) (fun h45 => ?_)
      · refine zr_iconst dX4_distance_52 ?_
        refine zr_iconst dX4_distance_53 ?_
        refine zc_v2 dX4_distance_54 hX4_isThrown gX4_isThrown rfl rfl 0 0 0 (by omega) (Nat.zero_le _) (Nat.zero_le _) q2199 q2201 sp45 zM_rc ?_
        refine kX4_isThrown0 hA (zK_i ?_)
        try simp only [zuf_1, zua_s, zua_2, zuf_s, zuf_zuf, zua_zuf, zua_zua, zua_e, zuf_e, Nat.reduceBEq]
        refine zr_ifeq dX4_distance_57 (tgt := 64) (by decide) (by decide) (fun _ => ?_) (fun h => absurd h (by decide))
        refine zr_aload_n dX4_distance_64 rfl rfl ?_
        refine zm_geta 4 dX4_distance_65 q2123 rfl ?_
        try simp only [zuf_1, zua_s, zua_2, zuf_s, zuf_zuf, zua_zuf, zua_zua, zua_e, zuf_e, Nat.reduceBEq]
        refine zr_iload_n dX4_distance_68 rfl ?_
        refine zm_load hA (by decide) dX4_distance_69 (by constructor <;> (try simp only [zMn]) <;> omega) ?_
        try simp only [zuf_1, zua_s, zua_2, zuf_s, zuf_zuf, zua_zuf, zua_zua, zua_e, zuf_e, Nat.reduceBEq]
        refine zr_ireturn dX4_distance_70 rfl (by first | rfl | exact z_nb _) ?_
        have e : qDis (S.1 0) a b = (0, f33 b) := by unfold qDis; rw [if_neg (fun z => z ⟨h6, h14⟩), if_neg (by omega), fe]
        have w := k f33
        rw [e] at w
        exact w
      · refine zr_iconst dX4_distance_48 ?_
        refine zr_goto dX4_distance_49 (tgt := 53) (by decide) ?_
        refine zr_iconst dX4_distance_53 ?_
        refine zc_v2 dX4_distance_54 hX4_isThrown gX4_isThrown rfl rfl 0 0 0 (by omega) (Nat.zero_le _) (Nat.zero_le _) q2199 q2201 sp45 zM_rc ?_
        refine kX4_isThrown1 hA (zK_i ?_)
        try simp only [zuf_1, zua_s, zua_2, zuf_s, zuf_zuf, zua_zuf, zua_zua, zua_e, zuf_e, Nat.reduceBEq]
        refine zr_ifeq dX4_distance_57 (tgt := 64) (by decide) (by decide) (fun h => absurd h (by decide)) (fun _ => ?_)
        refine zr_iconst dX4_distance_60 ?_
        refine zr_goto dX4_distance_61 (tgt := 70) (by decide) ?_
        refine zr_ireturn dX4_distance_70 rfl (by first | rfl | exact z_nb _) ?_
        have e : qDis (S.1 0) a b = (2, 0) := by unfold qDis; rw [if_neg (fun z => z ⟨h6, h14⟩), if_pos (by omega)]
        have w := k f33
        rw [e] at w
        exact w
    · refine zr_iconst dX4_distance_17 ?_
      refine zr_goto dX4_distance_18 (tgt := 22) (by decide) ?_
      refine zr_iconst dX4_distance_22 ?_
      refine zc_v2 dX4_distance_23 hX4_isThrown gX4_isThrown rfl rfl 0 0 0 (by omega) (Nat.zero_le _) (Nat.zero_le _) q2199 q2201 sp45 zM_rc ?_
      refine kX4_isThrown1 hA (zK_i ?_)
      try simp only [zuf_1, zua_s, zua_2, zuf_s, zuf_zuf, zua_zuf, zua_zua, zua_e, zuf_e, Nat.reduceBEq]
      refine zr_ifeq dX4_distance_26 (tgt := 31) (by decide) (by decide) (fun h => absurd h (by decide)) (fun _ => ?_)
      refine zr_iconst dX4_distance_29 ?_
      refine zr_ireturn dX4_distance_30 rfl (by first | rfl | exact z_nb _) ?_
      have e : qDis (S.1 0) a b = (1, 0) := by unfold qDis; simp [*]
      have w := k (S.1 4)
      rw [zua_self, e] at w
      exact w
theorem kX4_distanceByRelaxation {G : State} {d rc rs : Nat} {ah : zH} {A : Nat → Nat} {S : zMS} {Q : zRs → zH → Prop} {a b : Int} (hA : zMi A) (hd : 3 ≤ d) (hV : pV (S.1 0)) (qa : -2147483648 ≤ a ∧ a ≤ 2147483647) (qb : -2147483648 ≤ b ∧ b ≤ 2147483647) (k : ∀ f, Q (.inl (some (.int (zi (qDis (S.1 0) a b).2)))) (zMh ah A (zuf (zua S 4 f) 6 (qDis (S.1 0) a b).1))) : zW G mX4_distanceByRelaxation d rc rs 0 (zent [.ref (A 18), .int (zi a), .int (zi b)]) [] (zMh ah A S) Q := by
  refine zW_open 0 [some (.ref (A 18)), some (.int (zi a)), some (.int (zi b))] rfl ?_
  refine zr_aload_n dX4_distanceByRelaxation_0 rfl rfl ?_
  refine zr_iload_n dX4_distanceByRelaxation_1 rfl ?_
  refine zr_iload_n dX4_distanceByRelaxation_2 rfl ?_
  refine zc_v2 dX4_distanceByRelaxation_3 hX4_distance gX4_distance rfl rfl 2 0 0 (by omega) (Nat.zero_le _) (Nat.zero_le _) q2374 q2367 q2368 zM_rc ?_
  refine kX4_distance hA (by omega) hV (by omega) (by omega) (fun f3 => zK_i ?_)
  refine zr_ireturn dX4_distanceByRelaxation_6 rfl (by first | rfl | exact z_nb _) ?_
  exact k _
def pLow (f : Int → Int) : Nat → Bool
  | 0 => true
  | n + 1 => pLow f n && decide (99999 ≤ f n)
theorem pLow_s {f : Int → Int} {n : Nat} : pLow f (n + 1) = (pLow f n && decide (99999 ≤ f n)) := rfl
theorem pLow_c {f g : Int → Int} : ∀ n : Nat, (∀ i, i < n → f (i : Nat) = g (i : Nat)) → pLow f n = pLow g n := by
  intro n
  induction n with
  | zero => intro _; rfl
  | succ n ih =>
    intro h
    unfold pLow
    rw [ih (fun i hi => h i (by omega)), h n (by omega)]
/-- how many of the first n waypoints reach none before them -/
noncomputable def pCo (s : Int → Int) (n : Nat) : Int := pSum n (fun p => zB (pLow (pFr 99999 s p) p))
theorem pCo_s {s : Int → Int} {n : Nat} : pCo s (n + 1) = pCo s n + zB (pLow (pFr 99999 s n) n) := rfl
theorem z_and1 (b : Bool) : (zi (zB b)) &&& (zi 1) = zi (zB (b && true)) := by cases b <;> decide
theorem z_and0 (b : Bool) : (zi (zB b)) &&& (zi 0) = zi (zB (b && false)) := by cases b <;> decide
theorem kX4_compI {G : State} {d rc rs : Nat} {ah : zH} {A : Nat → Nat} {S : zMS} {Q : zRs → zH → Prop} (hA : zMi A) {p : Nat} (hp : p < 12) {N : Int} {f : Int → Int} (hf : ∀ v, pR v → 0 ≤ f v ∧ f v ≤ 99999) (n : Nat) : ∀ (j : Nat), j + n = p → (zW G mX4_components d rc rs 61 [some (.ref (A 18)), some (.int (zi N)), some (.int (zi ((p : Nat) : Int))), some (.int (zi (zB (pLow f p)))), some (.int (zi ((p : Nat) : Int)))] [] (zMh ah A (zuf (zua S 4 f) 6 0)) Q) → zW G mX4_components d rc rs 29 [some (.ref (A 18)), some (.int (zi N)), some (.int (zi ((p : Nat) : Int))), some (.int (zi (zB (pLow f j)))), some (.int (zi ((j : Nat) : Int)))] [] (zMh ah A (zuf (zua S 4 f) 6 0)) Q := by
  induction n with
  | zero =>
    intro j g1 k
    refine zr_iload dX4_components_29 rfl ?_
    refine zr_iload_n dX4_components_31 rfl ?_
    refine zr_icmpge dX4_components_32 (tgt := 61) (by decide) (by omega) (by omega) (fun h32 => ?_) (fun h32 => ?_)
    · obtain rfl : j = p := by omega
      exact k
    · exfalso; omega
  | succ n ih =>
    intro j g1 k
    have fb := hf (j : Int) ⟨by omega, by omega⟩
    refine zr_iload dX4_components_29 rfl ?_
    refine zr_iload_n dX4_components_31 rfl ?_
    refine zr_icmpge dX4_components_32 (tgt := 61) (by decide) (by omega) (by omega) (fun h32 => ?_) (fun h32 => ?_)
    · exfalso; omega
    · refine zr_iload_n dX4_components_35 rfl ?_
      refine zr_aload_n dX4_components_36 rfl rfl ?_
      refine zm_geta 4 dX4_components_37 q2123 rfl ?_
      try simp only [zuf_1, zua_s, zua_2, zuf_s, zuf_zuf, zua_zuf, zua_zua, zua_e, zuf_e, Nat.reduceBEq]
      refine zr_iload dX4_components_40 rfl ?_
      refine zm_load hA (by decide) dX4_components_42 (by constructor <;> (try simp only [zMn]) <;> omega) ?_
      try simp only [zuf_1, zua_s, zua_2, zuf_s, zuf_zuf, zua_zuf, zua_zua, zua_e, zuf_e, Nat.reduceBEq]
      refine zr_ldc dX4_components_43 q2255 (n := 99999) rfl ?_
      refine zr_icmplt dX4_components_45 (tgt := 52) (by decide) (by omega) (by omega) (fun h45 => ?_) (fun h45 => ?_)
      · refine zr_iconst dX4_components_52 ?_
        first
          | (refine zr_iand dX4_components_53 (z_and1 _) ?_
             rw [show (pLow f j && true) = pLow f (j + 1) by rw [pLow_s, decide_eq_true (by omega)]])
          | (refine zr_iand dX4_components_53 (z_and0 _) ?_
             rw [show (pLow f j && false) = pLow f (j + 1) by rw [pLow_s, decide_eq_false (by omega)]])
        refine zr_istore_n dX4_components_54 (by decide) (zs5_3 rfl ?_)
        refine zr_iinc dX4_components_55 rfl (by decide) (zs5_4 rfl ?_)
        refine zr_goto dX4_components_58 (tgt := 29) (by decide) ?_
        exact ih (j + 1) (by omega) k
      · refine zr_iconst dX4_components_48 ?_
        refine zr_goto dX4_components_49 (tgt := 53) (by decide) ?_
        first
          | (refine zr_iand dX4_components_53 (z_and1 _) ?_
             rw [show (pLow f j && true) = pLow f (j + 1) by rw [pLow_s, decide_eq_true (by omega)]])
          | (refine zr_iand dX4_components_53 (z_and0 _) ?_
             rw [show (pLow f j && false) = pLow f (j + 1) by rw [pLow_s, decide_eq_false (by omega)]])
        refine zr_istore_n dX4_components_54 (by decide) (zs5_3 rfl ?_)
        refine zr_iinc dX4_components_55 rfl (by decide) (zs5_4 rfl ?_)
        refine zr_goto dX4_components_58 (tgt := 29) (by decide) ?_
        exact ih (j + 1) (by omega) k
theorem kX4_compO {G : State} {d rc rs : Nat} {ah : zH} {A : Nat → Nat} {S : zMS} {Q : zRs → zH → Prop} (hA : zMi A) (hd : 2 ≤ d) (hV : pV (S.1 0)) (n : Nat) : ∀ (p : Nat) (f : Int → Int) (J3 J4 : Option Value), (p : Int) + n = S.1 0 0 → (∀ f, Q (.inl (some (.int (zi (pCo (S.1 0) (S.1 0 0).toNat))))) (zMh ah A (zuf (zua S 4 f) 6 0))) → zW G mX4_components d rc rs 9 [some (.ref (A 18)), some (.int (zi (pCo (S.1 0) p))), some (.int (zi ((p : Nat) : Int))), J3, J4] [] (zMh ah A (zuf (zua S 4 f) 6 0)) Q := by
  induction n with
  | zero =>
    intro p f J3 J4 g1 k
    have v := hV.h
    refine zr_iload_n dX4_components_9 rfl ?_
    refine zr_aload_n dX4_components_10 rfl rfl ?_
    refine zm_geta 0 dX4_components_11 q2119 rfl ?_
    try simp only [zuf_1, zua_s, zua_2, zuf_s, zuf_zuf, zua_zuf, zua_zua, zua_e, zuf_e, Nat.reduceBEq]
    refine zr_iconst dX4_components_14 ?_
    refine zm_load hA (by decide) dX4_components_15 (by constructor <;> (try simp only [zMn]) <;> omega) ?_
    try simp only [zuf_1, zua_s, zua_2, zuf_s, zuf_zuf, zua_zuf, zua_zua, zua_e, zuf_e, Nat.reduceBEq]
    refine zr_icmpge dX4_components_16 (tgt := 79) (by decide) (by omega) (by omega) (fun h16 => ?_) (fun h16 => ?_)
    · refine zr_iload_n dX4_components_79 rfl ?_
      refine zr_ireturn dX4_components_80 rfl (by first | rfl | exact z_nb _) ?_
      rw [show (S.1 0 0).toNat = p by omega] at k
      exact k f
    · exfalso; omega
  | succ n ih =>
    intro p f J3 J4 g1 k
    have v := hV.h
    refine zr_iload_n dX4_components_9 rfl ?_
    refine zr_aload_n dX4_components_10 rfl rfl ?_
    refine zm_geta 0 dX4_components_11 q2119 rfl ?_
    try simp only [zuf_1, zua_s, zua_2, zuf_s, zuf_zuf, zua_zuf, zua_zua, zua_e, zuf_e, Nat.reduceBEq]
    refine zr_iconst dX4_components_14 ?_
    refine zm_load hA (by decide) dX4_components_15 (by constructor <;> (try simp only [zMn]) <;> omega) ?_
    try simp only [zuf_1, zua_s, zua_2, zuf_s, zuf_zuf, zua_zuf, zua_zua, zua_e, zuf_e, Nat.reduceBEq]
    refine zr_icmpge dX4_components_16 (tgt := 79) (by decide) (by omega) (by omega) (fun h16 => ?_) (fun h16 => ?_)
    · exfalso; omega
    · refine zr_aload_n dX4_components_19 rfl rfl ?_
      refine zr_iload_n dX4_components_20 rfl ?_
      refine zc_v1 dX4_components_21 hX4_finds gX4_finds rfl rfl 1 0 0 (by omega) (Nat.zero_le _) (Nat.zero_le _) q2251 q2253 sp55 zM_rc ?_
      refine kX4_finds hA (by first | omega | (simp only [zuf_1, zua_s, zua_2, zuf_s, zua_e, zuf_e, Nat.reduceBEq]; omega)) hV (by first | omega | (simp only [zuf_1, zua_s, zua_2, zuf_s, zua_e, zuf_e, Nat.reduceBEq]; omega)) (fun f21 e21 => zK_v ?_)
      try simp only [zuf_1, zua_s, zua_2, zuf_s, zuf_zuf, zua_zuf, zua_zua, zua_e, zuf_e, Nat.reduceBEq] at e21 ⊢
      refine zr_iconst dX4_components_24 ?_
      refine zr_istore_n dX4_components_25 (by decide) (zs5_3 rfl ?_)
      refine zr_iconst dX4_components_26 ?_
      refine zr_istore dX4_components_27 (by decide) (zs5_4 rfl ?_)
      refine kX4_compI hA (p := p) (by omega) (f := f21) e21.2.1 p 0 (by omega) ?_
      have pe : pLow f21 p = pLow (pFr 99999 (S.1 0) p) p := pLow_c p (fun i hi => pFr_eq ⟨by omega, by omega⟩ e21 ⟨by omega, by omega⟩)
      have ps := pCo_s (s := S.1 0) (n := p)
      rw [← pe] at ps
      refine zr_iload_n dX4_components_61 rfl ?_
      refine zr_iload_n dX4_components_62 rfl ?_
      refine zr_ifeqB dX4_components_63 (tgt := 70) (by decide) (fun h63 => ?_) (fun h63 => ?_)
      · refine zr_iconst dX4_components_70 ?_
        refine zr_iadd dX4_components_71 ?_
        refine zr_istore_n dX4_components_72 (by decide) (zs5_1 rfl ?_)
        refine zr_iinc dX4_components_73 rfl (by decide) (zs5_2 rfl ?_)
        refine zr_goto dX4_components_76 (tgt := 9) (by decide) ?_
        have w := ih (p + 1) f21 (some (.int (zi (zB (pLow f21 p))))) (some (.int (zi ((p : Nat) : Int)))) (by omega) k
        rw [ps, h63] at w
        first | exact w | (rw [h63] at *; exact w)
      · refine zr_iconst dX4_components_66 ?_
        refine zr_goto dX4_components_67 (tgt := 71) (by decide) ?_
        refine zr_iadd dX4_components_71 ?_
        refine zr_istore_n dX4_components_72 (by decide) (zs5_1 rfl ?_)
        refine zr_iinc dX4_components_73 rfl (by decide) (zs5_2 rfl ?_)
        refine zr_goto dX4_components_76 (tgt := 9) (by decide) ?_
        have w := ih (p + 1) f21 (some (.int (zi (zB (pLow f21 p))))) (some (.int (zi ((p : Nat) : Int)))) (by omega) k
        rw [ps, h63] at w
        first | exact w | (rw [h63] at *; exact w)
theorem kX4_components {G : State} {d rc rs : Nat} {ah : zH} {A : Nat → Nat} {S : zMS} {Q : zRs → zH → Prop} (hA : zMi A) (hd : 2 ≤ d) (hV : pV (S.1 0)) (k : ∀ f, Q (.inl (some (.int (zi (pCo (S.1 0) (S.1 0 0).toNat))))) (zMh ah A (zuf (zua S 4 f) 6 0))) : zW G mX4_components d rc rs 0 (zent [.ref (A 18)]) [] (zMh ah A S) Q := by
  refine zW_open 4 [some (.ref (A 18)), none, none, none, none] rfl ?_
  refine zr_aload_n dX4_components_0 rfl rfl ?_
  refine zr_iconst dX4_components_1 ?_
  refine zm_put 6 dX4_components_2 q2125 (by decide) ?_
  try simp only [zuf_1, zua_s, zua_2, zuf_s, zuf_zuf, zua_zuf, zua_zua, zua_e, zuf_e, Nat.reduceBEq]
  refine zr_iconst dX4_components_5 ?_
  refine zr_istore_n dX4_components_6 (by decide) (zs5_1 rfl ?_)
  refine zr_iconst dX4_components_7 ?_
  refine zr_istore_n dX4_components_8 (by decide) (zs5_2 rfl ?_)
  have v := hV.h
  rw [show zMh ah A (zuf S 6 0) = zMh ah A (zuf (zua S 4 (S.1 4)) 6 0) by rw [zua_self]]
  exact kX4_compO hA hd hV (S.1 0 0).toNat 0 (S.1 4) _ _ (by omega) k
theorem kX4_componentsByMerging {G : State} {d rc rs : Nat} {ah : zH} {A : Nat → Nat} {S : zMS} {Q : zRs → zH → Prop} (hA : zMi A) (hd : 3 ≤ d) (hV : pV (S.1 0)) (k : ∀ f, Q (.inl (some (.int (zi (pCo (S.1 0) (S.1 0 0).toNat))))) (zMh ah A (zuf (zua S 4 f) 6 0))) : zW G mX4_componentsByMerging d rc rs 0 (zent [.ref (A 18)]) [] (zMh ah A S) Q := by
  refine zW_open 0 [some (.ref (A 18))] rfl ?_
  refine zr_aload_n dX4_componentsByMerging_0 rfl rfl ?_
  refine zc_v0 dX4_componentsByMerging_1 hX4_components gX4_components rfl rfl 2 0 0 (by omega) (Nat.zero_le _) (Nat.zero_le _) q2383 q2376 q2377 zM_rc ?_
  refine kX4_components hA (by omega) hV (fun f1 => zK_i ?_)
  refine zr_ireturn dX4_componentsByMerging_4 rfl (by first | rfl | exact z_nb _) ?_
  exact k _
