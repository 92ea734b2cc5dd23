set_option maxRecDepth 100000
/-! ===== the component: relaxation, components, merging ===== -/
theorem kX2_relI {G : State} {d R T : Nat} {Q : zRs → zH → Prop} {ahB : zH} {F U : Nat → Prop} {a w e n l : Nat} {s : Int → Int} {mc : Int} {f g : Nat → Value} {ps : List Nat} {tv : Value} {r : Nat} {p B0 : Int} {v : Int → Int} (H : zSt G F U ahB a s w e n mc f ps l g tv) (hV : pV s) (hp : pR p) (hd : 26 ≤ d) (hr0 : ahB r = none) (hI : pInv 1000000 s p v) (n9 : Nat) : ∀ (i rc rs : Nat) (ah : zH) (J : Option Value), ((i + n9 : Nat) : Int) = s 0 → R + n9 ≤ rc → T + 2 * n9 ≤ rs → zGr ahB ah → zA12 ah r (pRnd s v i) → (∀ (ah9 : zH) (I9 J9 : Option Value), zGr ahB ah9 → zA12 ah9 r (pRnd s v (s 0).toNat) → zW G mX2_distancesByRelaxation d R T 61 [some (.ref a), some (.int (zi p)), some (.ref r), some (.int (zi B0)), I9, J9] [] ah9 Q) → zW G mX2_distancesByRelaxation d rc rs 26 [some (.ref a), some (.int (zi p)), some (.ref r), some (.int (zi B0)), some (.int (zi ((i : Nat) : Int))), J] [] ah Q := by
  induction n9 with
  | zero =>
    intro i rc rs ah J g1 g2 g3 g4 g5 k
    have vv := hV.h
    refine zr_iload dX2_distancesByRelaxation_26 rfl ?_
    refine zr_aload_n dX2_distancesByRelaxation_28 rfl rfl ?_
    refine zc_v0 dX2_distancesByRelaxation_29 hX2_size gX2_size rfl rfl 1 0 0 (by omega) (Nat.zero_le _) (Nat.zero_le _) q336 q307 q308 (H.gr g4).rc ?_
    refine kX2_size (H.gr g4) (by omega) (zK_i ?_)
    refine zr_icmpge dX2_distancesByRelaxation_32 (tgt := 61) (by decide) (by omega) (by omega) (fun h32 => ?_) (fun h32 => ?_)
    · rw [show i = (s 0).toNat by omega] at g5
      exact zW_room (Nat.le_refl _) (by omega) (by omega) (k ah _ _ g4 g5)
    · exfalso; omega
  | succ n9 ih =>
    intro i rc rs ah J g1 g2 g3 g4 g5 k
    have vv := hV.h
    refine zr_iload dX2_distancesByRelaxation_26 rfl ?_
    refine zr_aload_n dX2_distancesByRelaxation_28 rfl rfl ?_
    refine zc_v0 dX2_distancesByRelaxation_29 hX2_size gX2_size rfl rfl 1 0 0 (by omega) (Nat.zero_le _) (Nat.zero_le _) q336 q307 q308 (H.gr g4).rc ?_
    refine kX2_size (H.gr g4) (by omega) (zK_i ?_)
    refine zr_icmpge dX2_distancesByRelaxation_32 (tgt := 61) (by decide) (by omega) (by omega) (fun h32 => ?_) (fun h32 => ?_)
    · exfalso; omega
    · have hi9 : i < 12 := by omega
      have hir : pR (i : Int) := ⟨by omega, by omega⟩
      have hv := (hI.rnd hp i (by omega)).2.1
      have hvi := hv (i : Int) hir
      obtain ⟨gr, r1, r2⟩ := id g5
      refine zr_aload_n dX2_distancesByRelaxation_35 rfl rfl ?_
      refine zr_iload dX2_distancesByRelaxation_36 rfl ?_
      refine zr_iaload dX2_distancesByRelaxation_38 (Or.inl r1) (by decide) (by omega) (z12e r2 hir) ?_
      refine zr_istore dX2_distancesByRelaxation_39 (by decide) (zs6_5 rfl ?_)
      refine zr_aload_n dX2_distancesByRelaxation_41 rfl rfl ?_
      refine zr_iload dX2_distancesByRelaxation_42 rfl ?_
      refine zr_aload_n dX2_distancesByRelaxation_44 rfl rfl ?_
      refine zr_iload dX2_distancesByRelaxation_45 rfl ?_
      refine zln3 rfl rfl dX2_distancesByRelaxation_47 rfl (by omega) (by omega) (by omega) (fun b hb => ?_)
      refine zc_v2 dX2_distancesByRelaxation_52 hX2_visitTrails gX2_visitTrails rfl rfl 5 0 0 (by omega) (Nat.zero_le _) (Nat.zero_le _) q436 q437 q438 (H.gr (g4.tr (zGr.up hb))).rc ?_
      refine kX2_visR (fun _ => True) H hV hir (by omega) hr0 hv hvi (fun _ _ _ => trivial) (g4.tr (zGr.up hb)) (g5.gr (zGr.up hb)) z_up_s trivial (fun ah2 i1 i2 _ => zK_v ?_)
      refine zr_iinc dX2_distancesByRelaxation_55 rfl (by decide) (zs6_4 rfl ?_)
      refine zr_goto dX2_distancesByRelaxation_58 (tgt := 26) (by decide) ?_
      exact ih (i + 1) _ _ ah2 _ (by omega) (by omega) (by omega) i1 i2 k
theorem kX2_relO {G : State} {d : Nat} {Q : zRs → zH → Prop} {ahB : zH} {F U : Nat → Prop} {a w e n l : Nat} {s : Int → Int} {mc : Int} {f g : Nat → Value} {ps : List Nat} {tv : Value} {r : Nat} {p : Int} (H : zSt G F U ahB a s w e n mc f ps l g tv) (hV : pV s) (hY : pSy s) (hp : pR p) (hp0 : p < s 0) (hd : 26 ≤ d) (hr0 : ahB r = none) (n9 : Nat) : ∀ (rc rs : Nat) (ah : zH) (v : Int → Int) (B0 : Int) (I J : Option Value), zGr ahB ah → zA12 ah r v → pInv 1000000 s p v → ((pSum 12 (fun j => v j)) = B0 → pDist 1000000 s p v) → (12 - pEq v (pFr 1000000 s p) + (if (pSum 12 (fun j => v j)) = B0 then 0 else 1) ≤ (n9 : Int)) → 12 * n9 ≤ rc → 24 * n9 ≤ rs → (0 ≤ B0 ∧ B0 ≤ 12000000) → (∀ ah9 v9, zGr ahB ah9 → zA12 ah9 r v9 → pDist 1000000 s p v9 → Q (.inl (some (.ref r))) ah9) → zW G mX2_distancesByRelaxation d rc rs 8 [some (.ref a), some (.int (zi p)), some (.ref r), some (.int (zi B0)), I, J] [] ah Q := by
  have hD := pFr_d (I := 1000000) (s := s) hp (by decide)
  induction n9 with
  | zero =>
    intro rc rs ah v B0 I J g1 g2 g3 g4 g5 g6 g7 g8 k
    have vv := hV.h
    have hv := g3.2.1
    have sb := pS12_b hv 12 (by omega)
    have eb := pEq_b (f := v) (g := pFr 1000000 s p)
    obtain ⟨gr, r1, r2⟩ := id g2
    refine zr_aload_n dX2_distancesByRelaxation_8 rfl rfl ?_
    refine zr_aload_n dX2_distancesByRelaxation_9 rfl rfl ?_
    refine zc_v1 dX2_distancesByRelaxation_10 hX2_sumOf gX2_sumOf rfl rfl 0 0 0 (by omega) (Nat.zero_le _) (Nat.zero_le _) q452 q454 sp4 (H.gr g1).rc ?_
    refine kX2_sumOf r1 r2 hv (zK_i ?_)
    refine zr_iload_n dX2_distancesByRelaxation_13 rfl ?_
    refine zr_icmpeq dX2_distancesByRelaxation_14 (tgt := 64) (by decide) (by omega) (by omega) (fun h14 => ?_) (fun h14 => ?_)
    · refine zr_aload_n dX2_distancesByRelaxation_64 rfl rfl ?_
      refine zr_areturn dX2_distancesByRelaxation_65 rfl rfl rfl ?_
      exact k ah v g1 g2 (g4 (by omega))
    · exfalso; rw [if_neg h14] at g5; omega
  | succ n9 ih =>
    intro rc rs ah v B0 I J g1 g2 g3 g4 g5 g6 g7 g8 k
    have vv := hV.h
    have hv := g3.2.1
    have sb := pS12_b hv 12 (by omega)
    have eb := pEq_b (f := v) (g := pFr 1000000 s p)
    obtain ⟨gr, r1, r2⟩ := id g2
    refine zr_aload_n dX2_distancesByRelaxation_8 rfl rfl ?_
    refine zr_aload_n dX2_distancesByRelaxation_9 rfl rfl ?_
    refine zc_v1 dX2_distancesByRelaxation_10 hX2_sumOf gX2_sumOf rfl rfl 0 0 0 (by omega) (Nat.zero_le _) (Nat.zero_le _) q452 q454 sp4 (H.gr g1).rc ?_
    refine kX2_sumOf r1 r2 hv (zK_i ?_)
    refine zr_iload_n dX2_distancesByRelaxation_13 rfl ?_
    refine zr_icmpeq dX2_distancesByRelaxation_14 (tgt := 64) (by decide) (by omega) (by omega) (fun h14 => ?_) (fun h14 => ?_)
    · refine zr_aload_n dX2_distancesByRelaxation_64 rfl rfl ?_
      refine zr_areturn dX2_distancesByRelaxation_65 rfl rfl rfl ?_
      exact k ah v g1 g2 (g4 (by omega))
    · refine zr_aload_n dX2_distancesByRelaxation_17 rfl rfl ?_
      refine zr_aload_n dX2_distancesByRelaxation_18 rfl rfl ?_
      refine zc_v1 dX2_distancesByRelaxation_19 hX2_sumOf gX2_sumOf rfl rfl 0 0 0 (by omega) (Nat.zero_le _) (Nat.zero_le _) q452 q454 sp4 (H.gr g1).rc ?_
      refine kX2_sumOf r1 r2 hv (zK_i ?_)
      refine zr_istore_n dX2_distancesByRelaxation_22 (by decide) (zs6_3 rfl ?_)
      refine zr_iconst dX2_distancesByRelaxation_23 ?_
      refine zr_istore dX2_distancesByRelaxation_24 (by decide) (zs6_4 rfl ?_)
      rw [if_neg h14] at g5
      refine kX2_relI (R := rc - 12) (T := rs - 24) H hV hp hd hr0 g3 (s 0).toNat 0 _ _ ah _ (by omega) (by show rc - 12 + (s 0).toNat ≤ rc; omega) (by show rs - 24 + 2 * (s 0).toNat ≤ rs; omega) g1 g2 (fun ah9 I9 J9 q1 q2 => ?_)
      refine zr_goto dX2_distancesByRelaxation_61 (tgt := 8) (by decide) ?_
      have hI9 := g3.rnd hp (s 0).toNat (by omega)
      refine ih _ _ ah9 (pRnd s v (s 0).toNat) _ I9 J9 q1 q2 hI9 (fun hs => ?_) ?_ (by omega) (by omega) (by omega) k
      · obtain ⟨z1, z2⟩ := pRnd_fix hV hY hp g3 hs
        refine ⟨by rw [z2 _ hp]; exact z1.1, fun j hj => by rw [z2 j hj]; exact z1.2.1 j hj, fun x y hx hy ht => by rw [z2 x hx, z2 y hy]; exact z1.2.2.1 x y hx hy ht, fun j hj hn hl => ?_⟩
        rw [z2 j hj] at hl ⊢
        obtain ⟨x, x1, x2, x3⟩ := z1.2.2.2 j hj hn hl
        exact ⟨x, x1, x2, by rw [z2 x x1]; exact x3⟩
      · have eb9 := pEq_b (f := pRnd s v (s 0).toNat) (g := pFr 1000000 s p)
        by_cases hne : ∃ j, pR j ∧ v j ≠ pFr 1000000 s p j
        · have := pRnd_more hV hY hp g3 hD hne
          split <;> omega
        · rw [if_pos (pEq_all hV hp g3 hD hne)]
          have : pEq v (pFr 1000000 s p) ≤ pEq (pRnd s v (s 0).toNat) (pFr 1000000 s p) := by
            unfold pEq
            refine pSum_le 12 fun i hi => ?_
            have hir : pR (i : Int) := ⟨by omega, by omega⟩
            have e1 : v i = pFr 1000000 s p i := Classical.byContradiction fun z => hne ⟨i, hir, z⟩
            have a1 := pRnd_le (s := s) (f := v) i 0 (s 0).toNat (Nat.zero_le _)
            have a2 := hI9.ge' hD hp hir
            have a3 : pRnd s v (s 0).toNat i ≤ v i := a1
            rw [if_pos e1, if_pos (by omega)]
            exact Int.le_refl _
          omega
theorem kX2_distancesByRelaxation {G : State} {d rc rs : Nat} {ah : zH} {Q : zRs → zH → Prop} {F U : Nat → Prop} {a w e n l : Nat} {s : Int → Int} {mc : Int} {f g : Nat → Value} {ps : List Nat} {tv : Value} (H : zSt G F U ah a s w e n mc f ps l g tv) (hV : pV s) (hY : pSy s) {p : Int} (hp : pR p) (hp0 : p < s 0) (hd : 27 ≤ d) (hc : 157 ≤ rc) (hs : 324 ≤ rs) (k : ∀ (ah9 : zH) (r : Nat) (v9 : Int → Int), zGr ah ah9 → ah r = none → zA12 ah9 r v9 → pDist 1000000 s p v9 → Q (.inl (some (.ref r))) ah9) : zW G mX2_distancesByRelaxation d rc rs 0 (zent [.ref a, .int (zi p)]) [] ah Q := by
  refine zW_open 4 [some (.ref a), some (.int (zi p)), none, none, none, none] rfl ?_
  refine zr_aload_n dX2_distancesByRelaxation_0 rfl rfl ?_
  refine zr_iload_n dX2_distancesByRelaxation_1 rfl ?_
  refine zc_v1 dX2_distancesByRelaxation_2 hX2_startingAt gX2_startingAt rfl rfl 0 1 12 (by omega) (by omega) (by omega) q423 q425 sp2 H.rc ?_
  refine kX2_startingAt hp (by omega) (by omega) (fun r gr hr0 hr1 => zK_i ?_)
  refine zr_astore_n dX2_distancesByRelaxation_5 (by decide) rfl (zs6_2 rfl ?_)
  refine zr_iconst dX2_distancesByRelaxation_6 ?_
  refine zr_istore_n dX2_distancesByRelaxation_7 (by decide) (zs6_3 rfl ?_)
  have hI : pInv 1000000 s p (pIni 1000000 p (fun _ => 0) 12) := pIni_inv hp (by decide)
  have eb := pEq_b (f := pIni 1000000 p (fun _ => 0) 12) (g := pFr 1000000 s p)
  have hsum : pSum 12 (fun j => pIni 1000000 p (fun _ => 0) 12 j) ≠ 0 := by
    have : pSum 12 (fun j => (if (j : Int) = p then (0 : Int) else 1)) ≤ pSum 12 (fun j => pIni 1000000 p (fun _ => 0) 12 j) := pSum_le 12 fun i hi => by
      unfold pIni
      (try dsimp only)
      rw [if_pos (show (0 : Int) ≤ i ∧ (i : Int) < 12 by omega)]
      split <;> omega
    have e : pSum 12 (fun j => (if (j : Int) = p then (0 : Int) else 1)) = 11 := by
      obtain ⟨p0, p1⟩ := hp
      obtain ⟨m, rfl⟩ : ∃ m : Nat, p = m := ⟨p.toNat, by omega⟩
      have hm : m < 12 := by omega
      have : ∀ q : Fin 12, pSum 12 (fun j => (if (j : Int) = ((q : Nat) : Int) then (0 : Int) else 1)) = 11 := by decide
      exact this ⟨m, hm⟩
    omega
  refine kX2_relO H hV hY hp hp0 (by omega) hr0 13 _ _ _ (pIni 1000000 p (fun _ => 0) 12) 0 _ _ (zGr.up hr0) ⟨gr, z_up_s, hr1⟩ hI (fun z => absurd z hsum) (by rw [if_neg hsum]; omega) (by omega) (by omega) (by omega) (fun ah9 v9 q1 q2 q3 => k ah9 r v9 q1 hr0 q2 q3)
theorem pFw_ok {t : Int → Bool} : ∀ (k : Nat) (i : Int), (pFw t k i = -1 ∧ ∀ x, i ≤ x → x < i + k → t x = false) ∨ (i ≤ pFw t k i ∧ pFw t k i < i + k ∧ t (pFw t k i) = true ∧ ∀ x, i ≤ x → x < pFw t k i → t x = false) := by
  intro k
  induction k with
  | zero => intro i; exact Or.inl ⟨rfl, fun x h1 h2 => by omega⟩
  | succ k ih =>
    intro i
    unfold pFw
    by_cases e : t i = true
    · rw [if_pos e]
      exact Or.inr ⟨Int.le_refl _, by omega, e, fun x h1 h2 => by omega⟩
    · rw [if_neg e]
      have e2 : t i = false := by cases h : t i <;> simp_all
      rcases ih (i + 1) with ⟨h1, h2⟩ | ⟨h1, h2, h3, h4⟩
      · refine Or.inl ⟨h1, fun x x1 x2 => ?_⟩
        by_cases z : x = i
        · rw [z]; exact e2
        · exact h2 x (by omega) (by omega)
      · refine Or.inr ⟨by omega, by omega, h3, fun x x1 x2 => ?_⟩
        by_cases z : x = i
        · rw [z]; exact e2
        · exact h4 x (by omega) x2
def pSuT (s v : Int → Int) (p : Int) : Int → Bool := fun j => decide (0 < pTr s p j ∧ pTr s p j + v j = v p)
theorem pFw_fo {s v : Int → Int} {p : Int} : ∀ (k : Nat) (i : Int), (∃ j, i ≤ j ∧ j < i + k ∧ 0 < pTr s p j ∧ pTr s p j + v j = v p) → pFw (pSuT s v p) k i = pFoN s v p k i := by
  intro k
  induction k with
  | zero => intro i ⟨j, h1, h2, _⟩; omega
  | succ k ih =>
    intro i ⟨j, h1, h2, h3, h4⟩
    unfold pFw pFoN
    by_cases e : 0 < pTr s p i ∧ pTr s p i + v i = v p
    · rw [if_pos (show pSuT s v p i = true from decide_eq_true e), if_pos e]
    · rw [if_neg (show ¬ pSuT s v p i = true from by unfold pSuT; rw [decide_eq_false e]; decide), if_neg e]
      have hj : j ≠ i := fun z => e (by rw [← z]; exact ⟨h3, h4⟩)
      exact ih (i + 1) ⟨j, by omega, by omega, h3, h4⟩
theorem kX2_lambda_successor_4 {G : State} {d rc rs : Nat} {ah : zH} {Q : zRs → zH → Prop} {F U : Nat → Prop} {a w e n l : Nat} {s : Int → Int} {mc : Int} {f g : Nat → Value} {ps : List Nat} {tv : Value} (H : zSt G F U ah a s w e n mc f ps l g tv) (hV : pV s) {r : Nat} {v : Int → Int} {p j : Int} (hr : zA12 ah r v) (hv : ∀ j, pR j → 0 ≤ v j ∧ v j ≤ 1000000) (hp : pR p) (hj : pR j) (hd : 1 ≤ d) (k : Q (.inl (some (.int (zi (zB (pSuT s v p j)))))) ah) : zW G mX2_lambda_successor_4 d rc rs 0 (zent [.ref a, .int (zi p), .ref r, .int (zi j)]) [] ah Q := by
  refine zW_open 0 [some (.ref a), some (.int (zi p)), some (.ref r), some (.int (zi j))] rfl ?_
  obtain ⟨gr, r1, r2⟩ := id hr
  have tb := hV.tr hp hj
  have b1 := hv p hp
  have b2 := hv j hj
  obtain ⟨p0, p1⟩ := id hp
  obtain ⟨j0, j1⟩ := id hj
  refine zr_aload_n dX2_lambda_successor_4_0 rfl rfl ?_
  refine zr_iload_n dX2_lambda_successor_4_1 rfl ?_
  refine zr_iload_n dX2_lambda_successor_4_2 rfl ?_
  refine zc_v2 dX2_lambda_successor_4_3 hX2_lengthOf gX2_lengthOf rfl rfl 0 0 0 (by omega) (Nat.zero_le _) (Nat.zero_le _) q345 q346 q347 H.rc ?_
  refine kX2_lengthOf H (by first | assumption | exact ⟨by omega, by omega⟩) (by first | assumption | exact ⟨by omega, by omega⟩) (zK_i ?_)
  refine zr_ifle dX2_lambda_successor_4_6 (tgt := 29) (by decide) (by omega) (fun h6 => ?_) (fun h6 => ?_)
  · refine zr_iconst dX2_lambda_successor_4_29 ?_
    refine zr_ireturn dX2_lambda_successor_4_30 rfl (by first | rfl | exact z_nb _) ?_
    unfold pSuT at k
    first
      | (rw [decide_eq_true (by omega)] at k; exact k)
      | (rw [decide_eq_false (by omega)] at k; exact k)
  · refine zr_aload_n dX2_lambda_successor_4_9 rfl rfl ?_
    refine zr_iload_n dX2_lambda_successor_4_10 rfl ?_
    refine zr_iload_n dX2_lambda_successor_4_11 rfl ?_
    refine zc_v2 dX2_lambda_successor_4_12 hX2_lengthOf gX2_lengthOf rfl rfl 0 0 0 (by omega) (Nat.zero_le _) (Nat.zero_le _) q345 q346 q347 H.rc ?_
    refine kX2_lengthOf H (by first | assumption | exact ⟨by omega, by omega⟩) (by first | assumption | exact ⟨by omega, by omega⟩) (zK_i ?_)
    refine zr_aload_n dX2_lambda_successor_4_15 rfl rfl ?_
    refine zr_iload_n dX2_lambda_successor_4_16 rfl ?_
    refine zr_iaload dX2_lambda_successor_4_17 (Or.inl r1) (by decide) (by omega) (z12e r2 hj) ?_
    refine zr_iadd dX2_lambda_successor_4_18 ?_
    refine zr_aload_n dX2_lambda_successor_4_19 rfl rfl ?_
    refine zr_iload_n dX2_lambda_successor_4_20 rfl ?_
    refine zr_iaload dX2_lambda_successor_4_21 (Or.inl r1) (by decide) (by omega) (z12e r2 hp) ?_
    refine zr_icmpne dX2_lambda_successor_4_22 (tgt := 29) (by decide) (by omega) (by omega) (fun h22 => ?_) (fun h22 => ?_)
    · refine zr_iconst dX2_lambda_successor_4_29 ?_
      refine zr_ireturn dX2_lambda_successor_4_30 rfl (by first | rfl | exact z_nb _) ?_
      unfold pSuT at k
      first
        | (rw [decide_eq_true (by omega)] at k; exact k)
        | (rw [decide_eq_false (by omega)] at k; exact k)
    · refine zr_iconst dX2_lambda_successor_4_25 ?_
      refine zr_goto dX2_lambda_successor_4_26 (tgt := 30) (by decide) ?_
      refine zr_ireturn dX2_lambda_successor_4_30 rfl (by first | rfl | exact z_nb _) ?_
      unfold pSuT at k
      first
        | (rw [decide_eq_true (by omega)] at k; exact k)
        | (rw [decide_eq_false (by omega)] at k; exact k)
theorem kX2_successor {G : State} {d rc rs : Nat} {ah : zH} {Q : zRs → zH → Prop} {F U : Nat → Prop} {a w e n l : Nat} {s : Int → Int} {mc : Int} {f g : Nat → Value} {ps : List Nat} {tv : Value} (H : zSt G F U ah a s w e n mc f ps l g tv) (hV : pV s) {r : Nat} {v : Int → Int} {p : Int} (hr : zA12 ah r v) (hv : ∀ j, pR j → 0 ≤ v j ∧ v j ≤ 1000000) (hp : pR p) (hd : 26 ≤ d) (hc : 1 ≤ rc) (hs : 3 ≤ rs) (k : ∀ b o, ah b = none → Q (.inl (some (.int (zi (pFw (pSuT s v p) (s 0).toNat 0))))) (z_up ah b o)) : zW G mX2_successor d rc rs 0 (zent [.ref a, .int (zi p), .ref r]) [] ah Q := by
  refine zW_open 0 [some (.ref a), some (.int (zi p)), some (.ref r)] rfl ?_
  have vv := hV.h
  refine zr_aload_n dX2_successor_0 rfl rfl ?_
  refine zr_aload_n dX2_successor_1 rfl rfl ?_
  refine zr_iload_n dX2_successor_2 rfl ?_
  refine zr_aload_n dX2_successor_3 rfl rfl ?_
  refine zln9 rfl rfl dX2_successor_4 rfl (by omega) (by omega) (by omega) (fun b hb => ?_)
  have Hb := H.gr (zGr.up (o := .inl (1009, [.ref a, .int (zi p), .ref r])) hb)
  have hrb := hr.gr (zGr.up (o := .inl (1009, [.ref a, .int (zi p), .ref r])) hb)
  refine zc_v1 dX2_successor_9 hX2_firstWaypoint gX2_firstWaypoint rfl rfl 3 0 0 (by omega) (Nat.zero_le _) (Nat.zero_le _) q332 q333 q334 Hb.rc ?_
  refine kX2_firstWaypoint (t := pSuT s v p) Hb hV (by omega) (fun i ls i0 i1 kk => ?_) (zK_i ?_)
  · refine zlm9 dX2_firstWaypoint_12 q338 rfl 1 0 0 (by omega) (Nat.zero_le _) (Nat.zero_le _) z_up_s Hb.rc ?_
    exact kX2_lambda_successor_4 Hb hV hrb hv hp ⟨i0, by omega⟩ (by omega) ⟨zK_i kk, _, rfl, z_nb _⟩
  refine zr_ireturn dX2_successor_12 rfl (by first | rfl | exact z_nb _) ?_
  exact k b _ hb
