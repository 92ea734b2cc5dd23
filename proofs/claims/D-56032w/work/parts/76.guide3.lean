set_option maxRecDepth 100000
/-! ===== the component: turns told, consistency, rates, undo and snapshots, the text ===== -/
def mT0 : zMd := (⟨"TrailGuide$Turn$1", "letter", "()C"⟩, cX16_letter, 1, some .char, [])
def mT1 : zMd := (⟨"TrailGuide$Turn$2", "letter", "()C"⟩, cX17_letter, 1, some .char, [])
def mT2 : zMd := (⟨"TrailGuide$Turn$3", "letter", "()C"⟩, cX18_letter, 1, some .char, [])
def mT3 : zMd := (⟨"TrailGuide$Turn$4", "letter", "()C"⟩, cX19_letter, 1, some .char, [])
theorem zr_turnL {G : State} {M : zMd} {d rc rs pc idx : Nat} {ls : List (Option Value)} {rest : List Value} {ah : zH} {Q : zRs → zH → Prop} {t : Nat} (T : zTb G) (ht : t ≤ 3) (hd : decode M.2.1 pc = .ok (.invokevirtual idx, 3)) (hw : (rest.map fun v => v.category).sum ≤ 8) (hd2 : 1 ≤ d) (hl : Cond.methodLink M.1.cls idx ⟨"TrailGuide$Turn", "letter", "()C"⟩ ∈ lw_all) (k : zW G M d rc rs (pc + 3) ls (.int (zi (pTnL t)) :: rest) ah Q) : zW G M d rc rs pc ls (.ref (zTu G t) :: rest) ah Q := by
  rcases (show t = 0 ∨ t = 1 ∨ t = 2 ∨ t = 3 by omega) with rfl | rfl | rfl | rfl
  · obtain ⟨A0, hA0⟩ := id T
    exact zr_letter (M' := mT0) hd rfl (show zcw mT0 ∈ lw_all from q903) (by decide) rfl rfl hw hd2 hl q900 q899 q902 q901 (Or.inr (z_turn0 hA0).2) dX16_letter_0 rfl dX16_letter_2 (z_nc (by decide)) k
  · obtain ⟨A0, hA0⟩ := id T
    exact zr_letter (M' := mT1) hd rfl (show zcw mT1 ∈ lw_all from q906) (by decide) rfl rfl hw hd2 hl q900 q899 q905 q904 (Or.inr (z_turn1 hA0).2) dX17_letter_0 rfl dX17_letter_2 (z_nc (by decide)) k
  · obtain ⟨A0, hA0⟩ := id T
    exact zr_letter (M' := mT2) hd rfl (show zcw mT2 ∈ lw_all from q909) (by decide) rfl rfl hw hd2 hl q900 q899 q908 q907 (Or.inr (z_turn2 hA0).2) dX18_letter_0 rfl dX18_letter_2 (z_nc (by decide)) k
  · obtain ⟨A0, hA0⟩ := id T
    exact zr_letter (M' := mT3) hd rfl (show zcw mT3 ∈ lw_all from q912) (by decide) rfl rfl hw hd2 hl q900 q899 q911 q910 (Or.inr (z_turn3 hA0).2) dX19_letter_0 rfl dX19_letter_2 (z_nc (by decide)) k
theorem pTnS_3 {s : Int → Int} {i : Int} : pTnS s i ≤ 3 := by
  unfold pTnS pTnK
  split
  · omega
  · split
    · omega
    · split <;> omega
theorem kX1_turn {G : State} {d rc rs : Nat} {ah : zH} {Q : zRs → zH → Prop} {F0 : Nat → Prop} {gd q D lb tx a h lv n : Nat} {s : Int → Int} {sv : Option (Int → Int)} {hs : List (Int → Int)} {ln : List Int} {tp : Int → Int} {tn er fl ml : Int} {v : Value} {f gl ft : Nat → Value} {hl : List Nat} (H : zGc G F0 gd q D lb tx ah s sv hs ln tp tn er fl a v h f hl lv n ml gl ft) {B : Int} (hI : pI B s) {i : Int} (qi : -2147483648 ≤ i ∧ i ≤ 2147483647) (hd : 40 ≤ d) (hc : 400 ≤ rc) (hs9 : 900 ≤ rs) (k : zAnQ ah (zE ["java/lang/IllegalStateException", "java/lang/IndexOutOfBoundsException", "java/util/NoSuchElementException"]) (qTurn s i) Q) : zW G mX1_turn d rc rs 0 (zent [.ref gd, .int (zi i)]) [] ah Q := by
  refine zW_open 0 [some (.ref gd), some (.int (zi i))] rfl ?_
  obtain ⟨w, e, n1, mc, f1, ps, l, g, tv, HS⟩ := id H.2.1
  have hV := hI.1
  have hY := hI.2.1
  have vv := hV.h
  have hT := hI.2.2.2.2
  refine zW_tb (fun T => ?_)
  refine zr_iload_n dX1_turn_0 rfl ?_
  refine zr_aload_n dX1_turn_1 rfl rfl ?_
  refine zc_v0 dX1_turn_2 hX1_tour gX1_tour rfl rfl 11 1 6 (by omega) (by omega) (by omega) q1603 q1605 sp22 H.rc ?_
  refine kX1_tour H hI (by omega) (by omega) (by omega) (fun t0 t rt hk f9 t3 => zK_i ?_) (fun h1 q hq => zK_x (zX_out (fun x hx => nomatch hx) ?_))
  rotate_left
  · exact k.thr (c := 1) (v := 0) (by unfold qTurn; rw [if_pos (by omega)]) (by decide) (zGr.up hq)
  obtain ⟨-, -, -, t6, t7, t8, t9⟩ := id t3
  refine zc_v0 dX1_turn_5 hX7_route gX7_route rfl rfl 0 0 0 (by omega) (Nat.zero_le _) (Nat.zero_le _) q811 q812 q813 t3.rc ?_
  refine kX7_route t6 (zK_i ?_)
  refine zr_alen dX1_turn_8 (Or.inl t7) ?_
  rw [show (((s 1).toNat : Nat) : Int) = s 1 by omega]
  refine zc_s2 dX1_turn_9 hX1_checkIndex gX1_checkIndex rfl rfl 8 1 6 (by omega) (by omega) (by omega) q1615 q1191 ?_
  refine kX1_checkIndex (by omega) (by omega) (by omega) (by omega) (by omega) (fun h9 => zK_v ?_) (fun h9 q hq => zK_x (zX_out (fun x hx => nomatch hx) ?_))
  rotate_left
  · exact k.thr (c := 2) (v := 0) (by unfold qTurn; rw [if_neg (fun z => z t0), if_pos (by rw [h9]; decide)]) (by decide) (zGr.up hq)
  have p9 := pIn_iff.mp h9
  refine zr_aload_n dX1_turn_12 rfl rfl ?_
  refine zr_getf dX1_turn_13 nX1 (k := 0) (by decide) q274 (Or.inl rfl) H.1 rfl ?_
  refine zr_iload_n dX1_turn_16 rfl ?_
  refine zc_v1 dX1_turn_17 hX2_hasTurn gX2_hasTurn rfl rfl 1 0 0 (by omega) (Nat.zero_le _) (Nat.zero_le _) q824 q825 q826 HS.rc ?_
  refine kX2_hasTurn HS hV t0 (by omega) (by omega) (zK_i ?_)
  refine zc_s1 dX1_turn_20 hX1_checkElement gX1_checkElement rfl rfl 8 1 6 (by omega) (by omega) (by omega) q1566 q1228 ?_
  refine kX1_checkElement (by omega) (by omega) (by omega) (fun h20 => zK_v ?_) (fun h20 q20 hq20 => zK_x (zX_out (fun x hx => nomatch hx) ?_))
  rotate_left
  · exact k.thr (c := 3) (v := 0) (by unfold qTurn; rw [if_neg (fun z => z t0), if_neg (fun z => z h9), if_pos (by have := pIn_iffF.mp h20; omega)]) (by decide) (zGr.up hq20)
  have p20 := pIn_iff.mp h20
  refine zr_aload_n dX1_turn_23 rfl rfl ?_
  refine zr_getf dX1_turn_24 nX1 (k := 0) (by decide) q274 (Or.inl rfl) H.1 rfl ?_
  refine zr_iload_n dX1_turn_27 rfl ?_
  refine zc_v1 dX1_turn_28 hX2_turnAt gX2_turnAt rfl rfl 5 2 4 (by omega) (by omega) (by omega) q832 q833 q834 HS.rc ?_
  refine kX2_turnAt HS hV hT t0 (by omega) (by omega) (by omega) (by omega) (fun ah1 z1 => zK_i ?_)
  refine zr_turnL T pTnS_3 dX1_turn_31 (by decide) (by omega) q898 ?_
  rw [pTnS_t]
  refine zr_ireturn dX1_turn_34 rfl (z_nc (by have := pTurn_b s i; omega)) ?_
  exact k.ok (by unfold qTurn; rw [if_neg (fun z => z t0), if_neg (fun z => z h9), if_neg (by omega)]) (z1)
theorem kX1_lambda_haveEqualDistances_9 {G : State} {d rc rs : Nat} {ah : zH} {Q : zRs → zH → Prop} {r t : Nat} {v u : Int → Int} {i : Int} (hr : zA12 ah r v) (ht : zA12 ah t u) (hi : pR i) (hv : ∀ j, pR j → 0 ≤ v j ∧ v j ≤ 1000000) (hu : ∀ j, pR j → 0 ≤ u j ∧ u j ≤ 1000000) (k : Q (.inl (some (.int (zi (zB (decide (v i ≠ u i))))))) ah) : zW G mX1_lambda_haveEqualDistances_9 d rc rs 0 (zent [.ref r, .ref t, .int (zi i)]) [] ah Q := by
  refine zW_open 0 [some (.ref r), some (.ref t), some (.int (zi i))] rfl ?_
  obtain ⟨gr, r1, r2⟩ := id hr
  obtain ⟨gt, t1, t2⟩ := id ht
  have b1 := hv i hi
  have b2 := hu i hi
  obtain ⟨i0, i1⟩ := id hi
  refine zr_aload_n dX1_lambda_haveEqualDistances_9_0 rfl rfl ?_
  refine zr_iload_n dX1_lambda_haveEqualDistances_9_1 rfl ?_
  refine zr_iaload dX1_lambda_haveEqualDistances_9_2 (Or.inl r1) (by decide) (by omega) (z12e r2 hi) ?_
  refine zr_aload_n dX1_lambda_haveEqualDistances_9_3 rfl rfl ?_
  refine zr_iload_n dX1_lambda_haveEqualDistances_9_4 rfl ?_
  refine zr_iaload dX1_lambda_haveEqualDistances_9_5 (Or.inl t1) (by decide) (by omega) (z12e t2 hi) ?_
  refine zr_icmpeq dX1_lambda_haveEqualDistances_9_6 (tgt := 13) (by decide) (by omega) (by omega) (fun h6 => ?_) (fun h6 => ?_)
  · refine zr_iconst dX1_lambda_haveEqualDistances_9_13 ?_
    refine zr_ireturn dX1_lambda_haveEqualDistances_9_14 rfl (by first | rfl | exact z_nb _) ?_
    first
      | (rw [decide_eq_true (by omega)] at k; exact k)
      | (rw [decide_eq_false (by omega)] at k; exact k)
  · refine zr_iconst dX1_lambda_haveEqualDistances_9_9 ?_
    refine zr_goto dX1_lambda_haveEqualDistances_9_10 (tgt := 14) (by decide) ?_
    refine zr_ireturn dX1_lambda_haveEqualDistances_9_14 rfl (by first | rfl | exact z_nb _) ?_
    first
      | (rw [decide_eq_true (by omega)] at k; exact k)
      | (rw [decide_eq_false (by omega)] at k; exact k)
theorem kX1_haveEqualDistances {G : State} {d rc rs : Nat} {ah : zH} {Q : zRs → zH → Prop} {F0 : Nat → Prop} {gd q D lb tx a h lv n : Nat} {s : Int → Int} {sv : Option (Int → Int)} {hs : List (Int → Int)} {ln : List Int} {tp : Int → Int} {tn er fl ml : Int} {v : Value} {f gl ft : Nat → Value} {hl : List Nat} (H : zGc G F0 gd q D lb tx ah s sv hs ln tp tn er fl a v h f hl lv n ml gl ft) {B : Int} (hI : pI B s) {x : Int} (hxr : pR x) (hx0 : x < s 0) (hd : 30 ≤ d) (hc : 180 ≤ rc) (hs9 : 400 ≤ rs) (k : ∀ ah9, zGr ah ah9 → Q (.inl (some (.int (zi (1))))) ah9) : zW G mX1_haveEqualDistances d rc rs 0 (zent [.ref gd, .int (zi x)]) [] ah Q := by
  refine zW_open 2 [some (.ref gd), some (.int (zi x)), none, none] rfl ?_
  obtain ⟨w, e, n1, mc, f1, ps, l, g, tv, HS⟩ := id H.2.1
  have hV := hI.1
  have hY := hI.2.1
  have vv := hV.h
  have hT := hI.2.2.2.2
  refine zr_aload_n dX1_haveEqualDistances_0 rfl rfl ?_
  refine zr_getf dX1_haveEqualDistances_1 nX1 (k := 0) (by decide) q274 (Or.inl rfl) H.1 rfl ?_
  refine zr_iload_n dX1_haveEqualDistances_4 rfl ?_
  refine zc_v1 dX1_haveEqualDistances_5 hX2_distancesFrom gX2_distancesFrom rfl rfl 27 14 48 (by omega) (by omega) (by omega) q419 q420 q421 HS.rc ?_
  refine kX2_distancesFrom HS hV hY hxr hx0 (by omega) (by omega) (by omega) (fun ah1 r v z1 z2 z3 hD => zK_i ?_)
  refine zr_astore_n dX1_haveEqualDistances_8 (by decide) rfl (zs4_2 rfl ?_)
  refine zr_aload_n dX1_haveEqualDistances_9 rfl rfl ?_
  refine zr_getf dX1_haveEqualDistances_10 nX1 (k := 0) (by decide) q274 (Or.inl rfl) (z1 _ _ H.1) rfl ?_
  refine zr_iload_n dX1_haveEqualDistances_13 rfl ?_
  refine zc_v1 dX1_haveEqualDistances_14 hX2_distancesByRelaxation gX2_distancesByRelaxation rfl rfl 27 157 324 (by omega) (by omega) (by omega) q448 q449 q450 (HS.gr z1).rc ?_
  refine kX2_distancesByRelaxation (HS.gr z1) hV hY hxr hx0 (by omega) (by omega) (by omega) (fun ah2 t u y1 y2 y3 hE => zK_i ?_)
  have g2 := z1.tr y1
  have z32 := z3.gr y1
  refine zr_astore_n dX1_haveEqualDistances_17 (by decide) rfl (zs4_3 rfl ?_)
  refine zr_aload_n dX1_haveEqualDistances_18 rfl rfl ?_
  refine zr_getf dX1_haveEqualDistances_19 nX1 (k := 0) (by decide) q274 (Or.inl rfl) (g2 _ _ H.1) rfl ?_
  refine zr_aload_n dX1_haveEqualDistances_22 rfl rfl ?_
  refine zr_aload_n dX1_haveEqualDistances_23 rfl rfl ?_
  refine zln4 rfl rfl dX1_haveEqualDistances_24 rfl (by omega) (by omega) (by omega) (fun b hb => ?_)
  have g3 := g2.tr (zGr.up (o := .inl (1004, [.ref r, .ref t])) hb)
  have H3 := HS.gr g3
  refine zc_v1 dX1_haveEqualDistances_29 hX2_firstWaypoint gX2_firstWaypoint rfl rfl 4 0 0 (by omega) (Nat.zero_le _) (Nat.zero_le _) q460 q333 q334 H3.rc ?_
  refine kX2_firstWaypoint (t := fun j => decide (v j ≠ u j)) H3 hV (by omega) (fun i ls i0 i1 kk => ?_) (zK_i ?_)
  · refine zlm4 dX2_firstWaypoint_12 q338 rfl 0 0 0 (by omega) (Nat.zero_le _) (Nat.zero_le _) z_up_s ?_
    exact kX1_lambda_haveEqualDistances_9 (z32.gr (zGr.up hb)) (y3.gr (zGr.up hb)) ⟨i0, by omega⟩ hD.2.1 hE.2.1 ⟨zK_i kk, _, rfl, z_nb _⟩
  have hfw : pFw (fun j => decide (v j ≠ u j)) (s 0).toNat 0 = -1 := by
    rcases pFw_ok (t := fun j => decide (v j ≠ u j)) (s 0).toNat 0 with ⟨w1, _⟩ | ⟨w1, w2, w3, _⟩
    · exact w1
    · exfalso
      have := of_decide_eq_true w3
      exact this (pDist_u hxr hD hE ⟨w1, by omega⟩)
  rw [hfw]
  refine zr_iconst dX1_haveEqualDistances_32 ?_
  refine zr_icmpne dX1_haveEqualDistances_33 (tgt := 40) (by decide) (by decide) (by decide) (fun h => absurd rfl h) (fun _ => ?_)
  refine zr_iconst dX1_haveEqualDistances_36 ?_
  refine zr_goto dX1_haveEqualDistances_37 (tgt := 41) (by decide) ?_
  refine zr_ireturn dX1_haveEqualDistances_41 rfl (by first | rfl | exact z_nb _) ?_
  exact k _ g3
theorem kX1_isConsistentL {G : State} {d R T : Nat} {Q : zRs → zH → Prop} {ahB : zH} {F0 : Nat → Prop} {gd q D lb tx a h lv n : Nat} {s : Int → Int} {sv : Option (Int → Int)} {hs : List (Int → Int)} {ln : List Int} {tp : Int → Int} {tn er fl ml : Int} {v : Value} {f gl ft : Nat → Value} {hl : List Nat} (H : zGc G F0 gd q D lb tx ahB s sv hs ln tp tn er fl a v h f hl lv n ml gl ft) {B : Int} (hI : pI B s) (hd : 40 ≤ d) (n9 : Nat) : ∀ (i rc rs : Nat) (ah : zH), ((i + n9 : Nat) : Int) = s 0 → R + 180 * n9 ≤ rc → T + 400 * n9 ≤ rs → zGr ahB ah → (∀ ah9 J, zGr ahB ah9 → zW G mX1_isConsistent d R T 61 [some (.ref gd), some (.int (zi 1)), J] [] ah9 Q) → zW G mX1_isConsistent d rc rs 36 [some (.ref gd), some (.int (zi 1)), some (.int (zi ((i : Nat) : Int)))] [] ah Q := by
  obtain ⟨w, e, n1, mc, f1, ps, l, g, tv, HS⟩ := id H.2.1
  have hV := hI.1
  have vv := hV.h
  induction n9 with
  | zero =>
    intro i rc rs ah g1 g2 g3 g4 k
    refine zr_iload_n dX1_isConsistent_36 rfl ?_
    refine zr_aload_n dX1_isConsistent_37 rfl rfl ?_
    refine zr_getf dX1_isConsistent_38 nX1 (k := 0) (by decide) q274 (Or.inl rfl) (g4 _ _ H.1) rfl ?_
    refine zc_v0 dX1_isConsistent_41 hX2_size gX2_size rfl rfl 1 0 0 (by omega) (Nat.zero_le _) (Nat.zero_le _) q306 q307 q308 (HS.gr g4).rc ?_
    refine kX2_size (HS.gr g4) (by omega) (zK_i ?_)
    refine zr_icmpge dX1_isConsistent_44 (tgt := 61) (by decide) (by omega) (by omega) (fun h44 => ?_) (fun h44 => ?_)
    · exact zW_room (Nat.le_refl _) (by omega) (by omega) (k ah _ g4)
    · exfalso; omega
  | succ n9 ih =>
    intro i rc rs ah g1 g2 g3 g4 k
    refine zr_iload_n dX1_isConsistent_36 rfl ?_
    refine zr_aload_n dX1_isConsistent_37 rfl rfl ?_
    refine zr_getf dX1_isConsistent_38 nX1 (k := 0) (by decide) q274 (Or.inl rfl) (g4 _ _ H.1) rfl ?_
    refine zc_v0 dX1_isConsistent_41 hX2_size gX2_size rfl rfl 1 0 0 (by omega) (Nat.zero_le _) (Nat.zero_le _) q306 q307 q308 (HS.gr g4).rc ?_
    refine kX2_size (HS.gr g4) (by omega) (zK_i ?_)
    refine zr_icmpge dX1_isConsistent_44 (tgt := 61) (by decide) (by omega) (by omega) (fun h44 => ?_) (fun h44 => ?_)
    · exfalso; omega
    · refine zr_iload_n dX1_isConsistent_47 rfl ?_
      refine zr_aload_n dX1_isConsistent_48 rfl rfl ?_
      refine zr_iload_n dX1_isConsistent_49 rfl ?_
      refine zc_v1 dX1_isConsistent_50 hX1_haveEqualDistances gX1_haveEqualDistances rfl rfl 30 180 400 (by omega) (by omega) (by omega) q415 q417 sp1 (H.gr g4).rc ?_
      refine kX1_haveEqualDistances (H.gr g4) hI (x := (i : Int)) ⟨by omega, by omega⟩ (by omega) (by omega) (by omega) (by omega) (fun ah1 z1 => zK_i ?_)
      refine zr_iand dX1_isConsistent_53 (show (zi 1 &&& zi 1 : Int32) = zi 1 by decide) ?_
      refine zr_istore_n dX1_isConsistent_54 (by decide) (zs3_1 rfl ?_)
      refine zr_iinc dX1_isConsistent_55 rfl (by decide) (zs3_2 rfl ?_)
      refine zr_goto dX1_isConsistent_58 (tgt := 36) (by decide) ?_
      exact ih (i + 1) _ _ ah1 (by omega) (by omega) (by omega) (g4.tr z1) k
theorem pCo_b {s : Int → Int} : ∀ n : Nat, 0 ≤ pCo s n ∧ pCo s n ≤ n := by
  intro n
  induction n with
  | zero => exact ⟨Int.le_refl _, Int.le_refl _⟩
  | succ n ih =>
    rw [pCo_s]
    rcases zB_cases (pLow (pFr 99999 s n) n) with h | h <;> rw [h] <;> omega
theorem kX1_isConsistent {G : State} {d rc rs : Nat} {ah : zH} {Q : zRs → zH → Prop} {F0 : Nat → Prop} {gd q D lb tx a h lv n : Nat} {s : Int → Int} {sv : Option (Int → Int)} {hs : List (Int → Int)} {ln : List Int} {tp : Int → Int} {tn er fl ml : Int} {v : Value} {f gl ft : Nat → Value} {hl : List Nat} (H : zGc G F0 gd q D lb tx ah s sv hs ln tp tn er fl a v h f hl lv n ml gl ft) {B : Int} (hI : pI B s) (hAl : pAl s) (hd : 240 ≤ d) (hc : 2400 ≤ rc) (hs9 : 5200 ≤ rs) (k : ∀ ah9, zGr ah ah9 → Q (.inl (some (.int (zi (1))))) ah9) : zW G mX1_isConsistent d rc rs 0 (zent [.ref gd]) [] ah Q := by
  refine zW_open 2 [some (.ref gd), none, none] rfl ?_
  obtain ⟨w, e, n1, mc, f1, ps, l, g, tv, HS⟩ := id H.2.1
  have hV := hI.1
  have hY := hI.2.1
  have vv := hV.h
  have hT := hI.2.2.2.2
  rcases id HS.2.2.2.2.2.2.1 with ⟨t1, t2⟩ | ⟨t1, t, rt, hk, f9, t2, t3⟩ <;> subst t2
  · refine zr_aload_n dX1_isConsistent_0 rfl rfl ?_
    refine zr_getf dX1_isConsistent_1 nX1 (k := 0) (by decide) q274 (Or.inl rfl) H.1 rfl ?_
    refine zc_v0 dX1_isConsistent_4 hX2_components gX2_components rfl rfl 28 14 25 (by omega) (by omega) (by omega) q326 q327 q328 HS.rc ?_
    refine kX2_components HS hV hY (by omega) (by omega) (by omega) (fun ah1 z1 => zK_i ?_)
    have cb : 0 ≤ pCo s (s 0).toNat ∧ pCo s (s 0).toNat ≤ 12 := by have := pCo_b (s := s) (s 0).toNat; omega
    refine zr_aload_n dX1_isConsistent_7 rfl rfl ?_
    refine zr_getf dX1_isConsistent_8 nX1 (k := 0) (by decide) q274 (Or.inl rfl) (z1 _ _ H.1) rfl ?_
    refine zc_v0 dX1_isConsistent_11 hX2_componentsByMerging gX2_componentsByMerging rfl rfl 200 1 12 (by omega) (by omega) (by omega) q356 q357 q358 (HS.gr z1).rc ?_
    refine kX2_componentsByMerging (HS.gr z1) hV hY (by omega) (by omega) (by omega) (fun ah2 z2 => zK_i ?_)
    have g2 := z1.tr z2
    refine zr_icmpne dX1_isConsistent_14 (tgt := 32) (by decide) (by omega) (by omega) (fun h => absurd rfl h) (fun _ => ?_)
    refine zr_aload_n dX1_isConsistent_17 rfl rfl ?_
    refine zc_v0 dX1_isConsistent_18 hX1_updatesLeft gX1_updatesLeft rfl rfl 0 0 0 (by omega) (Nat.zero_le _) (Nat.zero_le _) q413 q390 q391 (H.gr g2).rc ?_
    refine kX1_updatesLeft (H.gr g2) hI (zK_i ?_)
    refine zr_aload_n dX1_isConsistent_21 rfl rfl ?_
    refine zc_v0 dX1_isConsistent_22 hX1_updatesLeftByCounting gX1_updatesLeftByCounting rfl rfl 0 0 0 (by omega) (Nat.zero_le _) (Nat.zero_le _) q414 q394 q395 (H.gr g2).rc ?_
    refine kX1_updatesLeftByCounting (H.gr g2) hI (zK_i ?_)
    have hcb : 1 ≤ pCost (s 7) ∧ pCost (s 7) ≤ 4 := by unfold pCost; split <;> (try split) <;> omega
    have ub : 0 ≤ (s 6 + pCost (s 7) - 1) / pCost (s 7) ∧ (s 6 + pCost (s 7) - 1) / pCost (s 7) ≤ 2000 := ⟨Int.ediv_nonneg (by omega) (by omega), Int.le_trans (Int.ediv_le_self _ (by omega)) (by omega)⟩
    refine zr_icmpne dX1_isConsistent_25 (tgt := 32) (by decide) (by omega) (by omega) (fun h => absurd rfl h) (fun _ => ?_)
    refine zr_iconst dX1_isConsistent_28 ?_
    refine zr_goto dX1_isConsistent_29 (tgt := 33) (by decide) ?_
    refine zr_istore_n dX1_isConsistent_33 (by decide) (zs3_1 rfl ?_)
    refine zr_iconst dX1_isConsistent_34 ?_
    refine zr_istore_n dX1_isConsistent_35 (by decide) (zs3_2 rfl ?_)
    refine kX1_isConsistentL (R := 100) (T := 100) (H.gr g2) hI (by omega) (s 0).toNat 0 _ _ ah2 (by omega) (by omega) (by omega) zGr.rf (fun ah9 J y0 => ?_)
    have y1 := g2.tr y0
    refine zr_iload_n dX1_isConsistent_61 rfl ?_
    refine zr_ifeq dX1_isConsistent_62 (tgt := 89) (by decide) (by decide) (fun h => absurd h (by decide)) (fun _ => ?_)
    refine zr_aload_n dX1_isConsistent_65 rfl rfl ?_
    refine zr_getf dX1_isConsistent_66 nX1 (k := 0) (by decide) q274 (Or.inl rfl) (y1 _ _ H.1) rfl ?_
    refine zr_getfN dX1_isConsistent_69 nX2 (k := 2) (by decide) q186 (HS.gr y1).1 rfl ?_
    refine zr_ifnonnullN dX1_isConsistent_72 ?_
    refine zr_aload_n dX1_isConsistent_75 rfl rfl ?_
    refine zr_getf dX1_isConsistent_76 nX1 (k := 0) (by decide) q274 (Or.inl rfl) (y1 _ _ H.1) rfl ?_
    refine zr_getfN dX1_isConsistent_79 nX2 (k := 3) (by decide) q188 (HS.gr y1).1 rfl ?_
    rw [hAl t1]
    refine zr_ifne dX1_isConsistent_82 (tgt := 89) (by decide) (by decide) (fun h => absurd rfl h) (fun _ => ?_)
    refine zr_iconst dX1_isConsistent_85 ?_
    refine zr_goto dX1_isConsistent_86 (tgt := 90) (by decide) ?_
    refine zr_ireturn dX1_isConsistent_90 rfl (by first | rfl | exact z_nb _) ?_
    exact k _ y1
  · refine zr_aload_n dX1_isConsistent_0 rfl rfl ?_
    refine zr_getf dX1_isConsistent_1 nX1 (k := 0) (by decide) q274 (Or.inl rfl) H.1 rfl ?_
    refine zc_v0 dX1_isConsistent_4 hX2_components gX2_components rfl rfl 28 14 25 (by omega) (by omega) (by omega) q326 q327 q328 HS.rc ?_
    refine kX2_components HS hV hY (by omega) (by omega) (by omega) (fun ah1 z1 => zK_i ?_)
    have cb : 0 ≤ pCo s (s 0).toNat ∧ pCo s (s 0).toNat ≤ 12 := by have := pCo_b (s := s) (s 0).toNat; omega
    refine zr_aload_n dX1_isConsistent_7 rfl rfl ?_
    refine zr_getf dX1_isConsistent_8 nX1 (k := 0) (by decide) q274 (Or.inl rfl) (z1 _ _ H.1) rfl ?_
    refine zc_v0 dX1_isConsistent_11 hX2_componentsByMerging gX2_componentsByMerging rfl rfl 200 1 12 (by omega) (by omega) (by omega) q356 q357 q358 (HS.gr z1).rc ?_
    refine kX2_componentsByMerging (HS.gr z1) hV hY (by omega) (by omega) (by omega) (fun ah2 z2 => zK_i ?_)
    have g2 := z1.tr z2
    refine zr_icmpne dX1_isConsistent_14 (tgt := 32) (by decide) (by omega) (by omega) (fun h => absurd rfl h) (fun _ => ?_)
    refine zr_aload_n dX1_isConsistent_17 rfl rfl ?_
    refine zc_v0 dX1_isConsistent_18 hX1_updatesLeft gX1_updatesLeft rfl rfl 0 0 0 (by omega) (Nat.zero_le _) (Nat.zero_le _) q413 q390 q391 (H.gr g2).rc ?_
    refine kX1_updatesLeft (H.gr g2) hI (zK_i ?_)
    refine zr_aload_n dX1_isConsistent_21 rfl rfl ?_
    refine zc_v0 dX1_isConsistent_22 hX1_updatesLeftByCounting gX1_updatesLeftByCounting rfl rfl 0 0 0 (by omega) (Nat.zero_le _) (Nat.zero_le _) q414 q394 q395 (H.gr g2).rc ?_
    refine kX1_updatesLeftByCounting (H.gr g2) hI (zK_i ?_)
    have hcb : 1 ≤ pCost (s 7) ∧ pCost (s 7) ≤ 4 := by unfold pCost; split <;> (try split) <;> omega
    have ub : 0 ≤ (s 6 + pCost (s 7) - 1) / pCost (s 7) ∧ (s 6 + pCost (s 7) - 1) / pCost (s 7) ≤ 2000 := ⟨Int.ediv_nonneg (by omega) (by omega), Int.le_trans (Int.ediv_le_self _ (by omega)) (by omega)⟩
    refine zr_icmpne dX1_isConsistent_25 (tgt := 32) (by decide) (by omega) (by omega) (fun h => absurd rfl h) (fun _ => ?_)
    refine zr_iconst dX1_isConsistent_28 ?_
    refine zr_goto dX1_isConsistent_29 (tgt := 33) (by decide) ?_
    refine zr_istore_n dX1_isConsistent_33 (by decide) (zs3_1 rfl ?_)
    refine zr_iconst dX1_isConsistent_34 ?_
    refine zr_istore_n dX1_isConsistent_35 (by decide) (zs3_2 rfl ?_)
    refine kX1_isConsistentL (R := 100) (T := 100) (H.gr g2) hI (by omega) (s 0).toNat 0 _ _ ah2 (by omega) (by omega) (by omega) zGr.rf (fun ah9 J y0 => ?_)
    have y1 := g2.tr y0
    refine zr_iload_n dX1_isConsistent_61 rfl ?_
    refine zr_ifeq dX1_isConsistent_62 (tgt := 89) (by decide) (by decide) (fun h => absurd h (by decide)) (fun _ => ?_)
    refine zr_aload_n dX1_isConsistent_65 rfl rfl ?_
    refine zr_getf dX1_isConsistent_66 nX1 (k := 0) (by decide) q274 (Or.inl rfl) (y1 _ _ H.1) rfl ?_
    refine zr_getfN dX1_isConsistent_69 nX2 (k := 2) (by decide) q186 (HS.gr y1).1 rfl ?_
    refine zr_ifnonnull dX1_isConsistent_72 (tgt := 85) (by decide) ?_
    refine zr_iconst dX1_isConsistent_85 ?_
    refine zr_goto dX1_isConsistent_86 (tgt := 90) (by decide) ?_
    refine zr_ireturn dX1_isConsistent_90 rfl (by first | rfl | exact z_nb _) ?_
    exact k _ y1
theorem kX1_alarmRate {G : State} {d rc rs : Nat} {ah : zH} {Q : zRs → zH → Prop} {F0 : Nat → Prop} {gd q D lb tx a h lv n : Nat} {s : Int → Int} {sv : Option (Int → Int)} {hs : List (Int → Int)} {ln : List Int} {tp : Int → Int} {tn er fl ml : Int} {v : Value} {f gl ft : Nat → Value} {hl : List Nat} (H : zGc G F0 gd q D lb tx ah s sv hs ln tp tn er fl a v h f hl lv n ml gl ft) {B : Int} (hI : pI B s) (hB : B < 100) (hd : 20 ≤ d) (hc : 10 ≤ rc) (hs9 : 30 ≤ rs) (k : s 9 ≠ 0 → Q (.inl (some (.float (FP.fdiv (FP.i2f (zi (s 10))) (FP.i2f (zi (s 9))))))) ah) (kx : s 9 = 0 → ∀ ah9 q, zGr ah ah9 → Q (.inr ("java/lang/ArithmeticException", q)) ah9) : zW G mX1_alarmRate d rc rs 0 (zent [.ref gd]) [] ah Q := by
  refine zW_open 0 [some (.ref gd)] rfl ?_
  obtain ⟨w, e, n1, mc, f1, ps, l, g, tv, HS⟩ := id H.2.1
  have hV := hI.1
  have hY := hI.2.1
  have vv := hV.h
  have hT := hI.2.2.2.2
  have hcn := hI.2.2.2.1
  have g9 := hV.g 9
  have g10 := hV.g 10
  refine zr_aload_n dX1_alarmRate_0 rfl rfl ?_
  refine zr_getf dX1_alarmRate_1 nX1 (k := 0) (by decide) q274 (Or.inl rfl) H.1 rfl ?_
  refine zr_getfN dX1_alarmRate_4 nX2 (k := 7) (by decide) q196 HS.1 rfl ?_
  refine zr_ifne dX1_alarmRate_7 (tgt := 18) (by decide) (by omega) (fun h7 => ?_) (fun h7 => ?_)
  · refine zr_aload_n dX1_alarmRate_18 rfl rfl ?_
    refine zr_getf dX1_alarmRate_19 nX1 (k := 0) (by decide) q274 (Or.inl rfl) H.1 rfl ?_
    refine zr_getfN dX1_alarmRate_22 nX2 (k := 8) (by decide) q198 HS.1 rfl ?_
    refine zr_i2f dX1_alarmRate_25 ?_
    refine zr_aload_n dX1_alarmRate_26 rfl rfl ?_
    refine zr_getf dX1_alarmRate_27 nX1 (k := 0) (by decide) q274 (Or.inl rfl) H.1 rfl ?_
    refine zr_getfN dX1_alarmRate_30 nX2 (k := 7) (by decide) q196 HS.1 rfl ?_
    refine zr_i2f dX1_alarmRate_33 ?_
    refine zr_fdiv dX1_alarmRate_34 (z_fq (by omega) (by omega)) ?_
    refine zr_freturn dX1_alarmRate_35 rfl ?_
    exact k (by omega)
  · refine zr_throw0 nJ26 exTrailGuide_279_281 z_thr dX1_alarmRate_10 dX1_alarmRate_13 dX1_alarmRate_14 dX1_alarmRate_17 (by decide) (by omega) (by omega) (by omega) (fun q hq => zX_out (fun x hx => nomatch hx) ?_)
    exact kx (by omega) _ q (zGr.up hq)
theorem kX1_meanTrailLength {G : State} {d rc rs : Nat} {ah : zH} {Q : zRs → zH → Prop} {F0 : Nat → Prop} {gd q D lb tx a h lv n : Nat} {s : Int → Int} {sv : Option (Int → Int)} {hs : List (Int → Int)} {ln : List Int} {tp : Int → Int} {tn er fl ml : Int} {v : Value} {f gl ft : Nat → Value} {hl : List Nat} (H : zGc G F0 gd q D lb tx ah s sv hs ln tp tn er fl a v h f hl lv n ml gl ft) {B : Int} (hI : pI B s) (hd : 20 ≤ d) (hc : 10 ≤ rc) (hs9 : 30 ≤ rs) (k : pMn s 12 ≠ 0 → Q (.inl (some (.double (FP.ddiv (FP.i2d (zi (pSm s))) (FP.i2d (zi (pMn s 12))))))) ah) (kx : pMn s 12 = 0 → ∀ ah9 q, zGr ah ah9 → Q (.inr ("java/lang/ArithmeticException", q)) ah9) : zW G mX1_meanTrailLength d rc rs 0 (zent [.ref gd]) [] ah Q := by
  refine zW_open 0 [some (.ref gd)] rfl ?_
  obtain ⟨w, e, n1, mc, f1, ps, l, g, tv, HS⟩ := id H.2.1
  have hV := hI.1
  have hY := hI.2.1
  have vv := hV.h
  have hT := hI.2.2.2.2
  have mb := pT2_b (s := s) 144
  have me := pT2_mn hY hV
  have sb := pS2_b hV 144 (by decide)
  have se := pS2_sm hY hV
  refine zr_aload_n dX1_meanTrailLength_0 rfl rfl ?_
  refine zr_getf dX1_meanTrailLength_1 nX1 (k := 0) (by decide) q274 (Or.inl rfl) H.1 rfl ?_
  refine zc_v0 dX1_meanTrailLength_4 hX2_countTrails gX2_countTrails rfl rfl 0 0 0 (by omega) (Nat.zero_le _) (Nat.zero_le _) q318 q319 q320 HS.rc ?_
  refine kX2_countTrails HS hV (zK_i ?_)
  rw [pT2_h hY hV]
  refine zr_ifne dX1_meanTrailLength_7 (tgt := 18) (by decide) (by omega) (fun h7 => ?_) (fun h7 => ?_)
  · refine zr_aload_n dX1_meanTrailLength_18 rfl rfl ?_
    refine zr_getf dX1_meanTrailLength_19 nX1 (k := 0) (by decide) q274 (Or.inl rfl) H.1 rfl ?_
    refine zc_v0 dX1_meanTrailLength_22 hX2_sumLengths gX2_sumLengths rfl rfl 0 0 0 (by omega) (Nat.zero_le _) (Nat.zero_le _) q1722 q1723 q1724 HS.rc ?_
    refine kX2_sumLengths HS hV (zK_i ?_)
    rw [se]
    refine zr_i2d dX1_meanTrailLength_25 ?_
    refine zr_aload_n dX1_meanTrailLength_26 rfl rfl ?_
    refine zr_getf dX1_meanTrailLength_27 nX1 (k := 0) (by decide) q274 (Or.inl rfl) H.1 rfl ?_
    refine zc_v0 dX1_meanTrailLength_30 hX2_countTrails gX2_countTrails rfl rfl 0 0 0 (by omega) (Nat.zero_le _) (Nat.zero_le _) q318 q319 q320 HS.rc ?_
    refine kX2_countTrails HS hV (zK_i ?_)
    rw [pT2_h hY hV]
    refine zr_i2d dX1_meanTrailLength_33 ?_
    refine zr_ddiv dX1_meanTrailLength_34 (z_dq (by rw [← se]; omega) (by omega)) ?_
    refine zr_dreturn dX1_meanTrailLength_35 rfl ?_
    exact k (by omega)
  · refine zr_throw0 nJ26 exTrailGuide_279_281 z_thr dX1_meanTrailLength_10 dX1_meanTrailLength_13 dX1_meanTrailLength_14 dX1_meanTrailLength_17 (by decide) (by omega) (by omega) (by omega) (fun q hq => zX_out (fun x hx => nomatch hx) ?_)
    exact kx (by omega) _ q (zGr.up hq)
