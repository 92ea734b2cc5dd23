set_option maxRecDepth 100000
/-! ===== the component: startTour, new states ===== -/
theorem pFo_cv {s v : Int → Int} {to p : Int} (hV : pV s) (hY : pSy s) (ht : pR to) (hD : pDist 1000000 s to v) (hp : pR p) (hl : pFr 99999 s to p < 99999) (hn : p ≠ to) : pFw (pSuT s v p) (s 0).toNat 0 = pFo s (pFr 99999 s to) p := by
  have vv := hV.h
  have hvp := (pCv_lt hV ht hD hp).mpr hl
  have ep := pCv_v hV ht hD hp hvp
  have hD9 := pFr_d (I := 99999) (s := s) ht (by decide)
  obtain ⟨u, u1, u2, u3⟩ := hD9.2.2.2 p hp hn hl
  have hy := hY u p u1 hp
  have hu := hy.2 u2
  have tu := hV.tr u1 hp
  have hvu := (pCv_lt hV ht hD u1).mpr (by omega)
  have eu := pCv_v hV ht hD u1 hvu
  rw [pFw_fo _ _ ⟨u, u1.1, by omega, by rw [← hy.1]; exact u2, by rw [← hy.1]; omega⟩]
  unfold pFo
  refine pFoN_c ep _ _ (fun j j0 j1 tj => ?_)
  have hjr : pR j := ⟨j0, by omega⟩
  have a1 := hD.2.2.1 p j hp hjr tj
  have a2 := (hV.tr hp hjr).2
  have b1 := pDist_b hV hD hp hvp
  have ej := pCv_v hV ht hD hjr (by omega)
  rw [ep, ej]
theorem kX2_startTourL {G : State} {d R T : Nat} {Q : zRs → zH → Prop} {ahB : zH} {F U : Nat → Prop} {a w e n l : Nat} {s : Int → Int} {mc : Int} {f g : Nat → Value} {ps : List Nat} {tv : Value} {r pa : Nat} {x y : Int} {v : Int → Int} {LL : List Int} (H : zSt G F U ahB a s w e n mc f ps l g tv) (hV : pV s) (hY : pSy s) (hyr : pR y) (hD : pDist 1000000 s y v) (hr : zA12 ahB r v) (hp0 : ahB pa = none) (hd : 27 ≤ d) (n9 : Nat) : ∀ (pre : List Int) (p : Int) (rc rs : Nat) (ah : zH) (g4 : Nat → Value), pre.length + n9 = 12 → pRk (pFr 99999 s y) p + 1 ≤ n9 → pR p → pFr 99999 s y p < 99999 → zGr ahB ah → ah pa = some (.inr (.int, 12, g4)) → (∀ (j : Nat) (u : Int), (pre ++ [p])[j]? = some u → g4 j = .int (zi u)) → pre ++ pPath s (pFr 99999 s y) y n9 p = LL → R + n9 ≤ rc → T + 3 * n9 ≤ rs → (∀ ah9 g9, zGr ahB ah9 → ah9 pa = some (.inr (.int, 12, g9)) → 1 ≤ LL.length → LL.length ≤ 12 → (∀ (j : Nat) (u : Int), LL[j]? = some u → g9 j = .int (zi u)) → zW G mX2_startTour d R T 104 [some (.ref a), some (.int (zi x)), some (.int (zi y)), some (.ref r), some (.ref pa), some (.int (zi ((LL.length : Nat)))), none] [] ah9 Q) → zW G mX2_startTour d rc rs 70 [some (.ref a), some (.int (zi x)), some (.int (zi y)), some (.ref r), some (.ref pa), some (.int (zi (((pre.length : Nat) : Int) + 1))), none] [] ah Q := by
  have hD9 := pFr_d (I := 99999) (s := s) hyr (by decide)
  induction n9 with
  | zero =>
    intro pre p rc rs ah g4 g1 g2 g3 g5 g6 g7 g8 g9 g10 g11 k
    have rb := pRk_b (f := pFr 99999 s y) g3
    obtain ⟨p0, p1⟩ := id g3
    obtain ⟨y0, y1⟩ := id hyr
    have e8 : g4 (((pre.length : Nat) : Int) + 1 - 1).toNat = .int (zi p) := by
      rw [show (((pre.length : Nat) : Int) + 1 - 1).toNat = pre.length by omega]
      exact g8 _ _ (by rw [List.getElem?_append_right (Nat.le_refl _)]; simp)
    refine zr_aload dX2_startTour_70 rfl rfl ?_
    refine zr_iload dX2_startTour_72 rfl ?_
    refine zr_iconst dX2_startTour_74 ?_
    refine zr_isub dX2_startTour_75 ?_
    refine zr_iaload dX2_startTour_76 (Or.inl g7) (by decide) (by omega) e8 ?_
    refine zr_iload_n dX2_startTour_77 rfl ?_
    refine zr_icmpeq dX2_startTour_78 (tgt := 104) (by decide) (by omega) (by omega) (fun h78 => ?_) (fun h78 => ?_)
    · exfalso; omega
    · exfalso; omega
  | succ n9 ih =>
    intro pre p rc rs ah g4 g1 g2 g3 g5 g6 g7 g8 g9 g10 g11 k
    have rb := pRk_b (f := pFr 99999 s y) g3
    obtain ⟨p0, p1⟩ := id g3
    obtain ⟨y0, y1⟩ := id hyr
    have e8 : g4 (((pre.length : Nat) : Int) + 1 - 1).toNat = .int (zi p) := by
      rw [show (((pre.length : Nat) : Int) + 1 - 1).toNat = pre.length by omega]
      exact g8 _ _ (by rw [List.getElem?_append_right (Nat.le_refl _)]; simp)
    refine zr_aload dX2_startTour_70 rfl rfl ?_
    refine zr_iload dX2_startTour_72 rfl ?_
    refine zr_iconst dX2_startTour_74 ?_
    refine zr_isub dX2_startTour_75 ?_
    refine zr_iaload dX2_startTour_76 (Or.inl g7) (by decide) (by omega) e8 ?_
    refine zr_iload_n dX2_startTour_77 rfl ?_
    refine zr_icmpeq dX2_startTour_78 (tgt := 104) (by decide) (by omega) (by omega) (fun h78 => ?_) (fun h78 => ?_)
    · unfold pPath at g9
      rw [if_pos (by omega)] at g9
      have hl : LL.length = pre.length + 1 := by rw [← g9]; simp
      rw [show ((pre.length : Nat) : Int) + 1 = ((LL.length : Nat) : Int) by omega]
      exact zW_room (Nat.le_refl _) (by omega) (by omega) (k ah g4 g6 g7 (by omega) (by omega) (fun j u hj => g8 j u (by rw [g9]; exact hj)))
    · have hpy : p ≠ y := h78
      have hpo := hD9.pos g3 hpy g5
      have hlt0 : 1 ≤ pRk (pFr 99999 s y) p := by
        have a := pRk_lt (f := pFr 99999 s y) (p := p) hyr (by rw [hD9.1]; exact hpo)
        have b := (pRk_b (f := pFr 99999 s y) hyr).1
        omega
      have fo := pFo_ok hV hY hD9 g3 hpy g5
      have tr := hV.tr g3 fo.1
      unfold pPath at g9
      rw [if_neg hpy] at g9
      refine zr_aload dX2_startTour_81 rfl rfl ?_
      refine zr_iload dX2_startTour_83 rfl ?_
      refine zr_aload_n dX2_startTour_85 rfl rfl ?_
      refine zr_aload dX2_startTour_86 rfl rfl ?_
      refine zr_iload dX2_startTour_88 rfl ?_
      refine zr_iconst dX2_startTour_90 ?_
      refine zr_isub dX2_startTour_91 ?_
      refine zr_iaload dX2_startTour_92 (Or.inl g7) (by decide) (by omega) e8 ?_
      refine zr_aload_n dX2_startTour_93 rfl rfl ?_
      refine zc_v2 dX2_startTour_94 hX2_successor gX2_successor rfl rfl 26 1 3 (by omega) (by omega) (by omega) q1246 q1248 sp16 (H.gr g6).rc ?_
      refine kX2_successor (H.gr g6) hV (hr.gr g6) hD.2.1 g3 (by omega) (by omega) (by omega) (fun b o hb => zK_i ?_)
      rw [pFo_cv hV hY hyr hD g3 g5 hpy]
      refine zr_iastore dX2_startTour_97 (z_upk hb g7) (by decide) (by omega) ?_
      refine zr_iinc dX2_startTour_98 rfl (by decide) (zs7_5 rfl ?_)
      refine zr_goto dX2_startTour_101 (tgt := 70) (by decide) ?_
      rw [show ((pre.length : Nat) : Int) + 1 + 1 = (((pre ++ [p]).length : Nat) : Int) + 1 by simp]
      refine ih (pre ++ [p]) (pFo s (pFr 99999 s y) p) _ _ _ _ (by simp; omega) (by have := pRk_lt (f := pFr 99999 s y) (p := p) fo.1 (by omega); omega) fo.1 (by omega) ((g6.tr (zGr.up hb)).tu hp0) z_up_s (fun j u hj => ?_) (by rw [List.append_assoc]; exact g9) (by omega) (by omega) k
      · rw [show (((pre.length : Nat) : Int) + 1).toNat = pre.length + 1 by omega]
        by_cases e : j = pre.length + 1
        · rw [e, z_upV_s]
          rw [e, List.getElem?_append_right (by simp)] at hj
          simp at hj
          rw [hj]
        · rw [z_upV_n e]
          have hjl := (List.getElem?_eq_some_iff.mp hj).1
          simp at hjl
          rw [List.getElem?_append_left (by simp; omega)] at hj
          exact g8 j u hj
theorem kX2_pointOf' {G : State} {d rc rs : Nat} {ah : zH} {Q : zRs → zH → Prop} {F U : Nat → Prop} {a w e n l : Nat} {s : Int → Int} {mc : Int} {f g : Nat → Value} {ps : List Nat} {tv : Value} (H : zSt G F U ah a s w e n mc f ps l g tv) {i : Int} (h0 : 0 ≤ i) (h1 : i < s 0) (hd : 3 ≤ d) (k : ∀ p, ¬ F p → zPt ah p (pOf s i 0) (pOf s i 1) → Q (.inl (some (.ref p))) ah) : zW G mX2_pointOf d rc rs 0 (zent [.ref a, .int (zi i)]) [] ah Q := by
  obtain ⟨wp, hp1, hp2⟩ := H.wp h0 h1
  obtain ⟨-, p, hpF, hp3, hp4⟩ := id hp2
  refine zW_open 0 [some (.ref a), some (.int (zi i))] rfl ?_
  refine zr_aload_n dX2_pointOf_0 rfl rfl ?_
  refine zr_getf dX2_pointOf_1 nX2 (k := 0) (by decide) q183 (Or.inl rfl) H.1 rfl ?_
  refine zr_iload_n dX2_pointOf_4 rfl ?_
  refine zc_v1 dX2_pointOf_5 hJ2_get gJ2_get rfl rfl 2 0 0 (by omega) (Nat.zero_le _) (Nat.zero_le _) q840 q841 q842 H.2.1.rc ?_
  refine kJ2_get H.2.1 h0 hp1 (by omega) (zK_i ?_)
  refine zr_cast dX2_pointOf_8 q854 hp2.rc ?_
  refine zc_v0 dX2_pointOf_11 hX5_point gX5_point rfl rfl 0 0 0 (by omega) (Nat.zero_le _) (Nat.zero_le _) q855 q856 q857 hp2.rc ?_
  refine kX5_point hp3 (zK_i ?_)
  refine zr_areturn dX2_pointOf_14 rfl rfl rfl ?_
  exact k p hpF hp4
theorem kX2_startTour {G : State} {d rc rs : Nat} {ah : zH} {Q : zRs → zH → Prop} {F : Nat → Prop} {ah0 : zH} {a w e n l : Nat} {s : Int → Int} {mc : Int} {f g : Nat → Value} {ps : List Nat} {tv : Value} (H : zSt G F (zFre ah0) ah a s w e n mc f ps l g tv) (hg : zGr ah0 ah) {B : Int} (hI : pI B s) {x y : Int} (qx : -2147483648 ≤ x ∧ x ≤ 2147483647) (qy : -2147483648 ≤ y ∧ y ≤ 2147483647) (hAl : s 1 = 0 → s 5 = 0) (hF : ∀ b, F b → zFre ah0 b) (hd : 40 ≤ d) (hc : 80 ≤ rc) (hs : 260 ≤ rs) (k : zAns G F ah0 a (zE ["java/lang/IndexOutOfBoundsException", "java/lang/IllegalArgumentException", "java/lang/IllegalStateException", "java/util/NoSuchElementException"]) (pTour s x y) Q) : zW G mX2_startTour d rc rs 0 (zent [.ref a, .int (zi x), .int (zi y)]) [] ah Q := by
  refine zW_open 4 [some (.ref a), some (.int (zi x)), some (.int (zi y)), none, none, none, none] rfl ?_
  rcases id H.2.2.2.2.2.2.1 with ⟨t1, t2⟩ | ⟨t1, t, rt0, hk0, f0, t2, t3⟩ <;> subst t2
  · have vv := hI.1.h
    have hV := hI.1
    have hY := hI.2.1
    refine zr_aload_n dX2_startTour_0 rfl rfl ?_
    refine zr_iload_n dX2_startTour_1 rfl ?_
    refine zr_iload_n dX2_startTour_2 rfl ?_
    refine zc_v2 dX2_startTour_3 hX2_checkPair gX2_checkPair rfl rfl 9 2 12 (by omega) (by omega) (by omega) q1186 q1187 q1188 H.rc ?_
    refine kX2_checkPair H hV (by omega) (by omega) (by omega) (by omega) (by omega) (fun h3 => zK_v ?_) (fun h3 q hq => zK_x (zX_out (fun x hx => nomatch hx) ?_))
    rotate_left
    · exact k.thr (c := 1) (v := 0) (s := s) (by unfold pTour; rw [if_pos h3]) (by decide) (hg.tr (zGr.up hq))
    obtain ⟨a1, a2⟩ := h3
    have b1 := pPt_b a1 hV
    have b2 := pPt_b a2 hV
    have hxr : pR x := ⟨by omega, by omega⟩
    have hyr : pR y := ⟨by omega, by omega⟩
    have tb := hV.tr hxr hyr
    have n1 : ¬ ¬ (pPt s x = true ∧ pPt s y = true) := fun z => z ⟨a1, a2⟩
    refine zr_iload_n dX2_startTour_6 rfl ?_
    refine zr_iload_n dX2_startTour_7 rfl ?_
    refine zr_icmpeq dX2_startTour_8 (tgt := 15) (by decide) (by omega) (by omega) (fun h8 => ?_) (fun h8 => ?_)
    · refine zr_iconst dX2_startTour_15 ?_
      refine zc_sN1 rfl dX2_startTour_16 hX1_checkArgument gX1_checkArgument rfl rfl 8 1 6 (by omega) (by omega) (by omega) q1056 q1043 ?_
      refine kX1_checkArgument (b := false) (by omega) (by omega) (by omega) (fun h => absurd h (by decide)) (fun h16 q16 hq16 => zK_x (zX_out (fun x hx => nomatch hx) ?_))
      exact k.thr (c := 2) (v := 0) (s := s) (by unfold pTour; rw [if_neg n1, if_pos h8]) (by decide) (hg.tr (zGr.up hq16))
    · refine zr_iconst dX2_startTour_11 ?_
      refine zr_goto dX2_startTour_12 (tgt := 16) (by decide) ?_
      refine zc_sN1 rfl dX2_startTour_16 hX1_checkArgument gX1_checkArgument rfl rfl 8 1 6 (by omega) (by omega) (by omega) q1056 q1043 ?_
      refine kX1_checkArgument (b := true) (by omega) (by omega) (by omega) (fun _ => zK_v ?_) (fun h => absurd h (by decide))
      refine zr_aload_n dX2_startTour_19 rfl rfl ?_
      refine zr_getf dX2_startTour_20 nX2 (k := 2) (by decide) q185 (Or.inl rfl) H.1 rfl ?_
      refine zr_ifnonnullN dX2_startTour_23 ?_
      refine zr_iconst dX2_startTour_26 ?_
      refine zr_goto dX2_startTour_27 (tgt := 31) (by decide) ?_
      refine zc_sN1 rfl dX2_startTour_31 hX1_checkState gX1_checkState rfl rfl 8 1 6 (by omega) (by omega) (by omega) q1057 q1058 ?_
      refine kX1_checkState (b := true) (by omega) (by omega) (by omega) (fun _ => zK_v ?_) (fun h => absurd h (by decide))
      refine zr_aload_n dX2_startTour_34 rfl rfl ?_
      refine zr_iload_n dX2_startTour_35 rfl ?_
      refine zc_v1 dX2_startTour_36 hX2_distancesFrom gX2_distancesFrom rfl rfl 27 14 48 (by omega) (by omega) (by omega) q1245 q420 q421 H.rc ?_
      refine kX2_distancesFrom H hV hY hyr (by omega) (by omega) (by omega) (by omega) (fun ah1 r v z1 z2 z3 hD => zK_i ?_)
      have hvb := hD.2.1 x hxr
      obtain ⟨gr, r1, r2⟩ := id z3
      have H1 := H.gr z1
      refine zr_astore_n dX2_startTour_39 (by decide) rfl (zs7_3 rfl ?_)
      refine zr_aload_n dX2_startTour_40 rfl rfl ?_
      refine zr_iload_n dX2_startTour_41 rfl ?_
      refine zr_iaload dX2_startTour_42 (Or.inl r1) (by decide) (by omega) (z12e r2 hxr) ?_
      refine zr_ldc dX2_startTour_43 q427 (n := 1000000) rfl ?_
      refine zr_icmpge dX2_startTour_45 (tgt := 52) (by decide) (by omega) (by omega) (fun h45 => ?_) (fun h45 => ?_)
      · refine zr_iconst dX2_startTour_52 ?_
        refine zc_sN1 rfl dX2_startTour_53 hX1_checkElement gX1_checkElement rfl rfl 8 1 6 (by omega) (by omega) (by omega) q1227 q1228 ?_
        refine kX1_checkElement (b := false) (by omega) (by omega) (by omega) (fun h => absurd h (by decide)) (fun h53 q53 hq53 => zK_x (zX_out (fun x hx => nomatch hx) ?_))
        exact k.thr (c := 4) (v := 0) (s := s) (by unfold pTour; rw [if_neg n1, if_neg h8, if_neg (by omega), if_pos (Int.not_lt.mp (fun z => by have := (pCv_lt hV hyr hD hxr).mpr z; omega))]) (by decide) ((hg.tr z1).tr (zGr.up hq53))
      · refine zr_iconst dX2_startTour_48 ?_
        refine zr_goto dX2_startTour_49 (tgt := 53) (by decide) ?_
        refine zc_sN1 rfl dX2_startTour_53 hX1_checkElement gX1_checkElement rfl rfl 8 1 6 (by omega) (by omega) (by omega) q1227 q1228 ?_
        refine kX1_checkElement (b := true) (by omega) (by omega) (by omega) (fun _ => zK_v ?_) (fun h => absurd h (by decide))
        have hlf := (pCv_lt hV hyr hD hxr).mp (by omega)
        refine zr_bipush dX2_startTour_56 rfl ?_
        refine zr_newarray (ty := .int) dX2_startTour_58 rfl q222 (fun _ z => by cases z) (by omega) (by omega) (by show (12 : Int).toNat ≤ _; simp; omega) (fun pa hpa => ?_)
        have H2 := H1.gr (zGr.up (o := .inr (.int, (12 : Int).toNat, fun _ => defaultValue .int)) hpa)
        refine zr_astore dX2_startTour_60 (by decide) rfl (zs7_4 rfl ?_)
        refine zr_iconst dX2_startTour_62 ?_
        refine zr_istore dX2_startTour_63 (by decide) (zs7_5 rfl ?_)
        refine zr_aload dX2_startTour_65 rfl rfl ?_
        refine zr_iconst dX2_startTour_67 ?_
        refine zr_iload_n dX2_startTour_68 rfl ?_
        refine zr_iastore dX2_startTour_69 z_up_s (by decide) (by omega) ?_
        rw [z_up_o]
        have rk := (pRk_b (f := pFr 99999 s y) hxr).2
        refine kX2_startTourL (R := 30) (T := 60) (LL := pRoute s x y) H1 hV hY hyr hD z3 hpa (by omega) 12 [] x _ _ _ _ (by decide) (by omega) hxr hlf (zGr.up hpa) z_up_s (fun j u hj => ?_) rfl (by omega) (by simp; omega) (fun ah4 g4 y1 y2 y3 y4 y5 => ?_)
        · cases j with
          | zero => simp at hj; rw [hj]; rfl
          | succ j => simp at hj
        have H4 := H1.gr y1
        have g4' := (hg.tr z1).tr y1
        refine zr_iload dX2_startTour_104 rfl ?_
        refine zr_newarray (ty := .int) dX2_startTour_106 rfl q222 (fun _ z => by cases z) (by omega) (by omega) (by simp; omega) (fun rt hrt => ?_)
        have npr : pa ≠ rt := fun z => by rw [← z, y2] at hrt; cases hrt
        refine zr_astore dX2_startTour_108 (by decide) rfl (zs7_6 rfl ?_)
        refine zr_aload dX2_startTour_110 rfl rfl ?_
        refine zr_iconst dX2_startTour_112 ?_
        refine zr_aload dX2_startTour_113 rfl rfl ?_
        refine zr_iconst dX2_startTour_115 ?_
        refine zr_iload dX2_startTour_116 rfl ?_
        refine zr_copy dX2_startTour_118 q1022 q523 q522 q115 (Or.inl (z_upk hrt y2)) z_up_s (by omega) (by omega) (fun i hi => ?_) (by decide) (by omega) ?_
        · have hil : i < (pRoute s x y).length := by simp at hi; omega
          rw [show (Int.toNat 0 + i) = i by simp, y5 i _ (List.getElem?_eq_getElem hil)]
          exact ⟨rfl, trivial⟩
        rw [z_up_o]
        have hfc : ∀ j : Nat, j < (pRoute s x y).length → va_cpy g4 (fun _ => defaultValue .int) (Int.toNat 0) (Int.toNat 0) (((pRoute s x y).length : Nat) : Int).toNat j = .int (zi ((pRoute s x y).getD j 0)) := fun j hj => by
          unfold va_cpy
          rw [if_pos (by simp; omega)]
          rw [show Int.toNat 0 + (j - Int.toNat 0) = j by simp, y5 j _ (List.getElem?_eq_getElem hj), List.getD_eq_getElem?_getD, List.getElem?_eq_getElem hj]
          rfl
        rw [Int.toNat_natCast] at hfc ⊢
        generalize va_cpy g4 (fun _ => defaultValue .int) (Int.toNat 0) (Int.toNat 0) (pRoute s x y).length = gq at hfc ⊢
        have y6 := y1.tr (zGr.up (o := .inr (.int, (pRoute s x y).length, gq)) hrt)
        have H5 := H1.gr y6
        have g5' := (hg.tr z1).tr y6
        have rr5 : z_up ah4 rt (.inr (.int, (pRoute s x y).length, gq)) rt = some (.inr (.int, (pRoute s x y).length, gq)) := z_up_s
        have hF5 : ∀ b, z_up ah4 rt (.inr (.int, (pRoute s x y).length, gq)) b = none → ¬ F b := fun b hb z => hF b z (g5'.no hb)
        have nFrt : ¬ F rt := fun z => hF _ z (g4'.no hrt)
        generalize z_up ah4 rt (.inr (.int, (pRoute s x y).length, gq)) = ah5 at H5 g5' rr5 hF5 ⊢
        refine zr_aload_n dX2_startTour_121 rfl rfl ?_
        refine zr_new (fs := [.null, .int (zi 0), .null]) dX2_startTour_122 nX7 q1253 q1254 q123 (z_ble rfl) dfX7 (by omega) (by omega) (fun tq htq => ?_)
        refine zr_dup dX2_startTour_125 rfl ?_
        refine zr_aload dX2_startTour_126 rfl rfl ?_
        refine zr_iconst dX2_startTour_128 ?_
        refine zr_aload_n dX2_startTour_129 rfl rfl ?_
        refine zr_iload_n dX2_startTour_130 rfl ?_
        refine zc_v1 dX2_startTour_131 hX2_pointOf gX2_pointOf rfl rfl 3 0 0 (by omega) (Nat.zero_le _) (Nat.zero_le _) q836 q838 sp6 (H5.gr (zGr.up htq)).rc ?_
        have H6 := H5.gr (zGr.up (o := .inl (5, [.null, .int (zi 0), .null])) htq)
        obtain ⟨wpp, wq1, wq2⟩ := H6.wp (i := x) (by omega) (by omega)
        refine kX2_pointOf' H6 (by omega) (by omega) (by omega) (fun hk nFk w0 => zK_i ?_)
        refine zc_iN3 rfl rfl rfl dX2_startTour_134 hX7_init gX7_init rfl rfl 2 0 0 (by omega) (Nat.zero_le _) (Nat.zero_le _) q1255 q1256 ?_
        refine kX7_init z_up_s ⟨_, _, z_upk htq rr5⟩ w0.rc (by omega) (zK_v ?_)
        rw [z_up_o]
        refine zr_putf dX2_startTour_137 nX2 (k := 2) (by decide) q185 (Or.inl rfl) (Or.inl rfl) (z_upk htq H5.1) (z_ble rfl) rfl rfl ?_
        have nta : tq ≠ a := fun z => by rw [z, H5.1] at htq; cases htq
        have hpt := w0
        rw [zSf_2, show zSf G w l (.ref tq) s = zSf G w l (.ref tq) (pTo s (pRoute s x y) (pOf s x 0) (pOf s x 1)) from by
          have t5 := (pTo_1 (s := s) (l := pRoute s x y) (x := pOf s x 0) (y := pOf s x 1)).2.2.2.2
          unfold zSf
          rw [t5, hAl (by omega), pTo_n (j := 6) (by omega), pTo_n (j := 8) (by omega), pTo_n (j := 7) (by omega), pTo_n (j := 9) (by omega), pTo_n (j := 10) (by omega), pTo_n (j := 11) (by omega)]]
        have hto := pTo_1 (s := s) (l := pRoute s x y) (x := pOf s x 0) (y := pOf s x 1)
        have H7 := (H5.gr (zGr.up (o := .inl (5, [.ref rt, .int (zi 1), .ref hk])) htq)).setA (s' := pTo s (pRoute s x y) (pOf s x 0) (pOf s x 1)) (tv' := .ref tq) vv.1.2 (pTo_n (by omega)) (fun j _ _ => pTo_n (by omega)) (Or.inr ⟨by rw [hto.1]; omega, tq, rt, hk, gq, rfl, hF5 _ htq, nFrt, nFk, by rw [hto.2.1]; exact z_up_s, by rw [hto.1, Int.toNat_natCast]; exact z_upk htq rr5, fun j hj => by rw [hto.1, Int.toNat_natCast] at hj; rw [pTo_r hj]; exact hfc j hj, by
          rw [hto.2.2.1, hto.2.2.2.1]
          unfold zPt at w0 ⊢
          have nk : hk ≠ tq := fun z => by rw [z, z_up_s] at w0; cases w0
          rw [z_up_n nk] at w0 ⊢
          exact w0⟩)
        refine zr_iload dX2_startTour_140 rfl ?_
        refine zr_ireturn dX2_startTour_142 rfl (by first | rfl | exact z_nb _) ?_
        exact k.ok (by unfold pTour; rw [if_neg n1, if_neg h8, if_neg (by omega), if_neg (by omega)]) ((g5'.tr (zGr.up htq)).tu H.ndA) ⟨_, _, _, _, _, _, _, _, _, H7⟩
  · have vv := hI.1.h
    have hV := hI.1
    have hY := hI.2.1
    refine zr_aload_n dX2_startTour_0 rfl rfl ?_
    refine zr_iload_n dX2_startTour_1 rfl ?_
    refine zr_iload_n dX2_startTour_2 rfl ?_
    refine zc_v2 dX2_startTour_3 hX2_checkPair gX2_checkPair rfl rfl 9 2 12 (by omega) (by omega) (by omega) q1186 q1187 q1188 H.rc ?_
    refine kX2_checkPair H hV (by omega) (by omega) (by omega) (by omega) (by omega) (fun h3 => zK_v ?_) (fun h3 q hq => zK_x (zX_out (fun x hx => nomatch hx) ?_))
    rotate_left
    · exact k.thr (c := 1) (v := 0) (s := s) (by unfold pTour; rw [if_pos h3]) (by decide) (hg.tr (zGr.up hq))
    obtain ⟨a1, a2⟩ := h3
    have b1 := pPt_b a1 hV
    have b2 := pPt_b a2 hV
    have hxr : pR x := ⟨by omega, by omega⟩
    have hyr : pR y := ⟨by omega, by omega⟩
    have tb := hV.tr hxr hyr
    have n1 : ¬ ¬ (pPt s x = true ∧ pPt s y = true) := fun z => z ⟨a1, a2⟩
    refine zr_iload_n dX2_startTour_6 rfl ?_
    refine zr_iload_n dX2_startTour_7 rfl ?_
    refine zr_icmpeq dX2_startTour_8 (tgt := 15) (by decide) (by omega) (by omega) (fun h8 => ?_) (fun h8 => ?_)
    · refine zr_iconst dX2_startTour_15 ?_
      refine zc_sN1 rfl dX2_startTour_16 hX1_checkArgument gX1_checkArgument rfl rfl 8 1 6 (by omega) (by omega) (by omega) q1056 q1043 ?_
      refine kX1_checkArgument (b := false) (by omega) (by omega) (by omega) (fun h => absurd h (by decide)) (fun h16 q16 hq16 => zK_x (zX_out (fun x hx => nomatch hx) ?_))
      exact k.thr (c := 2) (v := 0) (s := s) (by unfold pTour; rw [if_neg n1, if_pos h8]) (by decide) (hg.tr (zGr.up hq16))
    · refine zr_iconst dX2_startTour_11 ?_
      refine zr_goto dX2_startTour_12 (tgt := 16) (by decide) ?_
      refine zc_sN1 rfl dX2_startTour_16 hX1_checkArgument gX1_checkArgument rfl rfl 8 1 6 (by omega) (by omega) (by omega) q1056 q1043 ?_
      refine kX1_checkArgument (b := true) (by omega) (by omega) (by omega) (fun _ => zK_v ?_) (fun h => absurd h (by decide))
      refine zr_aload_n dX2_startTour_19 rfl rfl ?_
      refine zr_getf dX2_startTour_20 nX2 (k := 2) (by decide) q185 (Or.inl rfl) H.1 rfl ?_
      refine zr_ifnonnull dX2_startTour_23 (tgt := 30) (by decide) ?_
      refine zr_iconst dX2_startTour_30 ?_
      refine zc_sN1 rfl dX2_startTour_31 hX1_checkState gX1_checkState rfl rfl 8 1 6 (by omega) (by omega) (by omega) q1057 q1058 ?_
      refine kX1_checkState (b := false) (by omega) (by omega) (by omega) (fun h => absurd h (by decide)) (fun h31 q31 hq31 => zK_x (zX_out (fun x hx => nomatch hx) ?_))
      exact k.thr (c := 3) (v := 0) (s := s) (by unfold pTour; rw [if_neg n1, if_neg h8, if_pos t1]) (by decide) (hg.tr (zGr.up hq31))
