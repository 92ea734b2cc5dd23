set_option maxRecDepth 100000
/-! ===== the component: update ===== -/
theorem pUp0_e {s : Int → Int} {x y : Int} : z_upF (z_upF (z_upF (pDr s (pCost (s 7))) 9 (s 9 + 1)) 3 x) 4 y = pUp0 s x y := by
  unfold pUp0
  rw [pDr_c (by omega), pDr_c (by omega), pDr_c (by omega)]
  congr 1
  rw [z_upF_c (i := 9) (j := 3) (by omega), z_upF_c (i := 9) (j := 4) (by omega)]
theorem kX2_update {G : State} {d rc rs : Nat} {ah : zH} {Q : zRs → zH → Prop} {F : Nat → Prop} {ah0 : zH} {a w e n l : Nat} {s : Int → Int} {mc : Int} {f g : Nat → Value} {ps : List Nat} {tv : Value} (H : zSt G F (zFre ah0) ah a s w e n mc f ps l g tv) (hg : zGr ah0 ah) {B : Int} (hI : pI B s) {x y : Int} (qx : -2147483648 ≤ x ∧ x ≤ 2147483647) (qy : -2147483648 ≤ y ∧ y ≤ 2147483647) (hB : B < 100000) (hF : ∀ b, F b → zFre ah0 b) (hd : 12 ≤ d) (hc : 20 ≤ rc) (hs : 64 ≤ rs) (k : zAns G F ah0 a (zE ["java/lang/IllegalArgumentException", "java/lang/IllegalStateException", "java/lang/UnsupportedOperationException"]) (pUpd s x y) Q) : zW G mX2_update d rc rs 0 (zent [.ref a, .int (zi x), .int (zi y)]) [] ah Q := by
  refine zW_open 1 [some (.ref a), some (.int (zi x)), some (.int (zi y)), none] rfl ?_
  have vv := hI.1.h
  have hV := hI.1
  have hY := hI.2.1
  have hT := hI.2.2.2.2
  have hB9 := hI.2.2.2.1
  have g9 := hV.g 9
  have g11 := hV.g 11
  refine zW_tb (fun T => ?_)
  obtain ⟨m1, m2, m3, m4⟩ := z_modeF T (k := (s 7).toNat) (by omega)
  rw [← pCost_mo (by omega)] at m4
  refine zr_iload_n dX2_update_0 rfl ?_
  refine zr_iload_n dX2_update_1 rfl ?_
  refine zc_sN2 rfl dX2_update_2 hX1_checkCoordinates gX1_checkCoordinates rfl rfl 9 1 6 (by omega) (by omega) (by omega) q1038 q1039 ?_
  refine kX1_checkCoordinates (by omega) (by omega) (by omega) (by omega) (by omega) (fun h2 => zK_v ?_) (fun h2 q hq => zK_x (zX_out (fun x hx => nomatch hx) ?_))
  rotate_left
  · exact k.thr (c := 1) (v := 0) (s := s) (by unfold pUpd; rw [if_pos (by rw [h2]; decide)]) (by decide) (hg.tr (zGr.up hq))
  have n1 : ¬ ¬ pPl x y = true := fun z => z h2
  have p2 := pPl_b h2
  refine zr_aload_n dX2_update_5 rfl rfl ?_
  refine zc_v0 dX2_update_6 hX2_checkTour gX2_checkTour rfl rfl 9 1 6 (by omega) (by omega) (by omega) q1282 q1283 q1284 H.rc ?_
  refine kX2_checkTour H (by omega) (by omega) (by omega) (fun t0 => zK_v ?_) (fun h1 q hq => zK_x (zX_out (fun x hx => nomatch hx) ?_))
  rotate_left
  · exact k.thr (c := 2) (v := 0) (s := s) (by unfold pUpd; rw [if_neg n1, if_pos (by omega)]) (by decide) (hg.tr (zGr.up hq))
  refine zr_aload_n dX2_update_9 rfl rfl ?_
  refine zr_getf dX2_update_10 nX2 (k := 4) (by decide) q189 (Or.inl rfl) H.1 rfl ?_
  refine zr_ifle dX2_update_13 (tgt := 20) (by decide) (by omega) (fun h13 => ?_) (fun h13 => ?_)
  · refine zr_iconst dX2_update_20 ?_
    refine zc_sN1 rfl dX2_update_21 hX1_checkSupported gX1_checkSupported rfl rfl 8 1 6 (by omega) (by omega) (by omega) q1305 q1306 ?_
    refine kX1_checkSupported (b := false) (by omega) (by omega) (by omega) (fun h => absurd h (by decide)) (fun h21 q21 hq21 => zK_x (zX_out (fun x hx => nomatch hx) ?_))
    exact k.thr (c := 3) (v := 0) (s := s) (by unfold pUpd; rw [if_neg n1, if_neg (fun z => z t0), if_pos (by omega)]) (by decide) (hg.tr (zGr.up hq21))
  · refine zr_iconst dX2_update_16 ?_
    refine zr_goto dX2_update_17 (tgt := 21) (by decide) ?_
    refine zc_sN1 rfl dX2_update_21 hX1_checkSupported gX1_checkSupported rfl rfl 8 1 6 (by omega) (by omega) (by omega) q1305 q1306 ?_
    refine kX1_checkSupported (b := true) (by omega) (by omega) (by omega) (fun _ => zK_v ?_) (fun h => absurd h (by decide))
    rcases id H.2.2.2.2.2.2.1 with ⟨t1, -⟩ | ⟨t1, t, rt, hk, f9, t2, t3⟩
    · exfalso; omega
    subst t2
    obtain ⟨-, -, -, t6, t7, t8, t9⟩ := id t3
    have tk := hT t0
    have up1 : ∀ b o X, ah b = some o → b ≠ a → z_up ah a X b = some o := fun b o X hb hn => (z_up_n hn).trans hb
    have nta : t ≠ a := fun z => by rw [z, H.1] at t6; cases t6
    have nra : rt ≠ a := fun z => by rw [z, H.1] at t7; cases t7
    have nha : hk ≠ a := fun z => by unfold zPt at t9; rw [z, H.1] at t9; cases t9
    have nF := t3.1
    have nFr := t3.2.1
    have nFh := t3.2.2.1
    refine zr_aload_n dX2_update_24 rfl rfl ?_
    refine zr_aload_n dX2_update_25 rfl rfl ?_
    refine zr_getf dX2_update_26 nX2 (k := 6) (by decide) q193 (Or.inl rfl) H.1 rfl ?_
    refine zr_getfNS dX2_update_29 q2670 m4 ?_
    have hcb : 0 ≤ pCost (s 7) ∧ pCost (s 7) ≤ 100 := by unfold pCost; split <;> (try split) <;> omega
    refine zc_v1 dX2_update_32 hX2_consume gX2_consume rfl rfl 1 0 0 (by omega) (Nat.zero_le _) (Nat.zero_le _) q1323 q1325 sp19 H.rc ?_
    refine kX2_consume H hV (by omega) hcb (by omega) (zK_v ?_)
    refine zr_aload_n dX2_update_35 rfl rfl ?_
    refine zr_dup dX2_update_36 rfl ?_
    refine zr_getf dX2_update_37 nX2 (k := 7) (by decide) q195 (Or.inl rfl) z_up_s rfl ?_
    rw [zDr_6 (by omega : (9 : Int) ≠ 6)]
    refine zr_iconst dX2_update_40 ?_
    refine zr_iadd dX2_update_41 ?_
    refine zr_putf dX2_update_42 nX2 (k := 7) (by decide) q195 (Or.inl rfl) (Or.inl rfl) z_up_s (z_ble rfl) rfl rfl ?_
    rw [zSf_9, z_up_o]
    refine zr_aload_n dX2_update_45 rfl rfl ?_
    refine zr_aload_n dX2_update_46 rfl rfl ?_
    refine zr_getf dX2_update_47 nX2 (k := 2) (by decide) q185 (Or.inl rfl) z_up_s rfl ?_
    refine zr_new (fs := [.int (zi 0), .int (zi 0)]) dX2_update_50 nX6 q1076 q864 q111 (z_ble rfl) dfX6 (by omega) (by omega) (fun pq hpq => ?_)
    refine zr_dup dX2_update_53 rfl ?_
    refine zr_iload_n dX2_update_54 rfl ?_
    refine zr_iload_n dX2_update_55 rfl ?_
    refine zc_iN2 rfl rfl rfl dX2_update_56 hX6_init gX6_init rfl rfl 2 0 0 (by omega) (Nat.zero_le _) (Nat.zero_le _) q1077 q866 ?_
    refine kX6_init z_up_s (by omega) (zK_v ?_)
    rw [z_up_o]
    have npa : pq ≠ a := fun z => by rw [z, z_up_s] at hpq; cases hpq
    have hp0 : ah pq = none := by rw [z_up_n npa] at hpq; exact hpq
    have ukp : ∀ b o X Y, ah b = some o → b ≠ a → z_up (z_up ah a X) pq Y b = some o := fun b o X Y hb hn => by
      rw [z_up_n (fun z => by rw [z, hp0] at hb; cases hb), z_up_n hn]; exact hb
    refine zc_v1 dX2_update_59 hX7_withHiker gX7_withHiker rfl rfl 3 1 3 (by omega) (by omega) (by omega) q1328 q1329 q1330 (Or.inl ⟨5, _, TX7, 3, tyX7, nX7, ukp _ _ _ _ t6 nta⟩) ?_
    refine kX7_withHiker (ukp _ _ _ _ t6 nta) (ukp _ _ _ _ t7 nra) (by omega) (show zPt _ pq x y from z_up_s).rc (by omega) (by omega) (by omega) (fun t9n ht9 => zK_i ?_)
    refine zr_putf dX2_update_62 nX2 (k := 2) (by decide) q185 (Or.inl rfl) (Or.inl rfl) (z_upk ht9 ((z_up_n npa.symm).trans z_up_s)) (z_ble rfl) rfl rfl ?_
    have nt9 : t9n ≠ a := fun z => by rw [z, z_up_n npa.symm, z_up_s] at ht9; cases ht9
    have ntp : t9n ≠ pq := fun z => by rw [z, z_up_s] at ht9; cases ht9
    have ht0 : ah t9n = none := by rw [z_up_n ntp, z_up_n nt9] at ht9; exact ht9
    rw [zSf_2, show zSf G w l (.ref t9n) (z_upF (pDr s (pCost (s 7))) 9 (s 9 + 1)) = zSf G w l (.ref t9n) (pUp0 s x y) from by rw [← pUp0_e]; exact ((zSf_n (i := 4) (by omega)).trans (zSf_n (i := 3) (by omega))).symm]
    have H2 := ((H.setA (s' := (z_upF (pDr s (pCost (s 7))) 9 (s 9 + 1))) (tv' := .ref t) vv.1.2 ((z_upF_n (by omega)).trans (zDr_6 (by omega))) (fun j _ _ => (z_upF_n (by omega)).trans (zDr_6 (by omega))) (H.2.2.2.2.2.2.1.c (fun j hj => (z_upF_n (by omega)).trans (zDr_6 (by omega))))).gr (zGr.up (o := .inl (4, [.int (zi x), .int (zi y)])) hpq)).gr (zGr.up (o := .inl (5, [.ref rt, .int (zi (s 2)), .ref pq])) ht9)
    have u0 : ∀ j, j ≠ 3 ∧ j ≠ 4 ∧ j ≠ 9 ∧ j ≠ 6 → pUp0 s x y j = s j := fun j q => pUp0_n q
    have e0 := u0 0 (by omega); have e1 := u0 1 (by omega); have e2 := u0 2 (by omega); have e11 := u0 11 (by omega)
    have HU := H2.setA (s' := pUp0 s x y) (tv' := .ref t9n) (by rw [z_upF_n (by omega), zDr_6 (by omega)]; exact vv.1.2) (by rw [e0, z_upF_n (by omega), zDr_6 (by omega)]) (fun j _ _ => by rw [u0 j (by omega), z_upF_n (by omega), zDr_6 (by omega)]) (Or.inr ⟨by rw [e1]; exact t0, t9n, rt, pq, f9, rfl, fun z => hF _ z (hg.no ht0), nFr, fun z => hF _ z (hg.no hp0), by rw [e2]; exact z_up_s, by rw [e1]; exact z_upk ht9 (ukp _ _ _ _ t7 nra), fun j hj => by rw [e1] at hj; rw [u0 _ (by omega)]; exact t8 j hj, by rw [pUp0_3.1, pUp0_3.2]; exact (z_up_n ntp.symm).trans z_up_s⟩)
    have hVU := pUp0_v (x := x) (y := y) hV p2.1 p2.2 (by omega)
    have hTU : pTk (pUp0 s x y) := fun _ => by
      refine ⟨by rw [e2]; omega, by rw [e1, e2]; omega, fun i i1 i2 => ?_⟩
      rw [e1] at i2
      rw [u0 _ (by omega), e0]
      exact tk.2.2 i i1 i2
    have t0U : 0 < pUp0 s x y 1 := by rw [e1]; exact t0
    have fr1 : ∀ b o, ah b = some o → b ≠ a → z_up (z_up (z_up (z_up ah a (.inl (1, zSf G w l (.ref t) (z_upF (pDr s (pCost (s 7))) 9 (s 9 + 1))))) pq (.inl (4, [.int (zi x), .int (zi y)]))) t9n (.inl (5, [.ref rt, .int (zi (s 2)), .ref pq]))) a (.inl (1, zSf G w l (.ref t9n) (pUp0 s x y))) b = some o := fun b o hb hn => by
      rw [z_up_n hn, z_up_n (fun z => by rw [z, ht0] at hb; cases hb)]; exact ukp b o _ _ hb hn
    have fa1 : z_up (z_up (z_up (z_up ah a (.inl (1, zSf G w l (.ref t) (z_upF (pDr s (pCost (s 7))) 9 (s 9 + 1))))) pq (.inl (4, [.int (zi x), .int (zi y)]))) t9n (.inl (5, [.ref rt, .int (zi (s 2)), .ref pq]))) a (.inl (1, zSf G w l (.ref t9n) (pUp0 s x y))) t9n = some (.inl (5, [.ref rt, .int (zi (s 2)), .ref pq])) := (z_up_n nt9).trans z_up_s
    have fp1 : zPt (z_up (z_up (z_up (z_up ah a (.inl (1, zSf G w l (.ref t) (z_upF (pDr s (pCost (s 7))) 9 (s 9 + 1))))) pq (.inl (4, [.int (zi x), .int (zi y)]))) t9n (.inl (5, [.ref rt, .int (zi (s 2)), .ref pq]))) a (.inl (1, zSf G w l (.ref t9n) (pUp0 s x y)))) pq x y := (z_up_n npa).trans ((z_up_n ntp.symm).trans z_up_s)
    have fa9 : z_up (z_up (z_up (z_up ah a (.inl (1, zSf G w l (.ref t) (z_upF (pDr s (pCost (s 7))) 9 (s 9 + 1))))) pq (.inl (4, [.int (zi x), .int (zi y)]))) t9n (.inl (5, [.ref rt, .int (zi (s 2)), .ref pq]))) a (.inl (1, zSf G w l (.ref t9n) (pUp0 s x y))) a = some (.inl (1, zSf G w l (.ref t9n) (pUp0 s x y))) := z_up_s
    generalize z_up (z_up (z_up (z_up ah a (.inl (1, zSf G w l (.ref t) (z_upF (pDr s (pCost (s 7))) 9 (s 9 + 1))))) pq (.inl (4, [.int (zi x), .int (zi y)]))) t9n (.inl (5, [.ref rt, .int (zi (s 2)), .ref pq]))) a (.inl (1, zSf G w l (.ref t9n) (pUp0 s x y))) = ah5 at HU fr1 fa1 fp1 fa9 ⊢
    have g5 : zGr ah0 ah5 := fun b o hb => fr1 b o (hg b o hb) (fun z => by rw [z, H.ndA] at hb; cases hb)
    refine zr_aload_n dX2_update_65 rfl rfl ?_
    refine zr_aload_n dX2_update_66 rfl rfl ?_
    refine zr_getf dX2_update_67 nX2 (k := 2) (by decide) q185 (Or.inl rfl) fa9 rfl ?_
    refine zc_v0 dX2_update_70 hX7_hiker gX7_hiker rfl rfl 0 0 0 (by omega) (Nat.zero_le _) (Nat.zero_le _) q1334 q1335 q1336 (Or.inl ⟨5, _, TX7, 3, tyX7, nX7, fa1⟩) ?_
    refine kX7_hiker fa1 (zK_i ?_)
    refine zc_v1 dX2_update_73 hX2_eventAt gX2_eventAt rfl rfl 8 6 11 (by omega) (by omega) (by omega) q1338 q1339 q1340 HU.rc ?_
    refine kX2_eventAt HU hVU hTU t0U fp1 p2.1 p2.2 (by omega) (by omega) (by omega) (fun ahE ev z2 z3 z4 => zK_i ?_)
    have HE := HU.gr z2
    have g6 : zGr ah0 ahE := g5.tr z2
    have nev : ev ≠ a := fun z => by rw [z, fa9] at z3; cases z3
    have hFE : ∀ b, F b → ahE b ≠ none := fun b hb z => hF b hb (g6.no z)
    refine zr_astore_n dX2_update_76 (by decide) rfl (zs4_3 rfl ?_)
    by_cases hre : pRe (pUp0 s x y) x y = true
    · have hX : pEA (pUp0 s x y) x y = (0, decide (pUp0 s x y 2 = pUp0 s x y 1 - 1)) := by unfold pEA; rw [if_pos hre]
      have hev : ahE ev = some (.inl (6, [.int (zi (zB (decide (pUp0 s x y 2 = pUp0 s x y 1 - 1))))])) := by
        rw [hX] at z4
        rcases z4 with ⟨_, z⟩ | ⟨z, _⟩ | ⟨z, _⟩
        · exact z
        · cases z
        · cases z
      refine zr_aload_n dX2_update_77 rfl rfl ?_
      refine zr_aload_n dX2_update_78 rfl rfl ?_
      refine zc_v1 dX2_update_79 hX2_happen gX2_happen rfl rfl 9 6 12 (by omega) (by omega) (by omega) q1424 q1426 sp21 HE.rc ?_
      refine kX2_happenR HE hVU hTU t0U (by rw [e11]; omega) hFE hev (by omega) (by omega) (by omega) (fun ah9 fr9 H9 => zK_v ?_)
      obtain ⟨tv9, H9⟩ := H9
      refine zr_aload_n dX2_update_82 rfl rfl ?_
      refine zr_instE dX2_update_83 q1360 (Or.inl ⟨6, _, TX8, 1, tyX8, nX8, fr9 _ _ hev nev⟩) ?_
      refine zr_ifeq dX2_update_86 (tgt := 93) (by decide) (by decide) (fun h => absurd h (by decide)) (fun _ => ?_)
      refine zr_iconst dX2_update_89 ?_
      refine zr_goto dX2_update_90 (tgt := 94) (by decide) ?_
      refine zr_ireturn dX2_update_94 rfl (by first | rfl | exact z_nb _) ?_
      refine k.ok (v := 1) (s := pUp2 (pUp1 (pUp0 s x y))) (by unfold pUpd; rw [if_neg n1, if_neg (fun z => z t0), if_neg (by omega), if_pos hre]) (fun b o hb => fr9 b o (g6 b o hb) (fun z => by rw [z, H.ndA] at hb; cases hb)) ⟨w, e, n, mc, f, ps, l, g, tv9, ?_⟩
      exact H9
    · have hX : pEA (pUp0 s x y) x y = pDE (pUp0 s x y) x y := by unfold pEA; rw [if_neg hre]
      rcases id z4 with ⟨z, _⟩ | ⟨_, hev⟩ | ⟨_, hev⟩
      · exfalso
        rw [hX] at z
        unfold pDE at z
        split at z <;> cases z
      · refine zr_aload_n dX2_update_77 rfl rfl ?_
        refine zr_aload_n dX2_update_78 rfl rfl ?_
        refine zc_v1 dX2_update_79 hX2_happen gX2_happen rfl rfl 9 6 12 (by omega) (by omega) (by omega) q1424 q1426 sp21 HE.rc ?_
        refine kX2_happenE HE hVU z4 (by rw [hX]; unfold pDE; split <;> simp) (by omega) (fun ah9 fr9 H9 => zK_v ?_)
        refine zr_aload_n dX2_update_82 rfl rfl ?_
        refine zr_instNo dX2_update_83 q1360 (Or.inl ⟨8, _, TX10, 1, tyX10, nX10, fr9 _ _ hev nev⟩) z_ncDr_Re ?_
        refine zr_ifeq dX2_update_86 (tgt := 93) (by decide) (by decide) (fun _ => ?_) (fun h => absurd rfl h)
        refine zr_iconst dX2_update_93 ?_
        refine zr_ireturn dX2_update_94 rfl (by first | rfl | exact z_nb _) ?_
        refine k.ok (v := 0) (s := pUp2 (pUp0 s x y)) (by unfold pUpd; rw [if_neg n1, if_neg (fun z => z t0), if_neg (by omega), if_neg hre]) (fun b o hb => fr9 b o (g6 b o hb) (fun z => by rw [z, H.ndA] at hb; cases hb)) ⟨w, e, n, mc, f, ps, l, g, .ref t9n, ?_⟩
        rw [show pUp2 (pUp0 s x y) = pHD (pUp0 s x y) (pEA (pUp0 s x y) x y) from by
          rw [hX]
          rw [show pDE (pUp0 s x y) x y = pDE (pUp0 s x y) (pUp0 s x y 3) (pUp0 s x y 4) from by rw [pUp0_3.1, pUp0_3.2], pHD_wa]
          unfold pUp2
          rw [if_neg (by omega)]]
        exact H9
      · refine zr_aload_n dX2_update_77 rfl rfl ?_
        refine zr_aload_n dX2_update_78 rfl rfl ?_
        refine zc_v1 dX2_update_79 hX2_happen gX2_happen rfl rfl 9 6 12 (by omega) (by omega) (by omega) q1424 q1426 sp21 HE.rc ?_
        refine kX2_happenE HE hVU z4 (by rw [hX]; unfold pDE; split <;> simp) (by omega) (fun ah9 fr9 H9 => zK_v ?_)
        refine zr_aload_n dX2_update_82 rfl rfl ?_
        refine zr_instNo dX2_update_83 q1360 (Or.inl ⟨9, _, TX10, 0, tyX10, nX11, fr9 _ _ hev nev⟩) z_ncQu_Re ?_
        refine zr_ifeq dX2_update_86 (tgt := 93) (by decide) (by decide) (fun _ => ?_) (fun h => absurd rfl h)
        refine zr_iconst dX2_update_93 ?_
        refine zr_ireturn dX2_update_94 rfl (by first | rfl | exact z_nb _) ?_
        refine k.ok (v := 0) (s := pUp2 (pUp0 s x y)) (by unfold pUpd; rw [if_neg n1, if_neg (fun z => z t0), if_neg (by omega), if_neg hre]) (fun b o hb => fr9 b o (g6 b o hb) (fun z => by rw [z, H.ndA] at hb; cases hb)) ⟨w, e, n, mc, f, ps, l, g, .ref t9n, ?_⟩
        rw [show pUp2 (pUp0 s x y) = pHD (pUp0 s x y) (pEA (pUp0 s x y) x y) from by
          rw [hX]
          rw [show pDE (pUp0 s x y) x y = pDE (pUp0 s x y) (pUp0 s x y 3) (pUp0 s x y 4) from by rw [pUp0_3.1, pUp0_3.2], pHD_wa]
          unfold pUp2
          rw [if_neg (by omega)]]
        exact H9
theorem kX2_hasTurn {G : State} {d rc rs : Nat} {ah : zH} {Q : zRs → zH → Prop} {F U : Nat → Prop} {a w e n l : Nat} {s : Int → Int} {mc : Int} {f g : Nat → Value} {ps : List Nat} {tv : Value} (H : zSt G F U ah a s w e n mc f ps l g tv) (hV : pV s) (t0 : 0 < s 1) {i : Int} (qi : -2147483648 ≤ i ∧ i ≤ 2147483647) (hd : 1 ≤ d) (k : Q (.inl (some (.int (zi (zB (pIn i 1 (s 1 - 2))))))) ah) : zW G mX2_hasTurn d rc rs 0 (zent [.ref a, .int (zi i)]) [] ah Q := by
  refine zW_open 0 [some (.ref a), some (.int (zi i))] rfl ?_
  have vv := hV.h
  rcases id H.2.2.2.2.2.2.1 with ⟨t1, -⟩ | ⟨t1, t, rt, hk, f9, t2, t3⟩
  · exfalso; omega
  subst t2
  obtain ⟨-, -, -, t6, t7, t8, t9⟩ := id t3
  refine zr_iload_n dX2_hasTurn_0 rfl ?_
  refine zr_iconst dX2_hasTurn_1 ?_
  refine zr_aload_n dX2_hasTurn_2 rfl rfl ?_
  refine zr_getf dX2_hasTurn_3 nX2 (k := 2) (by decide) q185 (Or.inl rfl) H.1 rfl ?_
  refine zc_v0 dX2_hasTurn_6 hX7_route gX7_route rfl rfl 0 0 0 (by omega) (Nat.zero_le _) (Nat.zero_le _) q828 q812 q813 t3.rc ?_
  refine kX7_route t6 (zK_i ?_)
  refine zr_alen dX2_hasTurn_9 (Or.inl t7) ?_
  rw [show (((s 1).toNat : Nat) : Int) = s 1 by omega]
  refine zr_iconst dX2_hasTurn_10 ?_
  refine zr_isub dX2_hasTurn_11 ?_
  refine zc_sN3 rfl dX2_hasTurn_12 hX1_inRange gX1_inRange rfl rfl 0 0 0 (by omega) (Nat.zero_le _) (Nat.zero_le _) q829 q830 ?_
  refine kX1_inRange (by omega) (by omega) (by omega) (zK_i ?_)
  refine zr_ireturn dX2_hasTurn_15 rfl (by first | rfl | exact z_nb _) ?_
  exact k
def pTnS (s : Int → Int) (i : Int) : Nat := pTnK (pOf s (s (192 + i)) 0 - pOf s (s (192 + i - 1)) 0) (pOf s (s (192 + i)) 1 - pOf s (s (192 + i - 1)) 1) (pOf s (s (192 + i + 1)) 0 - pOf s (s (192 + i)) 0) (pOf s (s (192 + i + 1)) 1 - pOf s (s (192 + i)) 1)
theorem pTnS_t {s : Int → Int} {i : Int} : pTnL (pTnS s i) = pTurn s i := pTnL_k
theorem kX2_turnAt {G : State} {d rc rs : Nat} {ah : zH} {Q : zRs → zH → Prop} {F U : Nat → Prop} {a w e n l : Nat} {s : Int → Int} {mc : Int} {f g : Nat → Value} {ps : List Nat} {tv : Value} (H : zSt G F U ah a s w e n mc f ps l g tv) (hV : pV s) (hT : pTk s) (t0 : 0 < s 1) {i : Int} (hi : 1 ≤ i ∧ i ≤ s 1 - 2) (hd : 5 ≤ d) (hc : 2 ≤ rc) (hs : 4 ≤ rs) (k : ∀ ah9, zGr ah ah9 → Q (.inl (some (.ref (zTu G (pTnS s i))))) ah9) : zW G mX2_turnAt d rc rs 0 (zent [.ref a, .int (zi i)]) [] ah Q := by
  refine zW_open 1 [some (.ref a), some (.int (zi i)), none] rfl ?_
  have vv := hV.h
  rcases id H.2.2.2.2.2.2.1 with ⟨t1, -⟩ | ⟨t1, t, rt, hk, f9, t2, t3⟩
  · exfalso; omega
  subst t2
  obtain ⟨-, -, -, t6, t7, t8, t9⟩ := id t3
  have tk := hT t0
  have q0 := tk.2.2 i (by omega) (by omega)
  have q1 := tk.2.2 (i - 1) (by omega) (by omega)
  have q2 := tk.2.2 (i + 1) (by omega) (by omega)
  have r0 := hV.rt (i := 192 + i) (by omega)
  have r1 := hV.rt (i := 192 + (i - 1)) (by omega)
  have r2 := hV.rt (i := 192 + (i + 1)) (by omega)
  have e0 : f9 i.toNat = .int (zi (s (192 + i))) := by rw [t8 _ (by omega), show ((i.toNat : Nat) : Int) = i by omega]
  have e1 : f9 (i - 1).toNat = .int (zi (s (192 + (i - 1)))) := by rw [t8 _ (by omega), show (((i - 1).toNat : Nat) : Int) = i - 1 by omega]
  have e2 : f9 (i + 1).toNat = .int (zi (s (192 + (i + 1)))) := by rw [t8 _ (by omega), show (((i + 1).toNat : Nat) : Int) = i + 1 by omega]
  have x0 := hV.x (p := s (192 + i)) (by omega)
  have y0 := hV.y (p := s (192 + i)) (by omega)
  have x1 := hV.x (p := s (192 + (i - 1))) (by omega)
  have y1 := hV.y (p := s (192 + (i - 1))) (by omega)
  have x2 := hV.x (p := s (192 + (i + 1))) (by omega)
  have y2 := hV.y (p := s (192 + (i + 1))) (by omega)
  refine zr_aload_n dX2_turnAt_0 rfl rfl ?_
  refine zr_aload_n dX2_turnAt_1 rfl rfl ?_
  refine zr_getf dX2_turnAt_2 nX2 (k := 2) (by decide) q185 (Or.inl rfl) H.1 rfl ?_
  refine zc_v0 dX2_turnAt_5 hX7_route gX7_route rfl rfl 0 0 0 (by omega) (Nat.zero_le _) (Nat.zero_le _) q828 q812 q813 t3.rc ?_
  refine kX7_route t6 (zK_i ?_)
  refine zr_iload_n dX2_turnAt_8 rfl ?_
  refine zr_iaload dX2_turnAt_9 (Or.inl t7) (by omega) (by omega) e0 ?_
  refine zc_v1 dX2_turnAt_10 hX2_pointOf gX2_pointOf rfl rfl 3 0 0 (by omega) (Nat.zero_le _) (Nat.zero_le _) q836 q838 sp6 H.rc ?_
  refine kX2_pointOf H (by omega) (by omega) (by omega) (fun p0 w0 => zK_i ?_)
  refine zr_astore_n dX2_turnAt_13 (by decide) rfl (zs3_2 rfl ?_)
  refine zr_aload_n dX2_turnAt_14 rfl rfl ?_
  refine zr_aload_n dX2_turnAt_15 rfl rfl ?_
  refine zr_aload_n dX2_turnAt_16 rfl rfl ?_
  refine zr_getf dX2_turnAt_17 nX2 (k := 2) (by decide) q185 (Or.inl rfl) H.1 rfl ?_
  refine zc_v0 dX2_turnAt_20 hX7_route gX7_route rfl rfl 0 0 0 (by omega) (Nat.zero_le _) (Nat.zero_le _) q828 q812 q813 t3.rc ?_
  refine kX7_route t6 (zK_i ?_)
  refine zr_iload_n dX2_turnAt_23 rfl ?_
  refine zr_iconst dX2_turnAt_24 ?_
  refine zr_isub dX2_turnAt_25 ?_
  refine zr_iaload dX2_turnAt_26 (Or.inl t7) (by omega) (by omega) e1 ?_
  refine zc_v1 dX2_turnAt_27 hX2_pointOf gX2_pointOf rfl rfl 3 0 0 (by omega) (Nat.zero_le _) (Nat.zero_le _) q836 q838 sp6 H.rc ?_
  refine kX2_pointOf H (by omega) (by omega) (by omega) (fun p1 w1 => zK_i ?_)
  refine zc_v1 dX2_turnAt_30 hX6_minus gX6_minus rfl rfl 3 1 2 (by omega) (by omega) (by omega) q859 q860 q861 w0.rc ?_
  refine kX6_minus w0 w1 (by omega) (by omega) (by omega) (fun u1 hu1 => zK_i ?_)
  have K1 : zPt (z_up ah u1 (.inl (4, [.int (zi (pOf s (s (192 + i)) 0 - pOf s (s (192 + (i - 1))) 0)), .int (zi (pOf s (s (192 + i)) 1 - pOf s (s (192 + (i - 1))) 1))]))) u1 _ _ := z_up_s
  have g1 := zGr.up (o := .inl (4, [.int (zi (pOf s (s (192 + i)) 0 - pOf s (s (192 + (i - 1))) 0)), .int (zi (pOf s (s (192 + i)) 1 - pOf s (s (192 + (i - 1))) 1))])) hu1
  generalize z_up ah u1 (.inl (4, [.int (zi (pOf s (s (192 + i)) 0 - pOf s (s (192 + (i - 1))) 0)), .int (zi (pOf s (s (192 + i)) 1 - pOf s (s (192 + (i - 1))) 1))])) = ah1 at K1 g1 ⊢
  have H1 := H.gr g1
  have t61 := g1 _ _ t6
  have t71 := g1 _ _ t7
  have w01 := w0.gr g1
  refine zr_aload_n dX2_turnAt_33 rfl rfl ?_
  refine zr_aload_n dX2_turnAt_34 rfl rfl ?_
  refine zr_getf dX2_turnAt_35 nX2 (k := 2) (by decide) q185 (Or.inl rfl) H1.1 rfl ?_
  refine zc_v0 dX2_turnAt_38 hX7_route gX7_route rfl rfl 0 0 0 (by omega) (Nat.zero_le _) (Nat.zero_le _) q828 q812 q813 (Or.inl ⟨5, _, TX7, 3, tyX7, nX7, t61⟩) ?_
  refine kX7_route t61 (zK_i ?_)
  refine zr_iload_n dX2_turnAt_41 rfl ?_
  refine zr_iconst dX2_turnAt_42 ?_
  refine zr_iadd dX2_turnAt_43 ?_
  refine zr_iaload dX2_turnAt_44 (Or.inl t71) (by omega) (by omega) e2 ?_
  refine zc_v1 dX2_turnAt_45 hX2_pointOf gX2_pointOf rfl rfl 3 0 0 (by omega) (Nat.zero_le _) (Nat.zero_le _) q836 q838 sp6 H1.rc ?_
  refine kX2_pointOf H1 (by omega) (by omega) (by omega) (fun p2 w2 => zK_i ?_)
  refine zr_aload_n dX2_turnAt_48 rfl rfl ?_
  refine zc_v1 dX2_turnAt_49 hX6_minus gX6_minus rfl rfl 3 1 2 (by omega) (by omega) (by omega) q859 q860 q861 w2.rc ?_
  refine kX6_minus w2 w01 (by omega) (by omega) (by omega) (fun u2 hu2 => zK_i ?_)
  refine zc_s2 dX2_turnAt_52 hX12_between gX12_between rfl rfl 1 0 0 (by omega) (Nat.zero_le _) (Nat.zero_le _) q879 q880 ?_
  refine kX12_between (K1.gr (zGr.up hu2)) (show zPt _ u2 _ _ from z_up_s) (by omega) (by omega) (by omega) (by omega) (by omega) (zK_i ?_)
  refine zr_areturn dX2_turnAt_55 rfl rfl rfl ?_
  have w := k _ (g1.tr (zGr.up (o := .inl (4, [.int (zi (pOf s (s (192 + (i + 1))) 0 - pOf s (s (192 + i)) 0)), .int (zi (pOf s (s (192 + (i + 1))) 1 - pOf s (s (192 + i)) 1))])) hu2))
  unfold pTnS at w
  rw [show 192 + i - 1 = 192 + (i - 1) by omega, show 192 + i + 1 = 192 + (i + 1) by omega] at w
  exact w
