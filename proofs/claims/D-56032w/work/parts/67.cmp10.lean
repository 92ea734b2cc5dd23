set_option maxRecDepth 100000
/-! ===== the component: an update ===== -/
theorem pOv_2 {s : Int → Int} {v : Int} : pOv (z_upF s 2 v) = pOv s := by
  funext j
  unfold pOv pZr z_upF
  by_cases e5 : j = 5
  · simp [e5]
  · by_cases e4 : j = 4
    · simp [e4]
    · by_cases e3 : j = 3
      · simp [e3]
      · by_cases e2 : j = 2
        · simp [e2]
        · by_cases e1 : j = 1
          · simp [e1]
          · simp [e1, e2, e3, e4, e5]
theorem zSf_n {G : State} {w l : Nat} {tv : Value} {s : Int → Int} {i v : Int} (h : i < 5) : zSf G w l tv (z_upF s i v) = zSf G w l tv s := by
  unfold zSf
  rw [z_upF_n (by omega), z_upF_n (by omega), z_upF_n (by omega), z_upF_n (by omega), z_upF_n (by omega), z_upF_n (by omega), z_upF_n (by omega)]
theorem kX2_happenE {G : State} {d rc rs : Nat} {ah : zH} {Q : zRs → zH → Prop} {F U : Nat → Prop} {a w e n l : Nat} {s : Int → Int} {mc : Int} {f g : Nat → Value} {ps : List Nat} {tv : Value} (H : zSt G F U ah a s w e n mc f ps l g tv) (hV : pV s) {q : Nat} {X : Int × Bool} (hq : zEvt ah q X) (hX : X.1 ≠ 0) (hd : 2 ≤ d) (k : ∀ ah9, (∀ b o, ah b = some o → b ≠ a → ah9 b = some o) → zSt G F U ah9 a (pHD s X) w e n mc f ps l g tv → Q (.inl none) ah9) : zW G mX2_happen d rc rs 0 (zent [.ref a, .ref q]) [] ah Q := by
  obtain ⟨x1, x2⟩ := X
  rcases hq with ⟨h, -⟩ | ⟨h, h2⟩ | ⟨h, h2⟩
  · exact absurd h hX
  · have h' : x1 = 1 := h
    subst h'
    exact kX2_happenD H hV h2 hd k
  · have h' : x1 = 2 := h
    subst h'
    exact kX2_happenQ H hV h2 hd k
theorem kX2_happenR {G : State} {d rc rs : Nat} {ah : zH} {Q : zRs → zH → Prop} {F U : Nat → Prop} {a w e n l : Nat} {s : Int → Int} {mc : Int} {f g : Nat → Value} {ps : List Nat} {tv : Value} (H : zSt G F U ah a s w e n mc f ps l g tv) (hV : pV s) (hT : pTk s) (t0 : 0 < s 1) (h11 : s 11 < 100000) (hF : ∀ b, F b → ah b ≠ none) {q : Nat} (hq : ah q = some (.inl (6, [.int (zi (zB (decide (s 2 = s 1 - 1))))]))) (hd : 9 ≤ d) (hc : 6 ≤ rc) (hs : 12 ≤ rs) (k : ∀ ah9, (∀ b o, ah b = some o → b ≠ a → ah9 b = some o) → (∃ tv9, zSt G F U ah9 a (pUp2 (pUp1 s)) w e n mc f ps l g tv9) → Q (.inl none) ah9) : zW G mX2_happen d rc rs 0 (zent [.ref a, .ref q]) [] ah Q := by
  refine zW_open 2 [some (.ref a), some (.ref q), none, none] rfl ?_
  have vv := hV.h
  have g11 := hV.g 11
  rcases id H.2.2.2.2.2.2.1 with ⟨t1, -⟩ | ⟨t1, t, rt, hk, f9, t2, t3⟩
  · exfalso; omega
  subst t2
  obtain ⟨-, -, -, t6, t7, t8, t9⟩ := id t3
  have tk := hT t1
  have up1 : ∀ b o X, ah b = some o → b ≠ a → z_up ah a X b = some o := fun b o X hb hn => (z_up_n hn).trans hb
  have nta : t ≠ a := fun z => by rw [z, H.1] at t6; cases t6
  have nra : rt ≠ a := fun z => by rw [z, H.1] at t7; cases t7
  have nha : hk ≠ a := fun z => by unfold zPt at t9; rw [z, H.1] at t9; cases t9
  have nF := t3.1
  have nFr := t3.2.1
  have nFh := t3.2.2.1
  have qrc : zRc G ah q "TrailGuide$Reached" := Or.inl ⟨6, _, TX8, 1, tyX8, nX8, hq⟩
  have hqa : q ≠ a := fun z => by rw [z, H.1] at hq; cases hq
  have eU : pUp1 s = z_upF (z_upF (pDr s 3) 11 (s 11 + 1)) 2 (s 2 + 1) := by unfold pUp1; rw [← pDr_c (by omega)]
  have HB := H.setA (s' := (z_upF (pDr s 3) 11 (s 11 + 1))) (tv' := .ref t) vv.1.2 ((z_upF_n (by omega)).trans (zDr_6 (by omega))) (fun j _ _ => (z_upF_n (by omega)).trans (zDr_6 (by omega))) (H.2.2.2.2.2.2.1.c (fun j hj => (z_upF_n (by omega)).trans (zDr_6 (by omega))))
  have hVB : pV (z_upF (pDr s 3) 11 (s 11 + 1)) := (hV.dr (by omega)).hd (by omega) (by omega) (by refine ⟨?_, ?_, ?_, ?_, ?_, ?_⟩ <;> omega)
  have eb : ∀ j, j ≠ 11 ∧ j ≠ 6 → (z_upF (pDr s 3) 11 (s 11 + 1)) j = s j := fun j hj => (z_upF_n hj.1).trans (zDr_6 hj.2)
  refine zr_aload_n dX2_happen_0 rfl rfl ?_
  refine zr_aload_n dX2_happen_1 rfl rfl ?_
  refine zr_iface (x := ⟨"TrailGuide$Event", "cost", "()I"⟩) (as := []) rfl dX2_happen_2 hX8_cost (zSig.of (by decide +kernel)) rfl (z_ble rfl) (z_ble rfl) (d' := 0) (mc := 0) (ms := 0) (by omega) (Nat.zero_le _) (Nat.zero_le _) q1429 q1431 q1430 q1448 q1446 q1444 (by decide) q1447 q1445 rfl qrc ?_
  refine kX8_cost (zK_i ?_)
  refine zc_v1 dX2_happen_7 hX2_consume gX2_consume rfl rfl 1 0 0 (by omega) (Nat.zero_le _) (Nat.zero_le _) q1323 q1325 sp19 H.rc ?_
  refine kX2_consume H hV (by omega) (by omega) (by omega) (zK_v ?_)
  have qrc2 : ∀ X, zRc G (z_up ah a X) q "TrailGuide$Reached" := fun X => Or.inl ⟨6, _, TX8, 1, tyX8, nX8, (z_up_n hqa).trans hq⟩
  refine zr_aload_n dX2_happen_10 rfl rfl ?_
  refine zr_instE dX2_happen_11 q1360 (qrc2 _) ?_
  refine zr_ifeq dX2_happen_14 (tgt := 75) (by decide) (by decide) (fun h => absurd h (by decide)) (fun _ => ?_)
  refine zr_aload_n dX2_happen_17 rfl rfl ?_
  refine zr_cast dX2_happen_18 q1360 (qrc2 _) ?_
  refine zr_astore_n dX2_happen_21 (by decide) rfl (zs4_2 rfl ?_)
  refine zr_aload_n dX2_happen_22 rfl rfl ?_
  refine zr_dup dX2_happen_23 rfl ?_
  refine zr_getf dX2_happen_24 nX2 (k := 9) (by decide) q199 (Or.inl rfl) z_up_s rfl ?_
  rw [zDr_6 (by omega : (11 : Int) ≠ 6)]
  refine zr_iconst dX2_happen_27 ?_
  refine zr_iadd dX2_happen_28 ?_
  refine zr_putf dX2_happen_29 nX2 (k := 9) (by decide) q199 (Or.inl rfl) (Or.inl rfl) z_up_s (z_ble rfl) rfl rfl ?_
  rw [zSf_11, z_up_o]
  refine zr_aload_n dX2_happen_32 rfl rfl ?_
  refine zc_v0 dX2_happen_33 hX8_isLast gX8_isLast rfl rfl 0 0 0 (by omega) (Nat.zero_le _) (Nat.zero_le _) q1450 q1451 q1452 (qrc2 _) ?_
  refine kX8_isLast ((z_up_n hqa).trans hq) (zK_i ?_)
  refine zr_ifeqB dX2_happen_36 (tgt := 46) (by decide) (fun h36 => ?_) (fun h36 => ?_)
  · refine zr_aload_n dX2_happen_46 rfl rfl ?_
    refine zr_aload_n dX2_happen_47 rfl rfl ?_
    refine zr_getf dX2_happen_48 nX2 (k := 2) (by decide) q185 (Or.inl rfl) z_up_s rfl ?_
    refine zc_v0 dX2_happen_51 hX7_withNextTarget gX7_withNextTarget rfl rfl 3 1 3 (by omega) (by omega) (by omega) q1454 q1455 q1456 (Or.inl ⟨5, _, TX7, 3, tyX7, nX7, up1 _ _ _ t6 nta⟩) ?_
    refine kX7_withNextTarget (up1 _ _ _ t6 nta) (up1 _ _ _ t7 nra) (by omega) (show zPt _ hk (s 3) (s 4) from up1 _ _ _ t9 nha).rc (by omega) (by omega) (by omega) (fun t9n ht9 => zK_i ?_)
    refine zr_putf dX2_happen_54 nX2 (k := 2) (by decide) q185 (Or.inl rfl) (Or.inl rfl) (z_upk ht9 z_up_s) (z_ble rfl) rfl rfl ?_
    rw [zSf_2, show zSf G w l (.ref t9n) (z_upF (pDr s 3) 11 (s 11 + 1)) = zSf G w l (.ref t9n) (pUp1 s) from by rw [eU]; exact (zSf_n (by omega)).symm]
    have nt9 : t9n ≠ a := fun z => by rw [z, z_up_s] at ht9; cases ht9
    have ht0 : ah t9n = none := by rw [z_up_n nt9] at ht9; exact ht9
    have HC := (HB.gr (zGr.up (o := .inl (5, [.ref rt, .int (zi (s 2 + 1)), .ref hk])) ht9)).setA (s' := pUp1 s) (tv' := .ref t9n) (by rw [eb 0 (by omega)]; exact vv.1.2) (by rw [eU]; exact z_upF_n (by omega)) (fun j _ _ => by rw [eU]; exact z_upF_n (by omega)) (Or.inr ⟨by rw [pUp1_n (by omega)]; exact t1, t9n, rt, hk, f9, rfl, fun z => hF _ z ht0, nFr, nFh, by rw [pUp1_2]; exact z_up_s, by rw [pUp1_n (by omega)]; exact z_upk ht9 (up1 _ _ _ t7 nra), fun j hj => by rw [pUp1_n (by omega)] at hj ⊢; exact t8 j hj, by rw [pUp1_n (by omega), pUp1_n (by omega)]; exact z_upk ht9 (up1 _ _ _ t9 nha)⟩)
    have hVC := pUp1_v hV h11 (by omega)
    have fr1 : ∀ b o, ah b = some o → b ≠ a → z_up (z_up (z_up ah a (.inl (1, zSf G w l (.ref t) (z_upF (pDr s 3) 11 (s 11 + 1))))) t9n (.inl (5, [.ref rt, .int (zi (s 2 + 1)), .ref hk]))) a (.inl (1, zSf G w l (.ref t9n) (pUp1 s))) b = some o := fun b o hb hn => by
      rw [z_up_n hn, z_up_n (fun z => by rw [z, ht0] at hb; cases hb), z_up_n hn]; exact hb
    have fa1 : z_up (z_up (z_up ah a (.inl (1, zSf G w l (.ref t) (z_upF (pDr s 3) 11 (s 11 + 1))))) t9n (.inl (5, [.ref rt, .int (zi (s 2 + 1)), .ref hk]))) a (.inl (1, zSf G w l (.ref t9n) (pUp1 s))) t9n = some (.inl (5, [.ref rt, .int (zi (s 2 + 1)), .ref hk])) := (z_up_n nt9).trans z_up_s
    have fp1 : zPt (z_up (z_up (z_up ah a (.inl (1, zSf G w l (.ref t) (z_upF (pDr s 3) 11 (s 11 + 1))))) t9n (.inl (5, [.ref rt, .int (zi (s 2 + 1)), .ref hk]))) a (.inl (1, zSf G w l (.ref t9n) (pUp1 s)))) hk (s 3) (s 4) := fr1 _ _ t9 nha
    have fa9 : z_up (z_up (z_up ah a (.inl (1, zSf G w l (.ref t) (z_upF (pDr s 3) 11 (s 11 + 1))))) t9n (.inl (5, [.ref rt, .int (zi (s 2 + 1)), .ref hk]))) a (.inl (1, zSf G w l (.ref t9n) (pUp1 s))) a = some (.inl (1, zSf G w l (.ref t9n) (pUp1 s))) := z_up_s
    have hTC : pTk (pUp1 s) := fun _ => by
      have n36 := of_decide_eq_false h36
      refine ⟨by rw [pUp1_2]; omega, by rw [pUp1_2, pUp1_n (by omega)]; omega, fun i i1 i2 => ?_⟩
      rw [pUp1_n (by omega)] at i2
      rw [pUp1_n (by omega), pUp1_n (by omega)]
      exact tk.2.2 i i1 i2
    generalize z_up (z_up (z_up ah a (.inl (1, zSf G w l (.ref t) (z_upF (pDr s 3) 11 (s 11 + 1))))) t9n (.inl (5, [.ref rt, .int (zi (s 2 + 1)), .ref hk]))) a (.inl (1, zSf G w l (.ref t9n) (pUp1 s))) = ah5 at HC fr1 fa1 fp1 fa9 ⊢
    refine zr_aload_n dX2_happen_57 rfl rfl ?_
    refine zr_aload_n dX2_happen_58 rfl rfl ?_
    refine zr_aload_n dX2_happen_59 rfl rfl ?_
    refine zr_getf dX2_happen_60 nX2 (k := 2) (by decide) q185 (Or.inl rfl) fa9 rfl ?_
    refine zc_v0 dX2_happen_63 hX7_hiker gX7_hiker rfl rfl 0 0 0 (by omega) (Nat.zero_le _) (Nat.zero_le _) q1334 q1335 q1336 (Or.inl ⟨5, _, TX7, 3, tyX7, nX7, fa1⟩) ?_
    refine kX7_hiker fa1 (zK_i ?_)
    refine zc_v1 dX2_happen_66 hX2_driftEvent gX2_driftEvent rfl rfl 7 5 9 (by omega) (by omega) (by omega) q1374 q1376 sp20 HC.rc ?_
    refine kX2_driftEvent HC hVC hTC (by rw [pUp1_n (by omega)]; exact t1) fp1 (by omega) (by omega) (by omega) (by omega) (by omega) (fun ah6 ev z2 z3 z4 => zK_i ?_)
    have HD := HC.gr z2
    rw [show pDE (pUp1 s) (s 3) (s 4) = pDE (pUp1 s) (pUp1 s 3) (pUp1 s 4) from by rw [pUp1_n (j := 3) (by omega), pUp1_n (j := 4) (by omega)]] at z4
    refine zc_v1 dX2_happen_69 hX2_happen gX2_happen rfl rfl 2 0 0 (by omega) (Nat.zero_le _) (Nat.zero_le _) q1424 q1426 sp21 HD.rc ?_
    refine kX2_happenE HD hVC z4 (by unfold pDE; split <;> simp) (by omega) (fun ah9 fr9 H9 => zK_v ?_)
    refine zr_goto dX2_happen_72 (tgt := 121) (by decide) ?_
    refine zr_return dX2_happen_121 rfl ?_
    have n36 := of_decide_eq_false h36
    refine k ah9 (fun b o hb hn => fr9 b o (z2 b o (fr1 b o hb hn)) hn) ⟨.ref t9n, ?_⟩
    rw [show pUp2 (pUp1 s) = pHD (pUp1 s) (pDE (pUp1 s) (pUp1 s 3) (pUp1 s 4)) from by
      rw [pHD_wa]
      unfold pUp2
      rw [if_neg (by rw [pUp1_2, pUp1_n (by omega)]; omega)]]
    exact H9
  · refine zr_aload_n dX2_happen_39 rfl rfl ?_
    refine zc_v0 dX2_happen_40 hX2_endTour gX2_endTour rfl rfl 0 0 0 (by omega) (Nat.zero_le _) (Nat.zero_le _) q1287 q1289 sp18 HB.rc ?_
    refine kX2_endTour HB hVB (zK_v ?_)
    rw [z_up_o]
    refine zr_goto dX2_happen_43 (tgt := 121) (by decide) ?_
    refine zr_return dX2_happen_121 rfl ?_
    have n36 := of_decide_eq_true h36
    have w9 := HB.over (by rw [eb 0 (by omega)]; exact vv.1.2)
    rw [z_up_o] at w9
    refine k _ (fun b o hb hn => (z_up_n hn).trans hb) ⟨.null, ?_⟩
    rw [show pUp2 (pUp1 s) = pOv (z_upF (pDr s 3) 11 (s 11 + 1)) from by
      unfold pUp2
      rw [if_pos (by rw [pUp1_2, pUp1_n (by omega)]; omega), eU, pOv_2]]
    exact w9
