set_option maxRecDepth 100000
/-! ===== the component: changes of the state, method by method ===== -/
def zE (l : List String) (c : Int) : String := l.getD (c.toNat - 1) ""
theorem zTv.c {F : Nat → Prop} {ah : zH} {tv : Value} {s s' : Int → Int} (h : zTv F ah tv s) (e : ∀ j, (1 ≤ j ∧ j ≤ 4 ∨ 192 ≤ j) → s' j = s j) : zTv F ah tv s' := by
  rcases h with ⟨t1, t2⟩ | ⟨t1, t, rt, hk, f9, t2, t3, t4, t5, t6, t7, t8, t9⟩
  · exact Or.inl ⟨by rw [e 1 (by omega)]; exact t1, t2⟩
  · refine Or.inr ⟨by rw [e 1 (by omega)]; exact t1, t, rt, hk, f9, t2, t3, t4, t5, ?_, ?_, fun j hj => ?_, ?_⟩
    · rw [e 2 (by omega)]; exact t6
    · rw [e 1 (by omega)]; exact t7
    · rw [e 1 (by omega)] at hj
      rw [e _ (Or.inr (by omega))]; exact t8 j hj
    · unfold zPt
      rw [e 3 (by omega), e 4 (by omega)]; exact t9
section ZFL
variable {G : State} {F U : Nat → Prop} {ah : zH} {a w e n l : Nat} {s : Int → Int} {mc : Int} {f g : Nat → Value} {ps : List Nat} {tv : Value}
theorem zSt.fld (H : zSt G F U ah a s w e n mc f ps l g tv) (hs0 : s 0 ≤ 12) {i v : Int} (hi : 5 ≤ i ∧ i ≤ 11) : zSt G F U (z_up ah a (.inl (1, zSf G w l tv (z_upF s i v)))) a (z_upF s i v) w e n mc f ps l g tv :=
  H.setA hs0 (z_upF_n (by omega)) (fun j _ _ => z_upF_n (by omega)) (H.2.2.2.2.2.2.1.c (fun j hj => z_upF_n (by omega)))
theorem zSt.nla (H : zSt G F U ah a s w e n mc f ps l g tv) : ∀ y ∈ ps, y ≠ w := fun y hy z => by
  obtain ⟨i, hi⟩ := List.getElem?_of_mem hy
  obtain ⟨-, p, -, h, -⟩ := H.2.2.2.1 i y hi
  rw [z, H.2.1.1] at h
  cases h
theorem zSf_2 {tv' : Value} : (zSf G w l tv s).set 2 tv' = zSf G w l tv' s := rfl
theorem zSf_5 {v : Int} : (zSf G w l tv s).set 3 (.int (zi v)) = zSf G w l tv (z_upF s 5 v) := by simp [zSf, z_upF]
theorem zSf_6 {v : Int} : (zSf G w l tv s).set 4 (.int (zi v)) = zSf G w l tv (z_upF s 6 v) := by simp [zSf, z_upF]
theorem zSf_8 {v : Int} : (zSf G w l tv s).set 5 (.int (zi v)) = zSf G w l tv (z_upF s 8 v) := by simp [zSf, z_upF]
theorem zSf_7 {v : Int} : (zSf G w l tv s).set 6 (.ref (zMo G v.toNat)) = zSf G w l tv (z_upF s 7 v) := by simp [zSf, z_upF]
theorem zSf_9 {v : Int} : (zSf G w l tv s).set 7 (.int (zi v)) = zSf G w l tv (z_upF s 9 v) := by simp [zSf, z_upF]
theorem zSf_10 {v : Int} : (zSf G w l tv s).set 8 (.int (zi v)) = zSf G w l tv (z_upF s 10 v) := by simp [zSf, z_upF]
theorem zSf_11 {v : Int} : (zSf G w l tv s).set 9 (.int (zi v)) = zSf G w l tv (z_upF s 11 v) := by simp [zSf, z_upF]
end ZFL
theorem kX2_setLength {G : State} {d rc rs : Nat} {ah : zH} {Q : zRs → zH → Prop} {F U : Nat → Prop} {a w e n l : Nat} {s : Int → Int} {mc : Int} {f g : Nat → Value} {ps : List Nat} {tv : Value} (H : zSt G F U ah a s w e n mc f ps l g tv) {x y v : Int} (h1 : pR x) (h2 : pR y) (k : ∀ g9 : Nat → Value, (∀ j : Nat, j < 144 → g9 j = .int (zi (pSet s x y v (48 + (j : Int))))) → Q (.inl none) (z_up ah l (.inr (.int, 144, g9)))) : zW G mX2_setLength d rc rs 0 (zent [.ref a, .int (zi x), .int (zi y), .int (zi v)]) [] ah Q := by
  refine zW_open 0 [some (.ref a), some (.int (zi x)), some (.int (zi y)), some (.int (zi v))] rfl ?_
  obtain ⟨x0, x1⟩ := id h1
  obtain ⟨y0, y1⟩ := id h2
  refine zr_aload_n dX2_setLength_0 rfl rfl ?_
  refine zr_getf dX2_setLength_1 nX2 (k := 1) (by decide) q184 (Or.inl rfl) H.1 rfl ?_
  refine zr_bipush dX2_setLength_4 rfl ?_
  refine zr_iload_n dX2_setLength_6 rfl ?_
  refine zr_imul dX2_setLength_7 ?_
  refine zr_iload_n dX2_setLength_8 rfl ?_
  refine zr_iadd dX2_setLength_9 ?_
  refine zr_iload_n dX2_setLength_10 rfl ?_
  refine zr_iastore dX2_setLength_11 H.2.2.2.2.1 (by decide) (by omega) ?_
  refine zr_aload_n dX2_setLength_12 rfl rfl ?_
  refine zr_getf dX2_setLength_13 nX2 (k := 1) (by decide) q184 (Or.inl rfl) ((z_up_n H.ne.2.1).trans H.1) rfl ?_
  refine zr_bipush dX2_setLength_16 rfl ?_
  refine zr_iload_n dX2_setLength_18 rfl ?_
  refine zr_imul dX2_setLength_19 ?_
  refine zr_iload_n dX2_setLength_20 rfl ?_
  refine zr_iadd dX2_setLength_21 ?_
  refine zr_iload_n dX2_setLength_22 rfl ?_
  refine zr_iastore dX2_setLength_23 z_up_s (by decide) (by omega) ?_
  rw [z_up_o]
  refine zr_return dX2_setLength_24 rfl ?_
  refine k _ (fun j hj => ?_)
  have hgj := H.2.2.2.2.2.1 j hj
  unfold pSet z_upF
  by_cases e1 : j = (12 * y + x).toNat
  · rw [e1, z_upV_s, if_pos (by omega)]
  · rw [z_upV_n e1, if_neg (by omega)]
    try dsimp only
    by_cases e2 : j = (12 * x + y).toNat
    · rw [e2, z_upV_s, if_pos (by omega)]
    · rw [z_upV_n e2, if_neg (by omega)]
      exact hgj
theorem kX2_addTrail {G : State} {d rc rs : Nat} {ah : zH} {Q : zRs → zH → Prop} {F : Nat → Prop} {ah0 : zH} {a w e n l : Nat} {s : Int → Int} {mc : Int} {f g : Nat → Value} {ps : List Nat} {tv : Value} (H : zSt G F (zFre ah0) ah a s w e n mc f ps l g tv) (hg : zGr ah0 ah) {B : Int} (hI : pI B s) {x y v : Int} (qx : -2147483648 ≤ x ∧ x ≤ 2147483647) (qy : -2147483648 ≤ y ∧ y ≤ 2147483647) (qv : -2147483648 ≤ v ∧ v ≤ 2147483647) (hd : 10 ≤ d) (hc : 4 ≤ rc) (hs : 24 ≤ rs) (k : zAns G F ah0 a (zE ["java/lang/IndexOutOfBoundsException", "java/lang/IllegalArgumentException", "java/lang/IllegalStateException"]) (pJoin s x y v) Q) : zW G mX2_addTrail d rc rs 0 (zent [.ref a, .int (zi x), .int (zi y), .int (zi v)]) [] ah Q := by
  refine zW_open 0 [some (.ref a), some (.int (zi x)), some (.int (zi y)), some (.int (zi v))] rfl ?_
  have vv := hI.1.h
  have hV := hI.1
  have hY := hI.2.1
  refine zr_aload_n dX2_addTrail_0 rfl rfl ?_
  refine zr_iload_n dX2_addTrail_1 rfl ?_
  refine zr_iload_n dX2_addTrail_2 rfl ?_
  refine zc_v2 dX2_addTrail_3 hX2_checkPair gX2_checkPair rfl rfl 9 2 12 (by omega) (by omega) (by omega) q1186 q1187 q1188 H.rc ?_
  refine kX2_checkPair H hV (by omega) (by omega) (by omega) (by omega) (by omega) (fun h3 => zK_v ?_) (fun h3 q hq => zK_x (zX_out (fun x hx => nomatch hx) ?_))
  rotate_left
  · exact k.thr (c := 1) (v := 0) (s := s) (by unfold pJoin; rw [if_pos h3]) (by decide) (hg.tr (zGr.up hq))
  obtain ⟨a1, a2⟩ := h3
  have b1 := pPt_b a1 hV
  have b2 := pPt_b a2 hV
  have hxr : pR x := ⟨by omega, by omega⟩
  have hyr : pR y := ⟨by omega, by omega⟩
  have tb := hV.tr hxr hyr
  have n1 : ¬ ¬ (pPt s x = true ∧ pPt s y = true) := fun z => z ⟨a1, a2⟩
  refine zr_iload_n dX2_addTrail_6 rfl ?_
  refine zr_iload_n dX2_addTrail_7 rfl ?_
  refine zr_icmpeq dX2_addTrail_8 (tgt := 25) (by decide) (by omega) (by omega) (fun h8 => ?_) (fun h8 => ?_)
  · refine zr_iconst dX2_addTrail_25 ?_
    refine zc_sN1 rfl dX2_addTrail_26 hX1_checkArgument gX1_checkArgument rfl rfl 8 1 6 (by omega) (by omega) (by omega) q1056 q1043 ?_
    refine kX1_checkArgument (b := false) (by omega) (by omega) (by omega) (fun h => absurd h (by decide)) (fun h26 q26 hq26 => zK_x (zX_out (fun x hx => nomatch hx) ?_))
    first
      | exact k.thr (c := 2) (v := 0) (s := s) (by unfold pJoin; rw [if_neg n1, if_pos (Or.inl h8)]) (by decide) (hg.tr (zGr.up hq26))
      | exact k.thr (c := 2) (v := 0) (s := s) (by unfold pJoin; rw [if_neg n1, if_pos (Or.inr (by rw [h18]; decide))]) (by decide) (hg.tr (zGr.up hq26))
  · refine zr_iload_n dX2_addTrail_11 rfl ?_
    refine zr_iconst dX2_addTrail_12 ?_
    refine zr_bipush dX2_addTrail_13 rfl ?_
    refine zc_sN3 rfl dX2_addTrail_15 hX1_inRange gX1_inRange rfl rfl 0 0 0 (by omega) (Nat.zero_le _) (Nat.zero_le _) q829 q830 ?_
    refine kX1_inRange (by omega) (by omega) (by omega) (zK_i ?_)
    refine zr_ifeqB dX2_addTrail_18 (tgt := 25) (by decide) (fun h18 => ?_) (fun h18 => ?_)
    · refine zr_iconst dX2_addTrail_25 ?_
      refine zc_sN1 rfl dX2_addTrail_26 hX1_checkArgument gX1_checkArgument rfl rfl 8 1 6 (by omega) (by omega) (by omega) q1056 q1043 ?_
      refine kX1_checkArgument (b := false) (by omega) (by omega) (by omega) (fun h => absurd h (by decide)) (fun h26 q26 hq26 => zK_x (zX_out (fun x hx => nomatch hx) ?_))
      first
        | exact k.thr (c := 2) (v := 0) (s := s) (by unfold pJoin; rw [if_neg n1, if_pos (Or.inl h8)]) (by decide) (hg.tr (zGr.up hq26))
        | exact k.thr (c := 2) (v := 0) (s := s) (by unfold pJoin; rw [if_neg n1, if_pos (Or.inr (by rw [h18]; decide))]) (by decide) (hg.tr (zGr.up hq26))
    · refine zr_iconst dX2_addTrail_21 ?_
      refine zr_goto dX2_addTrail_22 (tgt := 26) (by decide) ?_
      refine zc_sN1 rfl dX2_addTrail_26 hX1_checkArgument gX1_checkArgument rfl rfl 8 1 6 (by omega) (by omega) (by omega) q1056 q1043 ?_
      refine kX1_checkArgument (b := true) (by omega) (by omega) (by omega) (fun _ => zK_v ?_) (fun h => absurd h (by decide))
      have n2 : ¬ (x = y ∨ ¬ pIn v 1 99 = true) := fun z => by
        rcases z with z | z
        · exact h8 z
        · exact z h18
      have p18 := pIn_iff.mp h18
      refine zr_aload_n dX2_addTrail_29 rfl rfl ?_
      refine zr_iload_n dX2_addTrail_30 rfl ?_
      refine zr_iload_n dX2_addTrail_31 rfl ?_
      refine zc_v2 dX2_addTrail_32 hX2_lengthOf gX2_lengthOf rfl rfl 0 0 0 (by omega) (Nat.zero_le _) (Nat.zero_le _) q345 q346 q347 H.rc ?_
      refine kX2_lengthOf H hxr hyr (zK_i ?_)
      refine zr_ifne dX2_addTrail_35 (tgt := 42) (by decide) (by omega) (fun h35 => ?_) (fun h35 => ?_)
      · refine zr_iconst dX2_addTrail_42 ?_
        refine zc_sN1 rfl dX2_addTrail_43 hX1_checkState gX1_checkState rfl rfl 8 1 6 (by omega) (by omega) (by omega) q1057 q1058 ?_
        refine kX1_checkState (b := false) (by omega) (by omega) (by omega) (fun h => absurd h (by decide)) (fun h43 q43 hq43 => zK_x (zX_out (fun x hx => nomatch hx) ?_))
        exact k.thr (c := 3) (v := 0) (s := s) (by unfold pJoin; rw [if_neg n1, if_neg n2, if_pos (by omega)]) (by decide) (hg.tr (zGr.up hq43))
      · refine zr_iconst dX2_addTrail_38 ?_
        refine zr_goto dX2_addTrail_39 (tgt := 43) (by decide) ?_
        refine zc_sN1 rfl dX2_addTrail_43 hX1_checkState gX1_checkState rfl rfl 8 1 6 (by omega) (by omega) (by omega) q1057 q1058 ?_
        refine kX1_checkState (b := true) (by omega) (by omega) (by omega) (fun _ => zK_v ?_) (fun h => absurd h (by decide))
        refine zr_aload_n dX2_addTrail_46 rfl rfl ?_
        refine zr_iload_n dX2_addTrail_47 rfl ?_
        refine zr_iload_n dX2_addTrail_48 rfl ?_
        refine zr_iload_n dX2_addTrail_49 rfl ?_
        refine zc_v3 dX2_addTrail_50 hX2_setLength gX2_setLength rfl rfl 0 0 0 (by omega) (Nat.zero_le _) (Nat.zero_le _) q1208 q1210 sp15 H.rc ?_
        refine kX2_setLength H hxr hyr (fun g9 h9 => zK_v ?_)
        have hIs := hI.set (a := x) (b := y) (v := v) (by omega) (by omega) h8 (by omega)
        have H9 := H.setL vv.1.2 vv.2.1.2 (s' := pSet s x y v) (fun j hj => pSet_n (by omega)) h9
        have g9' := hg.tu (o := .inr (.int, 144, g9)) H.ndL
        refine zr_aload_n dX2_addTrail_53 rfl rfl ?_
        refine zc_v0 dX2_addTrail_54 hX2_countTrails gX2_countTrails rfl rfl 0 0 0 (by omega) (Nat.zero_le _) (Nat.zero_le _) q1212 q319 q320 H9.rc ?_
        refine kX2_countTrails H9 hIs.1 (zK_i ?_)
        refine zr_ireturn dX2_addTrail_57 rfl (by first | rfl | exact z_nb _) ?_
        rw [pT2_h hIs.2.1 hIs.1]
        exact k.ok (by unfold pJoin; rw [if_neg n1, if_neg n2, if_neg (by omega)]) g9' ⟨_, _, _, _, _, _, _, _, _, H9⟩
theorem kX2_removeTrail {G : State} {d rc rs : Nat} {ah : zH} {Q : zRs → zH → Prop} {F : Nat → Prop} {ah0 : zH} {a w e n l : Nat} {s : Int → Int} {mc : Int} {f g : Nat → Value} {ps : List Nat} {tv : Value} (H : zSt G F (zFre ah0) ah a s w e n mc f ps l g tv) (hg : zGr ah0 ah) {B : Int} (hI : pI B s) {x y : Int} (qx : -2147483648 ≤ x ∧ x ≤ 2147483647) (qy : -2147483648 ≤ y ∧ y ≤ 2147483647) (hd : 10 ≤ d) (hc : 3 ≤ rc) (hs : 18 ≤ rs) (k : zAns G F ah0 a (zE ["java/lang/IndexOutOfBoundsException", "java/util/NoSuchElementException"]) (pCut s x y) Q) : zW G mX2_removeTrail d rc rs 0 (zent [.ref a, .int (zi x), .int (zi y)]) [] ah Q := by
  refine zW_open 1 [some (.ref a), some (.int (zi x)), some (.int (zi y)), none] rfl ?_
  have vv := hI.1.h
  have hV := hI.1
  have hY := hI.2.1
  refine zr_aload_n dX2_removeTrail_0 rfl rfl ?_
  refine zr_iload_n dX2_removeTrail_1 rfl ?_
  refine zr_iload_n dX2_removeTrail_2 rfl ?_
  refine zc_v2 dX2_removeTrail_3 hX2_checkPair gX2_checkPair rfl rfl 9 2 12 (by omega) (by omega) (by omega) q1186 q1187 q1188 H.rc ?_
  refine kX2_checkPair H hV (by omega) (by omega) (by omega) (by omega) (by omega) (fun h3 => zK_v ?_) (fun h3 q hq => zK_x (zX_out (fun x hx => nomatch hx) ?_))
  rotate_left
  · exact k.thr (c := 1) (v := 0) (s := s) (by unfold pCut; rw [if_pos h3]) (by decide) (hg.tr (zGr.up hq))
  obtain ⟨a1, a2⟩ := h3
  have b1 := pPt_b a1 hV
  have b2 := pPt_b a2 hV
  have hxr : pR x := ⟨by omega, by omega⟩
  have hyr : pR y := ⟨by omega, by omega⟩
  have tb := hV.tr hxr hyr
  have n1 : ¬ ¬ (pPt s x = true ∧ pPt s y = true) := fun z => z ⟨a1, a2⟩
  refine zr_aload_n dX2_removeTrail_6 rfl rfl ?_
  refine zr_iload_n dX2_removeTrail_7 rfl ?_
  refine zr_iload_n dX2_removeTrail_8 rfl ?_
  refine zc_v2 dX2_removeTrail_9 hX2_lengthOf gX2_lengthOf rfl rfl 0 0 0 (by omega) (Nat.zero_le _) (Nat.zero_le _) q345 q346 q347 H.rc ?_
  refine kX2_lengthOf H hxr hyr (zK_i ?_)
  refine zr_istore_n dX2_removeTrail_12 (by decide) (zs4_3 rfl ?_)
  refine zr_iload_n dX2_removeTrail_13 rfl ?_
  refine zr_ifle dX2_removeTrail_14 (tgt := 21) (by decide) (by omega) (fun h14 => ?_) (fun h14 => ?_)
  · refine zr_iconst dX2_removeTrail_21 ?_
    refine zc_sN1 rfl dX2_removeTrail_22 hX1_checkElement gX1_checkElement rfl rfl 8 1 6 (by omega) (by omega) (by omega) q1227 q1228 ?_
    refine kX1_checkElement (b := false) (by omega) (by omega) (by omega) (fun h => absurd h (by decide)) (fun h22 q22 hq22 => zK_x (zX_out (fun x hx => nomatch hx) ?_))
    exact k.thr (c := 2) (v := 0) (s := s) (by unfold pCut; rw [if_neg n1, if_pos (by omega)]) (by decide) (hg.tr (zGr.up hq22))
  · refine zr_iconst dX2_removeTrail_17 ?_
    refine zr_goto dX2_removeTrail_18 (tgt := 22) (by decide) ?_
    refine zc_sN1 rfl dX2_removeTrail_22 hX1_checkElement gX1_checkElement rfl rfl 8 1 6 (by omega) (by omega) (by omega) q1227 q1228 ?_
    refine kX1_checkElement (b := true) (by omega) (by omega) (by omega) (fun _ => zK_v ?_) (fun h => absurd h (by decide))
    refine zr_aload_n dX2_removeTrail_25 rfl rfl ?_
    refine zr_iload_n dX2_removeTrail_26 rfl ?_
    refine zr_iload_n dX2_removeTrail_27 rfl ?_
    refine zr_iconst dX2_removeTrail_28 ?_
    refine zc_v3 dX2_removeTrail_29 hX2_setLength gX2_setLength rfl rfl 0 0 0 (by omega) (Nat.zero_le _) (Nat.zero_le _) q1208 q1210 sp15 H.rc ?_
    refine kX2_setLength (v := 0) H hxr hyr (fun g9 h9 => zK_v ?_)
    have hxy : x ≠ y := ((hY x y hxr hyr).2 (by omega)).2.2
    have H9 := H.setL vv.1.2 vv.2.1.2 (s' := pSet s x y 0) (fun j hj => pSet_n (by omega)) h9
    have g9' := hg.tu (o := .inr (.int, 144, g9)) H.ndL
    refine zr_iload_n dX2_removeTrail_32 rfl ?_
    refine zr_ireturn dX2_removeTrail_33 rfl (by first | rfl | exact z_nb _) ?_
    exact k.ok (by unfold pCut; rw [if_neg n1, if_neg (by omega)]) g9' ⟨_, _, _, _, _, _, _, _, _, H9⟩
theorem zWp.kp' {F : Nat → Prop} {ah ah9 : zH} {q w e : Nat} {x y r : Int} {v : List Value} (h : zWp F ah q x y r) (hf : ∀ b o, ah b = some o → b ≠ w → b ≠ e → ah9 b = some o) (hw : ah w = some (.inl (13, v))) (he : ∀ fs ci, ah e ≠ some (.inl (ci, fs))) : zWp F ah9 q x y r := by
  obtain ⟨h1, p, h2, h3, h4⟩ := h
  refine ⟨h1, p, h2, hf _ _ h3 (fun z => ?_) (fun z => ?_), hf _ _ h4 (fun z => ?_) (fun z => ?_)⟩
  · rw [z, hw] at h3; cases h3
  · exact he _ _ (z ▸ h3)
  · unfold zPt at h4; rw [z, hw] at h4; cases h4
  · exact he _ _ (z ▸ h4)
theorem kX2_addWaypoint {G : State} {d rc rs : Nat} {ah : zH} {Q : zRs → zH → Prop} {F : Nat → Prop} {ah0 : zH} {a w e n l : Nat} {s : Int → Int} {mc : Int} {f g : Nat → Value} {ps : List Nat} {tv : Value} (H : zSt G F (zFre ah0) ah a s w e n mc f ps l g tv) (hg : zGr ah0 ah) {B : Int} (hI : pI B s) {x y v : Int} (qx : -2147483648 ≤ x ∧ x ≤ 2147483647) (qy : -2147483648 ≤ y ∧ y ≤ 2147483647) (qv : -2147483648 ≤ v ∧ v ≤ 2147483647) (hF : ∀ b, F b → zFre ah0 b) (hd : 10 ≤ d) (hc : 6 ≤ rc) (hs : 64 ≤ rs) (k : zAns G F ah0 a (zE ["java/lang/IllegalArgumentException", "java/lang/IllegalStateException"]) (pAdd s x y v) Q) : zW G mX2_addWaypoint d rc rs 0 (zent [.ref a, .int (zi x), .int (zi y), .int (zi v)]) [] ah Q := by
  refine zW_open 1 [some (.ref a), some (.int (zi x)), some (.int (zi y)), some (.int (zi v)), none] rfl ?_
  have vv := hI.1.h
  have hV := hI.1
  have hY := hI.2.1
  refine zW_tb (fun T => ?_)
  refine zW_dom (fun hdom => ?_)
  refine zr_iload_n dX2_addWaypoint_0 rfl ?_
  refine zr_iload_n dX2_addWaypoint_1 rfl ?_
  refine zc_sN2 rfl dX2_addWaypoint_2 hX1_checkCoordinates gX1_checkCoordinates rfl rfl 9 1 6 (by omega) (by omega) (by omega) q1038 q1039 ?_
  refine kX1_checkCoordinates (by omega) (by omega) (by omega) (by omega) (by omega) (fun h2 => zK_v ?_) (fun h2 q hq => zK_x (zX_out (fun x hx => nomatch hx) ?_))
  rotate_left
  · exact k.thr (c := 1) (v := 0) (s := s) (by unfold pAdd; rw [if_pos (fun z => by rw [h2] at z; exact absurd z.1 (by decide))]) (by decide) (hg.tr (zGr.up hq))
  have p2 : (0 ≤ x ∧ x ≤ 99) ∧ (0 ≤ y ∧ y ≤ 99) := by
    unfold pPl at h2
    rw [Bool.and_eq_true] at h2
    exact ⟨pIn_iff.mp h2.1, pIn_iff.mp h2.2⟩
  refine zr_iload_n dX2_addWaypoint_5 rfl ?_
  refine zr_iconst dX2_addWaypoint_6 ?_
  refine zr_bipush dX2_addWaypoint_7 rfl ?_
  refine zc_sN3 rfl dX2_addWaypoint_9 hX1_inRange gX1_inRange rfl rfl 0 0 0 (by omega) (Nat.zero_le _) (Nat.zero_le _) q829 q830 ?_
  refine kX1_inRange (by omega) (by omega) (by omega) (zK_i ?_)
  refine zc_sN1 rfl dX2_addWaypoint_12 hX1_checkArgument gX1_checkArgument rfl rfl 8 1 6 (by omega) (by omega) (by omega) q1056 q1043 ?_
  refine kX1_checkArgument (by omega) (by omega) (by omega) (fun h12 => zK_v ?_) (fun h12 q12 hq12 => zK_x (zX_out (fun x hx => nomatch hx) ?_))
  rotate_left
  · exact k.thr (c := 1) (v := 0) (s := s) (by unfold pAdd; rw [if_pos (fun z => by rw [h12] at z; exact absurd z.2 (by decide))]) (by decide) (hg.tr (zGr.up hq12))
  have p12 := pIn_iff.mp h12
  have n1 : ¬ ¬ (pPl x y = true ∧ pIn v 1 9 = true) := fun z => z ⟨h2, h12⟩
  refine zr_aload_n dX2_addWaypoint_15 rfl rfl ?_
  refine zc_v0 dX2_addWaypoint_16 hX2_size gX2_size rfl rfl 1 0 0 (by omega) (Nat.zero_le _) (Nat.zero_le _) q336 q307 q308 H.rc ?_
  refine kX2_size H (by omega) (zK_i ?_)
  refine zr_bipush dX2_addWaypoint_19 rfl ?_
  refine zr_icmpge dX2_addWaypoint_21 (tgt := 28) (by decide) (by omega) (by omega) (fun h21 => ?_) (fun h21 => ?_)
  · refine zr_iconst dX2_addWaypoint_28 ?_
    refine zc_sN1 rfl dX2_addWaypoint_29 hX1_checkState gX1_checkState rfl rfl 8 1 6 (by omega) (by omega) (by omega) q1057 q1058 ?_
    refine kX1_checkState (b := false) (by omega) (by omega) (by omega) (fun h => absurd h (by decide)) (fun h29 q29 hq29 => zK_x (zX_out (fun x hx => nomatch hx) ?_))
    exact k.thr (c := 2) (v := 0) (s := s) (by unfold pAdd; rw [if_neg n1, if_pos (by omega)]) (by decide) (hg.tr (zGr.up hq29))
  · refine zr_iconst dX2_addWaypoint_24 ?_
    refine zr_goto dX2_addWaypoint_25 (tgt := 29) (by decide) ?_
    refine zc_sN1 rfl dX2_addWaypoint_29 hX1_checkState gX1_checkState rfl rfl 8 1 6 (by omega) (by omega) (by omega) q1057 q1058 ?_
    refine kX1_checkState (b := true) (by omega) (by omega) (by omega) (fun _ => zK_v ?_) (fun h => absurd h (by decide))
    refine zr_aload_n dX2_addWaypoint_32 rfl rfl ?_
    refine zr_getf dX2_addWaypoint_33 nX2 (k := 0) (by decide) q183 (Or.inl rfl) H.1 rfl ?_
    refine zr_new (fs := [.null, .int (zi 0)]) dX2_addWaypoint_36 nX5 q854 q1075 q110 (z_ble rfl) dfX5 (by omega) (by omega) (fun wq hwq => ?_)
    refine zr_dup dX2_addWaypoint_39 rfl ?_
    refine zr_new (fs := [.int (zi 0), .int (zi 0)]) dX2_addWaypoint_40 nX6 q1076 q864 q111 (z_ble rfl) dfX6 (by omega) (by omega) (fun pq hpq => ?_)
    refine zr_dup dX2_addWaypoint_43 rfl ?_
    refine zr_iload_n dX2_addWaypoint_44 rfl ?_
    refine zr_iload_n dX2_addWaypoint_45 rfl ?_
    refine zc_iN2 rfl rfl rfl dX2_addWaypoint_46 hX6_init gX6_init rfl rfl 2 0 0 (by omega) (Nat.zero_le _) (Nat.zero_le _) q1077 q866 ?_
    refine kX6_init z_up_s (by omega) (zK_v ?_)
    rw [z_up_o]
    refine zr_iload_n dX2_addWaypoint_49 rfl ?_
    refine zc_iN2 rfl rfl rfl dX2_addWaypoint_50 hX5_init gX5_init rfl rfl 2 0 0 (by omega) (Nat.zero_le _) (Nat.zero_le _) q1078 q1079 ?_
    have hwp : wq ≠ pq := fun z => by rw [← z, z_up_s] at hpq; cases hpq
    have hpq0 : ah pq = none := by rw [z_up_n hwp.symm] at hpq; exact hpq
    refine kX5_init (r := v) ((z_up_n hwp).trans z_up_s) (show zPt _ pq x y from z_up_s).rc (by omega) (zK_v ?_)
    have W1 : zPt (z_up (z_up (z_up ah wq (.inl (3, [.null, .int (zi 0)]))) pq (.inl (4, [.int (zi x), .int (zi y)]))) wq (.inl (3, [.ref pq, .int (zi v)]))) pq x y := (z_up_n hwp.symm).trans z_up_s
    have W2 : (z_up (z_up (z_up ah wq (.inl (3, [.null, .int (zi 0)]))) pq (.inl (4, [.int (zi x), .int (zi y)]))) wq (.inl (3, [.ref pq, .int (zi v)]))) wq = some (.inl (3, [.ref pq, .int (zi v)])) := z_up_s
    have G1 : zGr ah (z_up (z_up (z_up ah wq (.inl (3, [.null, .int (zi 0)]))) pq (.inl (4, [.int (zi x), .int (zi y)]))) wq (.inl (3, [.ref pq, .int (zi v)]))) := ((zGr.up hwq).tu hpq0).tu hwq
    generalize z_up (z_up (z_up ah wq (.inl (3, [.null, .int (zi 0)]))) pq (.inl (4, [.int (zi x), .int (zi y)]))) wq (.inl (3, [.ref pq, .int (zi v)])) = ah3 at W1 W2 G1 ⊢
    have H3 := H.gr G1
    have hWp : zWp F ah3 wq x y v := ⟨fun z => hF _ z (hg.no hwq), pq, fun z => hF _ z (hg.no hpq0), W2, W1⟩
    refine zW_dom (fun hdom3 => ?_)
    refine zc_v1 dX2_addWaypoint_53 hJ2_add gJ2_add rfl rfl 6 1 40 (by omega) (by omega) (by omega) q1089 q1090 q1091 H3.2.1.rc ?_
    refine kJ2_add H3.2.1 q2635 H3.el hWp.rc (fun z => by rw [z, H3.2.1.1] at W2; cases W2) H3.nla (by have := H.2.2.1; omega) (by omega) (by omega) (by omega) (fun ah9 e9 n9 f9 L1 L2 L3 => zK_i ?_)
    have g9 : zGr ah0 ah9 := fun b o hb => L2 b o (G1 b o (hg b o hb)) (fun z => by rw [z, H.ndW] at hb; cases hb) (fun z => by
      rcases Nat.eq_zero_or_pos n with z0 | z0
      · have := hg b o hb
        rw [z, H.emp T hdom z0] at this; cases this
      · rw [z, zFre.no (H.2.2.2.2.2.2.2.2.2.2.2 z0)] at hb; cases hb)
    have H9 := H3.add (s' := (z_upF (z_upF (z_upF (z_upF s (12 + 3 * s 0) x) (12 + 3 * s 0 + 1) y) (12 + 3 * s 0 + 2) v) 0 (s 0 + 1))) (by omega) (z_upF_s) (fun j hj => (z_upF_n (by omega)).trans ((z_upF_n (by omega)).trans ((z_upF_n (by omega)).trans (z_upF_n (by omega))))) (x := x) (y := y) (r := v) ((z_upF_n (by omega)).trans ((z_upF_n (by omega)).trans ((z_upF_n (by omega)).trans z_upF_s))) ((z_upF_n (by omega)).trans ((z_upF_n (by omega)).trans z_upF_s)) ((z_upF_n (by omega)).trans z_upF_s) (fun z => H3.emp T hdom3 z) L1 L2 (hWp.kp' L2 H3.2.1.1 (fun fs ci z => by
        rcases H3.2.1.2.1 with ⟨q1, _⟩ | ⟨_, _, q3⟩
        · rw [H3.emp T hdom3 q1] at z; cases z
        · rw [q3] at z; cases z)) (fun z => ?_)
    rotate_left
    · rcases L3 with z9 | z9
      · exact ⟨fun zz => hF _ zz (hg.no (G1.no z9)), zFre.mk (hg.tr G1) z9⟩
      · rcases Nat.eq_zero_or_pos n with z0 | z0
        · have a1 := H3.emp T hdom3 z0
          rw [← z9] at a1
          exact ⟨fun zz => hF _ zz (hg.no (G1.no a1)), zFre.mk (hg.tr G1) a1⟩
        · rw [z9]; exact ⟨H.2.2.2.2.2.2.2.1.2.2.2 z0, H.2.2.2.2.2.2.2.2.2.2.2 z0⟩
    refine zr_istore dX2_addWaypoint_56 (by decide) (zs5_4 rfl ?_)
    refine zr_aload_n dX2_addWaypoint_58 rfl rfl ?_
    refine zc_v0 dX2_addWaypoint_59 hX2_size gX2_size rfl rfl 1 0 0 (by omega) (Nat.zero_le _) (Nat.zero_le _) q336 q307 q308 H9.rc ?_
    refine kX2_size H9 (by omega) (zK_i ?_)
    refine zr_iconst dX2_addWaypoint_62 ?_
    refine zr_isub dX2_addWaypoint_63 ?_
    refine zr_ireturn dX2_addWaypoint_64 rfl (by first | rfl | exact z_nb _) ?_
    rw [z_upF_s, show s 0 + 1 - 1 = s 0 by omega]
    exact k.ok (by unfold pAdd; rw [if_neg n1, if_neg (by omega)]) g9 ⟨_, _, _, _, _, _, _, _, _, H9⟩
