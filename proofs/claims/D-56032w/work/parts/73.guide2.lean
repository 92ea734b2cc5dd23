set_option maxRecDepth 100000
/-! ===== the component: what is told ===== -/
/-- how a question ends -/
def zAnQ (ah : zH) (E : Int → String) (X : Int × Int) (Q : zRs → zH → Prop) : Prop := (X.1 = 0 → ∀ ah9, zGr ah ah9 → Q (.inl (some (.int (zi X.2)))) ah9) ∧ (X.1 ≠ 0 → ∀ ah9 q, zGr ah ah9 → Q (.inr (E X.1, q)) ah9)
theorem zAnQ.thr {ah : zH} {E : Int → String} {X : Int × Int} {Q : zRs → zH → Prop} (h : zAnQ ah E X Q) {c v : Int} (e : X = (c, v)) (hc : c ≠ 0) {ah9 : zH} {q : Nat} (hg : zGr ah ah9) : Q (.inr (E c, q)) ah9 := by
  subst e
  exact h.2 hc ah9 q hg
theorem zAnQ.ok {ah : zH} {E : Int → String} {X : Int × Int} {Q : zRs → zH → Prop} (h : zAnQ ah E X Q) {v : Int} (e : X = (0, v)) {ah9 : zH} (hg : zGr ah ah9) : Q (.inl (some (.int (zi v)))) ah9 := by
  subst e
  exact h.1 rfl ah9 hg
theorem zSt.mo {G : State} {F U : Nat → Prop} {ah : zH} {a w e n l : Nat} {s : Int → Int} {mc : Int} {f g : Nat → Value} {ps : List Nat} {tv : Value} (H : zSt G F U ah a s w e n mc f ps l g tv) : (zSf G w l tv s)[6]? = some (.ref (zMo G (s 7).toNat)) := rfl
theorem kX1_waypoints {G : State} {d rc rs : Nat} {ah : zH} {Q : zRs → zH → Prop} {F0 : Nat → Prop} {gd q D lb tx a h lv n : Nat} {s : Int → Int} {sv : Option (Int → Int)} {hs : List (Int → Int)} {ln : List Int} {tp : Int → Int} {tn er fl ml : Int} {v : Value} {f gl ft : Nat → Value} {hl : List Nat} (H : zGc G F0 gd q D lb tx ah s sv hs ln tp tn er fl a v h f hl lv n ml gl ft) {B : Int} (hI : pI B s) (hd : 3 ≤ d) (k : Q (.inl (some (.int (zi (s 0))))) ah) : zW G mX1_waypoints d rc rs 0 (zent [.ref gd]) [] ah Q := by
  refine zW_open 0 [some (.ref gd)] rfl ?_
  obtain ⟨w, e, n1, mc, f1, ps, l, g, tv, HS⟩ := id H.2.1
  have hV := hI.1
  have hY := hI.2.1
  have vv := hV.h
  have hT := hI.2.2.2.2
  refine zr_aload_n dX1_waypoints_0 rfl rfl ?_
  refine zr_getf dX1_waypoints_1 nX1 (k := 0) (by decide) q274 (Or.inl rfl) H.1 rfl ?_
  refine zc_v0 dX1_waypoints_4 hX2_size gX2_size rfl rfl 1 0 0 (by omega) (Nat.zero_le _) (Nat.zero_le _) q306 q307 q308 HS.rc ?_
  refine kX2_size HS (by omega) (zK_i ?_)
  refine zr_ireturn dX1_waypoints_7 rfl (by first | rfl | exact z_nb _) ?_
  exact k
theorem kX1_waypointX {G : State} {d rc rs : Nat} {ah : zH} {Q : zRs → zH → Prop} {F0 : Nat → Prop} {gd q D lb tx a h lv n : Nat} {s : Int → Int} {sv : Option (Int → Int)} {hs : List (Int → Int)} {ln : List Int} {tp : Int → Int} {tn er fl ml : Int} {v : Value} {f gl ft : Nat → Value} {hl : List Nat} (H : zGc G F0 gd q D lb tx ah s sv hs ln tp tn er fl a v h f hl lv n ml gl ft) {B : Int} (hI : pI B s) {i : Int} (qi : -2147483648 ≤ i ∧ i ≤ 2147483647) (hd : 11 ≤ d) (hc : 2 ≤ rc) (hs9 : 12 ≤ rs) (k : zAnQ ah (zE ["java/lang/IndexOutOfBoundsException"]) (qOf s i 0) Q) : zW G mX1_waypointX d rc rs 0 (zent [.ref gd, .int (zi i)]) [] ah Q := by
  refine zW_open 0 [some (.ref gd), some (.int (zi i))] rfl ?_
  obtain ⟨w, e, n1, mc, f1, ps, l, g, tv, HS⟩ := id H.2.1
  have hV := hI.1
  have hY := hI.2.1
  have vv := hV.h
  have hT := hI.2.2.2.2
  refine zr_aload_n dX1_waypointX_0 rfl rfl ?_
  refine zr_getf dX1_waypointX_1 nX1 (k := 0) (by decide) q274 (Or.inl rfl) H.1 rfl ?_
  refine zr_iload_n dX1_waypointX_4 rfl ?_
  refine zc_v1 dX1_waypointX_5 hX2_waypoint gX2_waypoint rfl rfl 9 1 6 (by omega) (by omega) (by omega) q1519 q1520 q1521 HS.rc ?_
  refine kX2_waypoint HS hV (by omega) (by omega) (by omega) (by omega) (fun p h5 wp => zK_i ?_) (fun h5 q hq => zK_x (zX_out (fun x hx => nomatch hx) ?_))
  rotate_left
  · exact k.thr (c := 1) (v := 0) (by unfold qOf; rw [if_pos (by rw [h5]; decide)]) (by decide) (zGr.up hq)
  obtain ⟨-, pp, -, wp3, wp4⟩ := id wp
  refine zc_v0 dX1_waypointX_8 hX5_point gX5_point rfl rfl 0 0 0 (by omega) (Nat.zero_le _) (Nat.zero_le _) q1523 q856 q857 wp.rc ?_
  refine kX5_point wp3 (zK_i ?_)
  refine zc_v0 dX1_waypointX_11 hX6_x gX6_x rfl rfl 0 0 0 (by omega) (Nat.zero_le _) (Nat.zero_le _) q1524 q1525 q1526 wp4.rc ?_
  refine kX6_x wp4 (zK_i ?_)
  refine zr_ireturn dX1_waypointX_14 rfl (by first | rfl | exact z_nb _) ?_
  exact k.ok (by unfold qOf; rw [if_neg (fun z => z h5)]) (zGr.rf)
theorem kX1_waypointY {G : State} {d rc rs : Nat} {ah : zH} {Q : zRs → zH → Prop} {F0 : Nat → Prop} {gd q D lb tx a h lv n : Nat} {s : Int → Int} {sv : Option (Int → Int)} {hs : List (Int → Int)} {ln : List Int} {tp : Int → Int} {tn er fl ml : Int} {v : Value} {f gl ft : Nat → Value} {hl : List Nat} (H : zGc G F0 gd q D lb tx ah s sv hs ln tp tn er fl a v h f hl lv n ml gl ft) {B : Int} (hI : pI B s) {i : Int} (qi : -2147483648 ≤ i ∧ i ≤ 2147483647) (hd : 11 ≤ d) (hc : 2 ≤ rc) (hs9 : 12 ≤ rs) (k : zAnQ ah (zE ["java/lang/IndexOutOfBoundsException"]) (qOf s i 1) Q) : zW G mX1_waypointY d rc rs 0 (zent [.ref gd, .int (zi i)]) [] ah Q := by
  refine zW_open 0 [some (.ref gd), some (.int (zi i))] rfl ?_
  obtain ⟨w, e, n1, mc, f1, ps, l, g, tv, HS⟩ := id H.2.1
  have hV := hI.1
  have hY := hI.2.1
  have vv := hV.h
  have hT := hI.2.2.2.2
  refine zr_aload_n dX1_waypointY_0 rfl rfl ?_
  refine zr_getf dX1_waypointY_1 nX1 (k := 0) (by decide) q274 (Or.inl rfl) H.1 rfl ?_
  refine zr_iload_n dX1_waypointY_4 rfl ?_
  refine zc_v1 dX1_waypointY_5 hX2_waypoint gX2_waypoint rfl rfl 9 1 6 (by omega) (by omega) (by omega) q1519 q1520 q1521 HS.rc ?_
  refine kX2_waypoint HS hV (by omega) (by omega) (by omega) (by omega) (fun p h5 wp => zK_i ?_) (fun h5 q hq => zK_x (zX_out (fun x hx => nomatch hx) ?_))
  rotate_left
  · exact k.thr (c := 1) (v := 0) (by unfold qOf; rw [if_pos (by rw [h5]; decide)]) (by decide) (zGr.up hq)
  obtain ⟨-, pp, -, wp3, wp4⟩ := id wp
  refine zc_v0 dX1_waypointY_8 hX5_point gX5_point rfl rfl 0 0 0 (by omega) (Nat.zero_le _) (Nat.zero_le _) q1523 q856 q857 wp.rc ?_
  refine kX5_point wp3 (zK_i ?_)
  refine zc_v0 dX1_waypointY_11 hX6_y gX6_y rfl rfl 0 0 0 (by omega) (Nat.zero_le _) (Nat.zero_le _) q1535 q1536 q1537 wp4.rc ?_
  refine kX6_y wp4 (zK_i ?_)
  refine zr_ireturn dX1_waypointY_14 rfl (by first | rfl | exact z_nb _) ?_
  exact k.ok (by unfold qOf; rw [if_neg (fun z => z h5)]) (zGr.rf)
theorem kX1_radius {G : State} {d rc rs : Nat} {ah : zH} {Q : zRs → zH → Prop} {F0 : Nat → Prop} {gd q D lb tx a h lv n : Nat} {s : Int → Int} {sv : Option (Int → Int)} {hs : List (Int → Int)} {ln : List Int} {tp : Int → Int} {tn er fl ml : Int} {v : Value} {f gl ft : Nat → Value} {hl : List Nat} (H : zGc G F0 gd q D lb tx ah s sv hs ln tp tn er fl a v h f hl lv n ml gl ft) {B : Int} (hI : pI B s) {i : Int} (qi : -2147483648 ≤ i ∧ i ≤ 2147483647) (hd : 11 ≤ d) (hc : 2 ≤ rc) (hs9 : 12 ≤ rs) (k : zAnQ ah (zE ["java/lang/IndexOutOfBoundsException"]) (qOf s i 2) Q) : zW G mX1_radius d rc rs 0 (zent [.ref gd, .int (zi i)]) [] ah Q := by
  refine zW_open 0 [some (.ref gd), some (.int (zi i))] rfl ?_
  obtain ⟨w, e, n1, mc, f1, ps, l, g, tv, HS⟩ := id H.2.1
  have hV := hI.1
  have hY := hI.2.1
  have vv := hV.h
  have hT := hI.2.2.2.2
  refine zr_aload_n dX1_radius_0 rfl rfl ?_
  refine zr_getf dX1_radius_1 nX1 (k := 0) (by decide) q274 (Or.inl rfl) H.1 rfl ?_
  refine zr_iload_n dX1_radius_4 rfl ?_
  refine zc_v1 dX1_radius_5 hX2_waypoint gX2_waypoint rfl rfl 9 1 6 (by omega) (by omega) (by omega) q1519 q1520 q1521 HS.rc ?_
  refine kX2_waypoint HS hV (by omega) (by omega) (by omega) (by omega) (fun p h5 wp => zK_i ?_) (fun h5 q hq => zK_x (zX_out (fun x hx => nomatch hx) ?_))
  rotate_left
  · exact k.thr (c := 1) (v := 0) (by unfold qOf; rw [if_pos (by rw [h5]; decide)]) (by decide) (zGr.up hq)
  obtain ⟨-, pp, -, wp3, wp4⟩ := id wp
  refine zc_v0 dX1_radius_8 hX5_radius gX5_radius rfl rfl 0 0 0 (by omega) (Nat.zero_le _) (Nat.zero_le _) q1546 q1547 q1548 wp.rc ?_
  refine kX5_radius (v := .null) wp3 (zK_i ?_)
  refine zr_ireturn dX1_radius_11 rfl (by first | rfl | exact z_nb _) ?_
  exact k.ok (by unfold qOf; rw [if_neg (fun z => z h5)]) (zGr.rf)
theorem kX1_trails {G : State} {d rc rs : Nat} {ah : zH} {Q : zRs → zH → Prop} {F0 : Nat → Prop} {gd q D lb tx a h lv n : Nat} {s : Int → Int} {sv : Option (Int → Int)} {hs : List (Int → Int)} {ln : List Int} {tp : Int → Int} {tn er fl ml : Int} {v : Value} {f gl ft : Nat → Value} {hl : List Nat} (H : zGc G F0 gd q D lb tx ah s sv hs ln tp tn er fl a v h f hl lv n ml gl ft) {B : Int} (hI : pI B s) (hd : 3 ≤ d) (k : Q (.inl (some (.int (zi (pMn s 12))))) ah) : zW G mX1_trails d rc rs 0 (zent [.ref gd]) [] ah Q := by
  refine zW_open 0 [some (.ref gd)] rfl ?_
  obtain ⟨w, e, n1, mc, f1, ps, l, g, tv, HS⟩ := id H.2.1
  have hV := hI.1
  have hY := hI.2.1
  have vv := hV.h
  have hT := hI.2.2.2.2
  refine zr_aload_n dX1_trails_0 rfl rfl ?_
  refine zr_getf dX1_trails_1 nX1 (k := 0) (by decide) q274 (Or.inl rfl) H.1 rfl ?_
  refine zc_v0 dX1_trails_4 hX2_countTrails gX2_countTrails rfl rfl 0 0 0 (by omega) (Nat.zero_le _) (Nat.zero_le _) q318 q319 q320 HS.rc ?_
  refine kX2_countTrails HS hV (zK_i ?_)
  rw [pT2_h hY hV]
  refine zr_ireturn dX1_trails_7 rfl (by first | rfl | exact z_nb _) ?_
  exact k
theorem kX1_hasTrail {G : State} {d rc rs : Nat} {ah : zH} {Q : zRs → zH → Prop} {F0 : Nat → Prop} {gd q D lb tx a h lv n : Nat} {s : Int → Int} {sv : Option (Int → Int)} {hs : List (Int → Int)} {ln : List Int} {tp : Int → Int} {tn er fl ml : Int} {v : Value} {f gl ft : Nat → Value} {hl : List Nat} (H : zGc G F0 gd q D lb tx ah s sv hs ln tp tn er fl a v h f hl lv n ml gl ft) {B : Int} (hI : pI B s) {x y : Int} (qx : -2147483648 ≤ x ∧ x ≤ 2147483647) (qy : -2147483648 ≤ y ∧ y ≤ 2147483647) (hd : 30 ≤ d) (hc : 180 ≤ rc) (hs9 : 400 ≤ rs) (k : zAnQ ah (zE ["java/lang/IndexOutOfBoundsException"]) (qHas s x y) Q) : zW G mX1_hasTrail d rc rs 0 (zent [.ref gd, .int (zi x), .int (zi y)]) [] ah Q := by
  refine zW_open 0 [some (.ref gd), some (.int (zi x)), some (.int (zi y))] rfl ?_
  obtain ⟨w, e, n1, mc, f1, ps, l, g, tv, HS⟩ := id H.2.1
  have hV := hI.1
  have hY := hI.2.1
  have vv := hV.h
  have hT := hI.2.2.2.2
  refine zr_aload_n dX1_hasTrail_0 rfl rfl ?_
  refine zr_getf dX1_hasTrail_1 nX1 (k := 0) (by decide) q274 (Or.inl rfl) H.1 rfl ?_
  refine zr_iload_n dX1_hasTrail_4 rfl ?_
  refine zr_iload_n dX1_hasTrail_5 rfl ?_
  refine zc_v2 dX1_hasTrail_6 hX2_checkPair gX2_checkPair rfl rfl 9 2 12 (by omega) (by omega) (by omega) q1557 q1187 q1188 HS.rc ?_
  refine kX2_checkPair HS hV (by omega) (by omega) (by omega) (by omega) (by omega) (fun h6 => zK_v ?_) (fun h6 q hq => zK_x (zX_out (fun x hx => nomatch hx) ?_))
  rotate_left
  · exact k.thr (c := 1) (v := 0) (by unfold qHas; rw [if_pos h6]) (by decide) (zGr.up hq)
  obtain ⟨a1, a2⟩ := h6
  have b1 := pPt_b a1 hV
  have b2 := pPt_b a2 hV
  have hxr : pR x := ⟨by omega, by omega⟩
  have hyr : pR y := ⟨by omega, by omega⟩
  have tb := hV.tr hxr hyr
  have n1 : ¬ ¬ (pPt s x = true ∧ pPt s y = true) := fun z => z ⟨a1, a2⟩
  refine zr_aload_n dX1_hasTrail_9 rfl rfl ?_
  refine zr_getf dX1_hasTrail_10 nX1 (k := 0) (by decide) q274 (Or.inl rfl) H.1 rfl ?_
  refine zr_iload_n dX1_hasTrail_13 rfl ?_
  refine zr_iload_n dX1_hasTrail_14 rfl ?_
  refine zc_v2 dX1_hasTrail_15 hX2_lengthOf gX2_lengthOf rfl rfl 0 0 0 (by omega) (Nat.zero_le _) (Nat.zero_le _) q1558 q346 q347 HS.rc ?_
  refine kX2_lengthOf HS hxr hyr (zK_i ?_)
  refine zr_ifle dX1_hasTrail_18 (tgt := 25) (by decide) (by omega) (fun h18 => ?_) (fun h18 => ?_)
  · refine zr_iconst dX1_hasTrail_25 ?_
    refine zr_ireturn dX1_hasTrail_26 rfl (by first | rfl | exact z_nb _) ?_
    first
      | exact k.ok (v := 1) (by unfold qHas; rw [if_neg n1, decide_eq_true (by omega)]; rfl) zGr.rf
      | exact k.ok (v := 0) (by unfold qHas; rw [if_neg n1, decide_eq_false (by omega)]; rfl) zGr.rf
  · refine zr_iconst dX1_hasTrail_21 ?_
    refine zr_goto dX1_hasTrail_22 (tgt := 26) (by decide) ?_
    refine zr_ireturn dX1_hasTrail_26 rfl (by first | rfl | exact z_nb _) ?_
    first
      | exact k.ok (v := 1) (by unfold qHas; rw [if_neg n1, decide_eq_true (by omega)]; rfl) zGr.rf
      | exact k.ok (v := 0) (by unfold qHas; rw [if_neg n1, decide_eq_false (by omega)]; rfl) zGr.rf
theorem kX1_trailLength {G : State} {d rc rs : Nat} {ah : zH} {Q : zRs → zH → Prop} {F0 : Nat → Prop} {gd q D lb tx a h lv n : Nat} {s : Int → Int} {sv : Option (Int → Int)} {hs : List (Int → Int)} {ln : List Int} {tp : Int → Int} {tn er fl ml : Int} {v : Value} {f gl ft : Nat → Value} {hl : List Nat} (H : zGc G F0 gd q D lb tx ah s sv hs ln tp tn er fl a v h f hl lv n ml gl ft) {B : Int} (hI : pI B s) {x y : Int} (qx : -2147483648 ≤ x ∧ x ≤ 2147483647) (qy : -2147483648 ≤ y ∧ y ≤ 2147483647) (hd : 30 ≤ d) (hc : 180 ≤ rc) (hs9 : 400 ≤ rs) (k : zAnQ ah (zE ["java/lang/IndexOutOfBoundsException", "java/util/NoSuchElementException"]) (qLen s x y) Q) : zW G mX1_trailLength d rc rs 0 (zent [.ref gd, .int (zi x), .int (zi y)]) [] ah Q := by
  refine zW_open 0 [some (.ref gd), some (.int (zi x)), some (.int (zi y))] rfl ?_
  obtain ⟨w, e, n1, mc, f1, ps, l, g, tv, HS⟩ := id H.2.1
  have hV := hI.1
  have hY := hI.2.1
  have vv := hV.h
  have hT := hI.2.2.2.2
  refine zr_aload_n dX1_trailLength_0 rfl rfl ?_
  refine zr_getf dX1_trailLength_1 nX1 (k := 0) (by decide) q274 (Or.inl rfl) H.1 rfl ?_
  refine zr_iload_n dX1_trailLength_4 rfl ?_
  refine zr_iload_n dX1_trailLength_5 rfl ?_
  refine zc_v2 dX1_trailLength_6 hX2_checkPair gX2_checkPair rfl rfl 9 2 12 (by omega) (by omega) (by omega) q1557 q1187 q1188 HS.rc ?_
  refine kX2_checkPair HS hV (by omega) (by omega) (by omega) (by omega) (by omega) (fun h6 => zK_v ?_) (fun h6 q hq => zK_x (zX_out (fun x hx => nomatch hx) ?_))
  rotate_left
  · exact k.thr (c := 1) (v := 0) (by unfold qLen; rw [if_pos h6]) (by decide) (zGr.up hq)
  obtain ⟨a1, a2⟩ := h6
  have b1 := pPt_b a1 hV
  have b2 := pPt_b a2 hV
  have hxr : pR x := ⟨by omega, by omega⟩
  have hyr : pR y := ⟨by omega, by omega⟩
  have tb := hV.tr hxr hyr
  have n1 : ¬ ¬ (pPt s x = true ∧ pPt s y = true) := fun z => z ⟨a1, a2⟩
  refine zr_aload_n dX1_trailLength_9 rfl rfl ?_
  refine zr_getf dX1_trailLength_10 nX1 (k := 0) (by decide) q274 (Or.inl rfl) H.1 rfl ?_
  refine zr_iload_n dX1_trailLength_13 rfl ?_
  refine zr_iload_n dX1_trailLength_14 rfl ?_
  refine zc_v2 dX1_trailLength_15 hX2_lengthOf gX2_lengthOf rfl rfl 0 0 0 (by omega) (Nat.zero_le _) (Nat.zero_le _) q1558 q346 q347 HS.rc ?_
  refine kX2_lengthOf HS hxr hyr (zK_i ?_)
  refine zr_ifle dX1_trailLength_18 (tgt := 25) (by decide) (by omega) (fun h18 => ?_) (fun h18 => ?_)
  · refine zr_iconst dX1_trailLength_25 ?_
    refine zc_s1 dX1_trailLength_26 hX1_checkElement gX1_checkElement rfl rfl 8 1 6 (by omega) (by omega) (by omega) q1566 q1228 ?_
    refine kX1_checkElement (b := false) (by omega) (by omega) (by omega) (fun h => absurd h (by decide)) (fun h26 q26 hq26 => zK_x (zX_out (fun x hx => nomatch hx) ?_))
    exact k.thr (c := 2) (v := 0) (by unfold qLen; rw [if_neg n1, if_pos (by omega)]) (by decide) (zGr.up hq26)
  · refine zr_iconst dX1_trailLength_21 ?_
    refine zr_goto dX1_trailLength_22 (tgt := 26) (by decide) ?_
    refine zc_s1 dX1_trailLength_26 hX1_checkElement gX1_checkElement rfl rfl 8 1 6 (by omega) (by omega) (by omega) q1566 q1228 ?_
    refine kX1_checkElement (b := true) (by omega) (by omega) (by omega) (fun _ => zK_v ?_) (fun h => absurd h (by decide))
    refine zr_aload_n dX1_trailLength_29 rfl rfl ?_
    refine zr_getf dX1_trailLength_30 nX1 (k := 0) (by decide) q274 (Or.inl rfl) H.1 rfl ?_
    refine zr_iload_n dX1_trailLength_33 rfl ?_
    refine zr_iload_n dX1_trailLength_34 rfl ?_
    refine zc_v2 dX1_trailLength_35 hX2_lengthOf gX2_lengthOf rfl rfl 0 0 0 (by omega) (Nat.zero_le _) (Nat.zero_le _) q1558 q346 q347 HS.rc ?_
    refine kX2_lengthOf HS hxr hyr (zK_i ?_)
    refine zr_ireturn dX1_trailLength_38 rfl (by first | rfl | exact z_nb _) ?_
    exact k.ok (by unfold qLen; rw [if_neg n1, if_neg (by omega)]) (zGr.rf)
theorem kX1_reachable {G : State} {d rc rs : Nat} {ah : zH} {Q : zRs → zH → Prop} {i : Int} (qi : -2147483648 ≤ i ∧ i ≤ 2147483647) (hd : 9 ≤ d) (hc : 1 ≤ rc) (hs : 6 ≤ rs) (k : i < 1000000 → Q (.inl (some (.int (zi i)))) ah) (kx : ¬ i < 1000000 → ∀ q, ah q = none → Q (.inr ("java/util/NoSuchElementException", q)) (z_up ah q (.inl (20, [])))) : zW G mX1_reachable d rc rs 0 (zent [.int (zi i)]) [] ah Q := by
  refine zW_open 0 [some (.int (zi i))] rfl ?_
  refine zr_iload_n dX1_reachable_0 rfl ?_
  refine zr_ldc dX1_reachable_1 q1577 (n := 1000000) rfl ?_
  refine zr_icmpge dX1_reachable_3 (tgt := 10) (by decide) (by omega) (by omega) (fun h3 => ?_) (fun h3 => ?_)
  · refine zr_iconst dX1_reachable_10 ?_
    refine zc_s1 dX1_reachable_11 hX1_checkElement gX1_checkElement rfl rfl 8 1 6 (by omega) (by omega) (by omega) q1566 q1228 ?_
    refine kX1_checkElement (b := false) (by omega) (by omega) (by omega) (fun h => absurd h (by decide)) (fun h11 q11 hq11 => zK_x (zX_out (fun x hx => nomatch hx) ?_))
    exact kx (by omega) _ hq11
  · refine zr_iconst dX1_reachable_6 ?_
    refine zr_goto dX1_reachable_7 (tgt := 11) (by decide) ?_
    refine zc_s1 dX1_reachable_11 hX1_checkElement gX1_checkElement rfl rfl 8 1 6 (by omega) (by omega) (by omega) q1566 q1228 ?_
    refine kX1_checkElement (b := true) (by omega) (by omega) (by omega) (fun _ => zK_v ?_) (fun h => absurd h (by decide))
    refine zr_iload_n dX1_reachable_14 rfl ?_
    refine zr_ireturn dX1_reachable_15 rfl (by first | rfl | exact z_nb _) ?_
    exact k (by omega)
theorem kX1_distance {G : State} {d rc rs : Nat} {ah : zH} {Q : zRs → zH → Prop} {F0 : Nat → Prop} {gd q D lb tx a h lv n : Nat} {s : Int → Int} {sv : Option (Int → Int)} {hs : List (Int → Int)} {ln : List Int} {tp : Int → Int} {tn er fl ml : Int} {v : Value} {f gl ft : Nat → Value} {hl : List Nat} (H : zGc G F0 gd q D lb tx ah s sv hs ln tp tn er fl a v h f hl lv n ml gl ft) {B : Int} (hI : pI B s) {x y : Int} (qx : -2147483648 ≤ x ∧ x ≤ 2147483647) (qy : -2147483648 ≤ y ∧ y ≤ 2147483647) (hd : 30 ≤ d) (hc : 180 ≤ rc) (hs9 : 400 ≤ rs) (k : zAnQ ah (zE ["java/lang/IndexOutOfBoundsException", "java/util/NoSuchElementException"]) (qDis s x y) Q) : zW G mX1_distance d rc rs 0 (zent [.ref gd, .int (zi x), .int (zi y)]) [] ah Q := by
  refine zW_open 0 [some (.ref gd), some (.int (zi x)), some (.int (zi y))] rfl ?_
  obtain ⟨w, e, n1, mc, f1, ps, l, g, tv, HS⟩ := id H.2.1
  have hV := hI.1
  have hY := hI.2.1
  have vv := hV.h
  have hT := hI.2.2.2.2
  refine zr_aload_n dX1_distance_0 rfl rfl ?_
  refine zr_getf dX1_distance_1 nX1 (k := 0) (by decide) q274 (Or.inl rfl) H.1 rfl ?_
  refine zr_iload_n dX1_distance_4 rfl ?_
  refine zr_iload_n dX1_distance_5 rfl ?_
  refine zc_v2 dX1_distance_6 hX2_checkPair gX2_checkPair rfl rfl 9 2 12 (by omega) (by omega) (by omega) q1557 q1187 q1188 HS.rc ?_
  refine kX2_checkPair HS hV (by omega) (by omega) (by omega) (by omega) (by omega) (fun h6 => zK_v ?_) (fun h6 q hq => zK_x (zX_out (fun x hx => nomatch hx) ?_))
  rotate_left
  · exact k.thr (c := 1) (v := 0) (by unfold qDis; rw [if_pos h6]) (by decide) (zGr.up hq)
  obtain ⟨a1, a2⟩ := h6
  have b1 := pPt_b a1 hV
  have b2 := pPt_b a2 hV
  have hxr : pR x := ⟨by omega, by omega⟩
  have hyr : pR y := ⟨by omega, by omega⟩
  have tb := hV.tr hxr hyr
  have n1 : ¬ ¬ (pPt s x = true ∧ pPt s y = true) := fun z => z ⟨a1, a2⟩
  refine zr_aload_n dX1_distance_9 rfl rfl ?_
  refine zr_getf dX1_distance_10 nX1 (k := 0) (by decide) q274 (Or.inl rfl) H.1 rfl ?_
  refine zr_iload_n dX1_distance_13 rfl ?_
  refine zc_v1 dX1_distance_14 hX2_distancesFrom gX2_distancesFrom rfl rfl 27 14 48 (by omega) (by omega) (by omega) q419 q420 q421 HS.rc ?_
  refine kX2_distancesFrom HS hV hY hxr (by omega) (by omega) (by omega) (by omega) (fun ah1 r v z1 z2 z3 hD => zK_i ?_)
  have hvb := hD.2.1 y hyr
  obtain ⟨gr, r1, r2⟩ := id z3
  refine zr_iload_n dX1_distance_17 rfl ?_
  refine zr_iaload dX1_distance_18 (Or.inl r1) (by decide) (by omega) (z12e r2 hyr) ?_
  refine zc_s1 dX1_distance_19 hX1_reachable gX1_reachable rfl rfl 9 1 6 (by omega) (by omega) (by omega) q1574 q1575 ?_
  refine kX1_reachable (by omega) (by omega) (by omega) (by omega) (fun h19 => zK_i ?_) (fun h19 q hq => zK_x (zX_out (fun x hx => nomatch hx) ?_))
  rotate_left
  · exact k.thr (c := 2) (v := 0) (by unfold qDis; rw [if_neg n1, if_pos (Int.not_lt.mp (fun z => h19 ((pCv_lt hV hxr hD hyr).mpr z)))]) (by decide) (z1.tr (zGr.up hq))
  rw [pCv_v hV hxr hD hyr h19]
  have hlf := (pCv_lt hV hxr hD hyr).mp h19
  refine zr_ireturn dX1_distance_22 rfl (by first | rfl | exact z_nb _) ?_
  exact k.ok (by unfold qDis; rw [if_neg n1, if_neg (by omega)]) (z1)
theorem kX1_distanceByRelaxation {G : State} {d rc rs : Nat} {ah : zH} {Q : zRs → zH → Prop} {F0 : Nat → Prop} {gd q D lb tx a h lv n : Nat} {s : Int → Int} {sv : Option (Int → Int)} {hs : List (Int → Int)} {ln : List Int} {tp : Int → Int} {tn er fl ml : Int} {v : Value} {f gl ft : Nat → Value} {hl : List Nat} (H : zGc G F0 gd q D lb tx ah s sv hs ln tp tn er fl a v h f hl lv n ml gl ft) {B : Int} (hI : pI B s) {x y : Int} (qx : -2147483648 ≤ x ∧ x ≤ 2147483647) (qy : -2147483648 ≤ y ∧ y ≤ 2147483647) (hd : 30 ≤ d) (hc : 180 ≤ rc) (hs9 : 400 ≤ rs) (k : zAnQ ah (zE ["java/lang/IndexOutOfBoundsException", "java/util/NoSuchElementException"]) (qDis s x y) Q) : zW G mX1_distanceByRelaxation d rc rs 0 (zent [.ref gd, .int (zi x), .int (zi y)]) [] ah Q := by
  refine zW_open 0 [some (.ref gd), some (.int (zi x)), some (.int (zi y))] rfl ?_
  obtain ⟨w, e, n1, mc, f1, ps, l, g, tv, HS⟩ := id H.2.1
  have hV := hI.1
  have hY := hI.2.1
  have vv := hV.h
  have hT := hI.2.2.2.2
  refine zr_aload_n dX1_distanceByRelaxation_0 rfl rfl ?_
  refine zr_getf dX1_distanceByRelaxation_1 nX1 (k := 0) (by decide) q274 (Or.inl rfl) H.1 rfl ?_
  refine zr_iload_n dX1_distanceByRelaxation_4 rfl ?_
  refine zr_iload_n dX1_distanceByRelaxation_5 rfl ?_
  refine zc_v2 dX1_distanceByRelaxation_6 hX2_checkPair gX2_checkPair rfl rfl 9 2 12 (by omega) (by omega) (by omega) q1557 q1187 q1188 HS.rc ?_
  refine kX2_checkPair HS hV (by omega) (by omega) (by omega) (by omega) (by omega) (fun h6 => zK_v ?_) (fun h6 q hq => zK_x (zX_out (fun x hx => nomatch hx) ?_))
  rotate_left
  · exact k.thr (c := 1) (v := 0) (by unfold qDis; rw [if_pos h6]) (by decide) (zGr.up hq)
  obtain ⟨a1, a2⟩ := h6
  have b1 := pPt_b a1 hV
  have b2 := pPt_b a2 hV
  have hxr : pR x := ⟨by omega, by omega⟩
  have hyr : pR y := ⟨by omega, by omega⟩
  have tb := hV.tr hxr hyr
  have n1 : ¬ ¬ (pPt s x = true ∧ pPt s y = true) := fun z => z ⟨a1, a2⟩
  refine zr_aload_n dX1_distanceByRelaxation_9 rfl rfl ?_
  refine zr_getf dX1_distanceByRelaxation_10 nX1 (k := 0) (by decide) q274 (Or.inl rfl) H.1 rfl ?_
  refine zr_iload_n dX1_distanceByRelaxation_13 rfl ?_
  refine zc_v1 dX1_distanceByRelaxation_14 hX2_distancesByRelaxation gX2_distancesByRelaxation rfl rfl 27 157 324 (by omega) (by omega) (by omega) q448 q449 q450 HS.rc ?_
  refine kX2_distancesByRelaxation HS hV hY hxr (by omega) (by omega) (by omega) (by omega) (fun ah1 r v z1 z2 z3 hD => zK_i ?_)
  have hvb := hD.2.1 y hyr
  obtain ⟨gr, r1, r2⟩ := id z3
  refine zr_iload_n dX1_distanceByRelaxation_17 rfl ?_
  refine zr_iaload dX1_distanceByRelaxation_18 (Or.inl r1) (by decide) (by omega) (z12e r2 hyr) ?_
  refine zc_s1 dX1_distanceByRelaxation_19 hX1_reachable gX1_reachable rfl rfl 9 1 6 (by omega) (by omega) (by omega) q1574 q1575 ?_
  refine kX1_reachable (by omega) (by omega) (by omega) (by omega) (fun h19 => zK_i ?_) (fun h19 q hq => zK_x (zX_out (fun x hx => nomatch hx) ?_))
  rotate_left
  · exact k.thr (c := 2) (v := 0) (by unfold qDis; rw [if_neg n1, if_pos (Int.not_lt.mp (fun z => h19 ((pCv_lt hV hxr hD hyr).mpr z)))]) (by decide) (z1.tr (zGr.up hq))
  rw [pCv_v hV hxr hD hyr h19]
  have hlf := (pCv_lt hV hxr hD hyr).mp h19
  refine zr_ireturn dX1_distanceByRelaxation_22 rfl (by first | rfl | exact z_nb _) ?_
  exact k.ok (by unfold qDis; rw [if_neg n1, if_neg (by omega)]) (z1)
theorem kX1_components {G : State} {d rc rs : Nat} {ah : zH} {Q : zRs → zH → Prop} {F0 : Nat → Prop} {gd q D lb tx a h lv n : Nat} {s : Int → Int} {sv : Option (Int → Int)} {hs : List (Int → Int)} {ln : List Int} {tp : Int → Int} {tn er fl ml : Int} {v : Value} {f gl ft : Nat → Value} {hl : List Nat} (H : zGc G F0 gd q D lb tx ah s sv hs ln tp tn er fl a v h f hl lv n ml gl ft) {B : Int} (hI : pI B s) (hd : 30 ≤ d) (hc : 14 ≤ rc) (hs9 : 25 ≤ rs) (k : ∀ ah9, zGr ah ah9 → Q (.inl (some (.int (zi (pCo s (s 0).toNat))))) ah9) : zW G mX1_components d rc rs 0 (zent [.ref gd]) [] ah Q := by
  refine zW_open 0 [some (.ref gd)] rfl ?_
  obtain ⟨w, e, n1, mc, f1, ps, l, g, tv, HS⟩ := id H.2.1
  have hV := hI.1
  have hY := hI.2.1
  have vv := hV.h
  have hT := hI.2.2.2.2
  refine zr_aload_n dX1_components_0 rfl rfl ?_
  refine zr_getf dX1_components_1 nX1 (k := 0) (by decide) q274 (Or.inl rfl) H.1 rfl ?_
  refine zc_v0 dX1_components_4 hX2_components gX2_components rfl rfl 28 14 25 (by omega) (by omega) (by omega) q326 q327 q328 HS.rc ?_
  refine kX2_components HS hV hY (by omega) (by omega) (by omega) (fun ah1 z1 => zK_i ?_)
  refine zr_ireturn dX1_components_7 rfl (by first | rfl | exact z_nb _) ?_
  exact k ah1 z1
theorem kX1_componentsByMerging {G : State} {d rc rs : Nat} {ah : zH} {Q : zRs → zH → Prop} {F0 : Nat → Prop} {gd q D lb tx a h lv n : Nat} {s : Int → Int} {sv : Option (Int → Int)} {hs : List (Int → Int)} {ln : List Int} {tp : Int → Int} {tn er fl ml : Int} {v : Value} {f gl ft : Nat → Value} {hl : List Nat} (H : zGc G F0 gd q D lb tx ah s sv hs ln tp tn er fl a v h f hl lv n ml gl ft) {B : Int} (hI : pI B s) (hd : 202 ≤ d) (hc : 1 ≤ rc) (hs9 : 12 ≤ rs) (k : ∀ ah9, zGr ah ah9 → Q (.inl (some (.int (zi (pCo s (s 0).toNat))))) ah9) : zW G mX1_componentsByMerging d rc rs 0 (zent [.ref gd]) [] ah Q := by
  refine zW_open 0 [some (.ref gd)] rfl ?_
  obtain ⟨w, e, n1, mc, f1, ps, l, g, tv, HS⟩ := id H.2.1
  have hV := hI.1
  have hY := hI.2.1
  have vv := hV.h
  have hT := hI.2.2.2.2
  refine zr_aload_n dX1_componentsByMerging_0 rfl rfl ?_
  refine zr_getf dX1_componentsByMerging_1 nX1 (k := 0) (by decide) q274 (Or.inl rfl) H.1 rfl ?_
  refine zc_v0 dX1_componentsByMerging_4 hX2_componentsByMerging gX2_componentsByMerging rfl rfl 200 1 12 (by omega) (by omega) (by omega) q356 q357 q358 HS.rc ?_
  refine kX2_componentsByMerging HS hV hY (by omega) (by omega) (by omega) (fun ah1 z1 => zK_i ?_)
  refine zr_ireturn dX1_componentsByMerging_7 rfl (by first | rfl | exact z_nb _) ?_
  exact k ah1 z1
theorem kX1_nearestL {G : State} {d : Nat} {Q : zRs → zH → Prop} {ahB : zH} {F0 : Nat → Prop} {gd q D lb tx a h lv n : Nat} {s : Int → Int} {sv : Option (Int → Int)} {hs : List (Int → Int)} {ln : List Int} {tp : Int → Int} {tn er fl ml : Int} {v : Value} {f gl ft : Nat → Value} {hl : List Nat} (H : zGc G F0 gd q D lb tx ahB s sv hs ln tp tn er fl a v h f hl lv n ml gl ft) {B : Int} (hI : pI B s) {pt : Nat} {x y : Int} (hx : 0 ≤ x ∧ x ≤ 99) (hy : 0 ≤ y ∧ y ≤ 99) (hp : zPt ahB pt x y) (hd : 8 ≤ d) (n9 : Nat) : ∀ (i : Nat) (rc rs : Nat) (ah : zH) (J : Option Value), 1 ≤ i → (i : Int) + n9 = s 0 → 2 * n9 ≤ rc → 4 * n9 ≤ rs → zGr ahB ah → (∀ ah9, zGr ahB ah9 → Q (.inl (some (.int (zi (pNr s x y (s 0).toNat))))) ah9) → zW G mX1_nearest d rc rs 39 [some (.ref gd), some (.int (zi x)), some (.int (zi y)), some (.ref pt), some (.int (zi (pNr s x y i))), some (.int (zi ((i : Nat) : Int))), J] [] ah Q := by
  obtain ⟨w, e, n1, mc, f1, ps, l, g, tv, HS⟩ := id H.2.1
  have hV := hI.1
  have vv := hV.h
  have sw : ∀ p : Int, (pOf s p 0 - x) * (pOf s p 0 - x) + (pOf s p 1 - y) * (pOf s p 1 - y) = pAw s p x y := fun p => by
    unfold pAw pSq
    rw [show (x - pOf s p 0) * (x - pOf s p 0) = (pOf s p 0 - x) * (pOf s p 0 - x) from by rw [← Int.neg_mul_neg]; congr 1 <;> omega, show (y - pOf s p 1) * (y - pOf s p 1) = (pOf s p 1 - y) * (pOf s p 1 - y) from by rw [← Int.neg_mul_neg]; congr 1 <;> omega]
  induction n9 with
  | zero =>
    intro i rc rs ah J g1 g2 g3 g4 g5 k
    have nb := pNr_b (s := s) (x := x) (y := y) i
    have nb2 := nb.2 g1
    refine zr_iload dX1_nearest_39 rfl ?_
    refine zr_aload_n dX1_nearest_41 rfl rfl ?_
    refine zr_getf dX1_nearest_42 nX1 (k := 0) (by decide) q274 (Or.inl rfl) (g5 _ _ H.1) rfl ?_
    refine zc_v0 dX1_nearest_45 hX2_size gX2_size rfl rfl 1 0 0 (by omega) (Nat.zero_le _) (Nat.zero_le _) q306 q307 q308 (HS.gr g5).rc ?_
    refine kX2_size (HS.gr g5) (by omega) (zK_i ?_)
    refine zr_icmpge dX1_nearest_48 (tgt := 108) (by decide) (by omega) (by omega) (fun h48 => ?_) (fun h48 => ?_)
    · refine zr_iload dX1_nearest_108 rfl ?_
      refine zr_ireturn dX1_nearest_110 rfl (by first | rfl | exact z_nb _) ?_
      rw [show (s 0).toNat = i by omega] at k
      exact k ah g5
    · exfalso; omega
  | succ n9 ih =>
    intro i rc rs ah J g1 g2 g3 g4 g5 k
    have nb := pNr_b (s := s) (x := x) (y := y) i
    have nb2 := nb.2 g1
    refine zr_iload dX1_nearest_39 rfl ?_
    refine zr_aload_n dX1_nearest_41 rfl rfl ?_
    refine zr_getf dX1_nearest_42 nX1 (k := 0) (by decide) q274 (Or.inl rfl) (g5 _ _ H.1) rfl ?_
    refine zc_v0 dX1_nearest_45 hX2_size gX2_size rfl rfl 1 0 0 (by omega) (Nat.zero_le _) (Nat.zero_le _) q306 q307 q308 (HS.gr g5).rc ?_
    refine kX2_size (HS.gr g5) (by omega) (zK_i ?_)
    refine zr_icmpge dX1_nearest_48 (tgt := 108) (by decide) (by omega) (by omega) (fun h48 => ?_) (fun h48 => ?_)
    · exfalso; omega
    · have x1 := hV.x (p := (i : Int)) (by omega)
      have y1 := hV.y (p := (i : Int)) (by omega)
      have x2 := hV.x (p := pNr s x y i) (by omega)
      have y2 := hV.y (p := pNr s x y i) (by omega)
      have m1 := pSb (a := pOf s i 0 - x) (by omega)
      have m2 := pSb (a := pOf s i 1 - y) (by omega)
      have m3 := pSb (a := pOf s (pNr s x y i) 0 - x) (by omega)
      have m4 := pSb (a := pOf s (pNr s x y i) 1 - y) (by omega)
      have s1 := sw (i : Int)
      have s2 := sw (pNr s x y i)
      refine zr_aload_n dX1_nearest_51 rfl rfl ?_
      refine zr_getf dX1_nearest_52 nX1 (k := 0) (by decide) q274 (Or.inl rfl) (g5 _ _ H.1) rfl ?_
      refine zr_iload dX1_nearest_55 rfl ?_
      refine zc_vN1 rfl dX1_nearest_57 hX2_pointOf gX2_pointOf rfl rfl 3 0 0 (by omega) (Nat.zero_le _) (Nat.zero_le _) q1595 q838 sp6 (HS.gr g5).rc ?_
      refine kX2_pointOf (HS.gr g5) (by omega) (by omega) (by omega) (fun p1 w1 => zK_i ?_)
      refine zr_aload_n dX1_nearest_60 rfl rfl ?_
      refine zc_v1 dX1_nearest_61 hX6_squaredDistance gX6_squaredDistance rfl rfl 4 1 2 (by omega) (by omega) (by omega) q1401 q1351 q1352 w1.rc ?_
      refine kX6_squaredDistance w1 (hp.gr g5) (by omega) (by omega) (by omega) (by omega) (by omega) (by omega) (by omega) (fun t1 ht1 => zK_i ?_)
      have g6 := g5.tr (zGr.up (o := .inl (4, [.int (zi (pOf s i 0 - x)), .int (zi (pOf s i 1 - y))])) ht1)
      refine zr_aload_n dX1_nearest_64 rfl rfl ?_
      refine zr_getf dX1_nearest_65 nX1 (k := 0) (by decide) q274 (Or.inl rfl) (g6 _ _ H.1) rfl ?_
      refine zr_iload dX1_nearest_68 rfl ?_
      refine zc_vN1 rfl dX1_nearest_70 hX2_pointOf gX2_pointOf rfl rfl 3 0 0 (by omega) (Nat.zero_le _) (Nat.zero_le _) q1595 q838 sp6 (HS.gr g6).rc ?_
      refine kX2_pointOf (HS.gr g6) (by omega) (by omega) (by omega) (fun p2 w2 => zK_i ?_)
      refine zr_aload_n dX1_nearest_73 rfl rfl ?_
      refine zc_v1 dX1_nearest_74 hX6_squaredDistance gX6_squaredDistance rfl rfl 4 1 2 (by omega) (by omega) (by omega) q1401 q1351 q1352 w2.rc ?_
      refine kX6_squaredDistance w2 (hp.gr g6) (by omega) (by omega) (by omega) (by omega) (by omega) (by omega) (by omega) (fun t2 ht2 => zK_i ?_)
      refine zr_lcmp dX1_nearest_77 (by omega) (by omega) ?_
      refine zr_ifge dX1_nearest_78 (tgt := 85) (by decide) (zcmp_b _ _) (fun h78 => ?_) (fun h78 => ?_)
      · refine zr_iconst dX1_nearest_85 ?_
        refine zr_istore dX1_nearest_86 (by decide) (zs7_6 rfl ?_)
        refine zr_iload dX1_nearest_88 rfl ?_
        refine zr_ifeq dX1_nearest_90 (tgt := 98) (by decide) (by decide) (fun _ => ?_) (fun h => absurd h (by decide))
        refine zr_iload dX1_nearest_98 rfl ?_
        refine zr_istore dX1_nearest_100 (by decide) (zs7_4 rfl ?_)
        refine zr_iinc dX1_nearest_102 rfl (by decide) (zs7_5 rfl ?_)
        refine zr_goto dX1_nearest_105 (tgt := 39) (by decide) ?_
        have w := fun J => ih (i + 1) (rc - 1 - 1) (rs - 2 - 2) _ J (by omega) (by omega) (by omega) (by omega) (g6.tr (zGr.up (o := .inl (4, [.int (zi (pOf s (pNr s x y i) 0 - x)), .int (zi (pOf s (pNr s x y i) 1 - y))])) ht2)) k
        first
          | (rw [show pNr s x y (i + 1) = (i : Int) from by rw [pNr_s g1, if_pos (by rw [← s1, ← s2]; exact zcmp_lt.mp (by omega))]] at w; exact w _)
          | (rw [show pNr s x y (i + 1) = pNr s x y i from by rw [pNr_s g1, if_neg (by rw [← s1, ← s2]; exact fun z => by have := zcmp_lt.mpr z; omega)]] at w; exact w _)
      · refine zr_iconst dX1_nearest_81 ?_
        refine zr_goto dX1_nearest_82 (tgt := 86) (by decide) ?_
        refine zr_istore dX1_nearest_86 (by decide) (zs7_6 rfl ?_)
        refine zr_iload dX1_nearest_88 rfl ?_
        refine zr_ifeq dX1_nearest_90 (tgt := 98) (by decide) (by decide) (fun h => absurd h (by decide)) (fun _ => ?_)
        refine zr_iload dX1_nearest_93 rfl ?_
        refine zr_goto dX1_nearest_95 (tgt := 100) (by decide) ?_
        refine zr_istore dX1_nearest_100 (by decide) (zs7_4 rfl ?_)
        refine zr_iinc dX1_nearest_102 rfl (by decide) (zs7_5 rfl ?_)
        refine zr_goto dX1_nearest_105 (tgt := 39) (by decide) ?_
        have w := fun J => ih (i + 1) (rc - 1 - 1) (rs - 2 - 2) _ J (by omega) (by omega) (by omega) (by omega) (g6.tr (zGr.up (o := .inl (4, [.int (zi (pOf s (pNr s x y i) 0 - x)), .int (zi (pOf s (pNr s x y i) 1 - y))])) ht2)) k
        first
          | (rw [show pNr s x y (i + 1) = (i : Int) from by rw [pNr_s g1, if_pos (by rw [← s1, ← s2]; exact zcmp_lt.mp (by omega))]] at w; exact w _)
          | (rw [show pNr s x y (i + 1) = pNr s x y i from by rw [pNr_s g1, if_neg (by rw [← s1, ← s2]; exact fun z => by have := zcmp_lt.mpr z; omega)]] at w; exact w _)
theorem kX1_nearest {G : State} {d rc rs : Nat} {ah : zH} {Q : zRs → zH → Prop} {F0 : Nat → Prop} {gd q D lb tx a h lv n : Nat} {s : Int → Int} {sv : Option (Int → Int)} {hs : List (Int → Int)} {ln : List Int} {tp : Int → Int} {tn er fl ml : Int} {v : Value} {f gl ft : Nat → Value} {hl : List Nat} (H : zGc G F0 gd q D lb tx ah s sv hs ln tp tn er fl a v h f hl lv n ml gl ft) {B : Int} (hI : pI B s) {x y : Int} (qx : -2147483648 ≤ x ∧ x ≤ 2147483647) (qy : -2147483648 ≤ y ∧ y ≤ 2147483647) (hd : 30 ≤ d) (hc : 180 ≤ rc) (hs9 : 400 ≤ rs) (k : zAnQ ah (zE ["java/lang/IllegalArgumentException", "java/util/NoSuchElementException"]) (qNear s x y) Q) : zW G mX1_nearest d rc rs 0 (zent [.ref gd, .int (zi x), .int (zi y)]) [] ah Q := by
  refine zW_open 4 [some (.ref gd), some (.int (zi x)), some (.int (zi y)), none, none, none, none] rfl ?_
  obtain ⟨w, e, n1, mc, f1, ps, l, g, tv, HS⟩ := id H.2.1
  have hV := hI.1
  have hY := hI.2.1
  have vv := hV.h
  have hT := hI.2.2.2.2
  refine zr_iload_n dX1_nearest_0 rfl ?_
  refine zr_iload_n dX1_nearest_1 rfl ?_
  refine zc_s2 dX1_nearest_2 hX1_checkCoordinates gX1_checkCoordinates rfl rfl 9 1 6 (by omega) (by omega) (by omega) q1592 q1039 ?_
  refine kX1_checkCoordinates (by omega) (by omega) (by omega) (by omega) (by omega) (fun h2 => zK_v ?_) (fun h2 q hq => zK_x (zX_out (fun x hx => nomatch hx) ?_))
  rotate_left
  · exact k.thr (c := 1) (v := 0) (by unfold qNear; rw [if_pos (by rw [h2]; decide)]) (by decide) (zGr.up hq)
  have p2 := pPl_b h2
  refine zr_aload_n dX1_nearest_5 rfl rfl ?_
  refine zr_getf dX1_nearest_6 nX1 (k := 0) (by decide) q274 (Or.inl rfl) H.1 rfl ?_
  refine zc_v0 dX1_nearest_9 hX2_size gX2_size rfl rfl 1 0 0 (by omega) (Nat.zero_le _) (Nat.zero_le _) q306 q307 q308 HS.rc ?_
  refine kX2_size HS (by omega) (zK_i ?_)
  refine zr_ifle dX1_nearest_12 (tgt := 19) (by decide) (by omega) (fun h12 => ?_) (fun h12 => ?_)
  · refine zr_iconst dX1_nearest_19 ?_
    refine zc_s1 dX1_nearest_20 hX1_checkElement gX1_checkElement rfl rfl 8 1 6 (by omega) (by omega) (by omega) q1566 q1228 ?_
    refine kX1_checkElement (b := false) (by omega) (by omega) (by omega) (fun h => absurd h (by decide)) (fun h20 q20 hq20 => zK_x (zX_out (fun x hx => nomatch hx) ?_))
    exact k.thr (c := 2) (v := 0) (by unfold qNear; rw [if_neg (fun z => z h2), if_pos (by omega)]) (by decide) (zGr.up hq20)
  · refine zr_iconst dX1_nearest_15 ?_
    refine zr_goto dX1_nearest_16 (tgt := 20) (by decide) ?_
    refine zc_s1 dX1_nearest_20 hX1_checkElement gX1_checkElement rfl rfl 8 1 6 (by omega) (by omega) (by omega) q1566 q1228 ?_
    refine kX1_checkElement (b := true) (by omega) (by omega) (by omega) (fun _ => zK_v ?_) (fun h => absurd h (by decide))
    refine zr_new (fs := [.int (zi 0), .int (zi 0)]) dX1_nearest_23 nX6 q1593 q864 q111 (z_ble rfl) dfX6 (by omega) (by omega) (fun pt hpt => ?_)
    refine zr_dup dX1_nearest_26 rfl ?_
    refine zr_iload_n dX1_nearest_27 rfl ?_
    refine zr_iload_n dX1_nearest_28 rfl ?_
    refine zc_iN2 rfl rfl rfl dX1_nearest_29 hX6_init gX6_init rfl rfl 2 0 0 (by omega) (Nat.zero_le _) (Nat.zero_le _) q1594 q866 ?_
    refine kX6_init z_up_s (by omega) (zK_v ?_)
    rw [z_up_o]
    refine zr_astore_n dX1_nearest_32 (by decide) rfl (zs7_3 rfl ?_)
    refine zr_iconst dX1_nearest_33 ?_
    refine zr_istore dX1_nearest_34 (by decide) (zs7_4 rfl ?_)
    refine zr_iconst dX1_nearest_36 ?_
    refine zr_istore dX1_nearest_37 (by decide) (zs7_5 rfl ?_)
    have e1 : pNr s x y 1 = 0 := by rw [pNr, if_pos rfl]
    have w := fun J => kX1_nearestL (d := d) (Q := Q) (H.gr (zGr.up (o := .inl (4, [.int (zi x), .int (zi y)])) hpt)) hI p2.1 p2.2 (show zPt _ pt x y from z_up_s) (by omega) ((s 0).toNat - 1) 1 (rc - 1 - 1 - 1) (rs - 6 - 6 - 2) _ J (Nat.le_refl _) (by omega) (by omega) (by omega) zGr.rf (fun ah9 g9 => k.ok (by unfold qNear; rw [if_neg (fun z => z h2), if_neg (by omega)]) ((zGr.up hpt).tr g9))
    rw [e1] at w
    exact w _
theorem kX1_isTouring {G : State} {d rc rs : Nat} {ah : zH} {Q : zRs → zH → Prop} {F0 : Nat → Prop} {gd q D lb tx a h lv n : Nat} {s : Int → Int} {sv : Option (Int → Int)} {hs : List (Int → Int)} {ln : List Int} {tp : Int → Int} {tn er fl ml : Int} {v : Value} {f gl ft : Nat → Value} {hl : List Nat} (H : zGc G F0 gd q D lb tx ah s sv hs ln tp tn er fl a v h f hl lv n ml gl ft) {B : Int} (hI : pI B s) (k : Q (.inl (some (.int (zi (zB (decide (0 < s 1))))))) ah) : zW G mX1_isTouring d rc rs 0 (zent [.ref gd]) [] ah Q := by
  refine zW_open 0 [some (.ref gd)] rfl ?_
  obtain ⟨w, e, n1, mc, f1, ps, l, g, tv, HS⟩ := id H.2.1
  have hV := hI.1
  have hY := hI.2.1
  have vv := hV.h
  have hT := hI.2.2.2.2
  rcases id HS.2.2.2.2.2.2.1 with ⟨t1, t2⟩ | ⟨t1, t, rt, hk, f9, t2, t3⟩ <;> subst t2
  · refine zr_aload_n dX1_isTouring_0 rfl rfl ?_
    refine zr_getf dX1_isTouring_1 nX1 (k := 0) (by decide) q274 (Or.inl rfl) H.1 rfl ?_
    refine zr_getfN dX1_isTouring_4 nX2 (k := 2) (by decide) q186 HS.1 rfl ?_
    refine zr_ifnullN dX1_isTouring_7 (tgt := 14) (by decide) ?_
    refine zr_iconst dX1_isTouring_14 ?_
    refine zr_ireturn dX1_isTouring_15 rfl (by first | rfl | exact z_nb _) ?_
    rw [decide_eq_false (by omega)] at k
    exact k
  · refine zr_aload_n dX1_isTouring_0 rfl rfl ?_
    refine zr_getf dX1_isTouring_1 nX1 (k := 0) (by decide) q274 (Or.inl rfl) H.1 rfl ?_
    refine zr_getfN dX1_isTouring_4 nX2 (k := 2) (by decide) q186 HS.1 rfl ?_
    refine zr_ifnull dX1_isTouring_7 ?_
    refine zr_iconst dX1_isTouring_10 ?_
    refine zr_goto dX1_isTouring_11 (tgt := 15) (by decide) ?_
    refine zr_ireturn dX1_isTouring_15 rfl (by first | rfl | exact z_nb _) ?_
    rw [decide_eq_true t1] at k
    exact k
theorem kX1_tour {G : State} {d rc rs : Nat} {ah : zH} {Q : zRs → zH → Prop} {F0 : Nat → Prop} {gd q D lb tx a h lv n : Nat} {s : Int → Int} {sv : Option (Int → Int)} {hs : List (Int → Int)} {ln : List Int} {tp : Int → Int} {tn er fl ml : Int} {v : Value} {f gl ft : Nat → Value} {hl : List Nat} (H : zGc G F0 gd q D lb tx ah s sv hs ln tp tn er fl a v h f hl lv n ml gl ft) {B : Int} (hI : pI B s) (hd : 11 ≤ d) (hc : 1 ≤ rc) (hs9 : 6 ≤ rs) (k : 0 < s 1 → ∀ t rt hk f9, zTo (zFg gd q D lb tx F0) ah t rt hk f9 s → Q (.inl (some (.ref t))) ah) (kx : s 1 = 0 → ∀ q, ah q = none → Q (.inr ("java/lang/IllegalStateException", q)) (z_up ah q (.inl (19, [])))) : zW G mX1_tour d rc rs 0 (zent [.ref gd]) [] ah Q := by
  refine zW_open 0 [some (.ref gd)] rfl ?_
  obtain ⟨w, e, n1, mc, f1, ps, l, g, tv, HS⟩ := id H.2.1
  have hV := hI.1
  have hY := hI.2.1
  have vv := hV.h
  have hT := hI.2.2.2.2
  refine zr_aload_n dX1_tour_0 rfl rfl ?_
  refine zr_getf dX1_tour_1 nX1 (k := 0) (by decide) q274 (Or.inl rfl) H.1 rfl ?_
  refine zc_v0 dX1_tour_4 hX2_checkTour gX2_checkTour rfl rfl 9 1 6 (by omega) (by omega) (by omega) q1607 q1283 q1284 HS.rc ?_
  refine kX2_checkTour HS (by omega) (by omega) (by omega) (fun t0 => zK_v ?_) (fun h1 q hq => zK_x (zX_out (fun x hx => nomatch hx) (kx h1 q hq)))
  rcases id HS.2.2.2.2.2.2.1 with ⟨t1, -⟩ | ⟨t1, t, rt, hk, f9, t2, t3⟩
  · exfalso; omega
  subst t2
  refine zr_aload_n dX1_tour_7 rfl rfl ?_
  refine zr_getf dX1_tour_8 nX1 (k := 0) (by decide) q274 (Or.inl rfl) H.1 rfl ?_
  refine zr_getfN dX1_tour_11 nX2 (k := 2) (by decide) q186 HS.1 rfl ?_
  refine zr_areturn dX1_tour_14 rfl rfl rfl ?_
  exact k t0 t rt hk f9 t3
theorem kX1_routeLength {G : State} {d rc rs : Nat} {ah : zH} {Q : zRs → zH → Prop} {F0 : Nat → Prop} {gd q D lb tx a h lv n : Nat} {s : Int → Int} {sv : Option (Int → Int)} {hs : List (Int → Int)} {ln : List Int} {tp : Int → Int} {tn er fl ml : Int} {v : Value} {f gl ft : Nat → Value} {hl : List Nat} (H : zGc G F0 gd q D lb tx ah s sv hs ln tp tn er fl a v h f hl lv n ml gl ft) {B : Int} (hI : pI B s) (hd : 30 ≤ d) (hc : 180 ≤ rc) (hs9 : 400 ≤ rs) (k : zAnQ ah (zE ["java/lang/IllegalStateException"]) (qTour s (s 1)) Q) : zW G mX1_routeLength d rc rs 0 (zent [.ref gd]) [] ah Q := by
  refine zW_open 0 [some (.ref gd)] rfl ?_
  obtain ⟨w, e, n1, mc, f1, ps, l, g, tv, HS⟩ := id H.2.1
  have hV := hI.1
  have hY := hI.2.1
  have vv := hV.h
  have hT := hI.2.2.2.2
  refine zr_aload_n dX1_routeLength_0 rfl rfl ?_
  refine zc_v0 dX1_routeLength_1 hX1_tour gX1_tour rfl rfl 11 1 6 (by omega) (by omega) (by omega) q1603 q1605 sp22 H.rc ?_
  refine kX1_tour H hI (by omega) (by omega) (by omega) (fun t0 t rt hk f9 t3 => zK_i ?_) (fun h1 q hq => zK_x (zX_out (fun x hx => nomatch hx) ?_))
  rotate_left
  · exact k.thr (c := 1) (v := 0) (by unfold qTour; rw [if_pos (by omega)]) (by decide) (zGr.up hq)
  obtain ⟨-, -, -, t6, t7, t8, t9⟩ := id t3
  refine zc_v0 dX1_routeLength_4 hX7_route gX7_route rfl rfl 0 0 0 (by omega) (Nat.zero_le _) (Nat.zero_le _) q811 q812 q813 t3.rc ?_
  refine kX7_route t6 (zK_i ?_)
  refine zr_alen dX1_routeLength_7 (Or.inl t7) ?_
  rw [show (((s 1).toNat : Nat) : Int) = s 1 by omega]
  refine zr_ireturn dX1_routeLength_8 rfl (by first | rfl | exact z_nb _) ?_
  exact k.ok (by unfold qTour; rw [if_neg (fun z => z t0)]) (zGr.rf)
theorem kX1_routeWaypoint {G : State} {d rc rs : Nat} {ah : zH} {Q : zRs → zH → Prop} {F0 : Nat → Prop} {gd q D lb tx a h lv n : Nat} {s : Int → Int} {sv : Option (Int → Int)} {hs : List (Int → Int)} {ln : List Int} {tp : Int → Int} {tn er fl ml : Int} {v : Value} {f gl ft : Nat → Value} {hl : List Nat} (H : zGc G F0 gd q D lb tx ah s sv hs ln tp tn er fl a v h f hl lv n ml gl ft) {B : Int} (hI : pI B s) {i : Int} (qi : -2147483648 ≤ i ∧ i ≤ 2147483647) (hd : 30 ≤ d) (hc : 180 ≤ rc) (hs9 : 400 ≤ rs) (k : zAnQ ah (zE ["java/lang/IllegalStateException", "java/lang/IndexOutOfBoundsException"]) (qRw s i) Q) : zW G mX1_routeWaypoint d rc rs 0 (zent [.ref gd, .int (zi i)]) [] ah Q := by
  refine zW_open 0 [some (.ref gd), some (.int (zi i))] rfl ?_
  obtain ⟨w, e, n1, mc, f1, ps, l, g, tv, HS⟩ := id H.2.1
  have hV := hI.1
  have hY := hI.2.1
  have vv := hV.h
  have hT := hI.2.2.2.2
  refine zr_iload_n dX1_routeWaypoint_0 rfl ?_
  refine zr_aload_n dX1_routeWaypoint_1 rfl rfl ?_
  refine zc_v0 dX1_routeWaypoint_2 hX1_tour gX1_tour rfl rfl 11 1 6 (by omega) (by omega) (by omega) q1603 q1605 sp22 H.rc ?_
  refine kX1_tour H hI (by omega) (by omega) (by omega) (fun t0 t rt hk f9 t3 => zK_i ?_) (fun h1 q hq => zK_x (zX_out (fun x hx => nomatch hx) ?_))
  rotate_left
  · exact k.thr (c := 1) (v := 0) (by unfold qRw; rw [if_pos (by omega)]) (by decide) (zGr.up hq)
  obtain ⟨-, -, -, t6, t7, t8, t9⟩ := id t3
  refine zc_v0 dX1_routeWaypoint_5 hX7_route gX7_route rfl rfl 0 0 0 (by omega) (Nat.zero_le _) (Nat.zero_le _) q811 q812 q813 t3.rc ?_
  refine kX7_route t6 (zK_i ?_)
  refine zr_alen dX1_routeWaypoint_8 (Or.inl t7) ?_
  rw [show (((s 1).toNat : Nat) : Int) = s 1 by omega]
  refine zc_s2 dX1_routeWaypoint_9 hX1_checkIndex gX1_checkIndex rfl rfl 8 1 6 (by omega) (by omega) (by omega) q1615 q1191 ?_
  refine kX1_checkIndex (by omega) (by omega) (by omega) (by omega) (by omega) (fun h9 => zK_v ?_) (fun h9 q hq => zK_x (zX_out (fun x hx => nomatch hx) ?_))
  rotate_left
  · exact k.thr (c := 2) (v := 0) (by unfold qRw; rw [if_neg (fun z => z t0), if_pos (by rw [h9]; decide)]) (by decide) (zGr.up hq)
  have p9 := pIn_iff.mp h9
  refine zr_aload_n dX1_routeWaypoint_12 rfl rfl ?_
  refine zr_getf dX1_routeWaypoint_13 nX1 (k := 0) (by decide) q274 (Or.inl rfl) H.1 rfl ?_
  rcases id HS.2.2.2.2.2.2.1 with ⟨u1, -⟩ | ⟨u1, t_, rt_, hk_, f_, u2, u3⟩
  · exfalso; omega
  subst u2
  obtain ⟨-, -, -, u6, u7, u8, u9⟩ := id u3
  refine zr_getfN dX1_routeWaypoint_16 nX2 (k := 2) (by decide) q186 HS.1 rfl ?_
  refine zc_v0 dX1_routeWaypoint_19 hX7_route gX7_route rfl rfl 0 0 0 (by omega) (Nat.zero_le _) (Nat.zero_le _) q811 q812 q813 u3.rc ?_
  refine kX7_route u6 (zK_i ?_)
  refine zr_iload_n dX1_routeWaypoint_22 rfl ?_
  refine zr_iaload dX1_routeWaypoint_23 (Or.inl u7) (by omega) (by omega) (by rw [u8 i.toNat (by omega), show ((i.toNat : Nat) : Int) = i by omega]) ?_
  refine zr_ireturn dX1_routeWaypoint_24 rfl (by first | rfl | exact z_nb _) ?_
  exact k.ok (by unfold qRw; rw [if_neg (fun z => z t0), if_neg (fun z => z h9)]) (zGr.rf)
theorem kX1_target {G : State} {d rc rs : Nat} {ah : zH} {Q : zRs → zH → Prop} {F0 : Nat → Prop} {gd q D lb tx a h lv n : Nat} {s : Int → Int} {sv : Option (Int → Int)} {hs : List (Int → Int)} {ln : List Int} {tp : Int → Int} {tn er fl ml : Int} {v : Value} {f gl ft : Nat → Value} {hl : List Nat} (H : zGc G F0 gd q D lb tx ah s sv hs ln tp tn er fl a v h f hl lv n ml gl ft) {B : Int} (hI : pI B s) (hd : 30 ≤ d) (hc : 180 ≤ rc) (hs9 : 400 ≤ rs) (k : zAnQ ah (zE ["java/lang/IllegalStateException"]) (qTour s (s (192 + s 2))) Q) : zW G mX1_target d rc rs 0 (zent [.ref gd]) [] ah Q := by
  refine zW_open 0 [some (.ref gd)] rfl ?_
  obtain ⟨w, e, n1, mc, f1, ps, l, g, tv, HS⟩ := id H.2.1
  have hV := hI.1
  have hY := hI.2.1
  have vv := hV.h
  have hT := hI.2.2.2.2
  refine zr_aload_n dX1_target_0 rfl rfl ?_
  refine zc_v0 dX1_target_1 hX1_tour gX1_tour rfl rfl 11 1 6 (by omega) (by omega) (by omega) q1603 q1605 sp22 H.rc ?_
  refine kX1_tour H hI (by omega) (by omega) (by omega) (fun t0 t rt hk f9 t3 => zK_i ?_) (fun h1 q hq => zK_x (zX_out (fun x hx => nomatch hx) ?_))
  rotate_left
  · exact k.thr (c := 1) (v := 0) (by unfold qTour; rw [if_pos (by omega)]) (by decide) (zGr.up hq)
  obtain ⟨-, -, -, t6, t7, t8, t9⟩ := id t3
  have tk := hT t0
  have r2 := hV.rt (i := 192 + s 2) (by omega)
  have e8 : f9 (s 2).toNat = .int (zi (s (192 + s 2))) := by rw [t8 _ (by omega), show (((s 2).toNat : Nat) : Int) = s 2 by omega]
  refine zc_v0 dX1_target_4 hX7_target gX7_target rfl rfl 0 0 0 (by omega) (Nat.zero_le _) (Nat.zero_le _) q1630 q1343 q1344 t3.rc ?_
  refine kX7_target t6 t7 (by omega) (by omega) e8 (zK_i ?_)
  refine zr_ireturn dX1_target_7 rfl (by first | rfl | exact z_nb _) ?_
  exact k.ok (by unfold qTour; rw [if_neg (fun z => z t0)]) (zGr.rf)
theorem kX1_hikerX {G : State} {d rc rs : Nat} {ah : zH} {Q : zRs → zH → Prop} {F0 : Nat → Prop} {gd q D lb tx a h lv n : Nat} {s : Int → Int} {sv : Option (Int → Int)} {hs : List (Int → Int)} {ln : List Int} {tp : Int → Int} {tn er fl ml : Int} {v : Value} {f gl ft : Nat → Value} {hl : List Nat} (H : zGc G F0 gd q D lb tx ah s sv hs ln tp tn er fl a v h f hl lv n ml gl ft) {B : Int} (hI : pI B s) (hd : 30 ≤ d) (hc : 180 ≤ rc) (hs9 : 400 ≤ rs) (k : zAnQ ah (zE ["java/lang/IllegalStateException"]) (qTour s (s 3)) Q) : zW G mX1_hikerX d rc rs 0 (zent [.ref gd]) [] ah Q := by
  refine zW_open 0 [some (.ref gd)] rfl ?_
  obtain ⟨w, e, n1, mc, f1, ps, l, g, tv, HS⟩ := id H.2.1
  have hV := hI.1
  have hY := hI.2.1
  have vv := hV.h
  have hT := hI.2.2.2.2
  refine zr_aload_n dX1_hikerX_0 rfl rfl ?_
  refine zc_v0 dX1_hikerX_1 hX1_tour gX1_tour rfl rfl 11 1 6 (by omega) (by omega) (by omega) q1603 q1605 sp22 H.rc ?_
  refine kX1_tour H hI (by omega) (by omega) (by omega) (fun t0 t rt hk f9 t3 => zK_i ?_) (fun h1 q hq => zK_x (zX_out (fun x hx => nomatch hx) ?_))
  rotate_left
  · exact k.thr (c := 1) (v := 0) (by unfold qTour; rw [if_pos (by omega)]) (by decide) (zGr.up hq)
  obtain ⟨-, -, -, t6, t7, t8, t9⟩ := id t3
  refine zc_v0 dX1_hikerX_4 hX7_hiker gX7_hiker rfl rfl 0 0 0 (by omega) (Nat.zero_le _) (Nat.zero_le _) q1638 q1335 q1336 t3.rc ?_
  refine kX7_hiker t6 (zK_i ?_)
  refine zc_v0 dX1_hikerX_7 hX6_x gX6_x rfl rfl 0 0 0 (by omega) (Nat.zero_le _) (Nat.zero_le _) q1524 q1525 q1526 t9.rc ?_
  refine kX6_x t9 (zK_i ?_)
  refine zr_ireturn dX1_hikerX_10 rfl (by first | rfl | exact z_nb _) ?_
  exact k.ok (by unfold qTour; rw [if_neg (fun z => z t0)]) (zGr.rf)
theorem kX1_hikerY {G : State} {d rc rs : Nat} {ah : zH} {Q : zRs → zH → Prop} {F0 : Nat → Prop} {gd q D lb tx a h lv n : Nat} {s : Int → Int} {sv : Option (Int → Int)} {hs : List (Int → Int)} {ln : List Int} {tp : Int → Int} {tn er fl ml : Int} {v : Value} {f gl ft : Nat → Value} {hl : List Nat} (H : zGc G F0 gd q D lb tx ah s sv hs ln tp tn er fl a v h f hl lv n ml gl ft) {B : Int} (hI : pI B s) (hd : 30 ≤ d) (hc : 180 ≤ rc) (hs9 : 400 ≤ rs) (k : zAnQ ah (zE ["java/lang/IllegalStateException"]) (qTour s (s 4)) Q) : zW G mX1_hikerY d rc rs 0 (zent [.ref gd]) [] ah Q := by
  refine zW_open 0 [some (.ref gd)] rfl ?_
  obtain ⟨w, e, n1, mc, f1, ps, l, g, tv, HS⟩ := id H.2.1
  have hV := hI.1
  have hY := hI.2.1
  have vv := hV.h
  have hT := hI.2.2.2.2
  refine zr_aload_n dX1_hikerY_0 rfl rfl ?_
  refine zc_v0 dX1_hikerY_1 hX1_tour gX1_tour rfl rfl 11 1 6 (by omega) (by omega) (by omega) q1603 q1605 sp22 H.rc ?_
  refine kX1_tour H hI (by omega) (by omega) (by omega) (fun t0 t rt hk f9 t3 => zK_i ?_) (fun h1 q hq => zK_x (zX_out (fun x hx => nomatch hx) ?_))
  rotate_left
  · exact k.thr (c := 1) (v := 0) (by unfold qTour; rw [if_pos (by omega)]) (by decide) (zGr.up hq)
  obtain ⟨-, -, -, t6, t7, t8, t9⟩ := id t3
  refine zc_v0 dX1_hikerY_4 hX7_hiker gX7_hiker rfl rfl 0 0 0 (by omega) (Nat.zero_le _) (Nat.zero_le _) q1638 q1335 q1336 t3.rc ?_
  refine kX7_hiker t6 (zK_i ?_)
  refine zc_v0 dX1_hikerY_7 hX6_y gX6_y rfl rfl 0 0 0 (by omega) (Nat.zero_le _) (Nat.zero_le _) q1535 q1536 q1537 t9.rc ?_
  refine kX6_y t9 (zK_i ?_)
  refine zr_ireturn dX1_hikerY_10 rfl (by first | rfl | exact z_nb _) ?_
  exact k.ok (by unfold qTour; rw [if_neg (fun z => z t0)]) (zGr.rf)
theorem pRoot_df {s : Int → Int} : ∀ (k : Nat) (m : Int), pRoot (pSdS s (s 3) (s 4)).1 (pSdS s (s 3) (s 4)).2 k m = pDf s k m := by
  intro k
  induction k with
  | zero => intro m; rfl
  | succ k ih =>
    intro m
    unfold pRoot pDf
    have e := pSdS_cm (s := s) (x := s 3) (y := s 4) (L := m + 1)
    by_cases h : 0 ≤ pCm s (s 3) (s 4) (m + 1)
    · rw [if_neg (by omega), if_pos h, ih]
    · rw [if_pos (by omega), if_neg h]
theorem kX1_drift {G : State} {d rc rs : Nat} {ah : zH} {Q : zRs → zH → Prop} {F0 : Nat → Prop} {gd q D lb tx a h lv n : Nat} {s : Int → Int} {sv : Option (Int → Int)} {hs : List (Int → Int)} {ln : List Int} {tp : Int → Int} {tn er fl ml : Int} {v : Value} {f gl ft : Nat → Value} {hl : List Nat} (H : zGc G F0 gd q D lb tx ah s sv hs ln tp tn er fl a v h f hl lv n ml gl ft) {B : Int} (hI : pI B s) (hd : 30 ≤ d) (hc : 180 ≤ rc) (hs9 : 400 ≤ rs) (k : zAnQ ah (zE ["java/lang/IllegalStateException"]) (qDrift s) Q) : zW G mX1_drift d rc rs 0 (zent [.ref gd]) [] ah Q := by
  refine zW_open 0 [some (.ref gd)] rfl ?_
  obtain ⟨w, e, n1, mc, f1, ps, l, g, tv, HS⟩ := id H.2.1
  have hV := hI.1
  have hY := hI.2.1
  have vv := hV.h
  have hT := hI.2.2.2.2
  refine zr_aload_n dX1_drift_0 rfl rfl ?_
  refine zr_getf dX1_drift_1 nX1 (k := 0) (by decide) q274 (Or.inl rfl) H.1 rfl ?_
  refine zr_aload_n dX1_drift_4 rfl rfl ?_
  refine zc_v0 dX1_drift_5 hX1_tour gX1_tour rfl rfl 11 1 6 (by omega) (by omega) (by omega) q1603 q1605 sp22 H.rc ?_
  refine kX1_tour H hI (by omega) (by omega) (by omega) (fun t0 t rt hk f9 t3 => zK_i ?_) (fun h1 q hq => zK_x (zX_out (fun x hx => nomatch hx) ?_))
  rotate_left
  · exact k.thr (c := 1) (v := 0) (by unfold qDrift; rw [if_pos (by omega)]) (by decide) (zGr.up hq)
  obtain ⟨-, -, -, t6, t7, t8, t9⟩ := id t3
  have tk := hT t0
  have i1 := tk.2.2 (s 2) (by omega) (by omega)
  have i2 := tk.2.2 (s 2 - 1) (by omega) (by omega)
  have r1 := hV.rt (i := 192 + s 2) (by omega)
  have r2 := hV.rt (i := 192 + s 2 - 1) (by omega)
  rw [show 192 + (s 2 - 1) = 192 + s 2 - 1 by omega] at i2
  have sb := pSd_b (x := s 3) (y := s 4) vv.2.2.2.1 vv.2.2.2.2.1 (hV.x (p := s (192 + s 2 - 1)) (by omega)) (hV.y (p := s (192 + s 2 - 1)) (by omega)) (hV.x (p := s (192 + s 2)) (by omega)) (hV.y (p := s (192 + s 2)) (by omega))
  have far : pCm s (s 3) (s 4) 142 < 0 := pCmp_far vv.2.2.2.1 vv.2.2.2.2.1 (hV.x (p := s (192 + s 2)) (by omega)) (hV.y (p := s (192 + s 2)) (by omega)) (hV.x (p := s (192 + s 2 - 1)) (by omega)) (hV.y (p := s (192 + s 2 - 1)) (by omega)) (by decide)
  have sc := pSdS_cm (s := s) (x := s 3) (y := s 4) (L := 142)
  refine zc_v0 dX1_drift_8 hX7_hiker gX7_hiker rfl rfl 0 0 0 (by omega) (Nat.zero_le _) (Nat.zero_le _) q1638 q1335 q1336 t3.rc ?_
  refine kX7_hiker t6 (zK_i ?_)
  refine zc_v1 dX1_drift_11 hX2_driftOf gX2_driftOf rfl rfl 6 4 8 (by omega) (by omega) (by omega) q1653 q1379 q1380 HS.rc ?_
  refine kX2_driftOf HS hV hT t0 t9 vv.2.2.2.1 vv.2.2.2.2.1 (by omega) (by omega) (by omega) (fun ah1 q1 z1 z2 z3 => zK_i ?_)
  refine zc_v0 dX1_drift_14 hX9_root gX9_root rfl rfl 1 0 0 (by omega) (Nat.zero_le _) (Nat.zero_le _) q1654 q1655 q1656 z3.rc ?_
  refine kX9_root z3 sb.1 sb.2 (by omega) (by omega) (zK_i ?_)
  rw [pRoot_df]
  refine zr_ireturn dX1_drift_17 rfl (by first | rfl | exact z_nb _) ?_
  exact k.ok (by unfold qDrift; rw [if_neg (fun z => z t0)]) (z1)
theorem kX1_isAlarm {G : State} {d rc rs : Nat} {ah : zH} {Q : zRs → zH → Prop} {F0 : Nat → Prop} {gd q D lb tx a h lv n : Nat} {s : Int → Int} {sv : Option (Int → Int)} {hs : List (Int → Int)} {ln : List Int} {tp : Int → Int} {tn er fl ml : Int} {v : Value} {f gl ft : Nat → Value} {hl : List Nat} (H : zGc G F0 gd q D lb tx ah s sv hs ln tp tn er fl a v h f hl lv n ml gl ft) {B : Int} (hI : pI B s) (k : Q (.inl (some (.int (zi (s 5))))) ah) : zW G mX1_isAlarm d rc rs 0 (zent [.ref gd]) [] ah Q := by
  refine zW_open 0 [some (.ref gd)] rfl ?_
  obtain ⟨w, e, n1, mc, f1, ps, l, g, tv, HS⟩ := id H.2.1
  have hV := hI.1
  have hY := hI.2.1
  have vv := hV.h
  have hT := hI.2.2.2.2
  refine zr_aload_n dX1_isAlarm_0 rfl rfl ?_
  refine zr_getf dX1_isAlarm_1 nX1 (k := 0) (by decide) q274 (Or.inl rfl) H.1 rfl ?_
  refine zr_getfN dX1_isAlarm_4 nX2 (k := 3) (by decide) q188 HS.1 rfl ?_
  refine zr_ireturn dX1_isAlarm_7 rfl (z_b5 vv.2.2.2.2.2.1).1 ?_
  exact k
theorem kX1_forecast {G : State} {d rc rs : Nat} {ah : zH} {Q : zRs → zH → Prop} {F0 : Nat → Prop} {gd q D lb tx a h lv n : Nat} {s : Int → Int} {sv : Option (Int → Int)} {hs : List (Int → Int)} {ln : List Int} {tp : Int → Int} {tn er fl ml : Int} {v : Value} {f gl ft : Nat → Value} {hl : List Nat} (H : zGc G F0 gd q D lb tx ah s sv hs ln tp tn er fl a v h f hl lv n ml gl ft) {B : Int} (hI : pI B s) {x y : Int} (qx : -2147483648 ≤ x ∧ x ≤ 2147483647) (qy : -2147483648 ≤ y ∧ y ≤ 2147483647) (hd : 30 ≤ d) (hc : 180 ≤ rc) (hs9 : 400 ≤ rs) (k : zAnQ ah (zE ["java/lang/IllegalArgumentException", "java/lang/IllegalStateException"]) (qFc s x y) Q) : zW G mX1_forecast d rc rs 0 (zent [.ref gd, .int (zi x), .int (zi y)]) [] ah Q := by
  refine zW_open 0 [some (.ref gd), some (.int (zi x)), some (.int (zi y))] rfl ?_
  obtain ⟨w, e, n1, mc, f1, ps, l, g, tv, HS⟩ := id H.2.1
  have hV := hI.1
  have hY := hI.2.1
  have vv := hV.h
  have hT := hI.2.2.2.2
  refine zr_iload_n dX1_forecast_0 rfl ?_
  refine zr_iload_n dX1_forecast_1 rfl ?_
  refine zc_s2 dX1_forecast_2 hX1_checkCoordinates gX1_checkCoordinates rfl rfl 9 1 6 (by omega) (by omega) (by omega) q1592 q1039 ?_
  refine kX1_checkCoordinates (by omega) (by omega) (by omega) (by omega) (by omega) (fun h2 => zK_v ?_) (fun h2 q hq => zK_x (zX_out (fun x hx => nomatch hx) ?_))
  rotate_left
  · exact k.thr (c := 1) (v := 0) (by unfold qFc; rw [if_pos (by rw [h2]; decide)]) (by decide) (zGr.up hq)
  have p2 := pPl_b h2
  refine zr_aload_n dX1_forecast_5 rfl rfl ?_
  refine zr_getf dX1_forecast_6 nX1 (k := 0) (by decide) q274 (Or.inl rfl) H.1 rfl ?_
  refine zc_v0 dX1_forecast_9 hX2_checkTour gX2_checkTour rfl rfl 9 1 6 (by omega) (by omega) (by omega) q1607 q1283 q1284 HS.rc ?_
  refine kX2_checkTour HS (by omega) (by omega) (by omega) (fun t0 => zK_v ?_) (fun h1 q hq => zK_x (zX_out (fun x hx => nomatch hx) ?_))
  rotate_left
  · exact k.thr (c := 2) (v := 0) (by unfold qFc; rw [if_neg (fun z => z h2), if_pos (by omega)]) (by decide) (zGr.up hq)
  refine zr_aload_n dX1_forecast_12 rfl rfl ?_
  refine zr_getf dX1_forecast_13 nX1 (k := 0) (by decide) q274 (Or.inl rfl) H.1 rfl ?_
  refine zr_new (fs := [.int (zi 0), .int (zi 0)]) dX1_forecast_16 nX6 q1593 q864 q111 (z_ble rfl) dfX6 (by omega) (by omega) (fun pt hpt => ?_)
  refine zr_dup dX1_forecast_19 rfl ?_
  refine zr_iload_n dX1_forecast_20 rfl ?_
  refine zr_iload_n dX1_forecast_21 rfl ?_
  refine zc_iN2 rfl rfl rfl dX1_forecast_22 hX6_init gX6_init rfl rfl 2 0 0 (by omega) (Nat.zero_le _) (Nat.zero_le _) q1594 q866 ?_
  refine kX6_init z_up_s (by omega) (zK_v ?_)
  rw [z_up_o]
  refine zc_v1 dX1_forecast_25 hX2_eventAt gX2_eventAt rfl rfl 8 6 11 (by omega) (by omega) (by omega) q1669 q1339 q1340 (HS.gr (zGr.up hpt)).rc ?_
  refine kX2_eventAt (HS.gr (zGr.up hpt)) hV hT t0 (show zPt _ pt x y from z_up_s) p2.1 p2.2 (by omega) (by omega) (by omega) (fun ah1 ev z1 z2 z3 => zK_i ?_)
  have hfc : ∀ c, (if pRe s x y = true then 116 else if pCm s x y (s 8) ≤ 0 then 113 else 97) = c → qFc s x y = (0, c) := fun c hc => by
    unfold qFc
    rw [if_neg (fun z => z h2), if_neg (fun z => z t0), hc]
  have gg := (zGr.up (o := .inl (4, [.int (zi x), .int (zi y)])) hpt).tr z1
  unfold zEvt pEA pDE at z3
  by_cases hre : pRe s x y = true
  · rw [if_pos hre] at z3 hfc
    rcases z3 with ⟨_, u2⟩ | ⟨u1, _⟩ | ⟨u1, _⟩
    · refine zr_iface (x := ⟨"TrailGuide$Event", "letter", "()C"⟩) (as := []) rfl dX1_forecast_28 hX8_letter (zSig.of (by decide +kernel)) rfl (z_ble rfl) (z_ble rfl) (d' := 0) (mc := 0) (ms := 0) (by omega) (Nat.zero_le _) (Nat.zero_le _) q1671 q1673 q1672 q1687 q1685 q1444 (by decide) q1686 q1684 rfl (Or.inl ⟨6, _, TX8, 1, tyX8, nX8, u2⟩) ?_
      refine kX8_letter (zK_i ?_)
      refine zr_ireturn dX1_forecast_33 rfl (z_nc (by decide)) ?_
      exact k.ok (hfc 116 rfl) gg
    · cases u1
    · cases u1
  · rw [if_neg hre] at z3 hfc
    by_cases hcm : 0 < pCm s x y (s 8)
    · rw [if_pos hcm] at z3
      rw [if_neg (by omega)] at hfc
      rcases z3 with ⟨u1, _⟩ | ⟨_, u2⟩ | ⟨u1, _⟩
      · cases u1
      · refine zr_iface (x := ⟨"TrailGuide$Event", "letter", "()C"⟩) (as := []) rfl dX1_forecast_28 hX10_letter (zSig.of (by decide +kernel)) rfl (z_ble rfl) (z_ble rfl) (d' := 0) (mc := 0) (ms := 0) (by omega) (Nat.zero_le _) (Nat.zero_le _) q1671 q1673 q1672 q1677 q1675 q1432 (by decide) q1676 q1674 rfl (Or.inl ⟨8, _, TX10, 1, tyX10, nX10, u2⟩) ?_
        refine kX10_letter (zK_i ?_)
        refine zr_ireturn dX1_forecast_33 rfl (z_nc (by decide)) ?_
        exact k.ok (hfc 97 rfl) gg
      · cases u1
    · rw [if_neg hcm] at z3
      rw [if_pos (by omega)] at hfc
      rcases z3 with ⟨u1, _⟩ | ⟨u1, _⟩ | ⟨_, u2⟩
      · cases u1
      · cases u1
      · refine zr_iface (x := ⟨"TrailGuide$Event", "letter", "()C"⟩) (as := []) rfl dX1_forecast_28 hX11_letter (zSig.of (by decide +kernel)) rfl (z_ble rfl) (z_ble rfl) (d' := 0) (mc := 0) (ms := 0) (by omega) (Nat.zero_le _) (Nat.zero_le _) q1671 q1673 q1672 q1682 q1680 q1438 (by decide) q1681 q1679 rfl (Or.inl ⟨9, _, TX10, 0, tyX10, nX11, u2⟩) ?_
        refine kX11_letter (zK_i ?_)
        refine zr_ireturn dX1_forecast_33 rfl (z_nc (by decide)) ?_
        exact k.ok (hfc 113 rfl) gg
theorem kX1_battery {G : State} {d rc rs : Nat} {ah : zH} {Q : zRs → zH → Prop} {F0 : Nat → Prop} {gd q D lb tx a h lv n : Nat} {s : Int → Int} {sv : Option (Int → Int)} {hs : List (Int → Int)} {ln : List Int} {tp : Int → Int} {tn er fl ml : Int} {v : Value} {f gl ft : Nat → Value} {hl : List Nat} (H : zGc G F0 gd q D lb tx ah s sv hs ln tp tn er fl a v h f hl lv n ml gl ft) {B : Int} (hI : pI B s) (k : Q (.inl (some (.int (zi (s 6))))) ah) : zW G mX1_battery d rc rs 0 (zent [.ref gd]) [] ah Q := by
  refine zW_open 0 [some (.ref gd)] rfl ?_
  obtain ⟨w, e, n1, mc, f1, ps, l, g, tv, HS⟩ := id H.2.1
  have hV := hI.1
  have hY := hI.2.1
  have vv := hV.h
  have hT := hI.2.2.2.2
  refine zr_aload_n dX1_battery_0 rfl rfl ?_
  refine zr_getf dX1_battery_1 nX1 (k := 0) (by decide) q274 (Or.inl rfl) H.1 rfl ?_
  refine zr_getfN dX1_battery_4 nX2 (k := 4) (by decide) q190 HS.1 rfl ?_
  refine zr_ireturn dX1_battery_7 rfl (by first | rfl | exact z_nb _) ?_
  exact k
theorem kX1_tolerance {G : State} {d rc rs : Nat} {ah : zH} {Q : zRs → zH → Prop} {F0 : Nat → Prop} {gd q D lb tx a h lv n : Nat} {s : Int → Int} {sv : Option (Int → Int)} {hs : List (Int → Int)} {ln : List Int} {tp : Int → Int} {tn er fl ml : Int} {v : Value} {f gl ft : Nat → Value} {hl : List Nat} (H : zGc G F0 gd q D lb tx ah s sv hs ln tp tn er fl a v h f hl lv n ml gl ft) {B : Int} (hI : pI B s) (k : Q (.inl (some (.int (zi (s 8))))) ah) : zW G mX1_tolerance d rc rs 0 (zent [.ref gd]) [] ah Q := by
  refine zW_open 0 [some (.ref gd)] rfl ?_
  obtain ⟨w, e, n1, mc, f1, ps, l, g, tv, HS⟩ := id H.2.1
  have hV := hI.1
  have hY := hI.2.1
  have vv := hV.h
  have hT := hI.2.2.2.2
  refine zr_aload_n dX1_tolerance_0 rfl rfl ?_
  refine zr_getf dX1_tolerance_1 nX1 (k := 0) (by decide) q274 (Or.inl rfl) H.1 rfl ?_
  refine zr_getfN dX1_tolerance_4 nX2 (k := 5) (by decide) q192 HS.1 rfl ?_
  refine zr_ireturn dX1_tolerance_7 rfl (by first | rfl | exact z_nb _) ?_
  exact k
theorem kX1_updates {G : State} {d rc rs : Nat} {ah : zH} {Q : zRs → zH → Prop} {F0 : Nat → Prop} {gd q D lb tx a h lv n : Nat} {s : Int → Int} {sv : Option (Int → Int)} {hs : List (Int → Int)} {ln : List Int} {tp : Int → Int} {tn er fl ml : Int} {v : Value} {f gl ft : Nat → Value} {hl : List Nat} (H : zGc G F0 gd q D lb tx ah s sv hs ln tp tn er fl a v h f hl lv n ml gl ft) {B : Int} (hI : pI B s) (k : Q (.inl (some (.int (zi (s 9))))) ah) : zW G mX1_updates d rc rs 0 (zent [.ref gd]) [] ah Q := by
  refine zW_open 0 [some (.ref gd)] rfl ?_
  obtain ⟨w, e, n1, mc, f1, ps, l, g, tv, HS⟩ := id H.2.1
  have hV := hI.1
  have hY := hI.2.1
  have vv := hV.h
  have hT := hI.2.2.2.2
  refine zr_aload_n dX1_updates_0 rfl rfl ?_
  refine zr_getf dX1_updates_1 nX1 (k := 0) (by decide) q274 (Or.inl rfl) H.1 rfl ?_
  refine zr_getfN dX1_updates_4 nX2 (k := 7) (by decide) q196 HS.1 rfl ?_
  refine zr_ireturn dX1_updates_7 rfl (by first | rfl | exact z_nb _) ?_
  exact k
theorem kX1_alarms {G : State} {d rc rs : Nat} {ah : zH} {Q : zRs → zH → Prop} {F0 : Nat → Prop} {gd q D lb tx a h lv n : Nat} {s : Int → Int} {sv : Option (Int → Int)} {hs : List (Int → Int)} {ln : List Int} {tp : Int → Int} {tn er fl ml : Int} {v : Value} {f gl ft : Nat → Value} {hl : List Nat} (H : zGc G F0 gd q D lb tx ah s sv hs ln tp tn er fl a v h f hl lv n ml gl ft) {B : Int} (hI : pI B s) (k : Q (.inl (some (.int (zi (s 10))))) ah) : zW G mX1_alarms d rc rs 0 (zent [.ref gd]) [] ah Q := by
  refine zW_open 0 [some (.ref gd)] rfl ?_
  obtain ⟨w, e, n1, mc, f1, ps, l, g, tv, HS⟩ := id H.2.1
  have hV := hI.1
  have hY := hI.2.1
  have vv := hV.h
  have hT := hI.2.2.2.2
  refine zr_aload_n dX1_alarms_0 rfl rfl ?_
  refine zr_getf dX1_alarms_1 nX1 (k := 0) (by decide) q274 (Or.inl rfl) H.1 rfl ?_
  refine zr_getfN dX1_alarms_4 nX2 (k := 8) (by decide) q198 HS.1 rfl ?_
  refine zr_ireturn dX1_alarms_7 rfl (by first | rfl | exact z_nb _) ?_
  exact k
theorem kX1_reached {G : State} {d rc rs : Nat} {ah : zH} {Q : zRs → zH → Prop} {F0 : Nat → Prop} {gd q D lb tx a h lv n : Nat} {s : Int → Int} {sv : Option (Int → Int)} {hs : List (Int → Int)} {ln : List Int} {tp : Int → Int} {tn er fl ml : Int} {v : Value} {f gl ft : Nat → Value} {hl : List Nat} (H : zGc G F0 gd q D lb tx ah s sv hs ln tp tn er fl a v h f hl lv n ml gl ft) {B : Int} (hI : pI B s) (k : Q (.inl (some (.int (zi (s 11))))) ah) : zW G mX1_reached d rc rs 0 (zent [.ref gd]) [] ah Q := by
  refine zW_open 0 [some (.ref gd)] rfl ?_
  obtain ⟨w, e, n1, mc, f1, ps, l, g, tv, HS⟩ := id H.2.1
  have hV := hI.1
  have hY := hI.2.1
  have vv := hV.h
  have hT := hI.2.2.2.2
  refine zr_aload_n dX1_reached_0 rfl rfl ?_
  refine zr_getf dX1_reached_1 nX1 (k := 0) (by decide) q274 (Or.inl rfl) H.1 rfl ?_
  refine zr_getfN dX1_reached_4 nX2 (k := 9) (by decide) q200 HS.1 rfl ?_
  refine zr_ireturn dX1_reached_7 rfl (by first | rfl | exact z_nb _) ?_
  exact k
theorem kX1_mode {G : State} {d rc rs : Nat} {ah : zH} {Q : zRs → zH → Prop} {F0 : Nat → Prop} {gd q D lb tx a h lv n : Nat} {s : Int → Int} {sv : Option (Int → Int)} {hs : List (Int → Int)} {ln : List Int} {tp : Int → Int} {tn er fl ml : Int} {v : Value} {f gl ft : Nat → Value} {hl : List Nat} (H : zGc G F0 gd q D lb tx ah s sv hs ln tp tn er fl a v h f hl lv n ml gl ft) {B : Int} (hI : pI B s) (hd : 2 ≤ d) (k : Q (.inl (some (.int (zi (s 7))))) ah) : zW G mX1_mode d rc rs 0 (zent [.ref gd]) [] ah Q := by
  refine zW_open 0 [some (.ref gd)] rfl ?_
  obtain ⟨w, e, n1, mc, f1, ps, l, g, tv, HS⟩ := id H.2.1
  have hV := hI.1
  have hY := hI.2.1
  have vv := hV.h
  have hT := hI.2.2.2.2
  refine zW_tb (fun T => ?_)
  obtain ⟨m1, m2, m3, m4⟩ := z_modeF T (k := (s 7).toNat) (by omega)
  rw [← pCost_mo (by omega)] at m4
  have hcb : 1 ≤ pCost (s 7) ∧ pCost (s 7) ≤ 4 := by unfold pCost; split <;> (try split) <;> omega
  refine zr_aload_n dX1_mode_0 rfl rfl ?_
  refine zr_getf dX1_mode_1 nX1 (k := 0) (by decide) q274 (Or.inl rfl) H.1 rfl ?_
  refine zr_getfN dX1_mode_4 nX2 (k := 6) (by decide) q194 HS.1 rfl ?_
  refine zr_virtU (M' := mJ3_ordinal) (x := ⟨"TrailGuide$Mode", "ordinal", "()I"⟩) (as := []) (rest := []) rfl dX1_mode_7 hJ3_ordinal (zSig.of (by decide +kernel)) rfl (z_ble rfl) (z_ble rfl) (d' := 0) (mc := 0) (ms := 0) (by omega) (Nat.zero_le _) (Nat.zero_le _) q379 q380 (Or.inl q381) (by decide) q383 q382 rfl (Or.inr m1) ?_
  refine kJ3_ordinal m2 (zK_i ?_)
  rw [show (((s 7).toNat : Nat) : Int) = s 7 by omega]
  refine zr_ireturn dX1_mode_10 rfl (by first | rfl | exact z_nb _) ?_
  exact k
theorem kX1_updatesLeft {G : State} {d rc rs : Nat} {ah : zH} {Q : zRs → zH → Prop} {F0 : Nat → Prop} {gd q D lb tx a h lv n : Nat} {s : Int → Int} {sv : Option (Int → Int)} {hs : List (Int → Int)} {ln : List Int} {tp : Int → Int} {tn er fl ml : Int} {v : Value} {f gl ft : Nat → Value} {hl : List Nat} (H : zGc G F0 gd q D lb tx ah s sv hs ln tp tn er fl a v h f hl lv n ml gl ft) {B : Int} (hI : pI B s) (k : Q (.inl (some (.int (zi ((s 6 + pCost (s 7) - 1) / pCost (s 7)))))) ah) : zW G mX1_updatesLeft d rc rs 0 (zent [.ref gd]) [] ah Q := by
  refine zW_open 0 [some (.ref gd)] rfl ?_
  obtain ⟨w, e, n1, mc, f1, ps, l, g, tv, HS⟩ := id H.2.1
  have hV := hI.1
  have hY := hI.2.1
  have vv := hV.h
  have hT := hI.2.2.2.2
  refine zW_tb (fun T => ?_)
  obtain ⟨m1, m2, m3, m4⟩ := z_modeF T (k := (s 7).toNat) (by omega)
  rw [← pCost_mo (by omega)] at m4
  have hcb : 1 ≤ pCost (s 7) ∧ pCost (s 7) ≤ 4 := by unfold pCost; split <;> (try split) <;> omega
  refine zr_aload_n dX1_updatesLeft_0 rfl rfl ?_
  refine zr_getf dX1_updatesLeft_1 nX1 (k := 0) (by decide) q274 (Or.inl rfl) H.1 rfl ?_
  refine zr_getfN dX1_updatesLeft_4 nX2 (k := 4) (by decide) q190 HS.1 rfl ?_
  refine zr_aload_n dX1_updatesLeft_7 rfl rfl ?_
  refine zr_getf dX1_updatesLeft_8 nX1 (k := 0) (by decide) q274 (Or.inl rfl) H.1 rfl ?_
  refine zr_getfN dX1_updatesLeft_11 nX2 (k := 6) (by decide) q194 HS.1 rfl ?_
  refine zr_getfNS dX1_updatesLeft_14 q2672 m4 ?_
  refine zr_iadd dX1_updatesLeft_17 ?_
  refine zr_iconst dX1_updatesLeft_18 ?_
  refine zr_isub dX1_updatesLeft_19 ?_
  refine zr_aload_n dX1_updatesLeft_20 rfl rfl ?_
  refine zr_getf dX1_updatesLeft_21 nX1 (k := 0) (by decide) q274 (Or.inl rfl) H.1 rfl ?_
  refine zr_getfN dX1_updatesLeft_24 nX2 (k := 6) (by decide) q194 HS.1 rfl ?_
  refine zr_getfNS dX1_updatesLeft_27 q2672 m4 ?_
  refine zr_idiv dX1_updatesLeft_30 (by omega) (by omega) ?_
  refine zr_ireturn dX1_updatesLeft_31 rfl (by first | rfl | exact z_nb _) ?_
  exact k
/-- counting down -/
theorem pCnt {m c : Int} (hc : 1 ≤ c) (hm : 0 < m) : (m + c - 1) / c = (m - c + c - 1) / c + 1 := by
  rw [show m + c - 1 = (m - c + c - 1) + c by omega, Int.add_ediv_of_dvd_right (Int.dvd_refl c), Int.ediv_self (by omega)]
theorem kX1_updatesLeftByCountingL {G : State} {d rc rs : Nat} {ah : zH} {Q : zRs → zH → Prop} {F0 : Nat → Prop} {gd q D lb tx a h lv n : Nat} {s : Int → Int} {sv : Option (Int → Int)} {hs : List (Int → Int)} {ln : List Int} {tp : Int → Int} {tn er fl ml : Int} {v : Value} {f gl ft : Nat → Value} {hl : List Nat} (H : zGc G F0 gd q D lb tx ah s sv hs ln tp tn er fl a v h f hl lv n ml gl ft) {B : Int} (hI : pI B s) (T : zTb G) (n9 : Nat) : ∀ (u m : Int), m ≤ n9 → -4 ≤ m → m ≤ 1000 → (Q (.inl (some (.int (zi (u + (if 0 < m then (m + pCost (s 7) - 1) / pCost (s 7) else 0)))))) ah) → zW G mX1_updatesLeftByCounting d rc rs 10 [some (.ref gd), some (.int (zi u)), some (.int (zi m))] [] ah Q := by
  obtain ⟨w, e, n1, mc, f1, ps, l, g, tv, HS⟩ := id H.2.1
  have hV := hI.1
  have hY := hI.2.1
  have vv := hV.h
  have hT := hI.2.2.2.2
  obtain ⟨m1, m2, m3, m4⟩ := z_modeF T (k := (s 7).toNat) (by omega)
  rw [← pCost_mo (by omega)] at m4
  have hcb : 1 ≤ pCost (s 7) ∧ pCost (s 7) ≤ 4 := by unfold pCost; split <;> (try split) <;> omega
  induction n9 with
  | zero =>
    intro u m g1 g2 g3 k
    refine zr_iload_n dX1_updatesLeftByCounting_10 rfl ?_
    refine zr_ifle dX1_updatesLeftByCounting_11 (tgt := 33) (by decide) (by omega) (fun h11 => ?_) (fun h11 => ?_)
    · refine zr_iload_n dX1_updatesLeftByCounting_33 rfl ?_
      refine zr_ireturn dX1_updatesLeftByCounting_34 rfl (by first | rfl | exact z_nb _) ?_
      rw [if_neg (by omega), Int.add_zero] at k
      exact k
    · exfalso; omega
  | succ n9 ih =>
    intro u m g1 g2 g3 k
    refine zr_iload_n dX1_updatesLeftByCounting_10 rfl ?_
    refine zr_ifle dX1_updatesLeftByCounting_11 (tgt := 33) (by decide) (by omega) (fun h11 => ?_) (fun h11 => ?_)
    · refine zr_iload_n dX1_updatesLeftByCounting_33 rfl ?_
      refine zr_ireturn dX1_updatesLeftByCounting_34 rfl (by first | rfl | exact z_nb _) ?_
      rw [if_neg (by omega), Int.add_zero] at k
      exact k
    · refine zr_iinc dX1_updatesLeftByCounting_14 rfl (by decide) (zs3_1 rfl ?_)
      refine zr_iload_n dX1_updatesLeftByCounting_17 rfl ?_
      refine zr_aload_n dX1_updatesLeftByCounting_18 rfl rfl ?_
      refine zr_getf dX1_updatesLeftByCounting_19 nX1 (k := 0) (by decide) q274 (Or.inl rfl) H.1 rfl ?_
      refine zr_getfN dX1_updatesLeftByCounting_22 nX2 (k := 6) (by decide) q194 HS.1 rfl ?_
      refine zr_getfNS dX1_updatesLeftByCounting_25 q2672 m4 ?_
      refine zr_isub dX1_updatesLeftByCounting_28 ?_
      refine zr_istore_n dX1_updatesLeftByCounting_29 (by decide) (zs3_2 rfl ?_)
      refine zr_goto dX1_updatesLeftByCounting_30 (tgt := 10) (by decide) ?_
      refine ih (u + 1) (m - pCost (s 7)) (by omega) (by omega) (by omega) ?_
      rw [if_pos (by omega), pCnt hcb.1 (by omega)] at k
      by_cases hz : 0 < m - pCost (s 7)
      · rw [if_pos hz, show u + 1 + (m - pCost (s 7) + pCost (s 7) - 1) / pCost (s 7) = u + ((m - pCost (s 7) + pCost (s 7) - 1) / pCost (s 7) + 1) by omega]
        exact k
      · rw [if_neg hz]
        rw [show (m - pCost (s 7) + pCost (s 7) - 1) / pCost (s 7) = 0 from Int.ediv_eq_zero_of_lt (by omega) (by omega)] at k
        rw [show u + 1 + 0 = u + (0 + 1) by omega]
        exact k
theorem kX1_updatesLeftByCounting {G : State} {d rc rs : Nat} {ah : zH} {Q : zRs → zH → Prop} {F0 : Nat → Prop} {gd q D lb tx a h lv n : Nat} {s : Int → Int} {sv : Option (Int → Int)} {hs : List (Int → Int)} {ln : List Int} {tp : Int → Int} {tn er fl ml : Int} {v : Value} {f gl ft : Nat → Value} {hl : List Nat} (H : zGc G F0 gd q D lb tx ah s sv hs ln tp tn er fl a v h f hl lv n ml gl ft) {B : Int} (hI : pI B s) (k : Q (.inl (some (.int (zi ((s 6 + pCost (s 7) - 1) / pCost (s 7)))))) ah) : zW G mX1_updatesLeftByCounting d rc rs 0 (zent [.ref gd]) [] ah Q := by
  refine zW_open 2 [some (.ref gd), none, none] rfl ?_
  obtain ⟨w, e, n1, mc, f1, ps, l, g, tv, HS⟩ := id H.2.1
  have hV := hI.1
  have hY := hI.2.1
  have vv := hV.h
  have hT := hI.2.2.2.2
  refine zW_tb (fun T => ?_)
  obtain ⟨m1, m2, m3, m4⟩ := z_modeF T (k := (s 7).toNat) (by omega)
  rw [← pCost_mo (by omega)] at m4
  have hcb : 1 ≤ pCost (s 7) ∧ pCost (s 7) ≤ 4 := by unfold pCost; split <;> (try split) <;> omega
  refine zr_iconst dX1_updatesLeftByCounting_0 ?_
  refine zr_istore_n dX1_updatesLeftByCounting_1 (by decide) (zs3_1 rfl ?_)
  refine zr_aload_n dX1_updatesLeftByCounting_2 rfl rfl ?_
  refine zr_getf dX1_updatesLeftByCounting_3 nX1 (k := 0) (by decide) q274 (Or.inl rfl) H.1 rfl ?_
  refine zr_getfN dX1_updatesLeftByCounting_6 nX2 (k := 4) (by decide) q190 HS.1 rfl ?_
  refine zr_istore_n dX1_updatesLeftByCounting_9 (by decide) (zs3_2 rfl ?_)
  refine kX1_updatesLeftByCountingL H hI T 1000 0 (s 6) (by omega) (by omega) (by omega) ?_
  rw [Int.zero_add]
  by_cases hz : 0 < s 6
  · rw [if_pos hz]; exact k
  · rw [if_neg hz]
    rw [show (s 6 + pCost (s 7) - 1) / pCost (s 7) = 0 from Int.ediv_eq_zero_of_lt (by omega) (by omega)] at k
    exact k
