set_option maxRecDepth 100000
/-! ===== the component: settings, tours, updates ===== -/
theorem kJ3_ordinal {G : State} {d rc rs : Nat} {ah : zH} {Q : zRs → zH → Prop} {a : Nat} {x : Int} (h : zSF G "java/lang/Enum" "ordinal" "I" (.int (zi x)) a) (k : Q (.inl (some (.int (zi x)))) ah) : zW G mJ3_ordinal d rc rs 0 (zent [.ref a]) [] ah Q := by
  refine zW_open 0 [some (.ref a)] rfl ?_
  refine zr_aload_n dJ3_ordinal_0 rfl rfl ?_
  refine zr_getfS dJ3_ordinal_1 q2671 h ?_
  refine zr_ireturn dJ3_ordinal_4 rfl (by first | rfl | exact z_nb _) ?_
  exact k
theorem kX2_setTolerance {G : State} {d rc rs : Nat} {ah : zH} {Q : zRs → zH → Prop} {F : Nat → Prop} {ah0 : zH} {a w e n l : Nat} {s : Int → Int} {mc : Int} {f g : Nat → Value} {ps : List Nat} {tv : Value} (H : zSt G F (zFre ah0) ah a s w e n mc f ps l g tv) (hg : zGr ah0 ah) {B : Int} (hI : pI B s) {v : Int} (qv : -2147483648 ≤ v ∧ v ≤ 2147483647) (hd : 9 ≤ d) (hc : 1 ≤ rc) (hs : 6 ≤ rs) (k : zAns G F ah0 a (zE ["java/lang/IllegalArgumentException"]) (pTell s 8 v 1 30) Q) : zW G mX2_setTolerance d rc rs 0 (zent [.ref a, .int (zi v)]) [] ah Q := by
  refine zW_open 1 [some (.ref a), some (.int (zi v)), none] rfl ?_
  have vv := hI.1.h
  have hV := hI.1
  have hY := hI.2.1
  refine zr_iload_n dX2_setTolerance_0 rfl ?_
  refine zr_iconst dX2_setTolerance_1 ?_
  refine zr_bipush dX2_setTolerance_2 rfl ?_
  refine zc_sN3 rfl dX2_setTolerance_4 hX1_inRange gX1_inRange rfl rfl 0 0 0 (by omega) (Nat.zero_le _) (Nat.zero_le _) q829 q830 ?_
  refine kX1_inRange (by omega) (by omega) (by omega) (zK_i ?_)
  refine zc_sN1 rfl dX2_setTolerance_7 hX1_checkArgument gX1_checkArgument rfl rfl 8 1 6 (by omega) (by omega) (by omega) q1056 q1043 ?_
  refine kX1_checkArgument (by omega) (by omega) (by omega) (fun h7 => zK_v ?_) (fun h7 q7 hq7 => zK_x (zX_out (fun x hx => nomatch hx) ?_))
  rotate_left
  · exact k.thr (c := 1) (v := 0) (s := s) (by unfold pTell; rw [if_pos (by rw [h7]; decide)]) (by decide) (hg.tr (zGr.up hq7))
  have p7 := pIn_iff.mp h7
  refine zr_aload_n dX2_setTolerance_10 rfl rfl ?_
  refine zr_getf dX2_setTolerance_11 nX2 (k := 5) (by decide) q191 (Or.inl rfl) H.1 rfl ?_
  refine zr_istore_n dX2_setTolerance_14 (by decide) (zs3_2 rfl ?_)
  refine zr_aload_n dX2_setTolerance_15 rfl rfl ?_
  refine zr_iload_n dX2_setTolerance_16 rfl ?_
  refine zr_putf dX2_setTolerance_17 nX2 (k := 5) (by decide) q191 (Or.inl rfl) (Or.inl rfl) H.1 (z_ble rfl) rfl rfl ?_
  rw [zSf_8]
  refine zr_iload_n dX2_setTolerance_20 rfl ?_
  refine zr_ireturn dX2_setTolerance_21 rfl (by first | rfl | exact z_nb _) ?_
  exact k.ok (by unfold pTell; rw [if_neg (fun z => z h7)]) (hg.tu H.ndA) ⟨_, _, _, _, _, _, _, _, _, H.fld vv.1.2 (i := 8) (v := v) (by omega)⟩
theorem kX2_setMode {G : State} {d rc rs : Nat} {ah : zH} {Q : zRs → zH → Prop} {F : Nat → Prop} {ah0 : zH} {a w e n l : Nat} {s : Int → Int} {mc : Int} {f g : Nat → Value} {ps : List Nat} {tv : Value} (H : zSt G F (zFre ah0) ah a s w e n mc f ps l g tv) (hg : zGr ah0 ah) {B : Int} (hI : pI B s) {v : Int} (qv : -2147483648 ≤ v ∧ v ≤ 2147483647) (hd : 10 ≤ d) (hc : 1 ≤ rc) (hs : 6 ≤ rs) (k : zAns G F ah0 a (zE ["java/lang/IllegalArgumentException"]) (pTell s 7 v 0 2) Q) : zW G mX2_setMode d rc rs 0 (zent [.ref a, .int (zi v)]) [] ah Q := by
  refine zW_open 2 [some (.ref a), some (.int (zi v)), none, none] rfl ?_
  have vv := hI.1.h
  have hV := hI.1
  have hY := hI.2.1
  refine zW_tb (fun T => ?_)
  obtain ⟨m1, m2, m3, m4⟩ := z_modeF T (k := (s 7).toNat) (by omega)
  refine zr_iload_n dX2_setMode_0 rfl ?_
  refine zc_s1 dX2_setMode_1 hX3_of gX3_of rfl rfl 9 1 6 (by omega) (by omega) (by omega) q1488 q1489 ?_
  refine kX3_of (by omega) (by omega) (by omega) (by omega) (fun h1 => zK_i ?_) (fun h1 q hq => zK_x (zX_out (fun x hx => nomatch hx) ?_))
  rotate_left
  · exact k.thr (c := 1) (v := 0) (s := s) (by unfold pTell; rw [if_pos (by rw [h1]; decide)]) (by decide) (hg.tr (zGr.up hq))
  have p1 := pIn_iff.mp h1
  have M1 := (z_modeF T (k := v.toNat) (by omega)).1
  refine zr_astore_n dX2_setMode_4 (by decide) rfl (zs4_2 rfl ?_)
  refine zr_aload_n dX2_setMode_5 rfl rfl ?_
  refine zr_getf dX2_setMode_6 nX2 (k := 6) (by decide) q193 (Or.inl rfl) H.1 rfl ?_
  refine zr_virtU (M' := mJ3_ordinal) (x := ⟨"TrailGuide$Mode", "ordinal", "()I"⟩) (as := []) (rest := []) rfl dX2_setMode_9 hJ3_ordinal (zSig.of (by decide +kernel)) rfl (z_ble rfl) (z_ble rfl) (d' := 0) (mc := 0) (ms := 0) (by omega) (Nat.zero_le _) (Nat.zero_le _) q1498 q380 (Or.inl q381) (by decide) q383 q382 rfl (Or.inr m1) ?_
  refine kJ3_ordinal m2 (zK_i ?_)
  rw [show (((s 7).toNat : Nat) : Int) = s 7 by omega]
  refine zr_istore_n dX2_setMode_12 (by decide) (zs4_3 rfl ?_)
  refine zr_aload_n dX2_setMode_13 rfl rfl ?_
  refine zr_aload_n dX2_setMode_14 rfl rfl ?_
  refine zr_putf dX2_setMode_15 nX2 (k := 6) (by decide) q193 (Or.inl rfl) (Or.inl rfl) H.1 (z_ble rfl) rfl rfl ?_
  rw [zSf_7]
  refine zr_iload_n dX2_setMode_18 rfl ?_
  refine zr_ireturn dX2_setMode_19 rfl (by first | rfl | exact z_nb _) ?_
  exact k.ok (by unfold pTell; rw [if_neg (fun z => z h1)]) (hg.tu H.ndA) ⟨_, _, _, _, _, _, _, _, _, H.fld vv.1.2 (i := 7) (v := v) (by omega)⟩
theorem kX2_charge {G : State} {d rc rs : Nat} {ah : zH} {Q : zRs → zH → Prop} {F : Nat → Prop} {ah0 : zH} {a w e n l : Nat} {s : Int → Int} {mc : Int} {f g : Nat → Value} {ps : List Nat} {tv : Value} (H : zSt G F (zFre ah0) ah a s w e n mc f ps l g tv) (hg : zGr ah0 ah) {B : Int} (hI : pI B s) {v : Int} (qv : -2147483648 ≤ v ∧ v ≤ 2147483647) (hd : 9 ≤ d) (hc : 1 ≤ rc) (hs : 6 ≤ rs) (k : zAns G F ah0 a (zE ["java/lang/IllegalArgumentException"]) (pChg s v) Q) : zW G mX2_charge d rc rs 0 (zent [.ref a, .int (zi v)]) [] ah Q := by
  refine zW_open 0 [some (.ref a), some (.int (zi v))] rfl ?_
  have vv := hI.1.h
  have hV := hI.1
  have hY := hI.2.1
  refine zr_iload_n dX2_charge_0 rfl ?_
  refine zr_iconst dX2_charge_1 ?_
  refine zr_sipush dX2_charge_2 rfl ?_
  refine zc_sN3 rfl dX2_charge_5 hX1_inRange gX1_inRange rfl rfl 0 0 0 (by omega) (Nat.zero_le _) (Nat.zero_le _) q829 q830 ?_
  refine kX1_inRange (by omega) (by omega) (by omega) (zK_i ?_)
  refine zc_sN1 rfl dX2_charge_8 hX1_checkArgument gX1_checkArgument rfl rfl 8 1 6 (by omega) (by omega) (by omega) q1056 q1043 ?_
  refine kX1_checkArgument (by omega) (by omega) (by omega) (fun h8 => zK_v ?_) (fun h8 q8 hq8 => zK_x (zX_out (fun x hx => nomatch hx) ?_))
  rotate_left
  · exact k.thr (c := 1) (v := 0) (s := s) (by unfold pChg; rw [if_pos (by rw [h8]; decide)]) (by decide) (hg.tr (zGr.up hq8))
  have p8 := pIn_iff.mp h8
  refine zr_aload_n dX2_charge_11 rfl rfl ?_
  refine zr_sipush dX2_charge_12 rfl ?_
  refine zr_aload_n dX2_charge_15 rfl rfl ?_
  refine zr_getf dX2_charge_16 nX2 (k := 4) (by decide) q189 (Or.inl rfl) H.1 rfl ?_
  refine zr_iload_n dX2_charge_19 rfl ?_
  refine zr_iadd dX2_charge_20 ?_
  refine zc_s2 dX2_charge_21 hJ16_min gJ16_min rfl rfl 0 0 0 (by omega) (Nat.zero_le _) (Nat.zero_le _) q433 q434 ?_
  refine kJ16_min (by omega) (by omega) (zK_i ?_)
  rw [show (if (1000 : Int) ≤ s 6 + v then 1000 else s 6 + v) = pChN s v from by unfold pChN; split <;> split <;> omega]
  refine zr_putf dX2_charge_24 nX2 (k := 4) (by decide) q189 (Or.inl rfl) (Or.inl rfl) H.1 (z_ble rfl) rfl rfl ?_
  rw [zSf_6]
  refine zr_aload_n dX2_charge_27 rfl rfl ?_
  refine zr_getf dX2_charge_28 nX2 (k := 4) (by decide) q189 (Or.inl rfl) z_up_s (by rw [show (zSf G w l tv (z_upF s 6 (pChN s v)))[4]? = some (.int (zi (z_upF s 6 (pChN s v) 6))) from rfl, z_upF_s]) ?_
  refine zr_ireturn dX2_charge_31 rfl (by first | rfl | exact z_nb _) ?_
  exact k.ok (by unfold pChg; rw [if_neg (fun z => z h8)]) (hg.tu H.ndA) ⟨_, _, _, _, _, _, _, _, _, H.fld vv.1.2 (i := 6) (v := pChN s v) (by omega)⟩
theorem kX2_checkTour {G : State} {d rc rs : Nat} {ah : zH} {Q : zRs → zH → Prop} {F U : Nat → Prop} {a w e n l : Nat} {s : Int → Int} {mc : Int} {f g : Nat → Value} {ps : List Nat} {tv : Value} (H : zSt G F U ah a s w e n mc f ps l g tv) (hd : 9 ≤ d) (hc : 1 ≤ rc) (hs : 6 ≤ rs) (k : 0 < s 1 → Q (.inl none) ah) (kx : s 1 = 0 → ∀ q, ah q = none → Q (.inr ("java/lang/IllegalStateException", q)) (z_up ah q (.inl (19, [])))) : zW G mX2_checkTour d rc rs 0 (zent [.ref a]) [] ah Q := by
  refine zW_open 0 [some (.ref a)] rfl ?_
  rcases id H.2.2.2.2.2.2.1 with ⟨t1, t2⟩ | ⟨t1, t, rt, hk, f9, t2, t3⟩ <;> subst t2
  · refine zr_aload_n dX2_checkTour_0 rfl rfl ?_
    refine zr_getf dX2_checkTour_1 nX2 (k := 2) (by decide) q185 (Or.inl rfl) H.1 rfl ?_
    refine zr_ifnullN dX2_checkTour_4 (tgt := 11) (by decide) ?_
    refine zr_iconst dX2_checkTour_11 ?_
    refine zc_sN1 rfl dX2_checkTour_12 hX1_checkState gX1_checkState rfl rfl 8 1 6 (by omega) (by omega) (by omega) q1057 q1058 ?_
    refine kX1_checkState (b := false) (by omega) (by omega) (by omega) (fun h => absurd h (by decide)) (fun h12 q12 hq12 => zK_x (zX_out (fun x hx => nomatch hx) ?_))
    exact kx t1 _ hq12
  · refine zr_aload_n dX2_checkTour_0 rfl rfl ?_
    refine zr_getf dX2_checkTour_1 nX2 (k := 2) (by decide) q185 (Or.inl rfl) H.1 rfl ?_
    refine zr_ifnull dX2_checkTour_4 ?_
    refine zr_iconst dX2_checkTour_7 ?_
    refine zr_goto dX2_checkTour_8 (tgt := 12) (by decide) ?_
    refine zc_sN1 rfl dX2_checkTour_12 hX1_checkState gX1_checkState rfl rfl 8 1 6 (by omega) (by omega) (by omega) q1057 q1058 ?_
    refine kX1_checkState (b := true) (by omega) (by omega) (by omega) (fun _ => zK_v ?_) (fun h => absurd h (by decide))
    refine zr_return dX2_checkTour_15 rfl ?_
    exact k t1
theorem kX2_endTour {G : State} {d rc rs : Nat} {ah : zH} {Q : zRs → zH → Prop} {F U : Nat → Prop} {a w e n l : Nat} {s : Int → Int} {mc : Int} {f g : Nat → Value} {ps : List Nat} {tv : Value} (H : zSt G F U ah a s w e n mc f ps l g tv) (hV : pV s) (k : Q (.inl none) (z_up ah a (.inl (1, zSf G w l .null (pOv s))))) : zW G mX2_endTour d rc rs 0 (zent [.ref a]) [] ah Q := by
  refine zW_open 0 [some (.ref a)] rfl ?_
  refine zr_aload_n dX2_endTour_0 rfl rfl ?_
  refine zr_null dX2_endTour_1 ?_
  refine zr_putf dX2_endTour_2 nX2 (k := 2) (by decide) q185 (Or.inl rfl) (Or.inl rfl) H.1 (z_ble rfl) rfl rfl ?_
  rw [zSf_2]
  refine zr_aload_n dX2_endTour_5 rfl rfl ?_
  refine zr_iconst dX2_endTour_6 ?_
  refine zr_putf dX2_endTour_7 nX2 (k := 3) (by decide) q187 (Or.inl rfl) (Or.inl rfl) z_up_s (z_ble rfl) rfl rfl ?_
  rw [z_up_o, zSf_5]
  refine zr_return dX2_endTour_10 rfl ?_
  rw [show zSf G w l .null (pOv s) = zSf G w l .null (z_upF s 5 0) from by
    unfold zSf
    rw [pOv_n (j := 6) (by omega), pOv_n (j := 8) (by omega), pOv_n (j := 7) (by omega), pOv_n (j := 9) (by omega), pOv_n (j := 10) (by omega), pOv_n (j := 11) (by omega), z_upF_n (j := 6) (by omega), z_upF_n (j := 8) (by omega), z_upF_n (j := 7) (by omega), z_upF_n (j := 9) (by omega), z_upF_n (j := 10) (by omega), z_upF_n (j := 11) (by omega), z_upF_s, show pOv s 5 = 0 from z_upF_s]] at k
  exact k
theorem zSt.over {G : State} {F U : Nat → Prop} {ah : zH} {a w e n l : Nat} {s : Int → Int} {mc : Int} {f g : Nat → Value} {ps : List Nat} {tv : Value} (H : zSt G F U ah a s w e n mc f ps l g tv) (hs0 : s 0 ≤ 12) : zSt G F U (z_up ah a (.inl (1, zSf G w l .null (pOv s)))) a (pOv s) w e n mc f ps l g .null :=
  H.setA hs0 (pOv_n (by omega)) (fun j _ _ => pOv_n (by omega)) (Or.inl ⟨pOv_1, rfl⟩)
theorem kX2_stopTour {G : State} {d rc rs : Nat} {ah : zH} {Q : zRs → zH → Prop} {F : Nat → Prop} {ah0 : zH} {a w e n l : Nat} {s : Int → Int} {mc : Int} {f g : Nat → Value} {ps : List Nat} {tv : Value} (H : zSt G F (zFre ah0) ah a s w e n mc f ps l g tv) (hg : zGr ah0 ah) {B : Int} (hI : pI B s) (hd : 10 ≤ d) (hc : 1 ≤ rc) (hs : 6 ≤ rs) (k : zAns G F ah0 a (zE ["java/lang/IllegalStateException"]) (pStop s) Q) : zW G mX2_stopTour d rc rs 0 (zent [.ref a]) [] ah Q := by
  refine zW_open 1 [some (.ref a), none] rfl ?_
  have vv := hI.1.h
  have hV := hI.1
  have hY := hI.2.1
  refine zr_aload_n dX2_stopTour_0 rfl rfl ?_
  refine zc_v0 dX2_stopTour_1 hX2_checkTour gX2_checkTour rfl rfl 9 1 6 (by omega) (by omega) (by omega) q1282 q1283 q1284 H.rc ?_
  refine kX2_checkTour H (by omega) (by omega) (by omega) (fun h1 => zK_v ?_) (fun h1 q hq => zK_x (zX_out (fun x hx => nomatch hx) ?_))
  rotate_left
  · exact k.thr (c := 1) (v := 0) (s := s) (by unfold pStop; rw [if_pos (by omega)]) (by decide) (hg.tr (zGr.up hq))
  rcases id H.2.2.2.2.2.2.1 with ⟨t1, -⟩ | ⟨t1, t, rt, hk, f9, t2, t3⟩
  · exfalso; omega
  subst t2
  obtain ⟨-, -, -, t6, t7, t8, t9⟩ := id t3
  refine zr_aload_n dX2_stopTour_4 rfl rfl ?_
  refine zr_getf dX2_stopTour_5 nX2 (k := 2) (by decide) q185 (Or.inl rfl) H.1 rfl ?_
  refine zc_v0 dX2_stopTour_8 hX7_route gX7_route rfl rfl 0 0 0 (by omega) (Nat.zero_le _) (Nat.zero_le _) q828 q812 q813 t3.rc ?_
  refine kX7_route t6 (zK_i ?_)
  refine zr_alen dX2_stopTour_11 (Or.inl t7) ?_
  rw [show (((s 1).toNat : Nat) : Int) = s 1 by omega]
  refine zr_aload_n dX2_stopTour_12 rfl rfl ?_
  refine zr_getf dX2_stopTour_13 nX2 (k := 2) (by decide) q185 (Or.inl rfl) H.1 rfl ?_
  refine zc_v0 dX2_stopTour_16 hX7_targetIndex gX7_targetIndex rfl rfl 0 0 0 (by omega) (Nat.zero_le _) (Nat.zero_le _) q1286 q819 q820 t3.rc ?_
  refine kX7_targetIndex t6 (zK_i ?_)
  refine zr_isub dX2_stopTour_19 ?_
  refine zr_istore_n dX2_stopTour_20 (by decide) (zs2_1 rfl ?_)
  refine zr_aload_n dX2_stopTour_21 rfl rfl ?_
  refine zc_v0 dX2_stopTour_22 hX2_endTour gX2_endTour rfl rfl 0 0 0 (by omega) (Nat.zero_le _) (Nat.zero_le _) q1287 q1289 sp18 H.rc ?_
  refine kX2_endTour H hV (zK_v ?_)
  refine zr_iload_n dX2_stopTour_25 rfl ?_
  refine zr_ireturn dX2_stopTour_26 rfl (by first | rfl | exact z_nb _) ?_
  exact k.ok (by unfold pStop; rw [if_neg (by omega)]) (hg.tu H.ndA) ⟨_, _, _, _, _, _, _, _, _, H.over vv.1.2⟩
def pSdS (s : Int → Int) (x y : Int) : Int × Int := pSd x y (pOf s (s (192 + s 2 - 1)) 0) (pOf s (s (192 + s 2 - 1)) 1) (pOf s (s (192 + s 2)) 0) (pOf s (s (192 + s 2)) 1)
theorem pSdS_cm {s : Int → Int} {x y L : Int} : (pSdS s x y).1 - L * L * (pSdS s x y).2 = pCm s x y L := pSd_cmp
/-- what the drift tells: which event, and its mark -/
def pDE (s : Int → Int) (x y : Int) : Int × Bool := if 0 < pCm s x y (s 8) then (1, decide (s 5 = 0)) else (2, false)
def pEA (s : Int → Int) (x y : Int) : Int × Bool := if pRe s x y = true then (0, decide (s 2 = s 1 - 1)) else pDE s x y
def zEvt (ah : zH) (q : Nat) (X : Int × Bool) : Prop := (X.1 = 0 ∧ ah q = some (.inl (6, [.int (zi (zB X.2))]))) ∨ (X.1 = 1 ∧ ah q = some (.inl (8, [.int (zi (zB X.2))]))) ∨ (X.1 = 2 ∧ ah q = some (.inl (9, [])))
theorem kX2_driftOf {G : State} {d rc rs : Nat} {ah : zH} {Q : zRs → zH → Prop} {F U : Nat → Prop} {a w e n l : Nat} {s : Int → Int} {mc : Int} {f g : Nat → Value} {ps : List Nat} {tv : Value} (H : zSt G F U ah a s w e n mc f ps l g tv) (hV : pV s) (hT : pTk s) (t0 : 0 < s 1) {p : Nat} {x y : Int} (hp : zPt ah p x y) (hbx : 0 ≤ x ∧ x ≤ 99) (hby : 0 ≤ y ∧ y ≤ 99) (hd : 6 ≤ d) (hc : 4 ≤ rc) (hs : 8 ≤ rs) (k : ∀ (ah9 : zH) (q : Nat), zGr ah ah9 → ah q = none → zSq ah9 q (pSdS s x y).1 (pSdS s x y).2 → Q (.inl (some (.ref q))) ah9) : zW G mX2_driftOf d rc rs 0 (zent [.ref a, .ref p]) [] ah Q := by
  refine zW_open 0 [some (.ref a), some (.ref p)] rfl ?_
  have vv := hV.h
  rcases id H.2.2.2.2.2.2.1 with ⟨t1, -⟩ | ⟨t1, t, rt, hk, f9, t2, t3⟩
  · exfalso; omega
  subst t2
  obtain ⟨-, -, -, t6, t7, t8, t9⟩ := id t3
  have tk := hT t1
  have i1 := tk.2.2 (s 2) (by omega) (by omega)
  have i2 := tk.2.2 (s 2 - 1) (by omega) (by omega)
  have r1 := hV.rt (i := 192 + s 2) (by omega)
  have r2 := hV.rt (i := 192 + (s 2 - 1)) (by omega)
  have e8 : f9 (s 2).toNat = .int (zi (s (192 + s 2))) := by rw [t8 _ (by omega), show (((s 2).toNat : Nat) : Int) = s 2 by omega]
  have e9 : f9 (s 2 - 1).toNat = .int (zi (s (192 + (s 2 - 1)))) := by rw [t8 _ (by omega), show (((s 2 - 1).toNat : Nat) : Int) = s 2 - 1 by omega]
  have x1 := hV.x (p := s (192 + s 2)) (by omega)
  have y1 := hV.y (p := s (192 + s 2)) (by omega)
  have x2 := hV.x (p := s (192 + (s 2 - 1))) (by omega)
  have y2 := hV.y (p := s (192 + (s 2 - 1))) (by omega)
  refine zr_aload_n dX2_driftOf_0 rfl rfl ?_
  refine zr_aload_n dX2_driftOf_1 rfl rfl ?_
  refine zr_aload_n dX2_driftOf_2 rfl rfl ?_
  refine zr_getf dX2_driftOf_3 nX2 (k := 2) (by decide) q185 (Or.inl rfl) H.1 rfl ?_
  refine zc_v0 dX2_driftOf_6 hX7_route gX7_route rfl rfl 0 0 0 (by omega) (Nat.zero_le _) (Nat.zero_le _) q828 q812 q813 t3.rc ?_
  refine kX7_route t6 (zK_i ?_)
  refine zr_aload_n dX2_driftOf_9 rfl rfl ?_
  refine zr_getf dX2_driftOf_10 nX2 (k := 2) (by decide) q185 (Or.inl rfl) H.1 rfl ?_
  refine zc_v0 dX2_driftOf_13 hX7_targetIndex gX7_targetIndex rfl rfl 0 0 0 (by omega) (Nat.zero_le _) (Nat.zero_le _) q1286 q819 q820 t3.rc ?_
  refine kX7_targetIndex t6 (zK_i ?_)
  refine zr_iconst dX2_driftOf_16 ?_
  refine zr_isub dX2_driftOf_17 ?_
  refine zr_iaload dX2_driftOf_18 (Or.inl t7) (by omega) (by omega) e9 ?_
  refine zc_v1 dX2_driftOf_19 hX2_pointOf gX2_pointOf rfl rfl 3 0 0 (by omega) (Nat.zero_le _) (Nat.zero_le _) q836 q838 sp6 H.rc ?_
  refine kX2_pointOf H (by omega) (by omega) (by omega) (fun p2 q2 => zK_i ?_)
  refine zr_aload_n dX2_driftOf_22 rfl rfl ?_
  refine zr_aload_n dX2_driftOf_23 rfl rfl ?_
  refine zr_getf dX2_driftOf_24 nX2 (k := 2) (by decide) q185 (Or.inl rfl) H.1 rfl ?_
  refine zc_v0 dX2_driftOf_27 hX7_target gX7_target rfl rfl 0 0 0 (by omega) (Nat.zero_le _) (Nat.zero_le _) q1342 q1343 q1344 t3.rc ?_
  refine kX7_target t6 t7 (by omega) (by omega) e8 (zK_i ?_)
  refine zc_v1 dX2_driftOf_30 hX2_pointOf gX2_pointOf rfl rfl 3 0 0 (by omega) (Nat.zero_le _) (Nat.zero_le _) q836 q838 sp6 H.rc ?_
  refine kX2_pointOf H (by omega) (by omega) (by omega) (fun p1 q1 => zK_i ?_)
  refine zc_sN3 rfl dX2_driftOf_33 hX1_squaredDrift gX1_squaredDrift rfl rfl 5 4 8 (by omega) (by omega) (by omega) q1382 q1383 ?_
  refine kX1_squaredDrift hp q2 q1 (by omega) (by omega) (by omega) (by omega) (by omega) (by omega) (by omega) (by omega) (by omega) (fun ah9 q z1 z2 z3 => zK_i ?_)
  rw [show 192 + (s 2 - 1) = 192 + s 2 - 1 by omega] at z3
  refine zr_areturn dX2_driftOf_36 rfl rfl rfl ?_
  exact k ah9 q z1 z2 z3
theorem kX2_driftEvent {G : State} {d rc rs : Nat} {ah : zH} {Q : zRs → zH → Prop} {F U : Nat → Prop} {a w e n l : Nat} {s : Int → Int} {mc : Int} {f g : Nat → Value} {ps : List Nat} {tv : Value} (H : zSt G F U ah a s w e n mc f ps l g tv) (hV : pV s) (hT : pTk s) (t0 : 0 < s 1) {p : Nat} {x y : Int} (hp : zPt ah p x y) (hbx : 0 ≤ x ∧ x ≤ 99) (hby : 0 ≤ y ∧ y ≤ 99) (hd : 7 ≤ d) (hc : 5 ≤ rc) (hs : 9 ≤ rs) (k : ∀ (ah9 : zH) (q : Nat), zGr ah ah9 → ah q = none → zEvt ah9 q (pDE s x y) → Q (.inl (some (.ref q))) ah9) : zW G mX2_driftEvent d rc rs 0 (zent [.ref a, .ref p]) [] ah Q := by
  refine zW_open 0 [some (.ref a), some (.ref p)] rfl ?_
  have vv := hV.h
  have tk := hT t0
  have i1 := tk.2.2 (s 2) (by omega) (by omega)
  have i2 := tk.2.2 (s 2 - 1) (by omega) (by omega)
  have r1 := hV.rt (i := 192 + s 2) (by omega)
  have r2 := hV.rt (i := 192 + s 2 - 1) (by omega)
  rw [show 192 + (s 2 - 1) = 192 + s 2 - 1 by omega] at i2
  have sb := pSd_b (x := x) (y := y) hbx hby (hV.x (p := s (192 + s 2 - 1)) (by omega)) (hV.y (p := s (192 + s 2 - 1)) (by omega)) (hV.x (p := s (192 + s 2)) (by omega)) (hV.y (p := s (192 + s 2)) (by omega))
  have sc := pSdS_cm (s := s) (x := x) (y := y) (L := s 8)
  refine zr_aload_n dX2_driftEvent_0 rfl rfl ?_
  refine zr_aload_n dX2_driftEvent_1 rfl rfl ?_
  refine zc_v1 dX2_driftEvent_2 hX2_driftOf gX2_driftOf rfl rfl 6 4 8 (by omega) (by omega) (by omega) q1378 q1379 q1380 H.rc ?_
  refine kX2_driftOf H hV hT t0 hp hbx hby (by omega) (by omega) (by omega) (fun ah1 q1 z1 z2 z3 => zK_i ?_)
  have H1 := H.gr z1
  refine zr_aload_n dX2_driftEvent_5 rfl rfl ?_
  refine zr_getf dX2_driftEvent_6 nX2 (k := 5) (by decide) q191 (Or.inl rfl) H1.1 rfl ?_
  refine zr_i2l dX2_driftEvent_9 (by omega) ?_
  refine zc_v1 dX2_driftEvent_10 hX9_isGreaterThan gX9_isGreaterThan rfl rfl 0 0 0 (by omega) (Nat.zero_le _) (Nat.zero_le _) q1403 q1404 q1405 z3.rc ?_
  refine kX9_isGreaterThan z3 sb.1 sb.2 (by omega) (zK_i ?_)
  refine zr_ifeqB dX2_driftEvent_13 (tgt := 38) (by decide) (fun h13 => ?_) (fun h13 => ?_)
  · refine zr_new (fs := []) dX2_driftEvent_38 nX11 q1417 q1418 q129 (z_ble rfl) dfX11 (by omega) (by omega) (fun ev hev => ?_)
    refine zr_dup dX2_driftEvent_41 rfl ?_
    refine zc_iN0 rfl rfl rfl dX2_driftEvent_42 hX11_init gX11_init rfl rfl 2 0 0 (by omega) (Nat.zero_le _) (Nat.zero_le _) q1419 q1420 ?_
    refine kX11_init (by omega) (zK_v ?_)
    refine zr_areturn dX2_driftEvent_45 rfl rfl rfl ?_
    refine k _ ev (z1.tr (zGr.up hev)) (z1.no hev) ?_
    have hc := of_decide_eq_false h13
    unfold zEvt pDE
    rw [if_neg (by omega)]
    exact Or.inr (Or.inr ⟨rfl, z_up_s⟩)
  · refine zr_new (fs := [.int (zi 0)]) dX2_driftEvent_16 nX10 q1407 q1408 q128 (z_ble rfl) dfX10 (by omega) (by omega) (fun ev hev => ?_)
    refine zr_dup dX2_driftEvent_19 rfl ?_
    refine zr_aload_n dX2_driftEvent_20 rfl rfl ?_
    refine zr_getf dX2_driftEvent_21 nX2 (k := 3) (by decide) q187 (Or.inl rfl) (z_upk hev H1.1) rfl ?_
    refine zr_ifne dX2_driftEvent_24 (tgt := 31) (by decide) (by omega) (fun h24 => ?_) (fun h24 => ?_)
    · refine zr_iconst dX2_driftEvent_31 ?_
      first
        | (rw [show (.int (zi 1) : Value) = .int (zi (zB (decide (s 5 = 0)))) from by rw [decide_eq_true (by omega)]; rfl])
        | (rw [show (.int (zi 0) : Value) = .int (zi (zB (decide (s 5 = 0)))) from by rw [decide_eq_false (by omega)]; rfl])
      refine zc_iN1 rfl rfl rfl dX2_driftEvent_32 hX10_init gX10_init rfl rfl 2 0 0 (by omega) (Nat.zero_le _) (Nat.zero_le _) q1409 q1410 ?_
      
      refine kX10_init (b := decide (s 5 = 0)) z_up_s (by omega) (zK_v ?_)
      rw [z_up_o]
      refine zr_goto dX2_driftEvent_35 (tgt := 45) (by decide) ?_
      refine zr_areturn dX2_driftEvent_45 rfl rfl rfl ?_
      refine k _ ev (z1.tr (zGr.up hev)) (z1.no hev) ?_
      have hc := of_decide_eq_true h13
      unfold zEvt pDE
      rw [if_pos (by omega)]
      exact Or.inr (Or.inl ⟨rfl, z_up_s⟩)
    · refine zr_iconst dX2_driftEvent_27 ?_
      refine zr_goto dX2_driftEvent_28 (tgt := 32) (by decide) ?_
      first
        | (rw [show (.int (zi 1) : Value) = .int (zi (zB (decide (s 5 = 0)))) from by rw [decide_eq_true (by omega)]; rfl])
        | (rw [show (.int (zi 0) : Value) = .int (zi (zB (decide (s 5 = 0)))) from by rw [decide_eq_false (by omega)]; rfl])
      refine zc_iN1 rfl rfl rfl dX2_driftEvent_32 hX10_init gX10_init rfl rfl 2 0 0 (by omega) (Nat.zero_le _) (Nat.zero_le _) q1409 q1410 ?_
      
      refine kX10_init (b := decide (s 5 = 0)) z_up_s (by omega) (zK_v ?_)
      rw [z_up_o]
      refine zr_goto dX2_driftEvent_35 (tgt := 45) (by decide) ?_
      refine zr_areturn dX2_driftEvent_45 rfl rfl rfl ?_
      refine k _ ev (z1.tr (zGr.up hev)) (z1.no hev) ?_
      have hc := of_decide_eq_true h13
      unfold zEvt pDE
      rw [if_pos (by omega)]
      exact Or.inr (Or.inl ⟨rfl, z_up_s⟩)
theorem kX2_eventAt {G : State} {d rc rs : Nat} {ah : zH} {Q : zRs → zH → Prop} {F U : Nat → Prop} {a w e n l : Nat} {s : Int → Int} {mc : Int} {f g : Nat → Value} {ps : List Nat} {tv : Value} (H : zSt G F U ah a s w e n mc f ps l g tv) (hV : pV s) (hT : pTk s) (t0 : 0 < s 1) {p : Nat} {x y : Int} (hp : zPt ah p x y) (hbx : 0 ≤ x ∧ x ≤ 99) (hby : 0 ≤ y ∧ y ≤ 99) (hd : 8 ≤ d) (hc : 6 ≤ rc) (hs : 11 ≤ rs) (k : ∀ (ah9 : zH) (q : Nat), zGr ah ah9 → ah q = none → zEvt ah9 q (pEA s x y) → Q (.inl (some (.ref q))) ah9) : zW G mX2_eventAt d rc rs 0 (zent [.ref a, .ref p]) [] ah Q := by
  refine zW_open 0 [some (.ref a), some (.ref p)] rfl ?_
  have vv := hV.h
  rcases id H.2.2.2.2.2.2.1 with ⟨t1, -⟩ | ⟨t1, t, rt, hk, f9, t2, t3⟩
  · exfalso; omega
  subst t2
  obtain ⟨-, -, -, t6, t7, t8, t9⟩ := id t3
  have tk := hT t1
  have i1 := tk.2.2 (s 2) (by omega) (by omega)
  have i2 := tk.2.2 (s 2 - 1) (by omega) (by omega)
  have r1 := hV.rt (i := 192 + s 2) (by omega)
  have r2 := hV.rt (i := 192 + (s 2 - 1)) (by omega)
  have e8 : f9 (s 2).toNat = .int (zi (s (192 + s 2))) := by rw [t8 _ (by omega), show (((s 2).toNat : Nat) : Int) = s 2 by omega]
  have e9 : f9 (s 2 - 1).toNat = .int (zi (s (192 + (s 2 - 1)))) := by rw [t8 _ (by omega), show (((s 2 - 1).toNat : Nat) : Int) = s 2 - 1 by omega]
  have x1 := hV.x (p := s (192 + s 2)) (by omega)
  have y1 := hV.y (p := s (192 + s 2)) (by omega)
  have x2 := hV.x (p := s (192 + (s 2 - 1))) (by omega)
  have y2 := hV.y (p := s (192 + (s 2 - 1))) (by omega)
  obtain ⟨wp, wp1, wp2⟩ := H.wp (i := s (192 + s 2)) (by omega) (by omega)
  obtain ⟨-, pp, -, wp3, wp4⟩ := id wp2
  have rr := hV.r (p := s (192 + s 2)) (by omega)
  refine zr_aload_n dX2_eventAt_0 rfl rfl ?_
  refine zr_getf dX2_eventAt_1 nX2 (k := 0) (by decide) q183 (Or.inl rfl) H.1 rfl ?_
  refine zr_aload_n dX2_eventAt_4 rfl rfl ?_
  refine zr_getf dX2_eventAt_5 nX2 (k := 2) (by decide) q185 (Or.inl rfl) H.1 rfl ?_
  refine zc_v0 dX2_eventAt_8 hX7_target gX7_target rfl rfl 0 0 0 (by omega) (Nat.zero_le _) (Nat.zero_le _) q1342 q1343 q1344 t3.rc ?_
  refine kX7_target t6 t7 (by omega) (by omega) e8 (zK_i ?_)
  refine zc_v1 dX2_eventAt_11 hJ2_get gJ2_get rfl rfl 2 0 0 (by omega) (Nat.zero_le _) (Nat.zero_le _) q840 q841 q842 H.2.1.rc ?_
  refine kJ2_get H.2.1 (by omega) wp1 (by omega) (zK_i ?_)
  refine zr_cast dX2_eventAt_14 q854 wp2.rc ?_
  refine zr_aload_n dX2_eventAt_17 rfl rfl ?_
  refine zc_v1 dX2_eventAt_18 hX5_contains gX5_contains rfl rfl 5 1 2 (by omega) (by omega) (by omega) q1346 q1347 q1348 wp2.rc ?_
  refine kX5_contains wp3 wp4 hp (by omega) (by omega) (by omega) (by omega) (by omega) (by omega) (by omega) (by omega) (fun ah1 z1 => zK_i ?_)
  have hre : pRe s x y = decide (pSq (pOf s (s (192 + s 2)) 0 - x) (pOf s (s (192 + s 2)) 1 - y) ≤ pOf s (s (192 + s 2)) 2 * pOf s (s (192 + s 2)) 2) := by
    unfold pRe pSq
    rw [show (x - pOf s (s (192 + s 2)) 0) * (x - pOf s (s (192 + s 2)) 0) = (pOf s (s (192 + s 2)) 0 - x) * (pOf s (s (192 + s 2)) 0 - x) from by rw [← Int.neg_mul_neg]; congr 1 <;> omega, show (y - pOf s (s (192 + s 2)) 1) * (y - pOf s (s (192 + s 2)) 1) = (pOf s (s (192 + s 2)) 1 - y) * (pOf s (s (192 + s 2)) 1 - y) from by rw [← Int.neg_mul_neg]; congr 1 <;> omega]
  rw [← hre]
  have H1 := H.gr z1
  have t61 := z1 _ _ t6
  have t71 := z1 _ _ t7
  
  refine zr_ifeqB dX2_eventAt_21 (tgt := 41) (by decide) (fun h21 => ?_) (fun h21 => ?_)
  · refine zr_aload_n dX2_eventAt_41 rfl rfl ?_
    refine zr_aload_n dX2_eventAt_42 rfl rfl ?_
    refine zc_v1 dX2_eventAt_43 hX2_driftEvent gX2_driftEvent rfl rfl 7 5 9 (by omega) (by omega) (by omega) q1374 q1376 sp20 H1.rc ?_
    refine kX2_driftEvent H1 hV hT t0 (hp.gr z1) hbx hby (by omega) (by omega) (by omega) (fun ah2 ev z2 z3 z4 => zK_i ?_)
    refine zr_areturn dX2_eventAt_46 rfl rfl rfl ?_
    refine k _ ev (z1.tr z2) (z1.no z3) ?_
    unfold pEA
    rw [if_neg (by rw [h21]; decide)]
    exact z4
  · refine zr_new (fs := [.int (zi 0)]) dX2_eventAt_24 nX8 q1360 q1361 q126 (z_ble rfl) dfX8 (by omega) (by omega) (fun ev hev => ?_)
    refine zr_dup dX2_eventAt_27 rfl ?_
    refine zr_aload_n dX2_eventAt_28 rfl rfl ?_
    refine zr_getf dX2_eventAt_29 nX2 (k := 2) (by decide) q185 (Or.inl rfl) (z_upk hev H1.1) rfl ?_
    refine zc_v0 dX2_eventAt_32 hX7_isLast gX7_isLast rfl rfl 0 0 0 (by omega) (Nat.zero_le _) (Nat.zero_le _) q1362 q1363 q1364 (Or.inl ⟨5, _, TX7, 3, tyX7, nX7, z_upk hev t61⟩) ?_
    refine kX7_isLast (z_upk hev t61) (z_upk hev t71) (by omega) (by omega) (zK_i ?_)
    rw [show decide (s 2 = (((s 1).toNat : Nat) : Int) - 1) = decide (s 2 = s 1 - 1) from by rw [show (((s 1).toNat : Nat) : Int) = s 1 by omega]]
    refine zc_iN1 rfl rfl rfl dX2_eventAt_35 hX8_init gX8_init rfl rfl 2 0 0 (by omega) (Nat.zero_le _) (Nat.zero_le _) q1366 q1367 ?_
    refine kX8_init z_up_s (by omega) (zK_v ?_)
    rw [z_up_o]
    refine zr_goto dX2_eventAt_38 (tgt := 46) (by decide) ?_
    refine zr_areturn dX2_eventAt_46 rfl rfl rfl ?_
    refine k _ ev (z1.tr (zGr.up hev)) (z1.no hev) ?_
    unfold zEvt pEA
    rw [if_pos h21]
    exact Or.inl ⟨rfl, z_up_s⟩
theorem kX2_consume {G : State} {d rc rs : Nat} {ah : zH} {Q : zRs → zH → Prop} {F U : Nat → Prop} {a w e n l : Nat} {s : Int → Int} {mc : Int} {f g : Nat → Value} {ps : List Nat} {tv : Value} (H : zSt G F U ah a s w e n mc f ps l g tv) (hV : pV s) {u : Int} (qu : -2147483648 ≤ u ∧ u ≤ 2147483647) (hu : 0 ≤ u ∧ u ≤ 100) (hd : 1 ≤ d) (k : Q (.inl none) (z_up ah a (.inl (1, zSf G w l tv (pDr s u))))) : zW G mX2_consume d rc rs 0 (zent [.ref a, .int (zi u)]) [] ah Q := by
  refine zW_open 0 [some (.ref a), some (.int (zi u))] rfl ?_
  have vv := hV.h
  refine zr_aload_n dX2_consume_0 rfl rfl ?_
  refine zr_iconst dX2_consume_1 ?_
  refine zr_aload_n dX2_consume_2 rfl rfl ?_
  refine zr_getf dX2_consume_3 nX2 (k := 4) (by decide) q189 (Or.inl rfl) H.1 rfl ?_
  refine zr_iload_n dX2_consume_6 rfl ?_
  refine zr_isub dX2_consume_7 ?_
  refine zc_s2 dX2_consume_8 hJ16_max gJ16_max rfl rfl 0 0 0 (by omega) (Nat.zero_le _) (Nat.zero_le _) q1327 q503 ?_
  refine kJ16_max (by omega) (by omega) (zK_i ?_)
  rw [show (if s 6 - u ≤ 0 then 0 else s 6 - u) = (if s 6 > u then s 6 - u else 0) from by split <;> split <;> omega]
  refine zr_putf dX2_consume_11 nX2 (k := 4) (by decide) q189 (Or.inl rfl) (Or.inl rfl) H.1 (z_ble rfl) rfl rfl ?_
  rw [zSf_6]
  refine zr_return dX2_consume_14 rfl ?_
  exact k
def pHD (s : Int → Int) (X : Int × Bool) : Int → Int := if X.1 = 1 then (if X.2 = true then z_upF (pDr (z_upF s 10 (s 10 + 1)) 5) 5 1 else z_upF s 5 1) else z_upF s 5 0
theorem pHD_wa {s : Int → Int} : pHD s (pDE s (s 3) (s 4)) = pWa s := by
  unfold pHD pDE pWa
  by_cases h : 0 < pCm s (s 3) (s 4) (s 8)
  · rw [if_pos h, if_pos h]
    by_cases h5 : s 5 = 0
    · simp [h5]
    · simp [h5]
  · rw [if_neg h, if_neg h]
    rfl
theorem pDr_0 {s : Int → Int} (h : 0 ≤ s 6) : pDr s 0 = s := by
  funext j
  unfold pDr z_upF
  by_cases e : j = 6
  · rw [if_pos e, e]; split <;> omega
  · rw [if_neg e]
theorem pDr_c {s : Int → Int} {i v u : Int} (h : i ≠ 6) : z_upF (pDr s u) i v = pDr (z_upF s i v) u := by
  unfold pDr
  rw [z_upF_n (Ne.symm h), z_upF_c (Ne.symm h)]
theorem zDr_6 {s : Int → Int} {u j : Int} (h : j ≠ 6) : pDr s u j = s j := by unfold pDr; exact z_upF_n h
theorem kX2_happenD {G : State} {d rc rs : Nat} {ah : zH} {Q : zRs → zH → Prop} {F U : Nat → Prop} {a w e n l : Nat} {s : Int → Int} {mc : Int} {f g : Nat → Value} {ps : List Nat} {tv : Value} (H : zSt G F U ah a s w e n mc f ps l g tv) (hV : pV s) {q : Nat} {m : Bool} (hq : ah q = some (.inl (8, [.int (zi (zB m))]))) (hd : 2 ≤ d) (k : ∀ ah9, (∀ b o, ah b = some o → b ≠ a → ah9 b = some o) → zSt G F U ah9 a (pHD s (1, m)) w e n mc f ps l g tv → Q (.inl none) ah9) : zW G mX2_happen d rc rs 0 (zent [.ref a, .ref q]) [] ah Q := by
  refine zW_open 2 [some (.ref a), some (.ref q), none, none] rfl ?_
  have vv := hV.h
  have qrc : zRc G ah q "TrailGuide$Drifted" := Or.inl ⟨8, _, TX10, 1, tyX10, nX10, hq⟩
  have hqa : q ≠ a := fun z => by rw [z, H.1] at hq; cases hq
  refine zr_aload_n dX2_happen_0 rfl rfl ?_
  refine zr_aload_n dX2_happen_1 rfl rfl ?_
  refine zr_iface (x := ⟨"TrailGuide$Event", "cost", "()I"⟩) (as := []) rfl dX2_happen_2 hX10_cost (zSig.of (by decide +kernel)) rfl (z_ble rfl) (z_ble rfl) (d' := 0) (mc := 0) (ms := 0) (by omega) (Nat.zero_le _) (Nat.zero_le _) q1429 q1431 q1430 q1436 q1434 q1432 (by decide) q1435 q1433 rfl qrc ?_
  refine kX10_cost hq (zK_i ?_)
  refine zc_v1 dX2_happen_7 hX2_consume gX2_consume rfl rfl 1 0 0 (by omega) (Nat.zero_le _) (Nat.zero_le _) q1323 q1325 sp19 H.rc ?_
  refine kX2_consume H hV (by split <;> omega) (by split <;> omega) (by omega) (zK_v ?_)
  have qrc2 : zRc G (z_up ah a (.inl (1, zSf G w l tv (pDr s (if m = true then 5 else 0))))) q "TrailGuide$Drifted" := Or.inl ⟨8, _, TX10, 1, tyX10, nX10, (z_up_n hqa).trans hq⟩
  refine zr_aload_n dX2_happen_10 rfl rfl ?_
  refine zr_instNo dX2_happen_11 q1360 qrc2 z_ncDr_Re ?_
  refine zr_ifeq dX2_happen_14 (tgt := 75) (by decide) (by decide) (fun _ => ?_) (fun h => absurd rfl h)
  refine zr_aload_n dX2_happen_75 rfl rfl ?_
  refine zr_instE dX2_happen_76 q1407 qrc2 ?_
  refine zr_ifeq dX2_happen_79 (tgt := 116) (by decide) (by decide) (fun h => absurd h (by decide)) (fun _ => ?_)
  refine zr_aload_n dX2_happen_82 rfl rfl ?_
  refine zr_cast dX2_happen_83 q1407 qrc2 ?_
  refine zr_astore_n dX2_happen_86 (by decide) rfl (zs4_3 rfl ?_)
  refine zr_aload_n dX2_happen_87 rfl rfl ?_
  refine zr_dup dX2_happen_88 rfl ?_
  refine zr_getf dX2_happen_89 nX2 (k := 8) (by decide) q197 (Or.inl rfl) z_up_s rfl ?_
  rw [zDr_6 (by omega : (10 : Int) ≠ 6)]
  refine zr_aload_n dX2_happen_92 rfl rfl ?_
  refine zc_v0 dX2_happen_93 hX10_isNew gX10_isNew rfl rfl 0 0 0 (by omega) (Nat.zero_le _) (Nat.zero_le _) q1458 q1459 q1460 qrc2 ?_
  refine kX10_isNew ((z_up_n hqa).trans hq) (zK_i ?_)
  refine zr_ifeqB dX2_happen_96 (tgt := 103) (by decide) (fun h96 => ?_) (fun h96 => ?_)
  · refine zr_iconst dX2_happen_103 ?_
    refine zr_iadd dX2_happen_104 ?_
    refine zr_putf dX2_happen_105 nX2 (k := 8) (by decide) q197 (Or.inl rfl) (Or.inl rfl) z_up_s (z_ble rfl) rfl rfl ?_
    rw [zSf_10, z_up_o]
    refine zr_aload_n dX2_happen_108 rfl rfl ?_
    refine zr_iconst dX2_happen_109 ?_
    refine zr_putf dX2_happen_110 nX2 (k := 3) (by decide) q187 (Or.inl rfl) (Or.inl rfl) z_up_s (z_ble rfl) rfl rfl ?_
    rw [zSf_5, z_up_o]
    refine zr_goto dX2_happen_113 (tgt := 121) (by decide) ?_
    refine zr_return dX2_happen_121 rfl ?_
    first
      | (have e9 : z_upF (z_upF (pDr s (if m = true then 5 else 0)) 10 (s 10 + 1)) 5 1 = pHD s (1, m) := by
           unfold pHD
           rw [if_pos rfl, h96]
           rw [if_pos rfl, if_pos rfl, pDr_c (by omega)]
         rw [e9]
         refine k _ (fun b o hb hn => (z_up_n hn).trans hb) (H.setA vv.1.2 ?_ (fun j _ _ => ?_) (H.2.2.2.2.2.2.1.c (fun j hj => ?_)))
         · rw [← e9]; exact (z_upF_n (by omega)).trans ((z_upF_n (by omega)).trans (zDr_6 (by omega)))
         · rw [← e9]; exact (z_upF_n (by omega)).trans ((z_upF_n (by omega)).trans (zDr_6 (by omega)))
         · rw [← e9]; exact (z_upF_n (by omega)).trans ((z_upF_n (by omega)).trans (zDr_6 (by omega))))
      | (have e9 : z_upF (z_upF (pDr s (if m = true then 5 else 0)) 10 (s 10 + 0)) 5 1 = pHD s (1, m) := by
           unfold pHD
           rw [if_pos rfl, h96]
           rw [if_neg (by decide), if_neg (by decide), pDr_0 (by omega), Int.add_zero, show z_upF s 10 (s 10) = s from by funext j; exact (show (if j = 10 then s 10 else s j) = s j from by split <;> simp_all)]
         rw [e9]
         refine k _ (fun b o hb hn => (z_up_n hn).trans hb) (H.setA vv.1.2 ?_ (fun j _ _ => ?_) (H.2.2.2.2.2.2.1.c (fun j hj => ?_)))
         · rw [← e9]; exact (z_upF_n (by omega)).trans ((z_upF_n (by omega)).trans (zDr_6 (by omega)))
         · rw [← e9]; exact (z_upF_n (by omega)).trans ((z_upF_n (by omega)).trans (zDr_6 (by omega)))
         · rw [← e9]; exact (z_upF_n (by omega)).trans ((z_upF_n (by omega)).trans (zDr_6 (by omega))))
  · refine zr_iconst dX2_happen_99 ?_
    refine zr_goto dX2_happen_100 (tgt := 104) (by decide) ?_
    refine zr_iadd dX2_happen_104 ?_
    refine zr_putf dX2_happen_105 nX2 (k := 8) (by decide) q197 (Or.inl rfl) (Or.inl rfl) z_up_s (z_ble rfl) rfl rfl ?_
    rw [zSf_10, z_up_o]
    refine zr_aload_n dX2_happen_108 rfl rfl ?_
    refine zr_iconst dX2_happen_109 ?_
    refine zr_putf dX2_happen_110 nX2 (k := 3) (by decide) q187 (Or.inl rfl) (Or.inl rfl) z_up_s (z_ble rfl) rfl rfl ?_
    rw [zSf_5, z_up_o]
    refine zr_goto dX2_happen_113 (tgt := 121) (by decide) ?_
    refine zr_return dX2_happen_121 rfl ?_
    first
      | (have e9 : z_upF (z_upF (pDr s (if m = true then 5 else 0)) 10 (s 10 + 1)) 5 1 = pHD s (1, m) := by
           unfold pHD
           rw [if_pos rfl, h96]
           rw [if_pos rfl, if_pos rfl, pDr_c (by omega)]
         rw [e9]
         refine k _ (fun b o hb hn => (z_up_n hn).trans hb) (H.setA vv.1.2 ?_ (fun j _ _ => ?_) (H.2.2.2.2.2.2.1.c (fun j hj => ?_)))
         · rw [← e9]; exact (z_upF_n (by omega)).trans ((z_upF_n (by omega)).trans (zDr_6 (by omega)))
         · rw [← e9]; exact (z_upF_n (by omega)).trans ((z_upF_n (by omega)).trans (zDr_6 (by omega)))
         · rw [← e9]; exact (z_upF_n (by omega)).trans ((z_upF_n (by omega)).trans (zDr_6 (by omega))))
      | (have e9 : z_upF (z_upF (pDr s (if m = true then 5 else 0)) 10 (s 10 + 0)) 5 1 = pHD s (1, m) := by
           unfold pHD
           rw [if_pos rfl, h96]
           rw [if_neg (by decide), if_neg (by decide), pDr_0 (by omega), Int.add_zero, show z_upF s 10 (s 10) = s from by funext j; exact (show (if j = 10 then s 10 else s j) = s j from by split <;> simp_all)]
         rw [e9]
         refine k _ (fun b o hb hn => (z_up_n hn).trans hb) (H.setA vv.1.2 ?_ (fun j _ _ => ?_) (H.2.2.2.2.2.2.1.c (fun j hj => ?_)))
         · rw [← e9]; exact (z_upF_n (by omega)).trans ((z_upF_n (by omega)).trans (zDr_6 (by omega)))
         · rw [← e9]; exact (z_upF_n (by omega)).trans ((z_upF_n (by omega)).trans (zDr_6 (by omega)))
         · rw [← e9]; exact (z_upF_n (by omega)).trans ((z_upF_n (by omega)).trans (zDr_6 (by omega))))
theorem kX2_happenQ {G : State} {d rc rs : Nat} {ah : zH} {Q : zRs → zH → Prop} {F U : Nat → Prop} {a w e n l : Nat} {s : Int → Int} {mc : Int} {f g : Nat → Value} {ps : List Nat} {tv : Value} (H : zSt G F U ah a s w e n mc f ps l g tv) (hV : pV s) {q : Nat} (hq : ah q = some (.inl (9, []))) (hd : 2 ≤ d) (k : ∀ ah9, (∀ b o, ah b = some o → b ≠ a → ah9 b = some o) → zSt G F U ah9 a (pHD s (2, false)) w e n mc f ps l g tv → Q (.inl none) ah9) : zW G mX2_happen d rc rs 0 (zent [.ref a, .ref q]) [] ah Q := by
  refine zW_open 2 [some (.ref a), some (.ref q), none, none] rfl ?_
  have vv := hV.h
  have qrc : zRc G ah q "TrailGuide$Quiet" := Or.inl ⟨9, _, TX10, 0, tyX10, nX11, hq⟩
  have hqa : q ≠ a := fun z => by rw [z, H.1] at hq; cases hq
  refine zr_aload_n dX2_happen_0 rfl rfl ?_
  refine zr_aload_n dX2_happen_1 rfl rfl ?_
  refine zr_iface (x := ⟨"TrailGuide$Event", "cost", "()I"⟩) (as := []) rfl dX2_happen_2 hX11_cost (zSig.of (by decide +kernel)) rfl (z_ble rfl) (z_ble rfl) (d' := 0) (mc := 0) (ms := 0) (by omega) (Nat.zero_le _) (Nat.zero_le _) q1429 q1431 q1430 q1442 q1440 q1438 (by decide) q1441 q1439 rfl qrc ?_
  refine kX11_cost (zK_i ?_)
  refine zc_v1 dX2_happen_7 hX2_consume gX2_consume rfl rfl 1 0 0 (by omega) (Nat.zero_le _) (Nat.zero_le _) q1323 q1325 sp19 H.rc ?_
  refine kX2_consume H hV (by omega) (by omega) (by omega) (zK_v ?_)
  have qrc2 : zRc G (z_up ah a (.inl (1, zSf G w l tv (pDr s 0)))) q "TrailGuide$Quiet" := Or.inl ⟨9, _, TX10, 0, tyX10, nX11, (z_up_n hqa).trans hq⟩
  refine zr_aload_n dX2_happen_10 rfl rfl ?_
  refine zr_instNo dX2_happen_11 q1360 qrc2 z_ncQu_Re ?_
  refine zr_ifeq dX2_happen_14 (tgt := 75) (by decide) (by decide) (fun _ => ?_) (fun h => absurd rfl h)
  refine zr_aload_n dX2_happen_75 rfl rfl ?_
  refine zr_instNo dX2_happen_76 q1407 qrc2 z_ncQu_Dr ?_
  refine zr_ifeq dX2_happen_79 (tgt := 116) (by decide) (by decide) (fun _ => ?_) (fun h => absurd rfl h)
  refine zr_aload_n dX2_happen_116 rfl rfl ?_
  refine zr_iconst dX2_happen_117 ?_
  refine zr_putf dX2_happen_118 nX2 (k := 3) (by decide) q187 (Or.inl rfl) (Or.inl rfl) z_up_s (z_ble rfl) rfl rfl ?_
  rw [zSf_5, z_up_o, pDr_0 (by omega)]
  refine zr_return dX2_happen_121 rfl ?_
  exact k _ (fun b o hb hn => (z_up_n hn).trans hb) (H.fld vv.1.2 (i := 5) (v := 0) (by omega))
