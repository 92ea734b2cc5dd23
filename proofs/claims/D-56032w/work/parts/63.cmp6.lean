set_option maxRecDepth 100000
/-! ===== the component: marks, components, merging ===== -/
theorem kX2_markL {G : State} {ahB : zH} {F U : Nat → Prop} {a w e n l : Nat} {s : Int → Int} {mc : Int} {f g : Nat → Value} {ps : List Nat} {tv : Value} {t : Nat} (H : zSt G F U ahB a s w e n mc f ps l g tv) (hV : pV s) (hY : pSy s) (ht0 : ahB t = none) {n9 : Nat} (ih : ∀ (d rc rs : Nat) (Q : zRs → zH → Prop) (ah : zH) (M : Int → Bool) (x : Int), pLf M ≤ n9 → n9 + 2 ≤ d → zGr ahB ah → zB12 ah t M → pR x → M x = false → (∀ ah9 M9, zGr ahB ah9 → zB12 ah9 t M9 → pMk s M M9 x → Q (.inl none) ah9) → zW G mX2_mark d rc rs 0 (zent [.ref a, .int (zi x), .ref t]) [] ah Q) {x : Int} (hx : pR x) {M : Int → Bool} (hM : M x = false) (hL : pLf M ≤ (n9 + 1 : Nat)) {d : Nat} (hd : n9 + 3 ≤ d) {rc rs : Nat} {Q : zRs → zH → Prop} (m9 : Nat) : ∀ (i : Nat) (ah : zH) (M9 : Int → Bool), ((i + m9 : Nat) : Int) = s 0 → zGr ahB ah → zB12 ah t M9 → pMw s M M9 x i → (∀ ah9 M9, zGr ahB ah9 → zB12 ah9 t M9 → pMk s M M9 x → Q (.inl none) ah9) → zW G mX2_mark d rc rs 6 [some (.ref a), some (.int (zi x)), some (.ref t), some (.int (zi ((i : Nat) : Int)))] [] ah Q := by
  induction m9 with
  | zero =>
    intro i ah M9 g1 g2 g3 g4 k
    have vv := hV.h
    obtain ⟨gt, t1, t2⟩ := id g3
    refine zr_iload_n dX2_mark_6 rfl ?_
    refine zr_aload_n dX2_mark_7 rfl rfl ?_
    refine zc_v0 dX2_mark_8 hX2_size gX2_size rfl rfl 1 0 0 (by omega) (Nat.zero_le _) (Nat.zero_le _) q336 q307 q308 (H.gr g2).rc ?_
    refine kX2_size (H.gr g2) (by omega) (zK_i ?_)
    refine zr_icmpge dX2_mark_11 (tgt := 41) (by decide) (by omega) (by omega) (fun h11 => ?_) (fun h11 => ?_)
    · refine zr_return dX2_mark_41 rfl ?_
      rw [show ((i : Nat) : Int) = s 0 by omega] at g4
      exact k ah M9 g2 g3 (g4.done hY hx)
    · exfalso; omega
  | succ m9 IH =>
    intro i ah M9 g1 g2 g3 g4 k
    have vv := hV.h
    obtain ⟨gt, t1, t2⟩ := id g3
    refine zr_iload_n dX2_mark_6 rfl ?_
    refine zr_aload_n dX2_mark_7 rfl rfl ?_
    refine zc_v0 dX2_mark_8 hX2_size gX2_size rfl rfl 1 0 0 (by omega) (Nat.zero_le _) (Nat.zero_le _) q336 q307 q308 (H.gr g2).rc ?_
    refine kX2_size (H.gr g2) (by omega) (zK_i ?_)
    refine zr_icmpge dX2_mark_11 (tgt := 41) (by decide) (by omega) (by omega) (fun h11 => ?_) (fun h11 => ?_)
    · exfalso; omega
    · have hi9 : i < 12 := by omega
      have hir : pR (i : Int) := ⟨by omega, by omega⟩
      have tb := hV.tr hx hir
      refine zr_aload_n dX2_mark_14 rfl rfl ?_
      refine zr_iload_n dX2_mark_15 rfl ?_
      refine zr_iload_n dX2_mark_16 rfl ?_
      refine zc_v2 dX2_mark_17 hX2_lengthOf gX2_lengthOf rfl rfl 0 0 0 (by omega) (Nat.zero_le _) (Nat.zero_le _) q345 q346 q347 (H.gr g2).rc ?_
      refine kX2_lengthOf (H.gr g2) hx hir (zK_i ?_)
      refine zr_ifle dX2_mark_20 (tgt := 35) (by decide) (by omega) (fun h20 => ?_) (fun h20 => ?_)
      · refine zr_iinc dX2_mark_35 rfl (by decide) (zs4_3 rfl ?_)
        refine zr_goto dX2_mark_38 (tgt := 6) (by decide) ?_
        first
          | exact IH (i + 1) ah M9 (by omega) g2 g3 (g4.skip (fun z => by rw [h26] at z; exact absurd z.2 (by decide))) k
          | exact IH (i + 1) ah M9 (by omega) g2 g3 (g4.skip (fun z => by omega)) k
      · refine zr_aload_n dX2_mark_23 rfl rfl ?_
        refine zr_iload_n dX2_mark_24 rfl ?_
        refine zr_zaload dX2_mark_25 (Or.inl t1) (by decide) (by omega) (z12b t2 hir) ?_
        refine zr_ifneB dX2_mark_26 (tgt := 35) (by decide) (fun h26 => ?_) (fun h26 => ?_)
        · refine zr_iinc dX2_mark_35 rfl (by decide) (zs4_3 rfl ?_)
          refine zr_goto dX2_mark_38 (tgt := 6) (by decide) ?_
          first
            | exact IH (i + 1) ah M9 (by omega) g2 g3 (g4.skip (fun z => by rw [h26] at z; exact absurd z.2 (by decide))) k
            | exact IH (i + 1) ah M9 (by omega) g2 g3 (g4.skip (fun z => by omega)) k
        · refine zr_aload_n dX2_mark_29 rfl rfl ?_
          refine zr_iload_n dX2_mark_30 rfl ?_
          refine zr_aload_n dX2_mark_31 rfl rfl ?_
          refine zc_v2 dX2_mark_32 hX2_mark gX2_mark rfl rfl (n9 + 2) 0 0 (by omega) (Nat.zero_le _) (Nat.zero_le _) q341 q343 sp0 (H.gr g2).rc ?_
          refine ih _ _ _ _ ah M9 (i : Int) ?_ (by omega) g2 g3 hir h26 (fun ah2 M2 q1 q2 q3 => zK_v ?_)
          · have a1 := pLf_up hx hM
            have a2 : pLf M9 ≤ pLf (z_upB M x true) := pLf_le fun y hy hyt => by
              by_cases e : y = x
              · rw [e]; exact g4.2.1
              · rw [z_upB_n e] at hyt; exact g4.1 y hyt
            omega
          refine zr_iinc dX2_mark_35 rfl (by decide) (zs4_3 rfl ?_)
          refine zr_goto dX2_mark_38 (tgt := 6) (by decide) ?_
          exact IH (i + 1) ah2 M2 (by omega) q1 q2 (g4.sub hV hx hir (by omega) q3) k

theorem kX2_mark {G : State} {ahB : zH} {F U : Nat → Prop} {a w e n l : Nat} {s : Int → Int} {mc : Int} {f g : Nat → Value} {ps : List Nat} {tv : Value} {t : Nat} (H : zSt G F U ahB a s w e n mc f ps l g tv) (hV : pV s) (hY : pSy s) (ht0 : ahB t = none) (n9 : Nat) : ∀ (d rc rs : Nat) (Q : zRs → zH → Prop) (ah : zH) (M : Int → Bool) (x : Int), pLf M ≤ n9 → n9 + 2 ≤ d → zGr ahB ah → zB12 ah t M → pR x → M x = false → (∀ ah9 M9, zGr ahB ah9 → zB12 ah9 t M9 → pMk s M M9 x → Q (.inl none) ah9) → zW G mX2_mark d rc rs 0 (zent [.ref a, .int (zi x), .ref t]) [] ah Q := by
  induction n9 with
  | zero =>
    intro d rc rs Q ah M x g1 g2 g3 g4 g5 g6 k
    exfalso
    have := pLf_up g5 g6
    have := pLf_b (dn := z_upB M x true)
    omega
  | succ n9 ih =>
    intro d rc rs Q ah M x g1 g2 g3 g4 g5 g6 k
    refine zW_open 1 [some (.ref a), some (.int (zi x)), some (.ref t), none] rfl ?_
    obtain ⟨gt, t1, t2⟩ := id g4
    obtain ⟨x0, x1⟩ := id g5
    have vv := hV.h
    refine zr_aload_n dX2_mark_0 rfl rfl ?_
    refine zr_iload_n dX2_mark_1 rfl ?_
    refine zr_iconst dX2_mark_2 ?_
    refine zr_zastore dX2_mark_3 t1 (by decide) (by omega) rfl ?_
    have b1 : zB12 (z_up ah t (.inr (.boolean, 12, z_upV gt x.toNat (.int (zi 1))))) t (z_upB M x true) := z12v t2 (x := true) g5
    have gg := g3.tu (o := .inr (.boolean, 12, z_upV gt x.toNat (.int (zi 1)))) ht0
    generalize z_up ah t (.inr (.boolean, 12, z_upV gt x.toNat (.int (zi 1)))) = ah1 at b1 gg ⊢
    refine zr_iconst dX2_mark_4 ?_
    refine zr_istore_n dX2_mark_5 (by decide) (zs4_3 rfl ?_)
    exact kX2_markL H hV hY ht0 ih g5 g6 g1 (by omega) (s 0).toNat 0 ah1 _ (by omega) gg b1 (pMw.ini g5) k
theorem kX2_lambda_components_2 {G : State} {d rc rs : Nat} {ah : zH} {Q : zRs → zH → Prop} {t : Nat} {M : Int → Bool} {i : Int} (hM : zB12 ah t M) (hi : pR i) (k : Q (.inl (some (.int (zi (zB (!M i)))))) ah) : zW G mX2_lambda_components_2 d rc rs 0 (zent [.ref t, .int (zi i)]) [] ah Q := by
  refine zW_open 0 [some (.ref t), some (.int (zi i))] rfl ?_
  obtain ⟨gt, t1, t2⟩ := id hM
  obtain ⟨i0, i1⟩ := id hi
  refine zr_aload_n dX2_lambda_components_2_0 rfl rfl ?_
  refine zr_iload_n dX2_lambda_components_2_1 rfl ?_
  refine zr_zaload dX2_lambda_components_2_2 (Or.inl t1) (by decide) (by omega) (z12b t2 hi) ?_
  refine zr_ifneB dX2_lambda_components_2_3 (tgt := 10) (by decide) (fun h3 => ?_) (fun h3 => ?_)
  · refine zr_iconst dX2_lambda_components_2_10 ?_
    refine zr_ireturn dX2_lambda_components_2_11 rfl (by first | rfl | exact z_nb _) ?_
    rw [h3] at k
    exact k
  · refine zr_iconst dX2_lambda_components_2_6 ?_
    refine zr_goto dX2_lambda_components_2_7 (tgt := 11) (by decide) ?_
    refine zr_ireturn dX2_lambda_components_2_11 rfl (by first | rfl | exact z_nb _) ?_
    rw [h3] at k
    exact k
theorem kX2_lambda_components_3 {G : State} {d rc rs : Nat} {ah : zH} {Q : zRs → zH → Prop} {t : Nat} {M : Int → Bool} {i : Int} (hM : zB12 ah t M) (hi : pR i) (k : Q (.inl (some (.int (zi (zB (!M i)))))) ah) : zW G mX2_lambda_components_3 d rc rs 0 (zent [.ref t, .int (zi i)]) [] ah Q := by
  refine zW_open 0 [some (.ref t), some (.int (zi i))] rfl ?_
  obtain ⟨gt, t1, t2⟩ := id hM
  obtain ⟨i0, i1⟩ := id hi
  refine zr_aload_n dX2_lambda_components_3_0 rfl rfl ?_
  refine zr_iload_n dX2_lambda_components_3_1 rfl ?_
  refine zr_zaload dX2_lambda_components_3_2 (Or.inl t1) (by decide) (by omega) (z12b t2 hi) ?_
  refine zr_ifneB dX2_lambda_components_3_3 (tgt := 10) (by decide) (fun h3 => ?_) (fun h3 => ?_)
  · refine zr_iconst dX2_lambda_components_3_10 ?_
    refine zr_ireturn dX2_lambda_components_3_11 rfl (by first | rfl | exact z_nb _) ?_
    rw [h3] at k
    exact k
  · refine zr_iconst dX2_lambda_components_3_6 ?_
    refine zr_goto dX2_lambda_components_3_7 (tgt := 11) (by decide) ?_
    refine zr_ireturn dX2_lambda_components_3_11 rfl (by first | rfl | exact z_nb _) ?_
    rw [h3] at k
    exact k
theorem kX2_compL {G : State} {d : Nat} {Q : zRs → zH → Prop} {ahB : zH} {F U : Nat → Prop} {a w e n l : Nat} {s : Int → Int} {mc : Int} {f g : Nat → Value} {ps : List Nat} {tv : Value} {t : Nat} (H : zSt G F U ahB a s w e n mc f ps l g tv) (hV : pV s) (hY : pSy s) (hd : 27 ≤ d) (ht0 : ahB t = none) (n9 : Nat) : ∀ (m rc rs : Nat) (ah : zH) (M : Int → Bool) (c : Int), pLf M ≤ n9 → n9 ≤ rc → n9 ≤ rs → zGr ahB ah → zB12 ah t M → pCs s M c m → (m : Int) ≤ s 0 → (∀ ah9, zGr ahB ah9 → Q (.inl (some (.int (zi (pCo s (s 0).toNat))))) ah9) → zW G mX2_components d rc rs 18 [some (.ref a), some (.ref t), some (.int (zi c)), some (.int (zi (pFw (fun j => !M j) (s 0).toNat 0)))] [] ah Q := by
  induction n9 with
  | zero =>
    intro m rc rs ah M c g1 g2 g3 g4 g5 g6 g7 k
    have vv := hV.h
    have hfw := pFw_ok (t := fun j => !M j) (s 0).toNat 0
    generalize hx : pFw (fun j => !M j) (s 0).toNat 0 = x at hfw ⊢
    have hxb : -1 ≤ x ∧ x < 12 := by omega
    refine zr_iload_n dX2_components_18 rfl ?_
    refine zr_iconst dX2_components_19 ?_
    refine zr_icmpeq dX2_components_20 (tgt := 46) (by decide) (by omega) (by omega) (fun h20 => ?_) (fun h20 => ?_)
    · refine zr_iload_n dX2_components_46 rfl ?_
      refine zr_ireturn dX2_components_47 rfl (by first | rfl | exact z_nb _) ?_
      have hall : ∀ y : Int, 0 ≤ y → y < s 0 → M y = true := fun y y0 y1 => by
        rcases hfw with ⟨_, z⟩ | ⟨z, _⟩
        · have := z y y0 (by omega)
          simpa using this
        · omega
      have w := g6.on hV hY ((s 0).toNat - m) (by omega) (fun y y0 y1 => hall y y0 (by omega))
      rw [show m + ((s 0).toNat - m) = (s 0).toNat by omega] at w
      rw [w.2.2.2]
      exact k ah g4
    · obtain ⟨x0, x1, x2, x3⟩ : 0 ≤ x ∧ x < s 0 ∧ M x = false ∧ ∀ y, 0 ≤ y → y < x → M y = true := by
        rcases hfw with ⟨z, _⟩ | ⟨z1, z2, z3, z4⟩
        · exact absurd z h20
        · exact ⟨z1, by omega, by simpa using z3, fun y y0 y1 => by simpa using z4 y y0 y1⟩
      have hxr : pR x := ⟨x0, by omega⟩
      have hmx : (m : Int) ≤ x := Int.not_lt.mp fun z => by rw [g6.1 x x0 z] at x2; cases x2
      have w := g6.on hV hY (x.toNat - m) (by omega) (fun y y0 y1 => x3 y y0 (by omega))
      rw [show m + (x.toNat - m) = x.toNat by omega] at w
      have hxn : ((x.toNat : Nat) : Int) = x := by omega
      have lf := pLf_up hxr x2
      exfalso
      have := pLf_b (dn := z_upB M x true)
      omega
  | succ n9 ih =>
    intro m rc rs ah M c g1 g2 g3 g4 g5 g6 g7 k
    have vv := hV.h
    have hfw := pFw_ok (t := fun j => !M j) (s 0).toNat 0
    generalize hx : pFw (fun j => !M j) (s 0).toNat 0 = x at hfw ⊢
    have hxb : -1 ≤ x ∧ x < 12 := by omega
    refine zr_iload_n dX2_components_18 rfl ?_
    refine zr_iconst dX2_components_19 ?_
    refine zr_icmpeq dX2_components_20 (tgt := 46) (by decide) (by omega) (by omega) (fun h20 => ?_) (fun h20 => ?_)
    · refine zr_iload_n dX2_components_46 rfl ?_
      refine zr_ireturn dX2_components_47 rfl (by first | rfl | exact z_nb _) ?_
      have hall : ∀ y : Int, 0 ≤ y → y < s 0 → M y = true := fun y y0 y1 => by
        rcases hfw with ⟨_, z⟩ | ⟨z, _⟩
        · have := z y y0 (by omega)
          simpa using this
        · omega
      have w := g6.on hV hY ((s 0).toNat - m) (by omega) (fun y y0 y1 => hall y y0 (by omega))
      rw [show m + ((s 0).toNat - m) = (s 0).toNat by omega] at w
      rw [w.2.2.2]
      exact k ah g4
    · obtain ⟨x0, x1, x2, x3⟩ : 0 ≤ x ∧ x < s 0 ∧ M x = false ∧ ∀ y, 0 ≤ y → y < x → M y = true := by
        rcases hfw with ⟨z, _⟩ | ⟨z1, z2, z3, z4⟩
        · exact absurd z h20
        · exact ⟨z1, by omega, by simpa using z3, fun y y0 y1 => by simpa using z4 y y0 y1⟩
      have hxr : pR x := ⟨x0, by omega⟩
      have hmx : (m : Int) ≤ x := Int.not_lt.mp fun z => by rw [g6.1 x x0 z] at x2; cases x2
      have w := g6.on hV hY (x.toNat - m) (by omega) (fun y y0 y1 => x3 y y0 (by omega))
      rw [show m + (x.toNat - m) = x.toNat by omega] at w
      have hxn : ((x.toNat : Nat) : Int) = x := by omega
      have lf := pLf_up hxr x2
      refine zr_aload_n dX2_components_23 rfl rfl ?_
      refine zr_iload_n dX2_components_24 rfl ?_
      refine zr_aload_n dX2_components_25 rfl rfl ?_
      refine zc_v2 dX2_components_26 hX2_mark gX2_mark rfl rfl 14 0 0 (by omega) (Nat.zero_le _) (Nat.zero_le _) q341 q343 sp0 (H.gr g4).rc ?_
      refine kX2_mark H hV hY ht0 12 _ _ _ _ ah M x (by have := (pLf_b (dn := M)).2; omega) (by omega) g4 g5 hxr x2 (fun ah2 M2 q1 q2 q3 => zK_v ?_)
      have w2 := w.next hV hY (by omega) (by rw [hxn]; exact x2) (by rw [hxn]; exact q3)
      refine zr_iinc dX2_components_29 rfl (by decide) (zs4_2 rfl ?_)
      refine zr_aload_n dX2_components_32 rfl rfl ?_
      refine zr_aload_n dX2_components_33 rfl rfl ?_
      refine zln1 rfl rfl dX2_components_34 rfl (by omega) (by omega) (by omega) (fun b hb => ?_)
      have q2b := q2.gr (zGr.up (o := .inl (1001, [.ref t])) hb)
      have Hb := H.gr (q1.tr (zGr.up (o := .inl (1001, [.ref t])) hb))
      refine zc_v1 dX2_components_39 hX2_firstWaypoint gX2_firstWaypoint rfl rfl 2 0 0 (by omega) (Nat.zero_le _) (Nat.zero_le _) q332 q333 q334 Hb.rc ?_
      refine kX2_firstWaypoint (t := fun j => !M2 j) Hb hV (by omega) (fun i ls i0 i1 kk => ?_) (zK_i ?_)
      · refine zlm1 dX2_firstWaypoint_12 q338 rfl 0 0 0 (by omega) (Nat.zero_le _) (Nat.zero_le _) z_up_s ?_
        exact kX2_lambda_components_3 q2b ⟨i0, by omega⟩ ⟨zK_i kk, _, rfl, z_nb _⟩
      refine zr_istore_n dX2_components_42 (by decide) (zs4_3 rfl ?_)
      refine zr_goto dX2_components_43 (tgt := 18) (by decide) ?_
      refine ih (x.toNat + 1) _ _ _ M2 _ ?_ (by omega) (by omega) (q1.tr (zGr.up hb)) q2b w2 (by omega) k
      have : pLf M2 ≤ pLf (z_upB M x true) := pLf_le fun y hy hyt => by
        by_cases e : y = x
        · rw [e]; exact q3.2.1
        · rw [z_upB_n e] at hyt; exact q3.1 y hyt
      omega
theorem kX2_components {G : State} {d rc rs : Nat} {ah : zH} {Q : zRs → zH → Prop} {F U : Nat → Prop} {a w e n l : Nat} {s : Int → Int} {mc : Int} {f g : Nat → Value} {ps : List Nat} {tv : Value} (H : zSt G F U ah a s w e n mc f ps l g tv) (hV : pV s) (hY : pSy s) (hd : 28 ≤ d) (hc : 14 ≤ rc) (hs : 25 ≤ rs) (k : ∀ ah9, zGr ah ah9 → Q (.inl (some (.int (zi (pCo s (s 0).toNat))))) ah9) : zW G mX2_components d rc rs 0 (zent [.ref a]) [] ah Q := by
  refine zW_open 3 [some (.ref a), none, none, none] rfl ?_
  have vv := hV.h
  refine zr_bipush dX2_components_0 rfl ?_
  refine zr_newarray (ty := .boolean) dX2_components_2 rfl q351 (fun _ z => by cases z) (by omega) (by omega) (by show (12 : Int).toNat ≤ _; simp; omega) (fun t ht => ?_)
  have g5 : zB12 (z_up ah t (.inr (.boolean, (12 : Int).toNat, fun _ => defaultValue .boolean))) t (fun _ => false) := ⟨_, z_up_s, fun j hj => rfl⟩
  have g4 := zGr.up (o := .inr (.boolean, (12 : Int).toNat, fun _ => defaultValue .boolean)) ht
  generalize z_up ah t (.inr (.boolean, (12 : Int).toNat, fun _ => defaultValue .boolean)) = ah1 at g4 g5 ⊢
  refine zr_astore_n dX2_components_4 (by decide) rfl (zs4_1 rfl ?_)
  refine zr_iconst dX2_components_5 ?_
  refine zr_istore_n dX2_components_6 (by decide) (zs4_2 rfl ?_)
  refine zr_aload_n dX2_components_7 rfl rfl ?_
  refine zr_aload_n dX2_components_8 rfl rfl ?_
  refine zln0 rfl rfl dX2_components_9 rfl (by omega) (by omega) (by simp; omega) (fun b hb => ?_)
  have q2b := g5.gr (zGr.up (o := .inl (1000, [.ref t])) hb)
  have Hb := H.gr (g4.tr (zGr.up (o := .inl (1000, [.ref t])) hb))
  refine zc_v1 dX2_components_14 hX2_firstWaypoint gX2_firstWaypoint rfl rfl 2 0 0 (by omega) (Nat.zero_le _) (Nat.zero_le _) q332 q333 q334 Hb.rc ?_
  refine kX2_firstWaypoint (t := fun j => !(fun _ : Int => false) j) Hb hV (by omega) (fun i ls i0 i1 kk => ?_) (zK_i ?_)
  · refine zlm0 dX2_firstWaypoint_12 q338 rfl 0 0 0 (by omega) (Nat.zero_le _) (Nat.zero_le _) z_up_s ?_
    exact kX2_lambda_components_2 q2b ⟨i0, by omega⟩ ⟨zK_i kk, _, rfl, z_nb _⟩
  refine zr_istore_n dX2_components_17 (by decide) (zs4_3 rfl ?_)
  exact kX2_compL H hV hY (by omega) ht 12 0 _ _ _ (fun _ => false) 0 (by exact (pLf_b (dn := fun _ => false)).2) (by omega) (by simp; omega) (g4.tr (zGr.up hb)) q2b pCs.ini (by omega) k
theorem kX2_leaderOf {G : State} {ah : zH} {L : Nat} {l r : Int → Int} {e : Int → Nat} {kk : Nat} (hL : zA12 ah L l) (hU : pUF l r e kk) (n9 : Nat) : ∀ (d rc rs : Nat) (Q : zRs → zH → Prop) (x : Int), e x ≤ n9 → n9 ≤ d → pR x → (Q (.inl (some (.int (zi (r x))))) ah) → zW G mX2_leaderOf d rc rs 0 (zent [.ref L, .int (zi x)]) [] ah Q := by
  obtain ⟨gL, l1, l2⟩ := id hL
  induction n9 with
  | zero =>
    intro d rc rs Q x g1 g2 g3 k
    obtain ⟨x0, x1⟩ := id g3
    obtain ⟨u1, u2, u3, u4, u5, u6⟩ := hU x g3
    obtain ⟨y0, y1⟩ := id u1
    refine zW_open 0 [some (.ref L), some (.int (zi x))] rfl ?_
    refine zr_aload_n dX2_leaderOf_0 rfl rfl ?_
    refine zr_iload_n dX2_leaderOf_1 rfl ?_
    refine zr_iaload dX2_leaderOf_2 (Or.inl l1) (by decide) (by omega) (z12e l2 g3) ?_
    refine zr_iload_n dX2_leaderOf_3 rfl ?_
    refine zr_icmpne dX2_leaderOf_4 (tgt := 11) (by decide) (by omega) (by omega) (fun h4 => ?_) (fun h4 => ?_)
    · exfalso; have := (u4 h4).2; omega
    · refine zr_iload_n dX2_leaderOf_7 rfl ?_
      refine zr_goto dX2_leaderOf_8 (tgt := 18) (by decide) ?_
      refine zr_ireturn dX2_leaderOf_18 rfl (by first | rfl | exact z_nb _) ?_
      rw [(u3 (by omega)).1] at k
      exact k
  | succ n9 ih =>
    intro d rc rs Q x g1 g2 g3 k
    obtain ⟨x0, x1⟩ := id g3
    obtain ⟨u1, u2, u3, u4, u5, u6⟩ := hU x g3
    obtain ⟨y0, y1⟩ := id u1
    refine zW_open 0 [some (.ref L), some (.int (zi x))] rfl ?_
    refine zr_aload_n dX2_leaderOf_0 rfl rfl ?_
    refine zr_iload_n dX2_leaderOf_1 rfl ?_
    refine zr_iaload dX2_leaderOf_2 (Or.inl l1) (by decide) (by omega) (z12e l2 g3) ?_
    refine zr_iload_n dX2_leaderOf_3 rfl ?_
    refine zr_icmpne dX2_leaderOf_4 (tgt := 11) (by decide) (by omega) (by omega) (fun h4 => ?_) (fun h4 => ?_)
    · refine zr_aload_n dX2_leaderOf_11 rfl rfl ?_
      refine zr_aload_n dX2_leaderOf_12 rfl rfl ?_
      refine zr_iload_n dX2_leaderOf_13 rfl ?_
      refine zr_iaload dX2_leaderOf_14 (Or.inl l1) (by decide) (by omega) (z12e l2 g3) ?_
      refine zc_s2 dX2_leaderOf_15 hX2_leaderOf gX2_leaderOf rfl rfl n9 0 0 (by omega) (Nat.zero_le _) (Nat.zero_le _) q360 q361 ?_
      refine ih _ _ _ _ (l x) (by have := (u4 h4).2; omega) (Nat.le_refl _) u1 (zK_i ?_)
      refine zr_ireturn dX2_leaderOf_18 rfl (by first | rfl | exact z_nb _) ?_
      first
        | (rw [(u4 h4).1]; exact k)
        | (rw [(u3 (by omega)).1] at k; exact k)
    · refine zr_iload_n dX2_leaderOf_7 rfl ?_
      refine zr_goto dX2_leaderOf_8 (tgt := 18) (by decide) ?_
      refine zr_ireturn dX2_leaderOf_18 rfl (by first | rfl | exact z_nb _) ?_
      first
        | (rw [(u4 h4).1]; exact k)
        | (rw [(u3 (by omega)).1] at k; exact k)
theorem z12w {ah : zH} {L : Nat} {g : Nat → Value} {l : Int → Int} (h : ∀ j : Nat, j < 12 → g j = .int (zi (l j))) {i x : Int} (hi : pR i) (hx : l i = x) : zA12 (z_up ah L (.inr (.int, 12, z_upV g i.toNat (.int (zi x))))) L l := by
  have w := z12u (ah := ah) (r := L) h (x := x) hi
  rw [show z_upF l i x = l from by funext j; exact (show (if j = i then x else l j) = l j from by split <;> simp_all)] at w
  exact w
theorem zMg0 {s l r : Int → Int} {e : Int → Nat} {c : Int} {k : Nat} {a b : Int} (h : pMg s l r e c k a b) : pMg s l r e (c - 0) k a b := by rw [Int.sub_zero]; exact h
theorem kX2_mergeI {G : State} {d rc rs : Nat} {Q : zRs → zH → Prop} {ahB : zH} {F U : Nat → Prop} {a w e n l : Nat} {s : Int → Int} {mc : Int} {f g : Nat → Value} {ps : List Nat} {tv : Value} {L : Nat} (H : zSt G F U ahB a s w e n mc f ps l g tv) (hV : pV s) (hY : pSy s) (hd : 200 ≤ d) (hL0 : ahB L = none) {x : Nat} (hx : (x : Int) < s 0) (n9 : Nat) : ∀ (y : Nat) (ah : zH) (lv r : Int → Int) (e : Int → Nat) (c : Int) (kk : Nat) (J : Option Value), y + n9 = x → kk ≤ 12 * x + y → zGr ahB ah → zA12 ah L lv → pMg s lv r e c kk x y → (∀ ah9 lv9 r9 e9 c9 kk9 I9 J9, kk9 ≤ 12 * x + 12 → zGr ahB ah9 → zA12 ah9 L lv9 → pMg s lv9 r9 e9 c9 kk9 x x → zW G mX2_componentsByMerging d rc rs 123 [some (.ref a), some (.ref L), some (.int (zi c9)), some (.int (zi (x : Nat))), I9, J9] [] ah9 Q) → zW G mX2_componentsByMerging d rc rs 41 [some (.ref a), some (.ref L), some (.int (zi c)), some (.int (zi (x : Nat))), some (.int (zi ((y : Nat) : Int))), J] [] ah Q := by
  induction n9 with
  | zero =>
    intro y ah lv r e c kk J g1 g2 g3 g4 g5 k
    have vv := hV.h
    have hxr : pR (x : Int) := ⟨by omega, by omega⟩
    have hyr : pR (y : Int) := ⟨by omega, by omega⟩
    have tb := hV.tr hxr hyr
    obtain ⟨gL, l1, l2⟩ := id g4
    have hU := g5.1
    obtain ⟨-, rx, -, -, rx5, rx6⟩ := hU x hxr
    obtain ⟨-, ry, -, -, ry5, ry6⟩ := hU y hyr
    obtain ⟨rx0, rx1⟩ := id rx
    obtain ⟨ry0, ry1⟩ := id ry
    refine zr_iload dX2_componentsByMerging_41 rfl ?_
    refine zr_iload_n dX2_componentsByMerging_43 rfl ?_
    refine zr_icmpge dX2_componentsByMerging_44 (tgt := 123) (by decide) (by omega) (by omega) (fun h44 => ?_) (fun h44 => ?_)
    · have e9 : y = x := by omega
      subst e9
      exact k ah lv r e c kk _ _ (by omega) g3 g4 g5
    · exfalso; omega
  | succ n9 ih =>
    intro y ah lv r e c kk J g1 g2 g3 g4 g5 k
    have vv := hV.h
    have hxr : pR (x : Int) := ⟨by omega, by omega⟩
    have hyr : pR (y : Int) := ⟨by omega, by omega⟩
    have tb := hV.tr hxr hyr
    obtain ⟨gL, l1, l2⟩ := id g4
    have hU := g5.1
    obtain ⟨-, rx, -, -, rx5, rx6⟩ := hU x hxr
    obtain ⟨-, ry, -, -, ry5, ry6⟩ := hU y hyr
    obtain ⟨rx0, rx1⟩ := id rx
    obtain ⟨ry0, ry1⟩ := id ry
    refine zr_iload dX2_componentsByMerging_41 rfl ?_
    refine zr_iload_n dX2_componentsByMerging_43 rfl ?_
    refine zr_icmpge dX2_componentsByMerging_44 (tgt := 123) (by decide) (by omega) (by omega) (fun h44 => ?_) (fun h44 => ?_)
    · exfalso; omega
    · refine zr_aload_n dX2_componentsByMerging_47 rfl rfl ?_
      refine zr_iload_n dX2_componentsByMerging_48 rfl ?_
      refine zr_iload dX2_componentsByMerging_49 rfl ?_
      refine zc_v2 dX2_componentsByMerging_51 hX2_lengthOf gX2_lengthOf rfl rfl 0 0 0 (by omega) (Nat.zero_le _) (Nat.zero_le _) q345 q346 q347 (H.gr g3).rc ?_
      refine kX2_lengthOf (H.gr g3) hxr hyr (zK_i ?_)
      refine zr_ifle dX2_componentsByMerging_54 (tgt := 75) (by decide) (by omega) (fun h54 => ?_) (fun h54 => ?_)
      · refine zr_iconst dX2_componentsByMerging_75 ?_
        refine zr_istore dX2_componentsByMerging_76 (by decide) (zs6_5 rfl ?_)
        refine zr_aload_n dX2_componentsByMerging_78 rfl rfl ?_
        refine zr_aload_n dX2_componentsByMerging_79 rfl rfl ?_
        refine zr_iload_n dX2_componentsByMerging_80 rfl ?_
        refine zc_s2 dX2_componentsByMerging_81 hX2_leaderOf gX2_leaderOf rfl rfl 190 0 0 (by omega) (Nat.zero_le _) (Nat.zero_le _) q360 q361 ?_
        refine kX2_leaderOf g4 hU 190 _ _ _ _ (x : Nat) (by omega) (Nat.le_refl _) hxr (zK_i ?_)
        refine zr_iload dX2_componentsByMerging_84 rfl ?_
        refine zr_ifeq dX2_componentsByMerging_86 (tgt := 98) (by decide) (by decide) (fun _ => ?_) (fun h => absurd h (by decide))
        refine zr_aload_n dX2_componentsByMerging_98 rfl rfl ?_
        refine zr_iload_n dX2_componentsByMerging_99 rfl ?_
        refine zc_s2 dX2_componentsByMerging_100 hX2_leaderOf gX2_leaderOf rfl rfl 190 0 0 (by omega) (Nat.zero_le _) (Nat.zero_le _) q360 q361 ?_
        refine kX2_leaderOf g4 hU 190 _ _ _ _ (x : Nat) (by omega) (Nat.le_refl _) hxr (zK_i ?_)
        refine zr_iastore dX2_componentsByMerging_103 l1 (by decide) (by omega) ?_
        refine zr_iload_n dX2_componentsByMerging_104 rfl ?_
        refine zr_iload dX2_componentsByMerging_105 rfl ?_
        refine zr_ifeq dX2_componentsByMerging_107 (tgt := 114) (by decide) (by decide) (fun _ => ?_) (fun h => absurd h (by decide))
        refine zr_iconst dX2_componentsByMerging_114 ?_
        refine zr_isub dX2_componentsByMerging_115 ?_
        refine zr_istore_n dX2_componentsByMerging_116 (by decide) (zs6_2 rfl ?_)
        refine zr_iinc dX2_componentsByMerging_117 rfl (by decide) (zs6_4 rfl ?_)
        refine zr_goto dX2_componentsByMerging_120 (tgt := 41) (by decide) ?_
        refine ih (y + 1) _ _ _ _ _ kk _ (by omega) (by omega) (g3.tu hL0) (z12w l2 rx rx5) (zMg0 (g5.keep (fun z => by omega))) k
      · refine zr_aload_n dX2_componentsByMerging_57 rfl rfl ?_
        refine zr_iload_n dX2_componentsByMerging_58 rfl ?_
        refine zc_s2 dX2_componentsByMerging_59 hX2_leaderOf gX2_leaderOf rfl rfl 190 0 0 (by omega) (Nat.zero_le _) (Nat.zero_le _) q360 q361 ?_
        refine kX2_leaderOf g4 hU 190 _ _ _ _ (x : Nat) (by omega) (Nat.le_refl _) hxr (zK_i ?_)
        refine zr_aload_n dX2_componentsByMerging_62 rfl rfl ?_
        refine zr_iload dX2_componentsByMerging_63 rfl ?_
        refine zc_s2 dX2_componentsByMerging_65 hX2_leaderOf gX2_leaderOf rfl rfl 190 0 0 (by omega) (Nat.zero_le _) (Nat.zero_le _) q360 q361 ?_
        refine kX2_leaderOf g4 hU 190 _ _ _ _ (y : Nat) (by omega) (Nat.le_refl _) hyr (zK_i ?_)
        refine zr_icmpeq dX2_componentsByMerging_68 (tgt := 75) (by decide) (by omega) (by omega) (fun h68 => ?_) (fun h68 => ?_)
        · refine zr_iconst dX2_componentsByMerging_75 ?_
          refine zr_istore dX2_componentsByMerging_76 (by decide) (zs6_5 rfl ?_)
          refine zr_aload_n dX2_componentsByMerging_78 rfl rfl ?_
          refine zr_aload_n dX2_componentsByMerging_79 rfl rfl ?_
          refine zr_iload_n dX2_componentsByMerging_80 rfl ?_
          refine zc_s2 dX2_componentsByMerging_81 hX2_leaderOf gX2_leaderOf rfl rfl 190 0 0 (by omega) (Nat.zero_le _) (Nat.zero_le _) q360 q361 ?_
          refine kX2_leaderOf g4 hU 190 _ _ _ _ (x : Nat) (by omega) (Nat.le_refl _) hxr (zK_i ?_)
          refine zr_iload dX2_componentsByMerging_84 rfl ?_
          refine zr_ifeq dX2_componentsByMerging_86 (tgt := 98) (by decide) (by decide) (fun _ => ?_) (fun h => absurd h (by decide))
          refine zr_aload_n dX2_componentsByMerging_98 rfl rfl ?_
          refine zr_iload_n dX2_componentsByMerging_99 rfl ?_
          refine zc_s2 dX2_componentsByMerging_100 hX2_leaderOf gX2_leaderOf rfl rfl 190 0 0 (by omega) (Nat.zero_le _) (Nat.zero_le _) q360 q361 ?_
          refine kX2_leaderOf g4 hU 190 _ _ _ _ (x : Nat) (by omega) (Nat.le_refl _) hxr (zK_i ?_)
          refine zr_iastore dX2_componentsByMerging_103 l1 (by decide) (by omega) ?_
          refine zr_iload_n dX2_componentsByMerging_104 rfl ?_
          refine zr_iload dX2_componentsByMerging_105 rfl ?_
          refine zr_ifeq dX2_componentsByMerging_107 (tgt := 114) (by decide) (by decide) (fun _ => ?_) (fun h => absurd h (by decide))
          refine zr_iconst dX2_componentsByMerging_114 ?_
          refine zr_isub dX2_componentsByMerging_115 ?_
          refine zr_istore_n dX2_componentsByMerging_116 (by decide) (zs6_2 rfl ?_)
          refine zr_iinc dX2_componentsByMerging_117 rfl (by decide) (zs6_4 rfl ?_)
          refine zr_goto dX2_componentsByMerging_120 (tgt := 41) (by decide) ?_
          refine ih (y + 1) _ _ _ _ _ kk _ (by omega) (by omega) (g3.tu hL0) (z12w l2 rx rx5) (zMg0 (g5.keep (fun z => by omega))) k
        · refine zr_iconst dX2_componentsByMerging_71 ?_
          refine zr_goto dX2_componentsByMerging_72 (tgt := 76) (by decide) ?_
          refine zr_istore dX2_componentsByMerging_76 (by decide) (zs6_5 rfl ?_)
          refine zr_aload_n dX2_componentsByMerging_78 rfl rfl ?_
          refine zr_aload_n dX2_componentsByMerging_79 rfl rfl ?_
          refine zr_iload_n dX2_componentsByMerging_80 rfl ?_
          refine zc_s2 dX2_componentsByMerging_81 hX2_leaderOf gX2_leaderOf rfl rfl 190 0 0 (by omega) (Nat.zero_le _) (Nat.zero_le _) q360 q361 ?_
          refine kX2_leaderOf g4 hU 190 _ _ _ _ (x : Nat) (by omega) (Nat.le_refl _) hxr (zK_i ?_)
          refine zr_iload dX2_componentsByMerging_84 rfl ?_
          refine zr_ifeq dX2_componentsByMerging_86 (tgt := 98) (by decide) (by decide) (fun h => absurd h (by decide)) (fun _ => ?_)
          refine zr_aload_n dX2_componentsByMerging_89 rfl rfl ?_
          refine zr_iload dX2_componentsByMerging_90 rfl ?_
          refine zc_s2 dX2_componentsByMerging_92 hX2_leaderOf gX2_leaderOf rfl rfl 190 0 0 (by omega) (Nat.zero_le _) (Nat.zero_le _) q360 q361 ?_
          refine kX2_leaderOf g4 hU 190 _ _ _ _ (y : Nat) (by omega) (Nat.le_refl _) hyr (zK_i ?_)
          refine zr_goto dX2_componentsByMerging_95 (tgt := 103) (by decide) ?_
          refine zr_iastore dX2_componentsByMerging_103 l1 (by decide) (by omega) ?_
          refine zr_iload_n dX2_componentsByMerging_104 rfl ?_
          refine zr_iload dX2_componentsByMerging_105 rfl ?_
          refine zr_ifeq dX2_componentsByMerging_107 (tgt := 114) (by decide) (by decide) (fun h => absurd h (by decide)) (fun _ => ?_)
          refine zr_iconst dX2_componentsByMerging_110 ?_
          refine zr_goto dX2_componentsByMerging_111 (tgt := 115) (by decide) ?_
          refine zr_isub dX2_componentsByMerging_115 ?_
          refine zr_istore_n dX2_componentsByMerging_116 (by decide) (zs6_2 rfl ?_)
          refine zr_iinc dX2_componentsByMerging_117 rfl (by decide) (zs6_4 rfl ?_)
          refine zr_goto dX2_componentsByMerging_120 (tgt := 41) (by decide) ?_
          exact ih (y + 1) _ _ _ _ _ (kk + 1) _ (by omega) (by omega) (g3.tu hL0) (z12u l2 rx) (g5.merge hV hY hxr hyr (by omega) (by omega)) k
theorem kX2_mergeO {G : State} {d rc rs : Nat} {Q : zRs → zH → Prop} {ahB : zH} {F U : Nat → Prop} {a w e n l : Nat} {s : Int → Int} {mc : Int} {f g : Nat → Value} {ps : List Nat} {tv : Value} {L : Nat} (H : zSt G F U ahB a s w e n mc f ps l g tv) (hV : pV s) (hY : pSy s) (hd : 200 ≤ d) (hL0 : ahB L = none) (n9 : Nat) : ∀ (x : Nat) (ah : zH) (lv r : Int → Int) (e : Int → Nat) (c : Int) (kk : Nat) (I J : Option Value), ((x + n9 : Nat) : Int) = s 0 → kk ≤ 12 * x → zGr ahB ah → zA12 ah L lv → pMg s lv r e c kk x 0 → (∀ ah9, zGr ahB ah9 → Q (.inl (some (.int (zi (pCo s (s 0).toNat))))) ah9) → zW G mX2_componentsByMerging d rc rs 30 [some (.ref a), some (.ref L), some (.int (zi c)), some (.int (zi ((x : Nat) : Int))), I, J] [] ah Q := by
  induction n9 with
  | zero =>
    intro x ah lv r e c kk I J g1 g2 g3 g4 g5 k
    have vv := hV.h
    refine zr_iload_n dX2_componentsByMerging_30 rfl ?_
    refine zr_aload_n dX2_componentsByMerging_31 rfl rfl ?_
    refine zc_v0 dX2_componentsByMerging_32 hX2_size gX2_size rfl rfl 1 0 0 (by omega) (Nat.zero_le _) (Nat.zero_le _) q336 q307 q308 (H.gr g3).rc ?_
    refine kX2_size (H.gr g3) (by omega) (zK_i ?_)
    refine zr_icmpge dX2_componentsByMerging_35 (tgt := 129) (by decide) (by omega) (by omega) (fun h35 => ?_) (fun h35 => ?_)
    · refine zr_iload_n dX2_componentsByMerging_129 rfl ?_
      refine zr_ireturn dX2_componentsByMerging_130 rfl (by first | rfl | exact z_nb _) ?_
      have w := (show pMg s lv r e c kk (s 0) 0 from by rw [show s 0 = (x : Int) by omega]; exact g5).done hV hY (Int.le_refl _)
      rw [w]
      exact k ah g3
    · exfalso; omega
  | succ n9 ih =>
    intro x ah lv r e c kk I J g1 g2 g3 g4 g5 k
    have vv := hV.h
    refine zr_iload_n dX2_componentsByMerging_30 rfl ?_
    refine zr_aload_n dX2_componentsByMerging_31 rfl rfl ?_
    refine zc_v0 dX2_componentsByMerging_32 hX2_size gX2_size rfl rfl 1 0 0 (by omega) (Nat.zero_le _) (Nat.zero_le _) q336 q307 q308 (H.gr g3).rc ?_
    refine kX2_size (H.gr g3) (by omega) (zK_i ?_)
    refine zr_icmpge dX2_componentsByMerging_35 (tgt := 129) (by decide) (by omega) (by omega) (fun h35 => ?_) (fun h35 => ?_)
    · exfalso; omega
    · refine zr_iconst dX2_componentsByMerging_38 ?_
      refine zr_istore dX2_componentsByMerging_39 (by decide) (zs6_4 rfl ?_)
      refine kX2_mergeI H hV hY hd hL0 (x := x) (by omega) x 0 ah lv r e c kk _ (by omega) (by omega) g3 g4 g5 (fun ah9 lv9 r9 e9 c9 kk9 I9 J9 q1 q2 q3 q4 => ?_)
      refine zr_iinc dX2_componentsByMerging_123 rfl (by decide) (zs6_3 rfl ?_)
      refine zr_goto dX2_componentsByMerging_126 (tgt := 30) (by decide) ?_
      exact ih (x + 1) ah9 lv9 r9 e9 c9 kk9 I9 J9 (by omega) (by omega) q2 q3 (q4.row (Int.le_refl _)) k
theorem kX2_mergeN {G : State} {d rc rs : Nat} {Q : zRs → zH → Prop} {ahB : zH} {F U : Nat → Prop} {a w e n l : Nat} {s : Int → Int} {mc : Int} {f g : Nat → Value} {ps : List Nat} {tv : Value} {L : Nat} (H : zSt G F U ahB a s w e n mc f ps l g tv) (hV : pV s) (hY : pSy s) (hd : 200 ≤ d) (hL0 : ahB L = none) (n9 : Nat) : ∀ (i : Nat) (ah : zH) (gL : Nat → Value), i + n9 = 12 → zGr ahB ah → ah L = some (.inr (.int, 12, gL)) → (∀ j : Nat, j < i → gL j = .int (zi ((j : Nat) : Int))) → (∀ ah9, zGr ahB ah9 → zA12 ah9 L (fun j => j) → zW G mX2_componentsByMerging d rc rs 23 [some (.ref a), some (.ref L), some (.int (zi 12)), none, none, none] [] ah9 Q) → zW G mX2_componentsByMerging d rc rs 7 [some (.ref a), some (.ref L), some (.int (zi ((i : Nat) : Int))), none, none, none] [] ah Q := by
  induction n9 with
  | zero =>
    intro i ah gL g1 g2 g3 g4 k
    refine zr_iload_n dX2_componentsByMerging_7 rfl ?_
    refine zr_bipush dX2_componentsByMerging_8 rfl ?_
    refine zr_icmpge dX2_componentsByMerging_10 (tgt := 23) (by decide) (by omega) (by omega) (fun h10 => ?_) (fun h10 => ?_)
    · obtain rfl : i = 12 := by omega
      exact k ah g2 ⟨gL, g3, fun j hj => g4 j (by omega)⟩
    · exfalso; omega
  | succ n9 ih =>
    intro i ah gL g1 g2 g3 g4 k
    refine zr_iload_n dX2_componentsByMerging_7 rfl ?_
    refine zr_bipush dX2_componentsByMerging_8 rfl ?_
    refine zr_icmpge dX2_componentsByMerging_10 (tgt := 23) (by decide) (by omega) (by omega) (fun h10 => ?_) (fun h10 => ?_)
    · exfalso; omega
    · refine zr_aload_n dX2_componentsByMerging_13 rfl rfl ?_
      refine zr_iload_n dX2_componentsByMerging_14 rfl ?_
      refine zr_iload_n dX2_componentsByMerging_15 rfl ?_
      refine zr_iastore dX2_componentsByMerging_16 g3 (by decide) (by omega) ?_
      refine zr_iinc dX2_componentsByMerging_17 rfl (by decide) (zs6_2 rfl ?_)
      refine zr_goto dX2_componentsByMerging_20 (tgt := 7) (by decide) ?_
      refine ih (i + 1) _ _ (by omega) (g2.tu hL0) z_up_s (fun j hj => ?_) k
      unfold z_upV
      by_cases e : j = i
      · rw [if_pos (by omega), e]
      · rw [if_neg (by omega)]; exact g4 j (by omega)
theorem kX2_componentsByMerging {G : State} {d rc rs : Nat} {ah : zH} {Q : zRs → zH → Prop} {F U : Nat → Prop} {a w e n l : Nat} {s : Int → Int} {mc : Int} {f g : Nat → Value} {ps : List Nat} {tv : Value} (H : zSt G F U ah a s w e n mc f ps l g tv) (hV : pV s) (hY : pSy s) (hd : 200 ≤ d) (hc : 1 ≤ rc) (hs : 12 ≤ rs) (k : ∀ ah9, zGr ah ah9 → Q (.inl (some (.int (zi (pCo s (s 0).toNat))))) ah9) : zW G mX2_componentsByMerging d rc rs 0 (zent [.ref a]) [] ah Q := by
  refine zW_open 5 [some (.ref a), none, none, none, none, none] rfl ?_
  have vv := hV.h
  refine zr_bipush dX2_componentsByMerging_0 rfl ?_
  refine zr_newarray (ty := .int) dX2_componentsByMerging_2 rfl q222 (fun _ z => by cases z) (by omega) (by omega) (by show (12 : Int).toNat ≤ _; simp; omega) (fun L hL0 => ?_)
  refine zr_astore_n dX2_componentsByMerging_4 (by decide) rfl (zs6_1 rfl ?_)
  refine zr_iconst dX2_componentsByMerging_5 ?_
  refine zr_istore_n dX2_componentsByMerging_6 (by decide) (zs6_2 rfl ?_)
  refine kX2_mergeN H hV hY hd hL0 12 0 _ (fun _ => defaultValue .int) (by omega) (zGr.up hL0) z_up_s (fun j hj => by omega) (fun ah1 q1 q2 => ?_)
  refine zr_aload_n dX2_componentsByMerging_23 rfl rfl ?_
  refine zc_v0 dX2_componentsByMerging_24 hX2_size gX2_size rfl rfl 1 0 0 (by omega) (Nat.zero_le _) (Nat.zero_le _) q336 q307 q308 (H.gr q1).rc ?_
  refine kX2_size (H.gr q1) (by omega) (zK_i ?_)
  refine zr_istore_n dX2_componentsByMerging_27 (by decide) (zs6_2 rfl ?_)
  refine zr_iconst dX2_componentsByMerging_28 ?_
  refine zr_istore_n dX2_componentsByMerging_29 (by decide) (zs6_3 rfl ?_)
  exact kX2_mergeO H hV hY hd hL0 (s 0).toNat 0 ah1 _ _ _ _ 0 _ _ (by omega) (by omega) q1 q2 (pMg.ini hV) k
