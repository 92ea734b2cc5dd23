set_option maxRecDepth 100000
/-! ===== the component: loops of the state ===== -/
theorem zSt.el2 {G : State} {F U : Nat → Prop} {ah : zH} {a w e n l : Nat} {s : Int → Int} {mc : Int} {f g : Nat → Value} {ps : List Nat} {tv : Value} (H : zSt G F U ah a s w e n mc f ps l g tv) {i : Nat} (hi : i < 144) : g ((i : Nat) : Int).toNat = .int (zi (s (48 + (i : Int)))) := by
  rw [Int.toNat_natCast]; exact H.2.2.2.2.2.1 i hi
theorem kX2_countTrailsL {G : State} {d rc rs : Nat} {ah : zH} {Q : zRs → zH → Prop} {F U : Nat → Prop} {a w e n l : Nat} {s : Int → Int} {mc : Int} {f g : Nat → Value} {ps : List Nat} {tv : Value} (H : zSt G F U ah a s w e n mc f ps l g tv) (hV : pV s) (n9 : Nat) : ∀ (i : Nat) (N : Int) (J : Option Value), i + n9 = 144 → N = pT2 s i → (∀ (i J : Option Value), zW G mX2_countTrails d rc rs 44 [some (.ref a), some (.int (zi (pT2 s 144))), some (.ref l), some (.int (zi 144)), i, J] [] ah Q) → zW G mX2_countTrails d rc rs 13 [some (.ref a), some (.int (zi (N))), some (.ref l), some (.int (zi 144)), some (.int (zi ((i : Nat) : Int))), J] [] ah Q := by
  induction n9 with
  | zero =>
    intro i N J g1 g2 k
    refine zr_iload dX2_countTrails_13 rfl ?_
    refine zr_iload_n dX2_countTrails_15 rfl ?_
    refine zr_icmpge dX2_countTrails_16 (tgt := 44) (by decide) (by omega) (by omega) (fun h16 => ?_) (fun h16 => ?_)
    · obtain rfl : i = 144 := by omega
      rw [g2]
      exact k _ _
    · exfalso; omega
  | succ n9 ih =>
    intro i N J g1 g2 k
    have hi9 : i < 144 := by omega
    refine zr_iload dX2_countTrails_13 rfl ?_
    refine zr_iload_n dX2_countTrails_15 rfl ?_
    refine zr_icmpge dX2_countTrails_16 (tgt := 44) (by decide) (by omega) (by omega) (fun h16 => ?_) (fun h16 => ?_)
    · exfalso; omega
    · refine zr_aload_n dX2_countTrails_19 rfl rfl ?_
      refine zr_iload dX2_countTrails_20 rfl ?_
      refine zr_iaload dX2_countTrails_22 (Or.inl H.2.2.2.2.1) (by decide) (by omega) (H.el2 (by omega)) ?_
      have hb := pT2_b (s := s) i
      have hx := hV.1 (48 + (i : Int))
      refine zr_istore dX2_countTrails_23 (by decide) (zs6_5 rfl ?_)
      refine zr_iload_n dX2_countTrails_25 rfl ?_
      refine zr_iload dX2_countTrails_26 rfl ?_
      refine zr_ifle dX2_countTrails_28 (tgt := 35) (by decide) (by omega) (fun h28 => ?_) (fun h28 => ?_)
      · refine zr_iconst dX2_countTrails_35 ?_
        refine zr_iadd dX2_countTrails_36 ?_
        refine zr_istore_n dX2_countTrails_37 (by decide) (zs6_1 rfl ?_)
        refine zr_iinc dX2_countTrails_38 rfl (by decide) (zs6_4 rfl ?_)
        refine zr_goto dX2_countTrails_41 (tgt := 13) (by decide) ?_
        refine ih (i + 1) _ _ (by omega) ?_ k
        rw [g2, pT2_s]
        first
          | rw [if_pos (by omega)]
          | rw [if_neg (by omega)]
      · refine zr_iconst dX2_countTrails_31 ?_
        refine zr_goto dX2_countTrails_32 (tgt := 36) (by decide) ?_
        refine zr_iadd dX2_countTrails_36 ?_
        refine zr_istore_n dX2_countTrails_37 (by decide) (zs6_1 rfl ?_)
        refine zr_iinc dX2_countTrails_38 rfl (by decide) (zs6_4 rfl ?_)
        refine zr_goto dX2_countTrails_41 (tgt := 13) (by decide) ?_
        refine ih (i + 1) _ _ (by omega) ?_ k
        rw [g2, pT2_s]
        first
          | rw [if_pos (by omega)]
          | rw [if_neg (by omega)]
theorem kX2_countTrails {G : State} {d rc rs : Nat} {ah : zH} {Q : zRs → zH → Prop} {F U : Nat → Prop} {a w e n l : Nat} {s : Int → Int} {mc : Int} {f g : Nat → Value} {ps : List Nat} {tv : Value} (H : zSt G F U ah a s w e n mc f ps l g tv) (hV : pV s) (k : Q (.inl (some (.int (zi (pT2 s 144 / 2))))) ah) : zW G mX2_countTrails d rc rs 0 (zent [.ref a]) [] ah Q := by
  refine zW_open 5 [some (.ref a), none, none, none, none, none] rfl ?_
  refine zr_iconst dX2_countTrails_0 ?_
  refine zr_istore_n dX2_countTrails_1 (by decide) (zs6_1 rfl ?_)
  refine zr_aload_n dX2_countTrails_2 rfl rfl ?_
  refine zr_getf dX2_countTrails_3 nX2 (k := 1) (by decide) q184 (Or.inl rfl) H.1 rfl ?_
  refine zr_astore_n dX2_countTrails_6 (by decide) rfl (zs6_2 rfl ?_)
  refine zr_aload_n dX2_countTrails_7 rfl rfl ?_
  refine zr_alen dX2_countTrails_8 (Or.inl H.2.2.2.2.1) ?_
  refine zr_istore_n dX2_countTrails_9 (by decide) (zs6_3 rfl ?_)
  refine zr_iconst dX2_countTrails_10 ?_
  refine zr_istore dX2_countTrails_11 (by decide) (zs6_4 rfl ?_)
  refine kX2_countTrailsL H hV 144 0 _ _ (by omega) rfl (fun i9 j9 => ?_)
  have hb := pT2_b (s := s) 144
  refine zr_iload_n dX2_countTrails_44 rfl ?_
  refine zr_iconst dX2_countTrails_45 ?_
  refine zr_idiv dX2_countTrails_46 (by omega) (by omega) ?_
  refine zr_ireturn dX2_countTrails_47 rfl (by first | rfl | exact z_nb _) ?_
  exact k
theorem kX2_sumLengthsL {G : State} {d rc rs : Nat} {ah : zH} {Q : zRs → zH → Prop} {F U : Nat → Prop} {a w e n l : Nat} {s : Int → Int} {mc : Int} {f g : Nat → Value} {ps : List Nat} {tv : Value} (H : zSt G F U ah a s w e n mc f ps l g tv) (hV : pV s) (n9 : Nat) : ∀ (i : Nat) (N : Int) (J : Option Value), i + n9 = 144 → N = pS2 s i → (∀ (i J : Option Value), zW G mX2_sumLengths d rc rs 36 [some (.ref a), some (.int (zi (pS2 s 144))), some (.ref l), some (.int (zi 144)), i, J] [] ah Q) → zW G mX2_sumLengths d rc rs 13 [some (.ref a), some (.int (zi (N))), some (.ref l), some (.int (zi 144)), some (.int (zi ((i : Nat) : Int))), J] [] ah Q := by
  induction n9 with
  | zero =>
    intro i N J g1 g2 k
    refine zr_iload dX2_sumLengths_13 rfl ?_
    refine zr_iload_n dX2_sumLengths_15 rfl ?_
    refine zr_icmpge dX2_sumLengths_16 (tgt := 36) (by decide) (by omega) (by omega) (fun h16 => ?_) (fun h16 => ?_)
    · obtain rfl : i = 144 := by omega
      rw [g2]
      exact k _ _
    · exfalso; omega
  | succ n9 ih =>
    intro i N J g1 g2 k
    have hi9 : i < 144 := by omega
    refine zr_iload dX2_sumLengths_13 rfl ?_
    refine zr_iload_n dX2_sumLengths_15 rfl ?_
    refine zr_icmpge dX2_sumLengths_16 (tgt := 36) (by decide) (by omega) (by omega) (fun h16 => ?_) (fun h16 => ?_)
    · exfalso; omega
    · refine zr_aload_n dX2_sumLengths_19 rfl rfl ?_
      refine zr_iload dX2_sumLengths_20 rfl ?_
      refine zr_iaload dX2_sumLengths_22 (Or.inl H.2.2.2.2.1) (by decide) (by omega) (H.el2 (by omega)) ?_
      have hb := pS2_b hV i (by omega)
      have hx := hV.1 (48 + (i : Int))
      refine zr_istore dX2_sumLengths_23 (by decide) (zs6_5 rfl ?_)
      refine zr_iload_n dX2_sumLengths_25 rfl ?_
      refine zr_iload dX2_sumLengths_26 rfl ?_
      refine zr_iadd dX2_sumLengths_28 ?_
      refine zr_istore_n dX2_sumLengths_29 (by decide) (zs6_1 rfl ?_)
      refine zr_iinc dX2_sumLengths_30 rfl (by decide) (zs6_4 rfl ?_)
      refine zr_goto dX2_sumLengths_33 (tgt := 13) (by decide) ?_
      refine ih (i + 1) _ _ (by omega) ?_ k
      rw [g2, pS2_s]
theorem kX2_sumLengths {G : State} {d rc rs : Nat} {ah : zH} {Q : zRs → zH → Prop} {F U : Nat → Prop} {a w e n l : Nat} {s : Int → Int} {mc : Int} {f g : Nat → Value} {ps : List Nat} {tv : Value} (H : zSt G F U ah a s w e n mc f ps l g tv) (hV : pV s) (k : Q (.inl (some (.int (zi (pS2 s 144 / 2))))) ah) : zW G mX2_sumLengths d rc rs 0 (zent [.ref a]) [] ah Q := by
  refine zW_open 5 [some (.ref a), none, none, none, none, none] rfl ?_
  refine zr_iconst dX2_sumLengths_0 ?_
  refine zr_istore_n dX2_sumLengths_1 (by decide) (zs6_1 rfl ?_)
  refine zr_aload_n dX2_sumLengths_2 rfl rfl ?_
  refine zr_getf dX2_sumLengths_3 nX2 (k := 1) (by decide) q184 (Or.inl rfl) H.1 rfl ?_
  refine zr_astore_n dX2_sumLengths_6 (by decide) rfl (zs6_2 rfl ?_)
  refine zr_aload_n dX2_sumLengths_7 rfl rfl ?_
  refine zr_alen dX2_sumLengths_8 (Or.inl H.2.2.2.2.1) ?_
  refine zr_istore_n dX2_sumLengths_9 (by decide) (zs6_3 rfl ?_)
  refine zr_iconst dX2_sumLengths_10 ?_
  refine zr_istore dX2_sumLengths_11 (by decide) (zs6_4 rfl ?_)
  refine kX2_sumLengthsL H hV 144 0 _ _ (by omega) rfl (fun i9 j9 => ?_)
  have hb := pS2_b hV 144 (by omega)
  refine zr_iload_n dX2_sumLengths_36 rfl ?_
  refine zr_iconst dX2_sumLengths_37 ?_
  refine zr_idiv dX2_sumLengths_38 (by omega) (by omega) ?_
  refine zr_ireturn dX2_sumLengths_39 rfl (by first | rfl | exact z_nb _) ?_
  exact k
/-- an array of twelve ints -/
def zA12 (ah : zH) (r : Nat) (v : Int → Int) : Prop := ∃ g : Nat → Value, ah r = some (.inr (.int, 12, g)) ∧ ∀ j : Nat, j < 12 → g j = .int (zi (v j))
def zB12 (ah : zH) (r : Nat) (v : Int → Bool) : Prop := ∃ g : Nat → Value, ah r = some (.inr (.boolean, 12, g)) ∧ ∀ j : Nat, j < 12 → g j = .int (zi (zB (v j)))
theorem zA12.gr {ah ah' : zH} {r : Nat} {v : Int → Int} (h : zA12 ah r v) (g : zGr ah ah') : zA12 ah' r v := by obtain ⟨x, h1, h2⟩ := h; exact ⟨x, g _ _ h1, h2⟩
theorem zB12.gr {ah ah' : zH} {r : Nat} {v : Int → Bool} (h : zB12 ah r v) (g : zGr ah ah') : zB12 ah' r v := by obtain ⟨x, h1, h2⟩ := h; exact ⟨x, g _ _ h1, h2⟩
theorem z12e {g : Nat → Value} {v : Int → Int} (h : ∀ j : Nat, j < 12 → g j = .int (zi (v j))) {i : Int} (hi : pR i) : g i.toNat = .int (zi (v i)) := by
  obtain ⟨h0, h1⟩ := hi
  rw [h _ (by omega), show ((i.toNat : Nat) : Int) = i by omega]
theorem z12b {g : Nat → Value} {v : Int → Bool} (h : ∀ j : Nat, j < 12 → g j = .int (zi (zB (v j)))) {i : Int} (hi : pR i) : g i.toNat = .int (zi (zB (v i))) := by
  obtain ⟨h0, h1⟩ := hi
  rw [h _ (by omega), show ((i.toNat : Nat) : Int) = i by omega]
theorem z12u {ah : zH} {r : Nat} {g : Nat → Value} {v : Int → Int} (h : ∀ j : Nat, j < 12 → g j = .int (zi (v j))) {i x : Int} (hi : pR i) : zA12 (z_up ah r (.inr (.int, 12, z_upV g i.toNat (.int (zi x))))) r (z_upF v i x) := by
  obtain ⟨h0, h1⟩ := hi
  refine ⟨_, z_up_s, fun j hj => ?_⟩
  unfold z_upV z_upF
  by_cases e : j = i.toNat
  · rw [if_pos e, if_pos (by omega)]
  · rw [if_neg e, if_neg (by omega)]; exact h j hj
theorem z12v {ah : zH} {r : Nat} {g : Nat → Value} {v : Int → Bool} (h : ∀ j : Nat, j < 12 → g j = .int (zi (zB (v j)))) {i : Int} {x : Bool} (hi : pR i) : zB12 (z_up ah r (.inr (.boolean, 12, z_upV g i.toNat (.int (zi (zB x)))))) r (z_upB v i x) := by
  obtain ⟨h0, h1⟩ := hi
  refine ⟨_, z_up_s, fun j hj => ?_⟩
  unfold z_upV z_upB
  by_cases e : j = i.toNat
  · rw [if_pos e, if_pos (by omega)]
  · rw [if_neg e, if_neg (by omega)]; exact h j hj
theorem pS12_b {v : Int → Int} (hv : ∀ j, pR j → 0 ≤ v j ∧ v j ≤ 1000000) : ∀ n : Nat, n ≤ 12 → 0 ≤ pSum n (fun k => v k) ∧ pSum n (fun k => v k) ≤ 1000000 * n := by
  intro n
  induction n with
  | zero => intro _; exact ⟨Int.le_refl _, by show (0 : Int) ≤ _; omega⟩
  | succ n ih =>
    intro h
    have := ih (by omega)
    have := hv (n : Int) ⟨by omega, by omega⟩
    show 0 ≤ pSum n (fun k => v k) + v n ∧ pSum n (fun k => v k) + v n ≤ _
    omega
theorem kX2_sumOfL {G : State} {d rc rs : Nat} {ah : zH} {Q : zRs → zH → Prop} {a r : Nat} {v : Int → Int} {g : Nat → Value} (hr : ah r = some (.inr (.int, 12, g))) (he : ∀ j : Nat, j < 12 → g j = .int (zi (v j))) (hv : ∀ j, pR j → 0 ≤ v j ∧ v j ≤ 1000000) (n9 : Nat) : ∀ (i : Nat) (N : Int) (J : Option Value), i + n9 = 12 → N = pSum i (fun k => v k) → (Q (.inl (some (.int (zi (pSum 12 (fun k => v k)))))) ah) → zW G mX2_sumOf d rc rs 11 [some (.ref a), some (.ref r), some (.int (zi (N))), some (.ref r), some (.int (zi 12)), some (.int (zi ((i : Nat) : Int))), J] [] ah Q := by
  induction n9 with
  | zero =>
    intro i N J g1 g2 k
    refine zr_iload dX2_sumOf_11 rfl ?_
    refine zr_iload dX2_sumOf_13 rfl ?_
    refine zr_icmpge dX2_sumOf_15 (tgt := 35) (by decide) (by omega) (by omega) (fun h15 => ?_) (fun h15 => ?_)
    · refine zr_iload_n dX2_sumOf_35 rfl ?_
      refine zr_ireturn dX2_sumOf_36 rfl (by first | rfl | exact z_nb _) ?_
      obtain rfl : i = 12 := by omega
      rw [g2]
      exact k
    · exfalso; omega
  | succ n9 ih =>
    intro i N J g1 g2 k
    have hi9 : i < 12 := by omega
    have hb := pS12_b hv i (by omega)
    have hx := hv (i : Int) ⟨by omega, by omega⟩
    refine zr_iload dX2_sumOf_11 rfl ?_
    refine zr_iload dX2_sumOf_13 rfl ?_
    refine zr_icmpge dX2_sumOf_15 (tgt := 35) (by decide) (by omega) (by omega) (fun h15 => ?_) (fun h15 => ?_)
    · exfalso; omega
    · refine zr_aload_n dX2_sumOf_18 rfl rfl ?_
      refine zr_iload dX2_sumOf_19 rfl ?_
      refine zr_iaload dX2_sumOf_21 (Or.inl hr) (by decide) (by omega) (z12e he ⟨by omega, by omega⟩) ?_
      refine zr_istore dX2_sumOf_22 (by decide) (zs7_6 rfl ?_)
      refine zr_iload_n dX2_sumOf_24 rfl ?_
      refine zr_iload dX2_sumOf_25 rfl ?_
      refine zr_iadd dX2_sumOf_27 ?_
      refine zr_istore_n dX2_sumOf_28 (by decide) (zs7_2 rfl ?_)
      refine zr_iinc dX2_sumOf_29 rfl (by decide) (zs7_5 rfl ?_)
      refine zr_goto dX2_sumOf_32 (tgt := 11) (by decide) ?_
      exact ih (i + 1) _ _ (by omega) (by rw [g2]; rfl) k
theorem kX2_sumOf {G : State} {d rc rs : Nat} {ah : zH} {Q : zRs → zH → Prop} {a r : Nat} {v : Int → Int} {g : Nat → Value} (hr : ah r = some (.inr (.int, 12, g))) (he : ∀ j : Nat, j < 12 → g j = .int (zi (v j))) (hv : ∀ j, pR j → 0 ≤ v j ∧ v j ≤ 1000000) (k : Q (.inl (some (.int (zi (pSum 12 (fun k => v k)))))) ah) : zW G mX2_sumOf d rc rs 0 (zent [.ref a, .ref r]) [] ah Q := by
  refine zW_open 5 [some (.ref a), some (.ref r), none, none, none, none, none] rfl ?_
  refine zr_iconst dX2_sumOf_0 ?_
  refine zr_istore_n dX2_sumOf_1 (by decide) (zs7_2 rfl ?_)
  refine zr_aload_n dX2_sumOf_2 rfl rfl ?_
  refine zr_astore_n dX2_sumOf_3 (by decide) rfl (zs7_3 rfl ?_)
  refine zr_aload_n dX2_sumOf_4 rfl rfl ?_
  refine zr_alen dX2_sumOf_5 (Or.inl hr) ?_
  refine zr_istore dX2_sumOf_6 (by decide) (zs7_4 rfl ?_)
  refine zr_iconst dX2_sumOf_8 ?_
  refine zr_istore dX2_sumOf_9 (by decide) (zs7_5 rfl ?_)
  exact kX2_sumOfL hr he hv 12 0 _ _ (by omega) rfl k
theorem kX2_startingAtL {G : State} {d rc rs : Nat} {ah : zH} {Q : zRs → zH → Prop} {a q : Nat} {p : Int} (hp : pR p) (hq : ah q = none)  (n9 : Nat) : ∀ (i : Nat) (g : Nat → Value), i + n9 = 12 → (∀ j : Nat, j < 12 → g j = .int (zi (pIni 1000000 p (fun _ => 0) i j))) → (∀ g : Nat → Value, (∀ j : Nat, j < 12 → g j = .int (zi (pIni 1000000 p (fun _ => 0) 12 j))) → Q (.inl (some (.ref q))) (z_up ah q (.inr (.int, 12, g)))) → zW G mX2_startingAt d rc rs 7 [some (.ref a), some (.int (zi p)), some (.ref q), some (.int (zi ((i : Nat) : Int)))] [] (z_up ah q (.inr (.int, 12, g))) Q := by
  induction n9 with
  | zero =>
    intro i g g1 g2 k
    refine zr_iload_n dX2_startingAt_7 rfl ?_
    refine zr_bipush dX2_startingAt_8 rfl ?_
    refine zr_icmpge dX2_startingAt_10 (tgt := 33) (by decide) (by omega) (by omega) (fun h10 => ?_) (fun h10 => ?_)
    · refine zr_aload_n dX2_startingAt_33 rfl rfl ?_
      refine zr_areturn dX2_startingAt_34 rfl rfl rfl ?_
      obtain rfl : i = 12 := by omega
      exact k g g2
    · exfalso; omega
  | succ n9 ih =>
    intro i g g1 g2 k
    have hi9 : i < 12 := by omega
    obtain ⟨hp1, hp2⟩ := id hp
    refine zr_iload_n dX2_startingAt_7 rfl ?_
    refine zr_bipush dX2_startingAt_8 rfl ?_
    refine zr_icmpge dX2_startingAt_10 (tgt := 33) (by decide) (by omega) (by omega) (fun h10 => ?_) (fun h10 => ?_)
    · exfalso; omega
    · refine zr_aload_n dX2_startingAt_13 rfl rfl ?_
      refine zr_iload_n dX2_startingAt_14 rfl ?_
      refine zr_iload_n dX2_startingAt_15 rfl ?_
      refine zr_iload_n dX2_startingAt_16 rfl ?_
      refine zr_icmpne dX2_startingAt_17 (tgt := 24) (by decide) (by omega) (by omega) (fun h17 => ?_) (fun h17 => ?_)
      · refine zr_ldc dX2_startingAt_24 q427 (n := 1000000) rfl ?_
        refine zr_iastore dX2_startingAt_26 z_up_s (by decide) (by omega) ?_
        rw [z_up_o]
        refine zr_iinc dX2_startingAt_27 rfl (by decide) (zs4_3 rfl ?_)
        refine zr_goto dX2_startingAt_30 (tgt := 7) (by decide) ?_
        refine ih (i + 1) _ (by omega) (fun j hj => ?_) k
        rw [Int.natCast_add, show ((1 : Nat) : Int) = 1 from rfl, ← pIni_s (by omega)]
        unfold z_upV z_upF
        by_cases e : j = i
        · subst e
          rw [if_pos (by omega), if_pos rfl]
          first
            | rw [if_pos (by omega)]
            | rw [if_neg (by omega)]
        · rw [if_neg (by omega), if_neg (by omega)]
          exact g2 j hj
      · refine zr_iconst dX2_startingAt_20 ?_
        refine zr_goto dX2_startingAt_21 (tgt := 26) (by decide) ?_
        refine zr_iastore dX2_startingAt_26 z_up_s (by decide) (by omega) ?_
        rw [z_up_o]
        refine zr_iinc dX2_startingAt_27 rfl (by decide) (zs4_3 rfl ?_)
        refine zr_goto dX2_startingAt_30 (tgt := 7) (by decide) ?_
        refine ih (i + 1) _ (by omega) (fun j hj => ?_) k
        rw [Int.natCast_add, show ((1 : Nat) : Int) = 1 from rfl, ← pIni_s (by omega)]
        unfold z_upV z_upF
        by_cases e : j = i
        · subst e
          rw [if_pos (by omega), if_pos rfl]
          first
            | rw [if_pos (by omega)]
            | rw [if_neg (by omega)]
        · rw [if_neg (by omega), if_neg (by omega)]
          exact g2 j hj
theorem kX2_startingAt {G : State} {d rc rs : Nat} {ah : zH} {Q : zRs → zH → Prop} {a : Nat} {p : Int} (hp : pR p) (hc : 1 ≤ rc) (hs : 12 ≤ rs) (k : ∀ (q : Nat) (g : Nat → Value), ah q = none → (∀ j : Nat, j < 12 → g j = .int (zi (pIni 1000000 p (fun _ => 0) 12 j))) → Q (.inl (some (.ref q))) (z_up ah q (.inr (.int, 12, g)))) : zW G mX2_startingAt d rc rs 0 (zent [.ref a, .int (zi p)]) [] ah Q := by
  refine zW_open 2 [some (.ref a), some (.int (zi p)), none, none] rfl ?_
  refine zr_bipush dX2_startingAt_0 rfl ?_
  refine zr_newarray (ty := .int) dX2_startingAt_2 rfl q222 (fun _ z => by cases z) (by omega) (by omega) (by show (12 : Int).toNat ≤ rs; exact hs) (fun q hq => ?_)
  refine zr_astore_n dX2_startingAt_4 (by decide) rfl (zs4_2 rfl ?_)
  refine zr_iconst dX2_startingAt_5 ?_
  refine zr_istore_n dX2_startingAt_6 (by decide) (zs4_3 rfl ?_)
  exact kX2_startingAtL hp hq 12 0 _ (by omega) (fun j hj => by rw [show ((0 : Nat) : Int) = 0 from rfl, pIni_0]; rfl) (fun g hg => k q g hq hg)
theorem kX2_closestL {G : State} {d rc rs : Nat} {ah : zH} {Q : zRs → zH → Prop} {F U : Nat → Prop} {a w e n l : Nat} {s : Int → Int} {mc : Int} {f g : Nat → Value} {ps : List Nat} {tv : Value} (H : zSt G F U ah a s w e n mc f ps l g tv) (hV : pV s) (hd : 2 ≤ d) {r t : Nat} {v : Int → Int} {dn : Int → Bool} {g1 g2 : Nat → Value} (hr : ah r = some (.inr (.int, 12, g1))) (he : ∀ j : Nat, j < 12 → g1 j = .int (zi (v j))) (hv : ∀ j, pR j → 0 ≤ v j ∧ v j ≤ 1000000) (ht : ah t = some (.inr (.boolean, 12, g2))) (hu : ∀ j : Nat, j < 12 → g2 j = .int (zi (zB (dn j)))) (n9 : Nat) : ∀ (i : Nat) (J : Option Value), ((i + n9 : Nat) : Int) = s 0 → (Q (.inl (some (.int (zi (pNx v dn (s 0).toNat))))) ah) → zW G mX2_closest d rc rs 5 [some (.ref a), some (.ref r), some (.ref t), some (.int (zi (pNx v dn i))), some (.int (zi ((i : Nat) : Int))), J] [] ah Q := by
  induction n9 with
  | zero =>
    intro i J g1 k
    have vv := hV.h
    refine zr_iload dX2_closest_5 rfl ?_
    refine zr_aload_n dX2_closest_7 rfl rfl ?_
    refine zc_v0 dX2_closest_8 hX2_size gX2_size rfl rfl 1 0 0 (by omega) (Nat.zero_le _) (Nat.zero_le _) q336 q307 q308 H.rc ?_
    refine kX2_size H (by omega) (zK_i ?_)
    refine zr_icmpge dX2_closest_11 (tgt := 66) (by decide) (by omega) (by omega) (fun h11 => ?_) (fun h11 => ?_)
    · refine zr_iload_n dX2_closest_66 rfl ?_
      refine zr_ireturn dX2_closest_67 rfl (by first | rfl | exact z_nb _) ?_
      rw [show (s 0).toNat = i by omega] at k
      exact k
    · exfalso; omega
  | succ n9 ih =>
    intro i J g1 k
    have vv := hV.h
    have hi9 : i < 12 := by omega
    have hx := hv (i : Int) ⟨by omega, by omega⟩
    have hb : -1 ≤ pNx v dn i ∧ pNx v dn i < 12 := by have := pNx_ok (f := v) (dn := dn) i; omega
    refine zr_iload dX2_closest_5 rfl ?_
    refine zr_aload_n dX2_closest_7 rfl rfl ?_
    refine zc_v0 dX2_closest_8 hX2_size gX2_size rfl rfl 1 0 0 (by omega) (Nat.zero_le _) (Nat.zero_le _) q336 q307 q308 H.rc ?_
    refine kX2_size H (by omega) (zK_i ?_)
    refine zr_icmpge dX2_closest_11 (tgt := 66) (by decide) (by omega) (by omega) (fun h11 => ?_) (fun h11 => ?_)
    · exfalso; omega
    · refine zr_aload_n dX2_closest_14 rfl rfl ?_
      refine zr_iload dX2_closest_15 rfl ?_
      refine zr_zaload dX2_closest_17 (Or.inl ht) (by decide) (by omega) (z12b hu ⟨by omega, by omega⟩) ?_
      refine zr_ifneB dX2_closest_18 (tgt := 45) (by decide) (fun h18 => ?_) (fun h18 => ?_)
      · refine zr_iconst dX2_closest_45 ?_
        refine zr_istore dX2_closest_46 (by decide) (zs6_5 rfl ?_)
        refine zr_iload dX2_closest_48 rfl ?_
        refine zr_ifeq dX2_closest_50 (tgt := 58) (by decide) (by decide) (fun _ => ?_) (fun h => absurd h (by decide))
        refine zr_iload_n dX2_closest_58 rfl ?_
        refine zr_istore_n dX2_closest_59 (by decide) (zs6_3 rfl ?_)
        refine zr_iinc dX2_closest_60 rfl (by decide) (zs6_4 rfl ?_)
        refine zr_goto dX2_closest_63 (tgt := 5) (by decide) ?_
        have w := fun J => ih (i + 1) J (by omega) k
        first
          | (rw [show pNx v dn (i + 1) = (i : Int) from if_pos ⟨h18, by rw [if_pos (by omega)]; omega⟩] at w; exact w _)
          | (rw [show pNx v dn (i + 1) = (i : Int) from if_pos ⟨h18, by rw [if_neg (by omega)]; omega⟩] at w; exact w _)
          | (rw [show pNx v dn (i + 1) = pNx v dn i from if_neg (fun z => by rw [h18] at z; exact absurd z.1 (by decide))] at w; exact w _)
          | (rw [show pNx v dn (i + 1) = pNx v dn i from if_neg (fun z => by have z2 := z.2; rw [if_pos (by omega)] at z2; omega)] at w; exact w _)
          | (rw [show pNx v dn (i + 1) = pNx v dn i from if_neg (fun z => by have z2 := z.2; rw [if_neg (by omega)] at z2; omega)] at w; exact w _)
      · refine zr_aload_n dX2_closest_21 rfl rfl ?_
        refine zr_iload dX2_closest_22 rfl ?_
        refine zr_iaload dX2_closest_24 (Or.inl hr) (by decide) (by omega) (z12e he ⟨by omega, by omega⟩) ?_
        refine zr_iload_n dX2_closest_25 rfl ?_
        refine zr_iconst dX2_closest_26 ?_
        refine zr_icmpne dX2_closest_27 (tgt := 35) (by decide) (by omega) (by omega) (fun h27 => ?_) (fun h27 => ?_)
        · refine zr_aload_n dX2_closest_35 rfl rfl ?_
          refine zr_iload_n dX2_closest_36 rfl ?_
          have hy := hv (pNx v dn i) ⟨by omega, by omega⟩
          refine zr_iaload dX2_closest_37 (Or.inl hr) (by decide) (by omega) (z12e he ⟨by omega, by omega⟩) ?_
          refine zr_icmpge dX2_closest_38 (tgt := 45) (by decide) (by omega) (by omega) (fun h38 => ?_) (fun h38 => ?_)
          · refine zr_iconst dX2_closest_45 ?_
            refine zr_istore dX2_closest_46 (by decide) (zs6_5 rfl ?_)
            refine zr_iload dX2_closest_48 rfl ?_
            refine zr_ifeq dX2_closest_50 (tgt := 58) (by decide) (by decide) (fun _ => ?_) (fun h => absurd h (by decide))
            refine zr_iload_n dX2_closest_58 rfl ?_
            refine zr_istore_n dX2_closest_59 (by decide) (zs6_3 rfl ?_)
            refine zr_iinc dX2_closest_60 rfl (by decide) (zs6_4 rfl ?_)
            refine zr_goto dX2_closest_63 (tgt := 5) (by decide) ?_
            have w := fun J => ih (i + 1) J (by omega) k
            first
              | (rw [show pNx v dn (i + 1) = (i : Int) from if_pos ⟨h18, by rw [if_pos (by omega)]; omega⟩] at w; exact w _)
              | (rw [show pNx v dn (i + 1) = (i : Int) from if_pos ⟨h18, by rw [if_neg (by omega)]; omega⟩] at w; exact w _)
              | (rw [show pNx v dn (i + 1) = pNx v dn i from if_neg (fun z => by rw [h18] at z; exact absurd z.1 (by decide))] at w; exact w _)
              | (rw [show pNx v dn (i + 1) = pNx v dn i from if_neg (fun z => by have z2 := z.2; rw [if_pos (by omega)] at z2; omega)] at w; exact w _)
              | (rw [show pNx v dn (i + 1) = pNx v dn i from if_neg (fun z => by have z2 := z.2; rw [if_neg (by omega)] at z2; omega)] at w; exact w _)
          · refine zr_iconst dX2_closest_41 ?_
            refine zr_goto dX2_closest_42 (tgt := 46) (by decide) ?_
            refine zr_istore dX2_closest_46 (by decide) (zs6_5 rfl ?_)
            refine zr_iload dX2_closest_48 rfl ?_
            refine zr_ifeq dX2_closest_50 (tgt := 58) (by decide) (by decide) (fun h => absurd h (by decide)) (fun _ => ?_)
            refine zr_iload dX2_closest_53 rfl ?_
            refine zr_goto dX2_closest_55 (tgt := 59) (by decide) ?_
            refine zr_istore_n dX2_closest_59 (by decide) (zs6_3 rfl ?_)
            refine zr_iinc dX2_closest_60 rfl (by decide) (zs6_4 rfl ?_)
            refine zr_goto dX2_closest_63 (tgt := 5) (by decide) ?_
            have w := fun J => ih (i + 1) J (by omega) k
            first
              | (rw [show pNx v dn (i + 1) = (i : Int) from if_pos ⟨h18, by rw [if_pos (by omega)]; omega⟩] at w; exact w _)
              | (rw [show pNx v dn (i + 1) = (i : Int) from if_pos ⟨h18, by rw [if_neg (by omega)]; omega⟩] at w; exact w _)
              | (rw [show pNx v dn (i + 1) = pNx v dn i from if_neg (fun z => by rw [h18] at z; exact absurd z.1 (by decide))] at w; exact w _)
              | (rw [show pNx v dn (i + 1) = pNx v dn i from if_neg (fun z => by have z2 := z.2; rw [if_pos (by omega)] at z2; omega)] at w; exact w _)
              | (rw [show pNx v dn (i + 1) = pNx v dn i from if_neg (fun z => by have z2 := z.2; rw [if_neg (by omega)] at z2; omega)] at w; exact w _)
        · refine zr_ldc dX2_closest_30 q427 (n := 1000000) rfl ?_
          refine zr_goto dX2_closest_32 (tgt := 38) (by decide) ?_
          refine zr_icmpge dX2_closest_38 (tgt := 45) (by decide) (by omega) (by omega) (fun h38 => ?_) (fun h38 => ?_)
          · refine zr_iconst dX2_closest_45 ?_
            refine zr_istore dX2_closest_46 (by decide) (zs6_5 rfl ?_)
            refine zr_iload dX2_closest_48 rfl ?_
            refine zr_ifeq dX2_closest_50 (tgt := 58) (by decide) (by decide) (fun _ => ?_) (fun h => absurd h (by decide))
            refine zr_iload_n dX2_closest_58 rfl ?_
            refine zr_istore_n dX2_closest_59 (by decide) (zs6_3 rfl ?_)
            refine zr_iinc dX2_closest_60 rfl (by decide) (zs6_4 rfl ?_)
            refine zr_goto dX2_closest_63 (tgt := 5) (by decide) ?_
            have w := fun J => ih (i + 1) J (by omega) k
            first
              | (rw [show pNx v dn (i + 1) = (i : Int) from if_pos ⟨h18, by rw [if_pos (by omega)]; omega⟩] at w; exact w _)
              | (rw [show pNx v dn (i + 1) = (i : Int) from if_pos ⟨h18, by rw [if_neg (by omega)]; omega⟩] at w; exact w _)
              | (rw [show pNx v dn (i + 1) = pNx v dn i from if_neg (fun z => by rw [h18] at z; exact absurd z.1 (by decide))] at w; exact w _)
              | (rw [show pNx v dn (i + 1) = pNx v dn i from if_neg (fun z => by have z2 := z.2; rw [if_pos (by omega)] at z2; omega)] at w; exact w _)
              | (rw [show pNx v dn (i + 1) = pNx v dn i from if_neg (fun z => by have z2 := z.2; rw [if_neg (by omega)] at z2; omega)] at w; exact w _)
          · refine zr_iconst dX2_closest_41 ?_
            refine zr_goto dX2_closest_42 (tgt := 46) (by decide) ?_
            refine zr_istore dX2_closest_46 (by decide) (zs6_5 rfl ?_)
            refine zr_iload dX2_closest_48 rfl ?_
            refine zr_ifeq dX2_closest_50 (tgt := 58) (by decide) (by decide) (fun h => absurd h (by decide)) (fun _ => ?_)
            refine zr_iload dX2_closest_53 rfl ?_
            refine zr_goto dX2_closest_55 (tgt := 59) (by decide) ?_
            refine zr_istore_n dX2_closest_59 (by decide) (zs6_3 rfl ?_)
            refine zr_iinc dX2_closest_60 rfl (by decide) (zs6_4 rfl ?_)
            refine zr_goto dX2_closest_63 (tgt := 5) (by decide) ?_
            have w := fun J => ih (i + 1) J (by omega) k
            first
              | (rw [show pNx v dn (i + 1) = (i : Int) from if_pos ⟨h18, by rw [if_pos (by omega)]; omega⟩] at w; exact w _)
              | (rw [show pNx v dn (i + 1) = (i : Int) from if_pos ⟨h18, by rw [if_neg (by omega)]; omega⟩] at w; exact w _)
              | (rw [show pNx v dn (i + 1) = pNx v dn i from if_neg (fun z => by rw [h18] at z; exact absurd z.1 (by decide))] at w; exact w _)
              | (rw [show pNx v dn (i + 1) = pNx v dn i from if_neg (fun z => by have z2 := z.2; rw [if_pos (by omega)] at z2; omega)] at w; exact w _)
              | (rw [show pNx v dn (i + 1) = pNx v dn i from if_neg (fun z => by have z2 := z.2; rw [if_neg (by omega)] at z2; omega)] at w; exact w _)
theorem kX2_closest {G : State} {d rc rs : Nat} {ah : zH} {Q : zRs → zH → Prop} {F U : Nat → Prop} {a w e n l : Nat} {s : Int → Int} {mc : Int} {f g : Nat → Value} {ps : List Nat} {tv : Value} (H : zSt G F U ah a s w e n mc f ps l g tv) (hV : pV s) (hd : 2 ≤ d) {r t : Nat} {v : Int → Int} {dn : Int → Bool} {g1 g2 : Nat → Value} (hr : ah r = some (.inr (.int, 12, g1))) (he : ∀ j : Nat, j < 12 → g1 j = .int (zi (v j))) (hv : ∀ j, pR j → 0 ≤ v j ∧ v j ≤ 1000000) (ht : ah t = some (.inr (.boolean, 12, g2))) (hu : ∀ j : Nat, j < 12 → g2 j = .int (zi (zB (dn j)))) (k : Q (.inl (some (.int (zi (pNx v dn (s 0).toNat))))) ah) : zW G mX2_closest d rc rs 0 (zent [.ref a, .ref r, .ref t]) [] ah Q := by
  refine zW_open 3 [some (.ref a), some (.ref r), some (.ref t), none, none, none] rfl ?_
  refine zr_iconst dX2_closest_0 ?_
  refine zr_istore_n dX2_closest_1 (by decide) (zs6_3 rfl ?_)
  refine zr_iconst dX2_closest_2 ?_
  refine zr_istore dX2_closest_3 (by decide) (zs6_4 rfl ?_)
  have vv := hV.h
  exact kX2_closestL H hV hd hr he hv ht hu (s 0).toNat 0 _ (by omega) k
theorem kX2_shorten {G : State} {d rc rs : Nat} {ah : zH} {Q : zRs → zH → Prop} {r : Nat} {v : Int → Int} {g : Nat → Value} (hr : ah r = some (.inr (.int, 12, g))) (he : ∀ j : Nat, j < 12 → g j = .int (zi (v j))) {i x : Int} (hi : pR i) (bx : -2147483648 ≤ x ∧ x ≤ 2147483647) (bv : -2147483648 ≤ v i ∧ v i ≤ 2147483647) (hd : 1 ≤ d) (k : Q (.inl none) (z_up ah r (.inr (.int, 12, z_upV g i.toNat (.int (zi (min (v i) x))))))) : zW G mX2_shorten d rc rs 0 (zent [.ref r, .int (zi i), .int (zi x)]) [] ah Q := by
  refine zW_open 0 [some (.ref r), some (.int (zi i)), some (.int (zi x))] rfl ?_
  obtain ⟨_, _⟩ := id hi
  refine zr_aload_n dX2_shorten_0 rfl rfl ?_
  refine zr_iload_n dX2_shorten_1 rfl ?_
  refine zr_aload_n dX2_shorten_2 rfl rfl ?_
  refine zr_iload_n dX2_shorten_3 rfl ?_
  refine zr_iaload dX2_shorten_4 (Or.inl hr) (by decide) (by omega) (z12e he hi) ?_
  refine zr_iload_n dX2_shorten_5 rfl ?_
  refine zc_s2 dX2_shorten_6 hJ16_min gJ16_min rfl rfl 0 0 0 (by omega) (Nat.zero_le _) (Nat.zero_le _) q433 q434 ?_
  refine kJ16_min (by omega) (by omega) (zK_i ?_)
  rw [show (if v i ≤ x then v i else x) = min (v i) x from (Int.min_def _ _).symm]
  refine zr_iastore dX2_shorten_9 hr (by decide) (by omega) ?_
  refine zr_return dX2_shorten_10 rfl ?_
  exact k
