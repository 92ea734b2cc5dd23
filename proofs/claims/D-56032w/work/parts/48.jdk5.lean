set_option maxRecDepth 100000
/-! ===== ArrayDeque ===== -/
/-- a deque a over an array e of 17 holds l from place h on -/
def zDq (G : State) (ah : zH) (a e h : Nat) (f : Nat → Value) (l : List Nat) : Prop := ah a = some (.inl (15, [.ref e, .int (zi (h : Nat)), .int (zi (((h + l.length) % 17 : Nat) : Int))])) ∧ a ≠ e ∧ ah e = some (.inr (.object "java/lang/Object", 17, f)) ∧ h < 17 ∧ l.length ≤ 15 ∧ (∀ (i x : Nat), l[i]? = some x → f ((h + i) % 17) = .ref x) ∧ (∀ i, l.length ≤ i → i < 17 → f ((h + i) % 17) = .null)
theorem zDq.rc {G : State} {ah : zH} {a e h : Nat} {f : Nat → Value} {l : List Nat} (H : zDq G ah a e h f l) : zRc G ah a "java/util/ArrayDeque" := Or.inl ⟨15, _, TJ4, 3, tyJ4, nJ4, H.1⟩
theorem zDq.fr {G : State} {ah ah' : zH} {a e h : Nat} {f : Nat → Value} {l : List Nat} (H : zDq G ah a e h f l) (hk : ∀ b o, (b = a ∨ b = e) → ah b = some o → ah' b = some o) : zDq G ah' a e h f l := by
  obtain ⟨h1, h2, h3, h4⟩ := H
  exact ⟨hk _ _ (Or.inl rfl) h1, h2, hk _ _ (Or.inr rfl) h3, h4⟩
theorem kJ4_init {G : State} {d rc rs : Nat} {ah : zH} {Q : zRs → zH → Prop} {a : Nat} (ha : ah a = some (.inl (15, [.null, .int (zi 0), .int (zi 0)]))) (hd : 2 ≤ d) (hc : 1 ≤ rc) (hs : 17 ≤ rs) (k : ∀ (ah9 : zH) (e : Nat), ah e = none → zDq G ah9 a e 0 (fun _ => .null) [] → (∀ b o, ah b = some o → b ≠ a → ah9 b = some o) → Q (.inl none) ah9) : zW G mJ4_init d rc rs 0 (zent [.ref a]) [] ah Q := by
  refine zW_open 0 [some (.ref a)] rfl ?_
  refine zr_aload_n dJ4_init_0 rfl rfl ?_
  refine zc_i0 rfl rfl rfl dJ4_init_1 hJ0_init gJ0_init rfl rfl 1 0 0 (by omega) (Nat.zero_le _) (Nat.zero_le _) q228 q161 ?_
  refine kJ0_init (by omega) (zK_v ?_)
  refine zr_aload_n dJ4_init_4 rfl rfl ?_
  refine zr_bipush dJ4_init_5 rfl ?_
  refine zr_anewarray dJ4_init_7 q229 q230 (by omega) (by omega) (by show 17 ≤ _; omega) (fun e he => ?_)
  have hae : a ≠ e := fun z => by rw [← z, ha] at he; cases he
  refine zr_putf dJ4_init_10 nJ4 (k := 0) (by decide) q231 (Or.inl rfl) (Or.inl rfl) ((z_up_n hae).trans ha) (z_ble rfl) rfl rfl ?_
  refine zr_return dJ4_init_13 rfl ?_
  refine k _ e he ⟨z_up_s, hae, by rw [z_up_n (fun z => hae z.symm), z_up_s]; rfl, by decide, by decide, fun i x hx => by simp at hx, fun _ _ _ => rfl⟩ (fun b y hb b1 => ?_)
  rw [z_up_n b1, z_up_n (fun z => by rw [z, he] at hb; cases hb)]
  exact hb
theorem kJ4_inc {G : State} {d rc rs : Nat} {ah : zH} {Q : zRs → zH → Prop} {i : Int} (hi : 0 ≤ i ∧ i < 17) (k : Q (.inl (some (.int (zi ((i + 1) % 17))))) ah) : zW G mJ4_inc d rc rs 0 (zent [.int (zi i), .int (zi 17)]) [] ah Q := by
  refine zW_open 0 [some (.int (zi i)), some (.int (zi 17))] rfl ?_
  refine zr_iinc dJ4_inc_0 rfl (by decide) (zs2_0 ?_)
  refine zr_iload_n dJ4_inc_3 rfl ?_
  refine zr_iload_n dJ4_inc_4 rfl ?_
  refine zr_icmplt dJ4_inc_5 (tgt := 10) (by decide) (by omega) (by omega) (fun h5 => ?_) (fun h5 => ?_)
  · refine zr_iload_n dJ4_inc_10 rfl ?_
    refine zr_ireturn dJ4_inc_11 rfl (by first | rfl | exact z_nb _) ?_
    exact zQi k (by omega)
  · refine zr_iconst dJ4_inc_8 ?_
    refine zr_istore_n dJ4_inc_9 (by decide) (zs2_0 ?_)
    refine zr_iload_n dJ4_inc_10 rfl ?_
    refine zr_ireturn dJ4_inc_11 rfl (by first | rfl | exact z_nb _) ?_
    exact zQi k (by omega)
theorem kJ4_dec {G : State} {d rc rs : Nat} {ah : zH} {Q : zRs → zH → Prop} {i : Int} (hi : 0 ≤ i ∧ i < 17) (k : Q (.inl (some (.int (zi ((i + 16) % 17))))) ah) : zW G mJ4_dec d rc rs 0 (zent [.int (zi i), .int (zi 17)]) [] ah Q := by
  refine zW_open 0 [some (.int (zi i)), some (.int (zi 17))] rfl ?_
  refine zr_iinc dJ4_dec_0 rfl (by decide) (zs2_0 ?_)
  refine zr_iload_n dJ4_dec_3 rfl ?_
  refine zr_ifge dJ4_dec_4 (tgt := 11) (by decide) (by omega) (fun h4 => ?_) (fun h4 => ?_)
  · refine zr_iload_n dJ4_dec_11 rfl ?_
    refine zr_ireturn dJ4_dec_12 rfl (by first | rfl | exact z_nb _) ?_
    exact zQi k (by omega)
  · refine zr_iload_n dJ4_dec_7 rfl ?_
    refine zr_iconst dJ4_dec_8 ?_
    refine zr_isub dJ4_dec_9 ?_
    refine zr_istore_n dJ4_dec_10 (by decide) (zs2_0 ?_)
    refine zr_iload_n dJ4_dec_11 rfl ?_
    refine zr_ireturn dJ4_dec_12 rfl (by first | rfl | exact z_nb _) ?_
    exact zQi k (by omega)
theorem kJ4_sub {G : State} {d rc rs : Nat} {ah : zH} {Q : zRs → zH → Prop} {i j : Int} (hi : 0 ≤ i ∧ i < 17) (hj : 0 ≤ j ∧ j < 17) (k : Q (.inl (some (.int (zi ((i - j) % 17))))) ah) : zW G mJ4_sub d rc rs 0 (zent [.int (zi i), .int (zi j), .int (zi 17)]) [] ah Q := by
  refine zW_open 0 [some (.int (zi i)), some (.int (zi j)), some (.int (zi 17))] rfl ?_
  refine zr_iload_n dJ4_sub_0 rfl ?_
  refine zr_iload_n dJ4_sub_1 rfl ?_
  refine zr_isub dJ4_sub_2 ?_
  refine zr_dup dJ4_sub_3 rfl ?_
  refine zr_istore_n dJ4_sub_4 (by decide) (zs3_0 ?_)
  refine zr_ifge dJ4_sub_5 (tgt := 12) (by decide) (by omega) (fun h5 => ?_) (fun h5 => ?_)
  · refine zr_iload_n dJ4_sub_12 rfl ?_
    refine zr_ireturn dJ4_sub_13 rfl (by first | rfl | exact z_nb _) ?_
    exact zQi k (by omega)
  · refine zr_iload_n dJ4_sub_8 rfl ?_
    refine zr_iload_n dJ4_sub_9 rfl ?_
    refine zr_iadd dJ4_sub_10 ?_
    refine zr_istore_n dJ4_sub_11 (by decide) (zs3_0 ?_)
    refine zr_iload_n dJ4_sub_12 rfl ?_
    refine zr_ireturn dJ4_sub_13 rfl (by first | rfl | exact z_nb _) ?_
    exact zQi k (by omega)
theorem kJ4_size {G : State} {d rc rs : Nat} {ah : zH} {Q : zRs → zH → Prop} {a e h : Nat} {f : Nat → Value} {l : List Nat} (H : zDq G ah a e h f l) (hd : 1 ≤ d) (k : Q (.inl (some (.int (zi (l.length : Nat))))) ah) : zW G mJ4_size d rc rs 0 (zent [.ref a]) [] ah Q := by
  refine zW_open 0 [some (.ref a)] rfl ?_
  obtain ⟨d1, d2, d3, d4, d5, d6, d7⟩ := H
  refine zr_aload_n dJ4_size_0 rfl rfl ?_
  refine zr_getf dJ4_size_1 nJ4 (k := 2) (by decide) q233 (Or.inl rfl) d1 rfl ?_
  refine zr_aload_n dJ4_size_4 rfl rfl ?_
  refine zr_getf dJ4_size_5 nJ4 (k := 1) (by decide) q232 (Or.inl rfl) d1 rfl ?_
  refine zr_aload_n dJ4_size_8 rfl rfl ?_
  refine zr_getf dJ4_size_9 nJ4 (k := 0) (by decide) q231 (Or.inl rfl) d1 rfl ?_
  refine zr_alen dJ4_size_12 (Or.inl d3) ?_
  rw [show zi ((17 : Nat) : Int) = zi 17 from rfl]
  refine zc_s3 dJ4_size_13 hJ4_sub gJ4_sub rfl rfl 0 0 0 (by omega) (Nat.zero_le _) (Nat.zero_le _) q1117 q1118 ?_
  refine kJ4_sub (by omega) (by omega) (zK_i ?_)
  refine zr_ireturn dJ4_size_16 rfl (by first | rfl | exact z_nb _) ?_
  exact zQi k (by omega)
theorem kJ4_isEmpty {G : State} {d rc rs : Nat} {ah : zH} {Q : zRs → zH → Prop} {a e h : Nat} {f : Nat → Value} {l : List Nat} (H : zDq G ah a e h f l) (k : Q (.inl (some (.int (zi (zB (decide (l.length = 0))))))) ah) : zW G mJ4_isEmpty d rc rs 0 (zent [.ref a]) [] ah Q := by
  refine zW_open 0 [some (.ref a)] rfl ?_
  obtain ⟨d1, d2, d3, d4, d5, d6, d7⟩ := H
  refine zr_aload_n dJ4_isEmpty_0 rfl rfl ?_
  refine zr_getf dJ4_isEmpty_1 nJ4 (k := 1) (by decide) q232 (Or.inl rfl) d1 rfl ?_
  refine zr_aload_n dJ4_isEmpty_4 rfl rfl ?_
  refine zr_getf dJ4_isEmpty_5 nJ4 (k := 2) (by decide) q233 (Or.inl rfl) d1 rfl ?_
  refine zr_icmpne dJ4_isEmpty_8 (tgt := 15) (by decide) (by omega) (by omega) (fun h8 => ?_) (fun h8 => ?_)
  · refine zr_iconst dJ4_isEmpty_15 ?_
    refine zr_ireturn dJ4_isEmpty_16 rfl (by first | rfl | exact z_nb _) ?_
    exact zQi k (by first | (rw [decide_eq_true (by omega)]; rfl) | (rw [decide_eq_false (by omega)]; rfl))
  · refine zr_iconst dJ4_isEmpty_11 ?_
    refine zr_goto dJ4_isEmpty_12 (tgt := 16) (by decide) ?_
    refine zr_ireturn dJ4_isEmpty_16 rfl (by first | rfl | exact z_nb _) ?_
    exact zQi k (by first | (rw [decide_eq_true (by omega)]; rfl) | (rw [decide_eq_false (by omega)]; rfl))
theorem kJ4_elementAt {G : State} {d rc rs : Nat} {ah : zH} {Q : zRs → zH → Prop} {e n : Nat} {f : Nat → Value} {i : Int} (he : ah e = some (.inr (.object "java/lang/Object", n, f))) (hn : n ≤ 1000) (hi : 0 ≤ i ∧ i < n) (hv : z_ref (f i.toNat) = true) (k : Q (.inl (some (f i.toNat))) ah) : zW G mJ4_elementAt d rc rs 0 (zent [.ref e, .int (zi i)]) [] ah Q := by
  refine zW_open 0 [some (.ref e), some (.int (zi i))] rfl ?_
  refine zr_aload_n dJ4_elementAt_0 rfl rfl ?_
  refine zr_iload_n dJ4_elementAt_1 rfl ?_
  refine zr_aaload dJ4_elementAt_2 (Or.inl he) rfl (by omega) (by omega) rfl ?_
  refine zr_areturn dJ4_elementAt_3 rfl rfl hv ?_
  exact k
theorem kJ4_addLast {G : State} {d rc rs : Nat} {ah : zH} {Q : zRs → zH → Prop} {a e h : Nat} {f : Nat → Value} {l : List Nat} (H : zDq G ah a e h f l) {x : Nat} {Cn : String} (hca : Cond.castable Cn "java/lang/Object" ∈ lw_tbl) (hx : zRc G ah x Cn) (hl : l.length ≤ 14) (hd : 1 ≤ d) (k : ∀ (ah9 : zH) (f9 : Nat → Value), zDq G ah9 a e h f9 (l ++ [x]) → (∀ b o, ah b = some o → b ≠ a → b ≠ e → ah9 b = some o) → Q (.inl none) ah9) : zW G mJ4_addLast d rc rs 0 (zent [.ref a, .ref x]) [] ah Q := by
  refine zW_open 1 [some (.ref a), some (.ref x), none] rfl ?_
  obtain ⟨d1, d2, d3, d4, d5, d6, d7⟩ := H
  refine zr_aload_n dJ4_addLast_0 rfl rfl ?_
  refine zr_ifnonnull dJ4_addLast_1 (tgt := 12) (by decide) ?_
  refine zr_aload_n dJ4_addLast_12 rfl rfl ?_
  refine zr_getf dJ4_addLast_13 nJ4 (k := 0) (by decide) q231 (Or.inl rfl) d1 rfl ?_
  refine zr_astore_n dJ4_addLast_16 (by decide) rfl (zs3_2 rfl ?_)
  refine zr_aload_n dJ4_addLast_17 rfl rfl ?_
  refine zr_aload_n dJ4_addLast_18 rfl rfl ?_
  refine zr_getf dJ4_addLast_19 nJ4 (k := 2) (by decide) q233 (Or.inl rfl) d1 rfl ?_
  refine zr_aload_n dJ4_addLast_22 rfl rfl ?_
  refine zr_aastore dJ4_addLast_23 d3 (by decide) (by omega) hx hca ?_
  have u1 : z_up ah e (.inr (.object "java/lang/Object", 17, z_upV f (((h + l.length) % 17 : Nat) : Int).toNat (.ref x))) a = some (.inl (15, [.ref e, .int (zi (h : Nat)), .int (zi (((h + l.length) % 17 : Nat) : Int))])) := by rw [z_up_n d2]; exact d1
  refine zr_aload_n dJ4_addLast_24 rfl rfl ?_
  refine zr_getf dJ4_addLast_25 nJ4 (k := 1) (by decide) q232 (Or.inl rfl) u1 rfl ?_
  refine zr_aload_n dJ4_addLast_28 rfl rfl ?_
  refine zr_aload_n dJ4_addLast_29 rfl rfl ?_
  refine zr_getf dJ4_addLast_30 nJ4 (k := 2) (by decide) q233 (Or.inl rfl) u1 rfl ?_
  refine zr_aload_n dJ4_addLast_33 rfl rfl ?_
  refine zr_alen dJ4_addLast_34 (Or.inl z_up_s) ?_
  rw [show zi ((17 : Nat) : Int) = zi 17 from rfl]
  refine zc_s2 dJ4_addLast_35 hJ4_inc gJ4_inc rfl rfl 0 0 0 (by omega) (Nat.zero_le _) (Nat.zero_le _) q1131 q1132 ?_
  refine kJ4_inc (by omega) (zK_i ?_)
  refine zr_dup_x1 dJ4_addLast_38 rfl rfl ?_
  refine zr_putf dJ4_addLast_39 nJ4 (k := 2) (by decide) q233 (Or.inl rfl) (Or.inl rfl) u1 (z_ble rfl) rfl rfl ?_
  refine zr_icmpne dJ4_addLast_42 (tgt := 50) (by decide) (by omega) (by omega) (fun h42 => ?_) (fun h42 => ?_)
  · refine zr_return dJ4_addLast_50 rfl ?_
    refine k _ (z_upV f ((h + l.length) % 17) (.ref x)) ⟨?_, d2, by rw [z_up_n (fun z => d2 z.symm), z_up_s, Int.toNat_natCast], d4, by simp; omega, fun i y hy => ?_, fun i i1 i2 => ?_⟩ (fun b y hb b1 b2 => ?_)
    · rw [z_up_s]
      simp only [List.length_append, List.length_singleton, List.set]
      rw [show ((((h + l.length) % 17 : Nat) : Int) + 1) % 17 = (((h + (l.length + 1)) % 17 : Nat) : Int) by omega]
    · by_cases hi : i < l.length
      · rw [List.getElem?_append_left hi] at hy
        rw [z_upV_n (by omega)]
        exact d6 i y hy
      · have hi2 : i = l.length := by
          have := (List.getElem?_eq_some_iff.mp hy).1
          simp at this
          omega
        subst hi2
        rw [List.getElem?_append_right (by omega)] at hy
        simp at hy
        rw [z_upV_s, hy]
    · simp at i1
      rw [z_upV_n (by omega)]
      exact d7 i (by omega) i2
    · rw [z_up_n b1, z_up_n b2]
      exact hb
  · exfalso; omega
theorem kJ4_pollFirst {G : State} {d rc rs : Nat} {ah : zH} {Q : zRs → zH → Prop} {a e h : Nat} {f : Nat → Value} {x : Nat} {l : List Nat} (H : zDq G ah a e h f (x :: l)) (hd : 1 ≤ d) (k : ∀ (ah9 : zH) (h9 : Nat) (f9 : Nat → Value), zDq G ah9 a e h9 f9 l → (∀ b o, ah b = some o → b ≠ a → b ≠ e → ah9 b = some o) → Q (.inl (some (.ref x))) ah9) : zW G mJ4_pollFirst d rc rs 0 (zent [.ref a]) [] ah Q := by
  refine zW_open 3 [some (.ref a), none, none, none] rfl ?_
  obtain ⟨d1, d2, d3, d4, d5, d6, d7⟩ := H
  have d0 : f h = .ref x := by have := d6 0 x rfl; rw [show (h + 0) % 17 = h by omega] at this; exact this
  have hv : z_ref (f ((h : Nat) : Int).toNat) = true := by rw [Int.toNat_natCast, d0]; rfl
  refine zr_aload_n dJ4_pollFirst_0 rfl rfl ?_
  refine zr_getf dJ4_pollFirst_1 nJ4 (k := 0) (by decide) q231 (Or.inl rfl) d1 rfl ?_
  refine zr_dup dJ4_pollFirst_4 rfl ?_
  refine zr_astore_n dJ4_pollFirst_5 (by decide) rfl (zs4_1 rfl ?_)
  refine zr_aload_n dJ4_pollFirst_6 rfl rfl ?_
  refine zr_getf dJ4_pollFirst_7 nJ4 (k := 1) (by decide) q232 (Or.inl rfl) d1 rfl ?_
  refine zr_dup dJ4_pollFirst_10 rfl ?_
  refine zr_istore_n dJ4_pollFirst_11 (by decide) (zs4_2 rfl ?_)
  refine zc_s2 dJ4_pollFirst_12 hJ4_elementAt gJ4_elementAt rfl rfl 0 0 0 (by omega) (Nat.zero_le _) (Nat.zero_le _) q1128 q1129 ?_
  refine kJ4_elementAt d3 (by omega) (by omega) hv (zK_i ?_)
  rw [Int.toNat_natCast, d0]
  refine zr_astore_n dJ4_pollFirst_15 (by decide) rfl (zs4_3 rfl ?_)
  refine zr_aload_n dJ4_pollFirst_16 rfl rfl ?_
  refine zr_ifnull dJ4_pollFirst_17 ?_
  refine zr_aload_n dJ4_pollFirst_20 rfl rfl ?_
  refine zr_iload_n dJ4_pollFirst_21 rfl ?_
  refine zr_null dJ4_pollFirst_22 ?_
  refine zr_aastoreN dJ4_pollFirst_23 d3 (by decide) (by omega) ?_
  have u1 : z_up ah e (.inr (.object "java/lang/Object", 17, z_upV f ((h : Nat) : Int).toNat .null)) a = some (.inl (15, [.ref e, .int (zi (h : Nat)), .int (zi (((h + (x :: l).length) % 17 : Nat) : Int))])) := by rw [z_up_n d2]; exact d1
  refine zr_aload_n dJ4_pollFirst_24 rfl rfl ?_
  refine zr_iload_n dJ4_pollFirst_25 rfl ?_
  refine zr_aload_n dJ4_pollFirst_26 rfl rfl ?_
  refine zr_alen dJ4_pollFirst_27 (Or.inl z_up_s) ?_
  rw [show zi ((17 : Nat) : Int) = zi 17 from rfl]
  refine zc_s2 dJ4_pollFirst_28 hJ4_inc gJ4_inc rfl rfl 0 0 0 (by omega) (Nat.zero_le _) (Nat.zero_le _) q1131 q1132 ?_
  refine kJ4_inc (by omega) (zK_i ?_)
  refine zr_putf dJ4_pollFirst_31 nJ4 (k := 1) (by decide) q232 (Or.inl rfl) (Or.inl rfl) u1 (z_ble rfl) rfl rfl ?_
  refine zr_aload_n dJ4_pollFirst_34 rfl rfl ?_
  refine zr_areturn dJ4_pollFirst_35 rfl rfl rfl ?_
  simp only [List.length_cons] at *
  refine k _ ((h + 1) % 17) (z_upV f h .null) ⟨?_, d2, by rw [z_up_n (fun z => d2 z.symm), z_up_s, Int.toNat_natCast], by omega, by omega, fun i y hy => ?_, fun i i1 i2 => ?_⟩ (fun b y hb b1 b2 => ?_)
  · rw [z_up_s]
    simp only [List.set]
    rw [show (((h : Nat) : Int) + 1) % 17 = (((h + 1) % 17 : Nat) : Int) by omega, show (h + (l.length + 1)) % 17 = ((h + 1) % 17 + l.length) % 17 by omega]
  · have hil := (List.getElem?_eq_some_iff.mp hy).1
    have := d6 (i + 1) y (by rw [List.getElem?_cons_succ]; exact hy)
    rw [show ((h + 1) % 17 + i) % 17 = (h + (i + 1)) % 17 by omega, z_upV_n (by omega)]
    exact this
  · by_cases i3 : i = 16
    · subst i3
      rw [show ((h + 1) % 17 + 16) % 17 = h by omega, z_upV_s]
    · rw [show ((h + 1) % 17 + i) % 17 = (h + (i + 1)) % 17 by omega, z_upV_n (by omega)]
      exact d7 (i + 1) (by omega) (by omega)
  · rw [z_up_n b1, z_up_n b2]
    exact hb
theorem kJ4_removeFirst {G : State} {d rc rs : Nat} {ah : zH} {Q : zRs → zH → Prop} {a e h : Nat} {f : Nat → Value} {x : Nat} {l : List Nat} (H : zDq G ah a e h f (x :: l)) (hd : 2 ≤ d) (k : ∀ (ah9 : zH) (h9 : Nat) (f9 : Nat → Value), zDq G ah9 a e h9 f9 l → (∀ b o, ah b = some o → b ≠ a → b ≠ e → ah9 b = some o) → Q (.inl (some (.ref x))) ah9) : zW G mJ4_removeFirst d rc rs 0 (zent [.ref a]) [] ah Q := by
  refine zW_open 1 [some (.ref a), none] rfl ?_
  refine zr_aload_n dJ4_removeFirst_0 rfl rfl ?_
  refine zc_v0 dJ4_removeFirst_1 hJ4_pollFirst gJ4_pollFirst rfl rfl 1 0 0 (by omega) (Nat.zero_le _) (Nat.zero_le _) q1124 q1125 q1126 H.rc ?_
  refine kJ4_pollFirst H (by omega) (fun ah9 h9 f9 q1 q2 => zK_i ?_)
  refine zr_astore_n dJ4_removeFirst_4 (by decide) rfl (zs2_1 rfl ?_)
  refine zr_aload_n dJ4_removeFirst_5 rfl rfl ?_
  refine zr_ifnonnull dJ4_removeFirst_6 (tgt := 17) (by decide) ?_
  refine zr_aload_n dJ4_removeFirst_17 rfl rfl ?_
  refine zr_areturn dJ4_removeFirst_18 rfl rfl rfl ?_
  exact k ah9 h9 f9 q1 q2
theorem kJ4_pollLast {G : State} {d rc rs : Nat} {ah : zH} {Q : zRs → zH → Prop} {a e h : Nat} {f : Nat → Value} {x : Nat} {l : List Nat} (H : zDq G ah a e h f (l ++ [x])) (hd : 1 ≤ d) (k : ∀ (ah9 : zH) (f9 : Nat → Value), zDq G ah9 a e h f9 l → (∀ b o, ah b = some o → b ≠ a → b ≠ e → ah9 b = some o) → Q (.inl (some (.ref x))) ah9) : zW G mJ4_pollLast d rc rs 0 (zent [.ref a]) [] ah Q := by
  refine zW_open 3 [some (.ref a), none, none, none] rfl ?_
  obtain ⟨d1, d2, d3, d4, d5, d6, d7⟩ := H
  have hll : (l ++ [x]).length = l.length + 1 := by simp
  rw [hll] at d1 d5 d7
  have d0 : f ((h + l.length) % 17) = .ref x := d6 l.length x (by simp)
  have ti : ((((h + (l.length + 1)) % 17 : Nat) : Int) + 16) % 17 = (((h + l.length) % 17 : Nat) : Int) := by omega
  have hv : z_ref (f ((((h + l.length) % 17 : Nat) : Int)).toNat) = true := by rw [Int.toNat_natCast, d0]; rfl
  refine zr_aload_n dJ4_pollLast_0 rfl rfl ?_
  refine zr_getf dJ4_pollLast_1 nJ4 (k := 0) (by decide) q231 (Or.inl rfl) d1 rfl ?_
  refine zr_dup dJ4_pollLast_4 rfl ?_
  refine zr_astore_n dJ4_pollLast_5 (by decide) rfl (zs4_1 rfl ?_)
  refine zr_aload_n dJ4_pollLast_6 rfl rfl ?_
  refine zr_getf dJ4_pollLast_7 nJ4 (k := 2) (by decide) q233 (Or.inl rfl) d1 rfl ?_
  refine zr_aload_n dJ4_pollLast_10 rfl rfl ?_
  refine zr_alen dJ4_pollLast_11 (Or.inl d3) ?_
  rw [show zi ((17 : Nat) : Int) = zi 17 from rfl]
  refine zc_s2 dJ4_pollLast_12 hJ4_dec gJ4_dec rfl rfl 0 0 0 (by omega) (Nat.zero_le _) (Nat.zero_le _) q2096 q2097 ?_
  refine kJ4_dec (by omega) (zK_i ?_)
  rw [ti]
  refine zr_dup dJ4_pollLast_15 rfl ?_
  refine zr_istore_n dJ4_pollLast_16 (by decide) (zs4_2 rfl ?_)
  refine zc_s2 dJ4_pollLast_17 hJ4_elementAt gJ4_elementAt rfl rfl 0 0 0 (by omega) (Nat.zero_le _) (Nat.zero_le _) q1128 q1129 ?_
  refine kJ4_elementAt d3 (by omega) (by omega) hv (zK_i ?_)
  rw [Int.toNat_natCast, d0]
  refine zr_astore_n dJ4_pollLast_20 (by decide) rfl (zs4_3 rfl ?_)
  refine zr_aload_n dJ4_pollLast_21 rfl rfl ?_
  refine zr_ifnull dJ4_pollLast_22 ?_
  refine zr_aload_n dJ4_pollLast_25 rfl rfl ?_
  refine zr_aload_n dJ4_pollLast_26 rfl rfl ?_
  refine zr_iload_n dJ4_pollLast_27 rfl ?_
  refine zr_dup_x1 dJ4_pollLast_28 rfl rfl ?_
  refine zr_putf dJ4_pollLast_29 nJ4 (k := 2) (by decide) q233 (Or.inl rfl) (Or.inl rfl) d1 (z_ble rfl) rfl rfl ?_
  refine zr_null dJ4_pollLast_32 ?_
  refine zr_aastoreN dJ4_pollLast_33 ((z_up_n (fun z => d2 z.symm)).trans d3) (by decide) (by omega) ?_
  refine zr_aload_n dJ4_pollLast_34 rfl rfl ?_
  refine zr_areturn dJ4_pollLast_35 rfl rfl rfl ?_
  refine k _ (z_upV f ((h + l.length) % 17) .null) ⟨by rw [z_up_n d2, z_up_s]; rfl, d2, by rw [z_up_s, Int.toNat_natCast], d4, by omega, fun i y hy => ?_, fun i i1 i2 => ?_⟩ (fun b y hb b1 b2 => ?_)
  · have hil := (List.getElem?_eq_some_iff.mp hy).1
    rw [z_upV_n (by omega)]
    exact d6 i y (by rw [List.getElem?_append_left hil]; exact hy)
  · by_cases i3 : i = l.length
    · subst i3
      rw [z_upV_s]
    · rw [z_upV_n (by omega)]
      exact d7 i (by omega) i2
  · rw [z_up_n b2, z_up_n b1]
    exact hb
theorem kJ4_removeLast {G : State} {d rc rs : Nat} {ah : zH} {Q : zRs → zH → Prop} {a e h : Nat} {f : Nat → Value} {x : Nat} {l : List Nat} (H : zDq G ah a e h f (l ++ [x])) (hd : 2 ≤ d) (k : ∀ (ah9 : zH) (f9 : Nat → Value), zDq G ah9 a e h f9 l → (∀ b o, ah b = some o → b ≠ a → b ≠ e → ah9 b = some o) → Q (.inl (some (.ref x))) ah9) : zW G mJ4_removeLast d rc rs 0 (zent [.ref a]) [] ah Q := by
  refine zW_open 1 [some (.ref a), none] rfl ?_
  refine zr_aload_n dJ4_removeLast_0 rfl rfl ?_
  refine zc_v0 dJ4_removeLast_1 hJ4_pollLast gJ4_pollLast rfl rfl 1 0 0 (by omega) (Nat.zero_le _) (Nat.zero_le _) q2092 q2093 q2094 H.rc ?_
  refine kJ4_pollLast H (by omega) (fun ah9 f9 q1 q2 => zK_i ?_)
  refine zr_astore_n dJ4_removeLast_4 (by decide) rfl (zs2_1 rfl ?_)
  refine zr_aload_n dJ4_removeLast_5 rfl rfl ?_
  refine zr_ifnonnull dJ4_removeLast_6 (tgt := 17) (by decide) ?_
  refine zr_aload_n dJ4_removeLast_17 rfl rfl ?_
  refine zr_areturn dJ4_removeLast_18 rfl rfl rfl ?_
  exact k ah9 f9 q1 q2
def pNul (g : Nat → Value) (i n : Nat) : Nat → Value := fun j => if i ≤ j ∧ j < i + n then .null else g j
theorem pNul_s {g : Nat → Value} {i n : Nat} : pNul (z_upV g i .null) (i + 1) n = pNul g i (n + 1) := by
  funext j
  unfold pNul z_upV
  by_cases h1 : i + 1 ≤ j ∧ j < i + 1 + n
  · rw [if_pos h1, if_pos (by omega)]
  · rw [if_neg h1]
    try dsimp only
    by_cases h2 : j = i
    · rw [if_pos h2, if_pos (by omega)]
    · rw [if_neg h2, if_neg (by omega)]
theorem kJ4_circularClearL {G : State} {d rc rs : Nat} {ah : zH} {Q : zRs → zH → Prop} {e : Nat} {t : Int} (ht : 0 ≤ t ∧ t < 17) {to : Nat} (hto : to ≤ 17) : ∀ (n i : Nat) (g : Nat → Value), i + n = to → (zW G mJ4_circularClear d rc rs 27 [some (.ref e), some (.int (zi (to : Nat))), some (.int (zi t)), some (.int (zi (to : Nat)))] [] (z_up ah e (.inr (.object "java/lang/Object", 17, pNul g i n))) Q) → zW G mJ4_circularClear d rc rs 12 [some (.ref e), some (.int (zi (i : Nat))), some (.int (zi t)), some (.int (zi (to : Nat)))] [] (z_up ah e (.inr (.object "java/lang/Object", 17, g))) Q := by
  intro n
  induction n with
  | zero =>
    intro i g g1 k
    refine zr_iload_n dJ4_circularClear_12 rfl ?_
    refine zr_iload_n dJ4_circularClear_13 rfl ?_
    refine zr_icmpge dJ4_circularClear_14 (tgt := 27) (by decide) (by omega) (by omega) (fun h14 => ?_) (fun h14 => ?_)
    · obtain rfl : i = to := by omega
      have e0 : pNul g i 0 = g := by funext j; unfold pNul; rw [if_neg (by omega)]
      rw [e0] at k
      exact k
    · exfalso; omega
  | succ n ih =>
    intro i g g1 k
    refine zr_iload_n dJ4_circularClear_12 rfl ?_
    refine zr_iload_n dJ4_circularClear_13 rfl ?_
    refine zr_icmpge dJ4_circularClear_14 (tgt := 27) (by decide) (by omega) (by omega) (fun h14 => ?_) (fun h14 => ?_)
    · exfalso; omega
    · refine zr_aload_n dJ4_circularClear_17 rfl rfl ?_
      refine zr_iload_n dJ4_circularClear_18 rfl ?_
      refine zr_null dJ4_circularClear_19 ?_
      refine zr_aastoreN dJ4_circularClear_20 z_up_s (by decide) (by omega) ?_
      rw [z_up_o, Int.toNat_natCast]
      refine zr_iinc dJ4_circularClear_21 rfl (by decide) (zs4_1 rfl ?_)
      refine zr_goto dJ4_circularClear_24 (tgt := 12) (by decide) ?_
      exact ih (i + 1) (z_upV g i .null) (by omega) (by rw [pNul_s]; exact k)
theorem kJ4_circularClear {G : State} {d rc rs : Nat} {ah : zH} {Q : zRs → zH → Prop} {e h t : Nat} {f : Nat → Value} (he : ah e = some (.inr (.object "java/lang/Object", 17, f))) (hh : h < 17) (ht : t < 17) (hn : ∀ j, j < 17 → (if h ≤ t then (j < h ∨ t ≤ j) else (t ≤ j ∧ j < h)) → f j = .null) (k : ∀ g : Nat → Value, (∀ j, j < 17 → g j = .null) → Q (.inl none) (z_up ah e (.inr (.object "java/lang/Object", 17, g)))) : zW G mJ4_circularClear d rc rs 0 (zent [.ref e, .int (zi (h : Nat)), .int (zi (t : Nat))]) [] ah Q := by
  refine zW_open 1 [some (.ref e), some (.int (zi (h : Nat))), some (.int (zi (t : Nat))), none] rfl ?_
  rw [← z_up_self he]
  refine zr_iload_n dJ4_circularClear_0 rfl ?_
  refine zr_iload_n dJ4_circularClear_1 rfl ?_
  refine zr_icmpgt dJ4_circularClear_2 (tgt := 9) (by decide) (by omega) (by omega) (fun h2 => ?_) (fun h2 => ?_)
  · refine zr_aload_n dJ4_circularClear_9 rfl rfl ?_
    refine zr_alen dJ4_circularClear_10 (Or.inl z_up_s) ?_
    refine zr_istore_n dJ4_circularClear_11 (by decide) (zs4_3 rfl ?_)
    refine kJ4_circularClearL (to := 17) (by omega) (by decide) (17 - h) h f (by omega) ?_
    refine zr_iload_n dJ4_circularClear_27 rfl ?_
    refine zr_iload_n dJ4_circularClear_28 rfl ?_
    refine zr_icmpne dJ4_circularClear_29 (tgt := 35) (by decide) (by omega) (by omega) (fun h29 => ?_) (fun h29 => ?_)
    · refine zr_iconst dJ4_circularClear_35 ?_
      refine zr_istore_n dJ4_circularClear_36 (by decide) (zs4_1 rfl ?_)
      refine zr_iload_n dJ4_circularClear_37 rfl ?_
      refine zr_istore_n dJ4_circularClear_38 (by decide) (zs4_3 rfl ?_)
      refine zr_goto dJ4_circularClear_39 (tgt := 12) (by decide) ?_
      refine kJ4_circularClearL (to := t) (by omega) (by omega) t 0 _ (by omega) ?_
      refine zr_iload_n dJ4_circularClear_27 rfl ?_
      refine zr_iload_n dJ4_circularClear_28 rfl ?_
      refine zr_icmpne dJ4_circularClear_29 (tgt := 35) (by decide) (by omega) (by omega) (fun h29 => absurd rfl h29) (fun h29 => ?_)
      refine zr_goto dJ4_circularClear_32 (tgt := 42) (by decide) ?_
      refine zr_return dJ4_circularClear_42 rfl ?_
      refine k _ (fun j hj => ?_)
      unfold pNul
      split
      · rfl
      · split
        · rfl
        · exact hn j hj (by rw [if_neg (by omega)]; omega)
    · exfalso; omega
  · refine zr_iload_n dJ4_circularClear_5 rfl ?_
    refine zr_goto dJ4_circularClear_6 (tgt := 11) (by decide) ?_
    refine zr_istore_n dJ4_circularClear_11 (by decide) (zs4_3 rfl ?_)
    refine kJ4_circularClearL (to := t) (by omega) (by omega) (t - h) h f (by omega) ?_
    refine zr_iload_n dJ4_circularClear_27 rfl ?_
    refine zr_iload_n dJ4_circularClear_28 rfl ?_
    refine zr_icmpne dJ4_circularClear_29 (tgt := 35) (by decide) (by omega) (by omega) (fun h29 => ?_) (fun h29 => ?_)
    · exfalso; omega
    · refine zr_goto dJ4_circularClear_32 (tgt := 42) (by decide) ?_
      refine zr_return dJ4_circularClear_42 rfl ?_
      refine k _ (fun j hj => ?_)
      unfold pNul
      split
      · rfl
      · exact hn j hj (by rw [if_pos (by omega)]; omega)
theorem kJ4_clear {G : State} {d rc rs : Nat} {ah : zH} {Q : zRs → zH → Prop} {a e h : Nat} {f : Nat → Value} {l : List Nat} (H : zDq G ah a e h f l) (hd : 1 ≤ d) (k : ∀ (ah9 : zH) (f9 : Nat → Value), zDq G ah9 a e 0 f9 [] → (∀ b o, ah b = some o → b ≠ a → b ≠ e → ah9 b = some o) → Q (.inl none) ah9) : zW G mJ4_clear d rc rs 0 (zent [.ref a]) [] ah Q := by
  refine zW_open 0 [some (.ref a)] rfl ?_
  obtain ⟨d1, d2, d3, d4, d5, d6, d7⟩ := H
  refine zr_aload_n dJ4_clear_0 rfl rfl ?_
  refine zr_getf dJ4_clear_1 nJ4 (k := 0) (by decide) q231 (Or.inl rfl) d1 rfl ?_
  refine zr_aload_n dJ4_clear_4 rfl rfl ?_
  refine zr_getf dJ4_clear_5 nJ4 (k := 1) (by decide) q232 (Or.inl rfl) d1 rfl ?_
  refine zr_aload_n dJ4_clear_8 rfl rfl ?_
  refine zr_getf dJ4_clear_9 nJ4 (k := 2) (by decide) q233 (Or.inl rfl) d1 rfl ?_
  refine zc_s3 dJ4_clear_12 hJ4_circularClear gJ4_circularClear rfl rfl 0 0 0 (by omega) (Nat.zero_le _) (Nat.zero_le _) q2110 q2111 ?_
  refine kJ4_circularClear d3 d4 (by omega) (fun j hj hc => ?_) (fun g hg => zK_v ?_)
  · have := d7 ((j + 17 - h) % 17) (by split at hc <;> omega) (by omega)
    rw [show (h + (j + 17 - h) % 17) % 17 = j by omega] at this
    exact this
  refine zr_aload_n dJ4_clear_15 rfl rfl ?_
  refine zr_aload_n dJ4_clear_16 rfl rfl ?_
  refine zr_iconst dJ4_clear_17 ?_
  refine zr_dup_x1 dJ4_clear_18 rfl rfl ?_
  refine zr_putf dJ4_clear_19 nJ4 (k := 2) (by decide) q233 (Or.inl rfl) (Or.inl rfl) (by rw [z_up_n d2]; exact d1) (z_ble rfl) rfl rfl ?_
  refine zr_putf dJ4_clear_22 nJ4 (k := 1) (by decide) q232 (Or.inl rfl) (Or.inl rfl) z_up_s (z_ble rfl) rfl rfl ?_
  refine zr_return dJ4_clear_25 rfl ?_
  refine k _ g ⟨z_up_s, d2, by rw [z_up_n (fun z => d2 z.symm), z_up_n (fun z => d2 z.symm), z_up_s], by decide, by decide, fun i x hx => by simp at hx, fun i _ i2 => hg _ (by omega)⟩ (fun b y hb b1 b2 => ?_)
  rw [z_up_n b1, z_up_n b1, z_up_n b2]
  exact hb
