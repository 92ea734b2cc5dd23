set_option maxRecDepth 100000
/-! ===== ArrayList ===== -/
theorem kJ17_copyOf_2 {G : State} {d rc rs : Nat} {ah : zH} {Q : zRs → zH → Prop} {a n : Nat} {m : Int} {f : Nat → Value} {Cn : String} (hca : Cond.castable Cn "java/lang/Object" ∈ lw_tbl) (hx : zAO G ah a n f) (hn : n ≤ 1000) (hm : 0 ≤ m ∧ m ≤ 1000) (hel : ∀ i, i < n → zEl G ah Cn (f i)) (hd : 2 ≤ d) (hc : 1 ≤ rc) (hs : m.toNat ≤ rs) (k : ∀ q, ah q = none → Q (.inl (some (.ref q))) (z_up ah q (.inr (.object "java/lang/Object", m.toNat, (fun j => if j < n ∧ j < m.toNat then f j else .null))))) : zW G mJ17_copyOf_2 d rc rs 0 (zent [.ref a, .int (zi m)]) [] ah Q := by
  refine zW_open 0 [some (.ref a), some (.int (zi m))] rfl ?_
  refine zr_aload_n dJ17_copyOf_2_0 rfl rfl ?_
  refine zr_iload_n dJ17_copyOf_2_1 rfl ?_
  refine zr_aload_n dJ17_copyOf_2_2 rfl rfl ?_
  refine zr_getC dJ17_copyOf_2_3 q976 q2660 q2659 q977 q1010 hx rfl (by omega) ?_
  refine zc_s3 dJ17_copyOf_2_6 hJ17_copyOf_3 gJ17_copyOf_3 rfl rfl 1 1 m.toNat (by omega) (by omega) (by omega) q1011 q1012 ?_
  refine kJ17_copyOf_3 hca hx hn hm hel (by omega) (by omega) (by omega) (fun q hq => zK_i ?_)
  refine zr_areturn dJ17_copyOf_2_9 rfl rfl rfl ?_
  exact k q hq
/-- a list a over the array e of n places holds l -/
def zLst (G : State) (ah : zH) (a e n : Nat) (mc : Int) (f : Nat → Value) (l : List Nat) : Prop := ah a = some (.inl (13, [.int (zi mc), .ref e, .int (zi (l.length : Nat))])) ∧ ((n = 0 ∧ e = zEm G) ∨ (0 < n ∧ a ≠ e ∧ ah e = some (.inr (.object "java/lang/Object", n, f)))) ∧ l.length ≤ n ∧ n ≤ 100 ∧ (∀ (i x : Nat), l[i]? = some x → f i = .ref x) ∧ (∀ i, l.length ≤ i → i < n → f i = .null)
theorem zLst.ao {G : State} {ah : zH} {a e n : Nat} {mc : Int} {f : Nat → Value} {l : List Nat} (h : zLst G ah a e n mc f l) : zAO G ah e n f := by
  rcases h.2.1 with ⟨h1, h2⟩ | h
  · exact Or.inr ⟨h2, h1⟩
  · exact Or.inl h.2.2
theorem zLst.el {G : State} {ah : zH} {a e n : Nat} {mc : Int} {f : Nat → Value} {l : List Nat} {Cn : String} (h : zLst G ah a e n mc f l) (hc : ∀ x ∈ l, zRc G ah x Cn) : ∀ i, i < n → zEl G ah Cn (f i) := by
  obtain ⟨h1, h2, h3, h4, h5, h6⟩ := h
  intro i hi
  by_cases hl : i < l.length
  · exact Or.inr ⟨l[i], h5 i _ (List.getElem?_eq_getElem hl), hc _ (List.getElem_mem hl)⟩
  · exact Or.inl (h6 i (by omega) hi)
theorem zLst.rc {G : State} {ah : zH} {a e n : Nat} {mc : Int} {f : Nat → Value} {l : List Nat} (h : zLst G ah a e n mc f l) : zRc G ah a "java/util/ArrayList" := Or.inl ⟨13, _, TJ2, 3, tyJ2, nJ2, h.1⟩
theorem zLst.fr {G : State} {ah ah' : zH} {a e n : Nat} {mc : Int} {f : Nat → Value} {l : List Nat} (h : zLst G ah a e n mc f l) (hk : ∀ b o, (b = a ∨ b = e) → ah b = some o → ah' b = some o) : zLst G ah' a e n mc f l := by
  obtain ⟨h1, h2, h3⟩ := h
  refine ⟨hk _ _ (Or.inl rfl) h1, ?_, h3⟩
  rcases h2 with h2 | h2
  · exact Or.inl h2
  · exact Or.inr ⟨h2.1, h2.2.1, hk _ _ (Or.inr rfl) h2.2.2⟩
theorem z_half {x : Int} (h : 0 ≤ x ∧ x ≤ 100) : (zi x) >>> ((zi 1) &&& 31) = zi (x / 2) := by
  obtain ⟨n, rfl⟩ : ∃ n : Nat, x = n := ⟨x.toNat, by omega⟩
  have hn : n < 101 := by omega
  have : ∀ m : Fin 101, (zi ((m : Nat) : Int)) >>> ((zi 1) &&& 31) = zi (((m : Nat) : Int) / 2) := by decide +kernel
  exact this ⟨n, hn⟩
theorem kJ0_init {G : State} {d rc rs : Nat} {ah : zH} {Q : zRs → zH → Prop} {a : Nat} (hd : 1 ≤ d) (k : Q (.inl none) ah) : zW G mJ0_init d rc rs 0 (zent [.ref a]) [] ah Q := by
  refine zW_open 0 [some (.ref a)] rfl ?_
  refine zr_aload_n dJ0_init_0 rfl rfl ?_
  refine zr_objInit dJ0_init_1 q163 q144 q145 (by decide) (by omega) ?_
  refine zr_return dJ0_init_4 rfl ?_
  exact k
theorem kJ1_init {G : State} {d rc rs : Nat} {ah : zH} {Q : zRs → zH → Prop} {a : Nat} {v e w : Value} (h : ah a = some (.inl (13, [v, e, w]))) (hd : 2 ≤ d) (k : Q (.inl none) (z_up ah a (.inl (13, [.int (zi 0), e, w])))) : zW G mJ1_init d rc rs 0 (zent [.ref a]) [] ah Q := by
  refine zW_open 0 [some (.ref a)] rfl ?_
  refine zr_aload_n dJ1_init_0 rfl rfl ?_
  refine zc_i0 rfl rfl rfl dJ1_init_1 hJ0_init gJ0_init rfl rfl 1 0 0 (by omega) (Nat.zero_le _) (Nat.zero_le _) q160 q161 ?_
  refine kJ0_init (by omega) (zK_v ?_)
  refine zr_aload_n dJ1_init_4 rfl rfl ?_
  refine zr_iconst dJ1_init_5 ?_
  refine zr_putf dJ1_init_6 nJ2 (k := 0) (by decide) q170 (Or.inl rfl) (Or.inl rfl) h (z_ble rfl) rfl rfl ?_
  refine zr_return dJ1_init_9 rfl ?_
  exact k
theorem kJ2_init {G : State} {d rc rs : Nat} {ah : zH} {Q : zRs → zH → Prop} {a : Nat} (h : ah a = some (.inl (13, [.int (zi 0), .null, .int (zi 0)]))) (hd : 3 ≤ d) (k : Q (.inl none) (z_up ah a (.inl (13, [.int (zi 0), .ref (zEm G), .int (zi 0)])))) : zW G mJ2_init d rc rs 0 (zent [.ref a]) [] ah Q := by
  refine zW_open 0 [some (.ref a)] rfl ?_
  refine zW_tb (fun T => ?_)
  refine zr_aload_n dJ2_init_0 rfl rfl ?_
  refine zc_i0 rfl rfl rfl dJ2_init_1 hJ1_init gJ1_init rfl rfl 2 0 0 (by omega) (Nat.zero_le _) (Nat.zero_le _) q157 q158 ?_
  refine kJ1_init h (by omega) (zK_v ?_)
  refine zr_aload_n dJ2_init_4 rfl rfl ?_
  refine zr_getstatic dJ2_init_5 q164 (z_empty T).1 ?_
  refine zr_putf dJ2_init_8 nJ2 (k := 1) (by decide) q166 (Or.inl rfl) (Or.inl rfl) z_up_s (z_ble rfl) rfl rfl ?_
  refine zr_return dJ2_init_11 rfl ?_
  rw [z_up_o]
  exact k
theorem kJ2_size {G : State} {d rc rs : Nat} {ah : zH} {Q : zRs → zH → Prop} {a e n : Nat} {mc : Int} {f : Nat → Value} {l : List Nat} (hL : zLst G ah a e n mc f l) (k : Q (.inl (some (.int (zi (l.length : Nat))))) ah) : zW G mJ2_size d rc rs 0 (zent [.ref a]) [] ah Q := by
  refine zW_open 0 [some (.ref a)] rfl ?_
  refine zr_aload_n dJ2_size_0 rfl rfl ?_
  refine zr_getf dJ2_size_1 nJ2 (k := 2) (by decide) q169 (Or.inl rfl) hL.1 rfl ?_
  refine zr_ireturn dJ2_size_4 rfl (by first | rfl | exact z_nb _) ?_
  exact k
theorem kJ2_elementData {G : State} {d rc rs : Nat} {ah : zH} {Q : zRs → zH → Prop} {a e n : Nat} {mc : Int} {f : Nat → Value} {l : List Nat} (hL : zLst G ah a e n mc f l) {i : Int} {x : Nat} (hi : 0 ≤ i) (hx : l[i.toNat]? = some x) (k : Q (.inl (some (.ref x))) ah) : zW G mJ2_elementData d rc rs 0 (zent [.ref a, .int (zi i)]) [] ah Q := by
  refine zW_open 0 [some (.ref a), some (.int (zi i))] rfl ?_
  refine zW_tb (fun T => ?_)
  have hil : i.toNat < l.length := (List.getElem?_eq_some_iff.mp hx).1
  have h3 := hL.2.2.1
  have h4 := hL.2.2.2.1
  refine zr_aload_n dJ2_elementData_0 rfl rfl ?_
  refine zr_getf dJ2_elementData_1 nJ2 (k := 1) (by decide) q166 (Or.inl rfl) hL.1 rfl ?_
  refine zr_iload_n dJ2_elementData_4 rfl ?_
  refine zr_aaload dJ2_elementData_5 (hL.ao.ar T) rfl (by omega) (by omega) (hL.2.2.2.2.1 _ _ hx) ?_
  refine zr_areturn dJ2_elementData_6 rfl rfl rfl ?_
  exact k
theorem kJ24_checkIndex {G : State} {d rc rs : Nat} {ah : zH} {Q : zRs → zH → Prop} {i n : Int} (hi : 0 ≤ i ∧ i < n) (hn : n ≤ 2147483647) (hd : 1 ≤ d) (k : Q (.inl (some (.int (zi i)))) ah) : zW G mJ24_checkIndex d rc rs 0 (zent [.int (zi i), .int (zi n)]) [] ah Q := by
  refine zW_open 0 [some (.int (zi i)), some (.int (zi n))] rfl ?_
  refine zr_iload_n dJ24_checkIndex_0 rfl ?_
  refine zr_iload_n dJ24_checkIndex_1 rfl ?_
  refine zr_null dJ24_checkIndex_2 ?_
  refine zc_s3 dJ24_checkIndex_3 hJ19_checkIndex gJ19_checkIndex rfl rfl 0 0 0 (by omega) (Nat.zero_le _) (Nat.zero_le _) q847 q848 ?_
  refine kJ19_checkIndexN (by omega) (by omega) (zK_i ?_)
  refine zr_ireturn dJ24_checkIndex_6 rfl (by first | rfl | exact z_nb _) ?_
  exact k
theorem kJ2_get {G : State} {d rc rs : Nat} {ah : zH} {Q : zRs → zH → Prop} {a e n : Nat} {mc : Int} {f : Nat → Value} {l : List Nat} (hL : zLst G ah a e n mc f l) {i : Int} {x : Nat} (hi : 0 ≤ i) (hx : l[i.toNat]? = some x) (hd : 2 ≤ d) (k : Q (.inl (some (.ref x))) ah) : zW G mJ2_get d rc rs 0 (zent [.ref a, .int (zi i)]) [] ah Q := by
  refine zW_open 0 [some (.ref a), some (.int (zi i))] rfl ?_
  have hil : i.toNat < l.length := (List.getElem?_eq_some_iff.mp hx).1
  have h3 := hL.2.2.1
  have h4 := hL.2.2.2.1
  refine zr_iload_n dJ2_get_0 rfl ?_
  refine zr_aload_n dJ2_get_1 rfl rfl ?_
  refine zr_getf dJ2_get_2 nJ2 (k := 2) (by decide) q169 (Or.inl rfl) hL.1 rfl ?_
  refine zc_s2 dJ2_get_5 hJ24_checkIndex gJ24_checkIndex rfl rfl 1 0 0 (by omega) (Nat.zero_le _) (Nat.zero_le _) q844 q845 ?_
  refine kJ24_checkIndex (by omega) (by omega) (by omega) (zK_i ?_)
  refine zr_pop dJ2_get_8 rfl ?_
  refine zr_aload_n dJ2_get_9 rfl rfl ?_
  refine zr_iload_n dJ2_get_10 rfl ?_
  refine zc_v1 dJ2_get_11 hJ2_elementData gJ2_elementData rfl rfl 0 0 0 (by omega) (Nat.zero_le _) (Nat.zero_le _) q850 q851 q852 hL.rc ?_
  refine kJ2_elementData hL (by omega) hx (zK_i ?_)
  refine zr_areturn dJ2_get_14 rfl rfl rfl ?_
  exact k
theorem kJ2_toArray {G : State} {d rc rs : Nat} {ah : zH} {Q : zRs → zH → Prop} {a e n : Nat} {mc : Int} {f : Nat → Value} {l : List Nat} (hL : zLst G ah a e n mc f l) {Cn : String} (hca : Cond.castable Cn "java/lang/Object" ∈ lw_tbl) (hel : ∀ x ∈ l, zRc G ah x Cn) (hd : 3 ≤ d) (hc : 1 ≤ rc) (hs : l.length ≤ rs) (k : ∀ q, ah q = none → ∀ g : Nat → Value, (∀ i x : Nat, l[i]? = some x → g i = .ref x) → Q (.inl (some (.ref q))) (z_up ah q (.inr (.object "java/lang/Object", l.length, g)))) : zW G mJ2_toArray d rc rs 0 (zent [.ref a]) [] ah Q := by
  refine zW_open 0 [some (.ref a)] rfl ?_
  have h3 := hL.2.2.1
  have h4 := hL.2.2.2.1
  refine zr_aload_n dJ2_toArray_0 rfl rfl ?_
  refine zr_getf dJ2_toArray_1 nJ2 (k := 1) (by decide) q166 (Or.inl rfl) hL.1 rfl ?_
  refine zr_aload_n dJ2_toArray_4 rfl rfl ?_
  refine zr_getf dJ2_toArray_5 nJ2 (k := 2) (by decide) q169 (Or.inl rfl) hL.1 rfl ?_
  refine zc_s2 dJ2_toArray_8 hJ17_copyOf_2 gJ17_copyOf_2 rfl rfl 2 1 l.length (by omega) (by omega) (by omega) q973 q974 ?_
  refine kJ17_copyOf_2 hca hL.ao (by omega) (by omega) (hL.el hel) (by omega) (by omega) (by simp) (fun q hq => zK_i ?_)
  refine zr_areturn dJ2_toArray_11 rfl rfl rfl ?_
  rw [Int.toNat_natCast]
  refine k q hq _ (fun i x hx => ?_)
  have hil := (List.getElem?_eq_some_iff.mp hx).1
  try dsimp only
  rw [if_pos (by omega)]
  exact hL.2.2.2.2.1 i x hx
theorem kJ2_grow {G : State} {d rc rs : Nat} {ah : zH} {Q : zRs → zH → Prop} {a e n : Nat} {mc : Int} {f : Nat → Value} {l : List Nat} (hL : zLst G ah a e n mc f l) {m : Int} {Cn : String} (hca : Cond.castable Cn "java/lang/Object" ∈ lw_tbl) (hel : ∀ x ∈ l, zRc G ah x Cn) (hm : (n : Int) < m ∧ m ≤ 26) (hd : 3 ≤ d) (hc : 1 ≤ rc) (hs : 40 ≤ rs) (k : ∀ (e9 n9 : Nat) (f9 : Nat → Value), ah e9 = none → m ≤ (n9 : Int) → n9 ≤ 40 → l.length ≤ n9 → (∀ (i x : Nat), l[i]? = some x → f9 i = .ref x) → (∀ i, l.length ≤ i → i < n9 → f9 i = .null) → Q (.inl (some (.ref e9))) (z_up (z_up ah e9 (.inr (.object "java/lang/Object", n9, f9))) a (.inl (13, [.int (zi mc), .ref e9, .int (zi (l.length : Nat))])))) : zW G mJ2_grow d rc rs 0 (zent [.ref a, .int (zi m)]) [] ah Q := by
  refine zW_open 2 [some (.ref a), some (.int (zi m)), none, none] rfl ?_
  refine zW_tb (fun T => ?_)
  have h3 := hL.2.2.1
  have hao := hL.ao
  refine zr_aload_n dJ2_grow_0 rfl rfl ?_
  refine zr_getf dJ2_grow_1 nJ2 (k := 1) (by decide) q166 (Or.inl rfl) hL.1 rfl ?_
  refine zr_alen dJ2_grow_4 (hao.ar T) ?_
  refine zr_istore_n dJ2_grow_5 (by decide) (zs4_2 rfl ?_)
  refine zr_iload_n dJ2_grow_6 rfl ?_
  refine zr_ifgt dJ2_grow_7 (tgt := 20) (by decide) (by omega) (fun h7 => ?_) (fun h7 => ?_)
  · refine zr_iload_n dJ2_grow_20 rfl ?_
    refine zr_iload_n dJ2_grow_21 rfl ?_
    refine zr_iload_n dJ2_grow_22 rfl ?_
    refine zr_isub dJ2_grow_23 ?_
    refine zr_iload_n dJ2_grow_24 rfl ?_
    refine zr_iconst dJ2_grow_25 ?_
    have hn0 : 0 < n := by omega
    refine zr_ishr dJ2_grow_26 (z_half (by omega)) ?_
    refine zc_s3 dJ2_grow_27 hJ15_newLength gJ15_newLength rfl rfl 1 0 0 (by omega) (Nat.zero_le _) (Nat.zero_le _) q1018 q500 ?_
    refine kJ15_newLength (by omega) (by omega) (by omega) (by omega) (zK_i ?_)
    generalize hw : (if (n : Int) / 2 ≤ m - n then m - n else (n : Int) / 2) = w
    have hw2 : 1 ≤ w ∧ m ≤ n + w ∧ w ≤ 26 := by rw [← hw]; split <;> omega
    refine zr_istore_n dJ2_grow_30 (by decide) (zs4_3 rfl ?_)
    refine zr_aload_n dJ2_grow_31 rfl rfl ?_
    refine zr_aload_n dJ2_grow_32 rfl rfl ?_
    refine zr_getf dJ2_grow_33 nJ2 (k := 1) (by decide) q166 (Or.inl rfl) hL.1 rfl ?_
    refine zr_iload_n dJ2_grow_36 rfl ?_
    refine zc_s2 dJ2_grow_37 hJ17_copyOf_2 gJ17_copyOf_2 rfl rfl 2 1 ((n : Int) + w).toNat (by omega) (by omega) (by omega) q973 q974 ?_
    refine kJ17_copyOf_2 hca hao (by omega) (by omega) (hL.el hel) (by omega) (by omega) (by omega) (fun q hq => zK_i ?_)
    have hqa : a ≠ q := fun z => by rw [← z, hL.1] at hq; cases hq
    refine zr_dup_x1 dJ2_grow_40 rfl rfl ?_
    refine zr_putf dJ2_grow_41 nJ2 (k := 1) (by decide) q166 (Or.inl rfl) (Or.inl rfl) ((z_up_n hqa).trans hL.1) (z_ble rfl) rfl rfl ?_
    refine zr_areturn dJ2_grow_44 rfl rfl rfl ?_
    refine k q ((n : Int) + w).toNat _ hq (by omega) (by omega) (by omega) (fun i x hx => ?_) (fun i i1 i2 => ?_)
    · have hil := (List.getElem?_eq_some_iff.mp hx).1
      try dsimp only
      rw [if_pos (by omega)]
      exact hL.2.2.2.2.1 i x hx
    · try dsimp only
      split
      · rename_i z; exact hL.2.2.2.2.2 i i1 z.1
      · rfl
  · refine zr_aload_n dJ2_grow_10 rfl rfl ?_
    have n0 : n = 0 := by omega
    have ee : e = zEm G := by rcases hL.2.1 with z | z
                              · exact z.2
                              · omega
    subst ee
    subst n0
    refine zr_getf dJ2_grow_11 nJ2 (k := 1) (by decide) q166 (Or.inl rfl) hL.1 rfl ?_
    refine zr_getstatic dJ2_grow_14 q164 (z_empty T).1 ?_
    refine zr_acmpeq (rx := some (zEm G)) (ry := some (zEm G)) dJ2_grow_17 (tgt := 45) (by decide) (fun _ => ?_) (fun h => absurd rfl h)
    refine zr_aload_n dJ2_grow_45 rfl rfl ?_
    refine zr_bipush dJ2_grow_46 rfl ?_
    refine zr_iload_n dJ2_grow_48 rfl ?_
    refine zc_s2 dJ2_grow_49 hJ16_max gJ16_max rfl rfl 0 0 0 (by omega) (Nat.zero_le _) (Nat.zero_le _) q1019 q503 ?_
    refine kJ16_max (by omega) (by omega) (zK_i ?_)
    generalize hw : (if m ≤ (10 : Int) then (10 : Int) else m) = w
    have hw2 : 10 ≤ w ∧ m ≤ w ∧ w ≤ 26 := by rw [← hw]; split <;> omega
    refine zr_anewarray dJ2_grow_52 q1020 q230 (by omega) (by omega) (by omega) (fun q hq => ?_)
    have hqa : a ≠ q := fun z => by rw [← z, hL.1] at hq; cases hq
    refine zr_dup_x1 dJ2_grow_55 rfl rfl ?_
    refine zr_putf dJ2_grow_56 nJ2 (k := 1) (by decide) q166 (Or.inl rfl) (Or.inl rfl) ((z_up_n hqa).trans hL.1) (z_ble rfl) rfl rfl ?_
    refine zr_areturn dJ2_grow_59 rfl rfl rfl ?_
    exact k q w.toNat _ hq (by omega) (by omega) (by omega) (fun i x hx => by have := (List.getElem?_eq_some_iff.mp hx).1; omega) (fun _ _ _ => rfl)
theorem kJ2_grow_2 {G : State} {d rc rs : Nat} {ah : zH} {Q : zRs → zH → Prop} {a e n : Nat} {mc : Int} {f : Nat → Value} {l : List Nat} (hL : zLst G ah a e n mc f l) {Cn : String} (hca : Cond.castable Cn "java/lang/Object" ∈ lw_tbl) (hel : ∀ x ∈ l, zRc G ah x Cn) (hm : l.length = n ∧ n ≤ 25) (hd : 4 ≤ d) (hc : 1 ≤ rc) (hs : 40 ≤ rs) (k : ∀ (e9 n9 : Nat) (f9 : Nat → Value), ah e9 = none → n < n9 → n9 ≤ 40 → l.length ≤ n9 → (∀ (i x : Nat), l[i]? = some x → f9 i = .ref x) → (∀ i, l.length ≤ i → i < n9 → f9 i = .null) → Q (.inl (some (.ref e9))) (z_up (z_up ah e9 (.inr (.object "java/lang/Object", n9, f9))) a (.inl (13, [.int (zi mc), .ref e9, .int (zi (l.length : Nat))])))) : zW G mJ2_grow_2 d rc rs 0 (zent [.ref a]) [] ah Q := by
  refine zW_open 0 [some (.ref a)] rfl ?_
  refine zr_aload_n dJ2_grow_2_0 rfl rfl ?_
  refine zr_aload_n dJ2_grow_2_1 rfl rfl ?_
  refine zr_getf dJ2_grow_2_2 nJ2 (k := 2) (by decide) q169 (Or.inl rfl) hL.1 rfl ?_
  refine zr_iconst dJ2_grow_2_5 ?_
  refine zr_iadd dJ2_grow_2_6 ?_
  refine zc_v1 dJ2_grow_2_7 hJ2_grow gJ2_grow rfl rfl 3 1 40 (by omega) (by omega) (by omega) q1014 q1016 sp8 hL.rc ?_
  refine kJ2_grow hL hca hel (by omega) (by omega) (by omega) (by omega) (fun e9 n9 f9 q1 q2 q3 q4 q5 q6 => zK_i ?_)
  refine zr_areturn dJ2_grow_2_10 rfl rfl rfl ?_
  exact k e9 n9 f9 q1 (by omega) q3 q4 q5 q6
theorem zLst_add {G : State} {ah : zH} {a e n : Nat} {mc : Int} {f : Nat → Value} {l : List Nat} {x : Nat} (h1 : ah a = some (.inl (13, [.int (zi mc), .ref e, .int (zi (l.length : Nat))]))) (h2 : a ≠ e ∧ ah e = some (.inr (.object "java/lang/Object", n, f))) (h3 : l.length < n) (h4 : n ≤ 100) (h5 : ∀ (i x : Nat), l[i]? = some x → f i = .ref x) (h6 : ∀ i, l.length ≤ i → i < n → f i = .null) :
    zLst G (z_up (z_up ah e (.inr (.object "java/lang/Object", n, z_upV f l.length (.ref x)))) a (.inl (13, [.int (zi mc), .ref e, .int (zi ((l.length : Nat) + 1))]))) a e n mc (z_upV f l.length (.ref x)) (l ++ [x]) := by
  refine ⟨by rw [z_up_s]; simp, Or.inr ⟨by omega, h2.1, by rw [z_up_n (fun z => h2.1 z.symm), z_up_s]⟩, by simp; omega, h4, fun i y hy => ?_, fun i i1 i2 => ?_⟩
  · by_cases hi : i < l.length
    · rw [List.getElem?_append_left hi] at hy
      rw [z_upV_n (by omega)]
      exact h5 i y hy
    · have hi2 : i = l.length := by
        have := (List.getElem?_eq_some_iff.mp hy).1
        simp at this
        omega
      subst hi2
      rw [List.getElem?_append_right (by omega)] at hy
      simp at hy
      rw [z_upV_s, hy]
  · simp at i1
    rw [z_upV_n (by omega)]
    exact h6 i (by omega) i2
theorem kJ2_add_2 {G : State} {d rc rs : Nat} {ah : zH} {Q : zRs → zH → Prop} {a e n : Nat} {mc : Int} {f : Nat → Value} {l : List Nat} (hL : zLst G ah a e n mc f l) {x : Nat} {Cn : String} (hca : Cond.castable Cn "java/lang/Object" ∈ lw_tbl) (hel : ∀ x ∈ l, zRc G ah x Cn) (hx : zRc G ah x Cn) (hxa : x ≠ a) (hm : n ≤ 25 ∨ l.length < n) (hd : 5 ≤ d) (hc : 1 ≤ rc) (hs : 40 ≤ rs) (k : ∀ (ah9 : zH) (e9 n9 : Nat) (f9 : Nat → Value), zLst G ah9 a e9 n9 mc f9 (l ++ [x]) → (∀ b o, ah b = some o → b ≠ a → b ≠ e → ah9 b = some o) → (ah e9 = none ∨ e9 = e) → Q (.inl none) ah9) : zW G mJ2_add_2 d rc rs 0 (zent [.ref a, .ref x, .ref e, .int (zi (l.length : Nat))]) [] ah Q := by
  refine zW_open 0 [some (.ref a), some (.ref x), some (.ref e), some (.int (zi (l.length : Nat)))] rfl ?_
  refine zW_tb (fun T => ?_)
  have h3 := hL.2.2.1
  have h4 := hL.2.2.2.1
  refine zr_iload_n dJ2_add_2_0 rfl ?_
  refine zr_aload_n dJ2_add_2_1 rfl rfl ?_
  refine zr_alen dJ2_add_2_2 (hL.ao.ar T) ?_
  refine zr_icmpne dJ2_add_2_3 (tgt := 11) (by decide) (by omega) (by omega) (fun hcmp => ?_) (fun hcmp => ?_)
  · have hdy : a ≠ e ∧ ah e = some (.inr (.object "java/lang/Object", n, f)) := by
      rcases hL.2.1 with z | z
      · omega
      · exact z.2
    refine zr_aload_n dJ2_add_2_11 rfl rfl ?_
    refine zr_iload_n dJ2_add_2_12 rfl ?_
    refine zr_aload_n dJ2_add_2_13 rfl rfl ?_
    refine zr_aastore dJ2_add_2_14 hdy.2 (by omega) (by omega) hx hca ?_
    refine zr_aload_n dJ2_add_2_15 rfl rfl ?_
    refine zr_iload_n dJ2_add_2_16 rfl ?_
    refine zr_iconst dJ2_add_2_17 ?_
    refine zr_iadd dJ2_add_2_18 ?_
    refine zr_putf dJ2_add_2_19 nJ2 (k := 2) (by decide) q169 (Or.inl rfl) (Or.inl rfl) ((z_up_n hdy.1).trans hL.1) (z_ble rfl) rfl rfl ?_
    refine zr_return dJ2_add_2_22 rfl ?_
    refine k _ e n _ (zLst_add (n := n) (x := x) hL.1 hdy (by omega) (by omega) hL.2.2.2.2.1 hL.2.2.2.2.2) (fun b y hb b1 b2 => ?_) (Or.inr rfl)
    rw [z_up_n b1, z_up_n b2]
    exact hb
  · refine zr_aload_n dJ2_add_2_6 rfl rfl ?_
    refine zc_v0 dJ2_add_2_7 hJ2_grow_2 gJ2_grow_2 rfl rfl 4 1 40 (by omega) (by omega) (by omega) q1097 q1099 sp10 hL.rc ?_
    refine kJ2_grow_2 hL hca hel (by omega) (by omega) (by omega) (by omega) (fun e9 n9 f9 q1 q2 q3 q4 q5 q6 => zK_i ?_)
    have hae : a ≠ e9 := fun z => by rw [← z, hL.1] at q1; cases q1
    
    refine zr_astore_n dJ2_add_2_10 (by decide) rfl (zs4_2 rfl ?_)
    have hx9 : zRc G (z_up (z_up ah e9 (.inr (.object "java/lang/Object", n9, f9))) a (.inl (13, [.int (zi mc), .ref e9, .int (zi (l.length : Nat))]))) x Cn := (hx.up q1).fr (fun o ho => by rw [z_up_n hxa]; exact ho)
    refine zr_aload_n dJ2_add_2_11 rfl rfl ?_
    refine zr_iload_n dJ2_add_2_12 rfl ?_
    refine zr_aload_n dJ2_add_2_13 rfl rfl ?_
    refine zr_aastore dJ2_add_2_14 ((z_up_n (fun z => hae z.symm)).trans z_up_s) (by omega) (by omega) hx9 hca ?_
    refine zr_aload_n dJ2_add_2_15 rfl rfl ?_
    refine zr_iload_n dJ2_add_2_16 rfl ?_
    refine zr_iconst dJ2_add_2_17 ?_
    refine zr_iadd dJ2_add_2_18 ?_
    refine zr_putf dJ2_add_2_19 nJ2 (k := 2) (by decide) q169 (Or.inl rfl) (Or.inl rfl) ((z_up_n hae).trans z_up_s) (z_ble rfl) rfl rfl ?_
    refine zr_return dJ2_add_2_22 rfl ?_
    refine k _ e9 n9 _ (zLst_add (ah := z_up (z_up ah e9 (.inr (.object "java/lang/Object", n9, f9))) a (.inl (13, [.int (zi mc), .ref e9, .int (zi (l.length : Nat))]))) (n := n9) (x := x) z_up_s ⟨hae, (z_up_n (fun z => hae z.symm)).trans z_up_s⟩ (by omega) (by omega) q5 q6) (fun b y hb b1 b2 => ?_) (Or.inl q1)
    have hb9 : b ≠ e9 := fun z => by rw [z, q1] at hb; cases hb
    rw [z_up_n b1, z_up_n hb9, z_up_n b1, z_up_n hb9]
    exact hb
theorem kJ2_add {G : State} {d rc rs : Nat} {ah : zH} {Q : zRs → zH → Prop} {a e n : Nat} {mc : Int} {f : Nat → Value} {l : List Nat} (hL : zLst G ah a e n mc f l) {x : Nat} {Cn : String} (hca : Cond.castable Cn "java/lang/Object" ∈ lw_tbl) (hel : ∀ x ∈ l, zRc G ah x Cn) (hx : zRc G ah x Cn) (hxa : x ≠ a) (hla : ∀ y ∈ l, y ≠ a) (hm : n ≤ 25 ∨ l.length < n) (hd : 6 ≤ d) (hc : 1 ≤ rc) (hs : 40 ≤ rs) (k : ∀ (ah9 : zH) (e9 n9 : Nat) (f9 : Nat → Value), zLst G ah9 a e9 n9 (mc + 1) f9 (l ++ [x]) → (∀ b o, ah b = some o → b ≠ a → b ≠ e → ah9 b = some o) → (ah e9 = none ∨ e9 = e) → Q (.inl (some (.int (zi 1)))) ah9) : zW G mJ2_add d rc rs 0 (zent [.ref a, .ref x]) [] ah Q := by
  refine zW_open 0 [some (.ref a), some (.ref x)] rfl ?_
  refine zr_aload_n dJ2_add_0 rfl rfl ?_
  refine zr_dup dJ2_add_1 rfl ?_
  refine zr_getf dJ2_add_2 nJ2 (k := 0) (by decide) q173 (Or.inr q172) hL.1 rfl ?_
  refine zr_iconst dJ2_add_5 ?_
  refine zr_iadd dJ2_add_6 ?_
  refine zr_putf dJ2_add_7 nJ2 (k := 0) (by decide) q173 (Or.inr q172) (Or.inl rfl) hL.1 (z_ble rfl) rfl rfl ?_
  have hL2 : zLst G (z_up ah a (.inl (13, [.int (zi (mc + 1)), .ref e, .int (zi (l.length : Nat))]))) a e n (mc + 1) f l := by
    obtain ⟨h1, h2, h3⟩ := hL
    refine ⟨z_up_s, ?_, h3⟩
    rcases h2 with h2 | h2
    · exact Or.inl h2
    · exact Or.inr ⟨h2.1, h2.2.1, by rw [z_up_n (fun z => h2.2.1 z.symm)]; exact h2.2.2⟩
  have hcg : ∀ y, y ≠ a → zRc G ah y Cn → zRc G (z_up ah a (.inl (13, [.int (zi (mc + 1)), .ref e, .int (zi (l.length : Nat))]))) y Cn := fun y hy h => h.fr (fun o ho => by rw [z_up_n hy]; exact ho)
  refine zr_aload_n dJ2_add_10 rfl rfl ?_
  refine zr_aload_n dJ2_add_11 rfl rfl ?_
  refine zr_aload_n dJ2_add_12 rfl rfl ?_
  refine zr_getf dJ2_add_13 nJ2 (k := 1) (by decide) q166 (Or.inl rfl) hL2.1 rfl ?_
  refine zr_aload_n dJ2_add_16 rfl rfl ?_
  refine zr_getf dJ2_add_17 nJ2 (k := 2) (by decide) q169 (Or.inl rfl) hL2.1 rfl ?_
  refine zc_v3 dJ2_add_20 hJ2_add_2 gJ2_add_2 rfl rfl 5 1 40 (by omega) (by omega) (by omega) q1093 q1095 sp9 hL2.rc ?_
  refine kJ2_add_2 hL2 hca (fun y hy => hcg y (hla y hy) (hel y hy)) (hcg x hxa hx) hxa hm (by omega) (by omega) (by omega) (fun ah9 e9 n9 f9 q1 q2 q3 => zK_v ?_)
  refine zr_iconst dJ2_add_23 ?_
  refine zr_ireturn dJ2_add_24 rfl (by first | rfl | exact z_nb _) ?_
  refine k ah9 e9 n9 f9 q1 (fun b y hb b1 b2 => q2 b y (by rw [z_up_n b1]; exact hb) b1 b2) ?_
  rcases q3 with q3 | q3
  · exact Or.inl (by
      by_cases e5 : e9 = a
      · rw [e5, z_up_s] at q3; cases q3
      · rw [z_up_n e5] at q3; exact q3)
  · exact Or.inr q3
