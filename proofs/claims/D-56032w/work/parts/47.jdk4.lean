set_option maxRecDepth 100000
/-! ===== new objects; iterators ===== -/
theorem dfX1 : ∀ (k : Nat) (v : Value), ([.null, .null, .null, .null, .null, .int (zi 0), .int (zi 0), .int (zi 0)] : List Value)[k]? = some v → v = defaultValue (tyX1 k) := by
  intro k v h
  rcases k with _ | _ | _ | _ | _ | _ | _ | _ | k <;> first | (cases h; rfl) | (simp at h)
theorem dfX2 : ∀ (k : Nat) (v : Value), ([.null, .null, .null, .int (zi 0), .int (zi 0), .int (zi 0), .null, .int (zi 0), .int (zi 0), .int (zi 0)] : List Value)[k]? = some v → v = defaultValue (tyX2 k) := by
  intro k v h
  rcases k with _ | _ | _ | _ | _ | _ | _ | _ | _ | _ | k <;> first | (cases h; rfl) | (simp at h)
theorem dfX5 : ∀ (k : Nat) (v : Value), ([.null, .int (zi 0)] : List Value)[k]? = some v → v = defaultValue (tyX5 k) := by
  intro k v h
  rcases k with _ | _ | k <;> first | (cases h; rfl) | (simp at h)
theorem dfX6 : ∀ (k : Nat) (v : Value), ([.int (zi 0), .int (zi 0)] : List Value)[k]? = some v → v = defaultValue (tyX6 k) := by
  intro k v h
  rcases k with _ | _ | k <;> first | (cases h; rfl) | (simp at h)
theorem dfX7 : ∀ (k : Nat) (v : Value), ([.null, .int (zi 0), .null] : List Value)[k]? = some v → v = defaultValue (tyX7 k) := by
  intro k v h
  rcases k with _ | _ | _ | k <;> first | (cases h; rfl) | (simp at h)
theorem dfX8 : ∀ (k : Nat) (v : Value), ([.int (zi 0)] : List Value)[k]? = some v → v = defaultValue (tyX8 k) := by
  intro k v h
  rcases k with _ | k <;> first | (cases h; rfl) | (simp at h)
theorem dfX9 : ∀ (k : Nat) (v : Value), ([.long (zl 0), .long (zl 0)] : List Value)[k]? = some v → v = defaultValue (tyX9 k) := by
  intro k v h
  rcases k with _ | _ | k <;> first | (cases h; rfl) | (simp at h)
theorem dfX10 : ∀ (k : Nat) (v : Value), ([.int (zi 0)] : List Value)[k]? = some v → v = defaultValue (tyX10 k) := by
  intro k v h
  rcases k with _ | k <;> first | (cases h; rfl) | (simp at h)
theorem dfX13 : ∀ (k : Nat) (v : Value), ([.int (zi 0), .null] : List Value)[k]? = some v → v = defaultValue (tyX13 k) := by
  intro k v h
  rcases k with _ | _ | k <;> first | (cases h; rfl) | (simp at h)
theorem dfX15 : ∀ (k : Nat) (v : Value), ([.null] : List Value)[k]? = some v → v = defaultValue (tyX15 k) := by
  intro k v h
  rcases k with _ | k <;> first | (cases h; rfl) | (simp at h)
theorem dfJ2 : ∀ (k : Nat) (v : Value), ([.int (zi 0), .null, .int (zi 0)] : List Value)[k]? = some v → v = defaultValue (tyJ2 k) := by
  intro k v h
  rcases k with _ | _ | _ | k <;> first | (cases h; rfl) | (simp at h)
theorem dfJ29 : ∀ (k : Nat) (v : Value), ([.int (zi 0), .int (zi 0), .int (zi 0), .null] : List Value)[k]? = some v → v = defaultValue (tyJ29 k) := by
  intro k v h
  rcases k with _ | _ | _ | _ | k <;> first | (cases h; rfl) | (simp at h)
theorem dfJ4 : ∀ (k : Nat) (v : Value), ([.null, .int (zi 0), .int (zi 0)] : List Value)[k]? = some v → v = defaultValue (tyJ4 k) := by
  intro k v h
  rcases k with _ | _ | _ | k <;> first | (cases h; rfl) | (simp at h)
theorem dfJ6 : ∀ (k : Nat) (v : Value), ([.null, .int (zi 0), .int (zi 0), .int (zi 0)] : List Value)[k]? = some v → v = defaultValue (tyJ6 k) := by
  intro k v h
  rcases k with _ | _ | _ | _ | k <;> first | (cases h; rfl) | (simp at h)
theorem dfJ7 : ∀ (k : Nat) (v : Value), ([.null, .int (zi 0), .int (zi 0), .int (zi 0)] : List Value)[k]? = some v → v = defaultValue (tyJ7 k) := by
  intro k v h
  rcases k with _ | _ | _ | _ | k <;> first | (cases h; rfl) | (simp at h)
theorem dfX4 : ∀ (k : Nat) (v : Value), ([.null, .null, .null, .null, .null, .int (zi 0), .int (zi 0), .int (zi 0), .int (zi 0), .int (zi 0), .int (zi 0), .null, .int (zi 0), .null, .null, .int (zi 0), .int (zi 0), .int (zi 0)] : List Value)[k]? = some v → v = defaultValue (tyX4 k) := by
  intro k v h
  rcases k with _ | _ | _ | _ | _ | _ | _ | _ | _ | _ | _ | _ | _ | _ | _ | _ | _ | _ | k <;> first | (cases h; rfl) | (simp at h)
theorem dfX11 : ∀ (k : Nat) (v : Value), ([] : List Value)[k]? = some v → v = defaultValue (tyX10 k) := fun k v h => by simp at h
theorem kJ29_init {G : State} {d rc rs : Nat} {ah : zH} {Q : zRs → zH → Prop} {i a : Nat} {v0 v1 v2 v3 : Value} {mc : Int} {e : Value} {sz : Value} (h : ah i = some (.inl (14, [v0, v1, v2, v3]))) (hi : i ≠ a) (ha : ah a = some (.inl (13, [.int (zi mc), e, sz]))) (hd : 1 ≤ d) (k : Q (.inl none) (z_up ah i (.inl (14, [v0, .int (zi (-1)), .int (zi mc), .ref a])))) : zW G mJ29_init d rc rs 0 (zent [.ref i, .ref a]) [] ah Q := by
  refine zW_open 0 [some (.ref i), some (.ref a)] rfl ?_
  refine zr_aload_n dJ29_init_0 rfl rfl ?_
  refine zr_aload_n dJ29_init_1 rfl rfl ?_
  refine zr_putf dJ29_init_2 nJ29 (k := 3) (by decide) q2027 (Or.inl rfl) (Or.inr ⟨rfl, rfl, rfl⟩) h (z_ble rfl) rfl rfl ?_
  refine zr_aload_n dJ29_init_5 rfl rfl ?_
  refine zr_objInit dJ29_init_6 q2023 q144 q145 (by decide) (by omega) ?_
  refine zr_aload_n dJ29_init_9 rfl rfl ?_
  refine zr_iconst dJ29_init_10 ?_
  refine zr_putf dJ29_init_11 nJ29 (k := 1) (by decide) q2025 (Or.inl rfl) (Or.inl rfl) z_up_s (z_ble rfl) rfl rfl ?_
  refine zr_aload_n dJ29_init_14 rfl rfl ?_
  refine zr_aload_n dJ29_init_15 rfl rfl ?_
  refine zr_getf dJ29_init_16 nJ29 (k := 3) (by decide) q2027 (Or.inl rfl) z_up_s rfl ?_
  refine zr_getf dJ29_init_19 nJ2 (k := 0) (by decide) q171 (Or.inr q172) (by rw [z_up_n (fun z => hi z.symm), z_up_n (fun z => hi z.symm)]; exact ha) rfl ?_
  refine zr_putf dJ29_init_22 nJ29 (k := 2) (by decide) q2026 (Or.inl rfl) (Or.inl rfl) z_up_s (z_ble rfl) rfl rfl ?_
  refine zr_return dJ29_init_25 rfl ?_
  rw [z_up_o, z_up_o]
  exact k
theorem kJ2_iterator {G : State} {d rc rs : Nat} {ah : zH} {Q : zRs → zH → Prop} {a e n : Nat} {mc : Int} {f : Nat → Value} {l : List Nat} (hL : zLst G ah a e n mc f l) (hd : 2 ≤ d) (hc : 1 ≤ rc) (hs : 4 ≤ rs) (k : ∀ i, ah i = none → Q (.inl (some (.ref i))) (z_up ah i (.inl (14, [.int (zi 0), .int (zi (-1)), .int (zi mc), .ref a])))) : zW G mJ2_iterator d rc rs 0 (zent [.ref a]) [] ah Q := by
  refine zW_open 0 [some (.ref a)] rfl ?_
  refine zr_new (fs := [.int (zi 0), .int (zi 0), .int (zi 0), .null]) dJ2_iterator_0 nJ29 q2018 q2019 q137 (z_ble rfl) dfJ29 (by omega) (by omega) (fun q0 hq0 => ?_)
  refine zr_dup dJ2_iterator_3 rfl ?_
  refine zr_aload_n dJ2_iterator_4 rfl rfl ?_
  refine zc_i1 rfl rfl rfl dJ2_iterator_5 hJ29_init gJ29_init rfl rfl 1 0 0 (by omega) (Nat.zero_le _) (Nat.zero_le _) q2020 q2021 ?_
  have hia : q0 ≠ a := fun z => by rw [z, hL.1] at hq0; cases hq0
  refine kJ29_init z_up_s hia ((z_up_n (fun z => hia z.symm)).trans hL.1) (by omega) (zK_v ?_)
  rw [z_up_o]
  refine zr_areturn dJ2_iterator_8 rfl rfl rfl ?_
  exact k _ hq0
theorem kJ29_hasNext {G : State} {d rc rs : Nat} {ah : zH} {Q : zRs → zH → Prop} {i a e n : Nat} {c r mc : Int} {f : Nat → Value} {l : List Nat} (h : ah i = some (.inl (14, [.int (zi c), .int (zi r), .int (zi mc), .ref a]))) (hL : zLst G ah a e n mc f l) (hc : 0 ≤ c ∧ c ≤ l.length) (k : Q (.inl (some (.int (zi (zB (decide (c < l.length))))))) ah) : zW G mJ29_hasNext d rc rs 0 (zent [.ref i]) [] ah Q := by
  refine zW_open 0 [some (.ref i)] rfl ?_
  have h3 := hL.2.2.1
  have h4 := hL.2.2.2.1
  refine zr_aload_n dJ29_hasNext_0 rfl rfl ?_
  refine zr_getf dJ29_hasNext_1 nJ29 (k := 0) (by decide) q2024 (Or.inl rfl) h rfl ?_
  refine zr_aload_n dJ29_hasNext_4 rfl rfl ?_
  refine zr_getf dJ29_hasNext_5 nJ29 (k := 3) (by decide) q2027 (Or.inl rfl) h rfl ?_
  refine zr_getfN dJ29_hasNext_8 nJ2 (k := 2) (by decide) q168 hL.1 rfl ?_
  refine zr_icmpeq dJ29_hasNext_11 (tgt := 18) (by decide) (by omega) (by omega) (fun h11 => ?_) (fun h11 => ?_)
  · refine zr_iconst dJ29_hasNext_18 ?_
    refine zr_ireturn dJ29_hasNext_19 rfl (by first | rfl | exact z_nb _) ?_
    exact zQi k (by first | (rw [decide_eq_true (by omega)]; rfl) | (rw [decide_eq_false (by omega)]; rfl))
  · refine zr_iconst dJ29_hasNext_14 ?_
    refine zr_goto dJ29_hasNext_15 (tgt := 19) (by decide) ?_
    refine zr_ireturn dJ29_hasNext_19 rfl (by first | rfl | exact z_nb _) ?_
    exact zQi k (by first | (rw [decide_eq_true (by omega)]; rfl) | (rw [decide_eq_false (by omega)]; rfl))
theorem kJ29_checkForComodification {G : State} {d rc rs : Nat} {ah : zH} {Q : zRs → zH → Prop} {i a e n : Nat} {c r mc : Int} {f : Nat → Value} {l : List Nat} (h : ah i = some (.inl (14, [.int (zi c), .int (zi r), .int (zi mc), .ref a]))) (hL : zLst G ah a e n mc f l) (hmc : 0 ≤ mc ∧ mc ≤ 1000000) (k : Q (.inl none) ah) : zW G mJ29_checkForComodification d rc rs 0 (zent [.ref i]) [] ah Q := by
  refine zW_open 0 [some (.ref i)] rfl ?_
  refine zr_aload_n dJ29_checkForComodification_0 rfl rfl ?_
  refine zr_getf dJ29_checkForComodification_1 nJ29 (k := 3) (by decide) q2027 (Or.inl rfl) h rfl ?_
  refine zr_getf dJ29_checkForComodification_4 nJ2 (k := 0) (by decide) q171 (Or.inr q172) hL.1 rfl ?_
  refine zr_aload_n dJ29_checkForComodification_7 rfl rfl ?_
  refine zr_getf dJ29_checkForComodification_8 nJ29 (k := 2) (by decide) q2026 (Or.inl rfl) h rfl ?_
  refine zr_icmpeq dJ29_checkForComodification_11 (tgt := 22) (by decide) (by omega) (by omega) (fun h11 => ?_) (fun h11 => ?_)
  · refine zr_return dJ29_checkForComodification_22 rfl ?_
    exact k
  · exfalso; omega
theorem kJ29_next {G : State} {d rc rs : Nat} {ah : zH} {Q : zRs → zH → Prop} {i a e n : Nat} {c r mc : Int} {f : Nat → Value} {l : List Nat} {x : Nat} (h : ah i = some (.inl (14, [.int (zi c), .int (zi r), .int (zi mc), .ref a]))) (hL : zLst G ah a e n mc f l) (hmc : 0 ≤ mc ∧ mc ≤ 1000000) (hc : 0 ≤ c) (hx : l[c.toNat]? = some x) (hia : i ≠ a ∧ i ≠ e) (hd : 1 ≤ d) (k : Q (.inl (some (.ref x))) (z_up ah i (.inl (14, [.int (zi (c + 1)), .int (zi c), .int (zi mc), .ref a])))) : zW G mJ29_next d rc rs 0 (zent [.ref i]) [] ah Q := by
  refine zW_open 2 [some (.ref i), none, none] rfl ?_
  refine zW_tb (fun T => ?_)
  have h3 := hL.2.2.1
  have h4 := hL.2.2.2.1
  have hil : c.toNat < l.length := (List.getElem?_eq_some_iff.mp hx).1
  refine zr_aload_n dJ29_next_0 rfl rfl ?_
  refine zc_v0 dJ29_next_1 hJ29_checkForComodification gJ29_checkForComodification rfl rfl 0 0 0 (by omega) (Nat.zero_le _) (Nat.zero_le _) q2056 q2057 q2058 (Or.inl ⟨14, _, TJ29, 4, tyJ29, nJ29, h⟩) ?_
  refine kJ29_checkForComodification h hL hmc (zK_v ?_)
  refine zr_aload_n dJ29_next_4 rfl rfl ?_
  refine zr_getf dJ29_next_5 nJ29 (k := 0) (by decide) q2024 (Or.inl rfl) h rfl ?_
  refine zr_istore_n dJ29_next_8 (by decide) (zs3_1 rfl ?_)
  refine zr_iload_n dJ29_next_9 rfl ?_
  refine zr_aload_n dJ29_next_10 rfl rfl ?_
  refine zr_getf dJ29_next_11 nJ29 (k := 3) (by decide) q2027 (Or.inl rfl) h rfl ?_
  refine zr_getfN dJ29_next_14 nJ2 (k := 2) (by decide) q168 hL.1 rfl ?_
  refine zr_icmplt dJ29_next_17 (tgt := 28) (by decide) (by omega) (by omega) (fun h17 => ?_) (fun h17 => ?_)
  · refine zr_aload_n dJ29_next_28 rfl rfl ?_
    refine zr_getf dJ29_next_29 nJ29 (k := 3) (by decide) q2027 (Or.inl rfl) h rfl ?_
    refine zr_getf dJ29_next_32 nJ2 (k := 1) (by decide) q167 (Or.inl rfl) hL.1 rfl ?_
    refine zr_astore_n dJ29_next_35 (by decide) rfl (zs3_2 rfl ?_)
    refine zr_iload_n dJ29_next_36 rfl ?_
    refine zr_aload_n dJ29_next_37 rfl rfl ?_
    refine zr_alen dJ29_next_38 (hL.ao.ar T) ?_
    refine zr_icmplt dJ29_next_39 (tgt := 50) (by decide) (by omega) (by omega) (fun h39 => ?_) (fun h39 => ?_)
    · refine zr_aload_n dJ29_next_50 rfl rfl ?_
      refine zr_iload_n dJ29_next_51 rfl ?_
      refine zr_iconst dJ29_next_52 ?_
      refine zr_iadd dJ29_next_53 ?_
      refine zr_putf dJ29_next_54 nJ29 (k := 0) (by decide) q2024 (Or.inl rfl) (Or.inl rfl) h (z_ble rfl) rfl rfl ?_
      refine zr_aload_n dJ29_next_57 rfl rfl ?_
      refine zr_aload_n dJ29_next_58 rfl rfl ?_
      refine zr_iload_n dJ29_next_59 rfl ?_
      refine zr_dup_x1 dJ29_next_60 rfl rfl ?_
      refine zr_putf dJ29_next_61 nJ29 (k := 1) (by decide) q2025 (Or.inl rfl) (Or.inl rfl) z_up_s (z_ble rfl) rfl rfl ?_
      have har : zAr G (z_up (z_up ah i (.inl (14, [.int (zi (c + 1)), .int (zi r), .int (zi mc), .ref a]))) i (.inl (14, [.int (zi (c + 1)), .int (zi c), .int (zi mc), .ref a]))) e (.object "java/lang/Object") n f := by
        rcases hL.ao.ar T with h9 | h9
        · exact Or.inl (by rw [z_up_n (fun z => hia.2 z.symm), z_up_n (fun z => hia.2 z.symm)]; exact h9)
        · exact Or.inr h9
      refine zr_aaload dJ29_next_64 har rfl (by omega) (by omega) (hL.2.2.2.2.1 _ _ hx) ?_
      refine zr_areturn dJ29_next_65 rfl rfl rfl ?_
      rw [z_up_o]
      exact k
    · exfalso; omega
  · exfalso; omega
