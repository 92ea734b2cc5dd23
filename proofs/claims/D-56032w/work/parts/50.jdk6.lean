set_option maxRecDepth 100000
/-! ===== StringBuilder ===== -/
/-- a builder a over the bytes v of n places holds the chars l -/
def zSb (G : State) (ah : zH) (a v n : Nat) (ml : Int) (g : Nat → Value) (l : List Int) : Prop := ah a = some (.inl (16, [.ref v, .int (zi 0), .int (zi ml), .int (zi (l.length : Nat))])) ∧ a ≠ v ∧ ah v = some (.inr (.byte, n, g)) ∧ l.length ≤ n ∧ n ≤ 2000 ∧ (∀ (i : Nat) (c : Int), l[i]? = some c → g i = .int (zi c)) ∧ (∀ i, i < n → fits .byte (g i) = true)
theorem zSb.rc {G : State} {ah : zH} {a v n : Nat} {ml : Int} {g : Nat → Value} {l : List Int} (H : zSb G ah a v n ml g l) : zRc G ah a "java/lang/StringBuilder" := Or.inl ⟨16, _, TJ6, 4, tyJ6, nJ6, H.1⟩
theorem z_f8 {c : Int} (h : 0 ≤ c ∧ c < 128) : fits .byte (.int (zi c)) = true := by
  obtain ⟨n, rfl⟩ : ∃ n : Nat, c = n := ⟨c.toNat, by omega⟩
  have hn : n < 128 := by omega
  have : ∀ m : Fin 128, fits .byte (.int (zi ((m : Nat) : Int))) = true := by decide +kernel
  exact this ⟨n, hn⟩
theorem z_i2b {c : Int} (h : 0 ≤ c ∧ c < 128) : (zi c).toInt8.toInt32 = zi c := by
  obtain ⟨n, rfl⟩ : ∃ n : Nat, c = n := ⟨c.toNat, by omega⟩
  have hn : n < 128 := by omega
  have : ∀ m : Fin 128, (zi ((m : Nat) : Int)).toInt8.toInt32 = zi ((m : Nat) : Int) := by decide +kernel
  exact this ⟨n, hn⟩
theorem zSb.fr {G : State} {ah ah' : zH} {a v n : Nat} {ml : Int} {g : Nat → Value} {l : List Int} (H : zSb G ah a v n ml g l) (hk : ∀ b o, (b = a ∨ b = v) → ah b = some o → ah' b = some o) : zSb G ah' a v n ml g l := by
  obtain ⟨h1, h2, h3, h4⟩ := H
  exact ⟨hk _ _ (Or.inl rfl) h1, h2, hk _ _ (Or.inr rfl) h3, h4⟩
theorem kJ5_init {G : State} {d rc rs : Nat} {ah : zH} {Q : zRs → zH → Prop} {a : Nat} {n : Int} (ha : ah a = some (.inl (16, [.null, .int (zi 0), .int (zi 0), .int (zi 0)]))) (hn : 0 ≤ n ∧ n ≤ 100) (hd : 1 ≤ d) (hc : 1 ≤ rc) (hs : n.toNat ≤ rs) (k : ∀ (ah9 : zH) (v : Nat), ah v = none → zSb G ah9 a v n.toNat 0 (fun _ => .int (zi 0)) [] → (∀ b o, ah b = some o → b ≠ a → ah9 b = some o) → Q (.inl none) ah9) : zW G mJ5_init d rc rs 0 (zent [.ref a, .int (zi n)]) [] ah Q := by
  refine zW_open 0 [some (.ref a), some (.int (zi n))] rfl ?_
  refine zW_tb (fun T => ?_)
  refine zr_aload_n dJ5_init_0 rfl rfl ?_
  refine zr_objInit dJ5_init_1 q249 q144 q145 (by decide) (by omega) ?_
  refine zr_getstatic dJ5_init_4 q250 (z_compact T) ?_
  refine zr_ifeq dJ5_init_7 (tgt := 25) (by decide) (by decide) (fun h => absurd h (by decide)) (fun _ => ?_)
  refine zr_aload_n dJ5_init_10 rfl rfl ?_
  refine zr_iload_n dJ5_init_11 rfl ?_
  refine zr_newarray (ty := .byte) dJ5_init_12 rfl q273 (fun _ z => by cases z) (by omega) (by omega) (by omega) (fun v hv => ?_)
  have hav : a ≠ v := fun z => by rw [← z, ha] at hv; cases hv
  refine zr_putf dJ5_init_14 nJ6 (k := 0) (by decide) q259 (Or.inl rfl) (Or.inl rfl) ((z_up_n hav).trans ha) (z_ble rfl) rfl rfl ?_
  refine zr_aload_n dJ5_init_17 rfl rfl ?_
  refine zr_iconst dJ5_init_18 ?_
  refine zr_putf dJ5_init_19 nJ6 (k := 1) (by decide) q260 (Or.inl rfl) (Or.inl rfl) z_up_s (z_ble rfl) rfl rfl ?_
  refine zr_goto dJ5_init_22 (tgt := 38) (by decide) ?_
  refine zr_return dJ5_init_38 rfl ?_
  rw [z_up_o]
  refine k _ v hv ⟨z_up_s, hav, by rw [z_up_n (fun z => hav z.symm), z_up_s]; rfl, Nat.zero_le _, by omega, fun i c h => by simp at h, fun _ _ => rfl⟩ (fun b y hb b1 => ?_)
  rw [z_up_n b1, z_up_n (fun z => by rw [z, hv] at hb; cases hb)]
  exact hb
theorem kJ5_isLatin1 {G : State} {d rc rs : Nat} {ah : zH} {Q : zRs → zH → Prop} {a v n : Nat} {ml : Int} {g : Nat → Value} {l : List Int} (H : zSb G ah a v n ml g l) (k : Q (.inl (some (.int (zi 1)))) ah) : zW G mJ5_isLatin1 d rc rs 0 (zent [.ref a]) [] ah Q := by
  refine zW_open 0 [some (.ref a)] rfl ?_
  refine zW_tb (fun T => ?_)
  refine zr_getstatic dJ5_isLatin1_0 q250 (z_compact T) ?_
  refine zr_ifeq dJ5_isLatin1_3 (tgt := 17) (by decide) (by decide) (fun h => absurd h (by decide)) (fun _ => ?_)
  refine zr_aload_n dJ5_isLatin1_6 rfl rfl ?_
  refine zr_getf dJ5_isLatin1_7 nJ6 (k := 1) (by decide) q260 (Or.inl rfl) H.1 rfl ?_
  
  refine zr_ifne dJ5_isLatin1_10 (tgt := 17) (by decide) (by decide) (fun h => absurd rfl h) (fun _ => ?_)
  refine zr_iconst dJ5_isLatin1_13 ?_
  refine zr_goto dJ5_isLatin1_14 (tgt := 18) (by decide) ?_
  refine zr_ireturn dJ5_isLatin1_18 rfl (by first | rfl | exact z_nb _) ?_
  exact k
theorem kJ5_length {G : State} {d rc rs : Nat} {ah : zH} {Q : zRs → zH → Prop} {a v n : Nat} {ml : Int} {g : Nat → Value} {l : List Int} (H : zSb G ah a v n ml g l) (k : Q (.inl (some (.int (zi (l.length : Nat))))) ah) : zW G mJ5_length d rc rs 0 (zent [.ref a]) [] ah Q := by
  refine zW_open 0 [some (.ref a)] rfl ?_
  refine zr_aload_n dJ5_length_0 rfl rfl ?_
  refine zr_getf dJ5_length_1 nJ6 (k := 3) (by decide) q263 (Or.inl rfl) H.1 rfl ?_
  refine zr_ireturn dJ5_length_4 rfl (by first | rfl | exact z_nb _) ?_
  exact k
theorem kJ5_getValue {G : State} {d rc rs : Nat} {ah : zH} {Q : zRs → zH → Prop} {a v n : Nat} {ml : Int} {g : Nat → Value} {l : List Int} (H : zSb G ah a v n ml g l) (k : Q (.inl (some (.ref v))) ah) : zW G mJ5_getValue d rc rs 0 (zent [.ref a]) [] ah Q := by
  refine zW_open 0 [some (.ref a)] rfl ?_
  refine zr_aload_n dJ5_getValue_0 rfl rfl ?_
  refine zr_getf dJ5_getValue_1 nJ6 (k := 0) (by decide) q259 (Or.inl rfl) H.1 rfl ?_
  refine zr_areturn dJ5_getValue_4 rfl rfl rfl ?_
  exact k
theorem kJ17_copyOf {G : State} {d rc rs : Nat} {ah : zH} {Q : zRs → zH → Prop} {a n : Nat} {m : Int} {f : Nat → Value} (hx : ah a = some (.inr (.byte, n, f))) (hn : n ≤ 2000) (hm : 0 ≤ m ∧ m ≤ 5000 ∧ m ≠ n) (hel : ∀ i, i < n → fits .byte (f i) = true) (hd : 1 ≤ d) (hc : 1 ≤ rc) (hs : m.toNat ≤ rs) (k : ∀ q, ah q = none → Q (.inl (some (.ref q))) (z_up ah q (.inr (.byte, m.toNat, (fun j => if j < n ∧ j < m.toNat then f j else .int (zi 0)))))) : zW G mJ17_copyOf d rc rs 0 (zent [.ref a, .int (zi m)]) [] ah Q := by
  refine zW_open 1 [some (.ref a), some (.int (zi m)), none] rfl ?_
  refine zr_iload_n dJ17_copyOf_0 rfl ?_
  refine zr_aload_n dJ17_copyOf_1 rfl rfl ?_
  refine zr_alen dJ17_copyOf_2 (Or.inl hx) ?_
  refine zr_icmpne dJ17_copyOf_3 (tgt := 14) (by decide) (by omega) (by omega) (fun h3 => ?_) (fun h3 => ?_)
  · refine zr_iload_n dJ17_copyOf_14 rfl ?_
    refine zr_newarray (ty := .byte) dJ17_copyOf_15 rfl q273 (fun _ z => by cases z) (by omega) (by omega) (by omega) (fun q hq => ?_)
    have hqa : a ≠ q := fun z => by rw [← z, hx] at hq; cases hq
    refine zr_astore_n dJ17_copyOf_17 (by decide) rfl (zs3_2 rfl ?_)
    refine zr_aload_n dJ17_copyOf_18 rfl rfl ?_
    refine zr_iconst dJ17_copyOf_19 ?_
    refine zr_aload_n dJ17_copyOf_20 rfl rfl ?_
    refine zr_iconst dJ17_copyOf_21 ?_
    refine zr_aload_n dJ17_copyOf_22 rfl rfl ?_
    refine zr_alen dJ17_copyOf_23 (Or.inl ((z_up_n hqa).trans hx)) ?_
    refine zr_iload_n dJ17_copyOf_24 rfl ?_
    refine zc_s2 dJ17_copyOf_25 hJ16_min gJ16_min rfl rfl 0 0 0 (by omega) (Nat.zero_le _) (Nat.zero_le _) q520 q434 ?_
    refine kJ16_min (by omega) (by omega) (zK_i ?_)
    generalize hw : (if (n : Int) ≤ m then (n : Int) else m) = w
    have hw2 : 0 ≤ w ∧ w ≤ n ∧ w ≤ m := by rw [← hw]; split <;> omega
    refine zr_copy dJ17_copyOf_28 q521 q523 q522 q115 (Or.inl ((z_up_n hqa).trans hx)) z_up_s (by omega) (by omega) (fun i hi => ?_) (by decide) (by omega) ?_
    · have := hel (Int.toNat 0 + i) (by simp; omega)
      refine ⟨this, ?_⟩
      cases hf : f (Int.toNat 0 + i) <;> rw [hf] at this <;> first | trivial | cases this
    rw [z_up_o, show va_cpy f (fun _ => defaultValue .byte) (Int.toNat 0) (Int.toNat 0) w.toNat = (fun j => if j < n ∧ j < m.toNat then f j else .int (zi 0)) from ?_]
    rotate_left
    · funext j
      unfold va_cpy
      by_cases e : j < n ∧ j < m.toNat
      · rw [if_pos e, if_pos (by have := e.1; have := e.2; rw [← hw]; split <;> simp <;> omega)]; simp
      · rw [if_neg e, if_neg (fun z => e (by have := z.2; simp at this; omega))]; rfl
    refine zr_aload_n dJ17_copyOf_31 rfl rfl ?_
    refine zr_areturn dJ17_copyOf_32 rfl rfl rfl ?_
    exact k q hq
  · exfalso; omega
theorem z_shl0 (x : Int) : (zi x) <<< ((zi 0) &&& 31) = zi x := by
  rw [show ((zi 0) &&& 31 : Int32) = 0 by decide]
  exact Int32.shiftLeft_zero
theorem kJ5_newCapacity {G : State} {d rc rs : Nat} {ah : zH} {Q : zRs → zH → Prop} {a v n : Nat} {ml : Int} {g : Nat → Value} {l : List Int} (H : zSb G ah a v n ml g l) {m : Int} (hn : n ≤ 400) (hm : (n : Int) < m ∧ m ≤ 400) (hd : 2 ≤ d) (k : Q (.inl (some (.int (zi ((n : Int) + (if (n : Int) + 2 ≤ m - n then m - n else (n : Int) + 2))))) ) ah) : zW G mJ5_newCapacity d rc rs 0 (zent [.ref a, .int (zi m)]) [] ah Q := by
  refine zW_open 4 [some (.ref a), some (.int (zi m)), none, none, none, none] rfl ?_
  obtain ⟨s1, s2, s3, s4, s5, s6, s7⟩ := id H
  refine zr_aload_n dJ5_newCapacity_0 rfl rfl ?_
  refine zr_getf dJ5_newCapacity_1 nJ6 (k := 0) (by decide) q259 (Or.inl rfl) s1 rfl ?_
  refine zr_alen dJ5_newCapacity_4 (Or.inl s3) ?_
  refine zr_istore_n dJ5_newCapacity_5 (by decide) (zs6_2 rfl ?_)
  refine zr_iload_n dJ5_newCapacity_6 rfl ?_
  refine zr_aload_n dJ5_newCapacity_7 rfl rfl ?_
  refine zr_getf dJ5_newCapacity_8 nJ6 (k := 1) (by decide) q260 (Or.inl rfl) s1 rfl ?_
  refine zr_ishl dJ5_newCapacity_11 (z_shl0 _) ?_
  refine zr_istore_n dJ5_newCapacity_12 (by decide) (zs6_3 rfl ?_)
  refine zr_iload_n dJ5_newCapacity_13 rfl ?_
  refine zr_iload_n dJ5_newCapacity_14 rfl ?_
  refine zr_isub dJ5_newCapacity_15 ?_
  refine zr_istore dJ5_newCapacity_16 (by decide) (zs6_4 rfl ?_)
  refine zr_iload_n dJ5_newCapacity_18 rfl ?_
  refine zr_iload dJ5_newCapacity_19 rfl ?_
  refine zr_iload_n dJ5_newCapacity_21 rfl ?_
  refine zr_iconst dJ5_newCapacity_22 ?_
  refine zr_aload_n dJ5_newCapacity_23 rfl rfl ?_
  refine zr_getf dJ5_newCapacity_24 nJ6 (k := 1) (by decide) q260 (Or.inl rfl) s1 rfl ?_
  refine zr_ishl dJ5_newCapacity_27 (z_shl0 2) ?_
  refine zr_iadd dJ5_newCapacity_28 ?_
  refine zc_s3 dJ5_newCapacity_29 hJ15_newLength gJ15_newLength rfl rfl 1 0 0 (by omega) (Nat.zero_le _) (Nat.zero_le _) q499 q500 ?_
  refine kJ15_newLength (by omega) (by omega) (by omega) (by omega) (zK_i ?_)
  generalize hw : (if (n : Int) + 2 ≤ m - n then m - n else (n : Int) + 2) = w at k ⊢
  have hw2 : 1 ≤ w ∧ w ≤ 1000 := by rw [← hw]; split <;> omega
  refine zr_istore dJ5_newCapacity_32 (by decide) (zs6_5 rfl ?_)
  refine zr_iload dJ5_newCapacity_34 rfl ?_
  refine zr_ldc dJ5_newCapacity_36 q509 (n := 2147483647) rfl ?_
  refine zr_icmpne dJ5_newCapacity_38 (tgt := 51) (by decide) (by omega) (by omega) (fun h38 => ?_) (fun h38 => ?_)
  · refine zr_iload dJ5_newCapacity_51 rfl ?_
    refine zr_aload_n dJ5_newCapacity_53 rfl rfl ?_
    refine zr_getf dJ5_newCapacity_54 nJ6 (k := 1) (by decide) q260 (Or.inl rfl) s1 rfl ?_
    refine zr_ishr dJ5_newCapacity_57 (z_shr0 _) ?_
    refine zr_ireturn dJ5_newCapacity_58 rfl (by first | rfl | exact z_nb _) ?_
    exact k
  · exfalso; omega
theorem kJ5_ensureCapacityInternal {G : State} {d rc rs : Nat} {ah : zH} {Q : zRs → zH → Prop} {a v n : Nat} {ml : Int} {g : Nat → Value} {l : List Int} (H : zSb G ah a v n ml g l) {m : Int} (hn : n ≤ 400) (hm : 0 ≤ m ∧ m ≤ 150) (hd : 3 ≤ d) (hc : 1 ≤ rc) (hs : 400 ≤ rs) (k : ∀ (ah9 : zH) (v9 n9 : Nat) (g9 : Nat → Value), zSb G ah9 a v9 n9 ml g9 l → m ≤ (n9 : Int) → (n ≤ n9 ∧ n9 ≤ 400) → (∀ b o, ah b = some o → b ≠ a → b ≠ v → ah9 b = some o) → (v9 = v ∨ ah v9 = none) → Q (.inl none) ah9) : zW G mJ5_ensureCapacityInternal d rc rs 0 (zent [.ref a, .int (zi m)]) [] ah Q := by
  refine zW_open 1 [some (.ref a), some (.int (zi m)), none] rfl ?_
  obtain ⟨s1, s2, s3, s4, s5, s6, s7⟩ := id H
  refine zr_aload_n dJ5_ensureCapacityInternal_0 rfl rfl ?_
  refine zr_getf dJ5_ensureCapacityInternal_1 nJ6 (k := 0) (by decide) q259 (Or.inl rfl) s1 rfl ?_
  refine zr_alen dJ5_ensureCapacityInternal_4 (Or.inl s3) ?_
  refine zr_aload_n dJ5_ensureCapacityInternal_5 rfl rfl ?_
  refine zr_getf dJ5_ensureCapacityInternal_6 nJ6 (k := 1) (by decide) q260 (Or.inl rfl) s1 rfl ?_
  refine zr_ishr dJ5_ensureCapacityInternal_9 (z_shr0 _) ?_
  refine zr_istore_n dJ5_ensureCapacityInternal_10 (by decide) (zs3_2 rfl ?_)
  refine zr_iload_n dJ5_ensureCapacityInternal_11 rfl ?_
  refine zr_iload_n dJ5_ensureCapacityInternal_12 rfl ?_
  refine zr_isub dJ5_ensureCapacityInternal_13 ?_
  refine zr_ifle dJ5_ensureCapacityInternal_14 (tgt := 38) (by decide) (by omega) (fun h14 => ?_) (fun h14 => ?_)
  · refine zr_return dJ5_ensureCapacityInternal_38 rfl ?_
    exact k ah v n g H (by omega) ⟨Nat.le_refl _, hn⟩ (fun b y hb _ _ => hb) (Or.inl rfl)
  · refine zr_aload_n dJ5_ensureCapacityInternal_17 rfl rfl ?_
    refine zr_aload_n dJ5_ensureCapacityInternal_18 rfl rfl ?_
    refine zr_getf dJ5_ensureCapacityInternal_19 nJ6 (k := 0) (by decide) q259 (Or.inl rfl) s1 rfl ?_
    refine zr_aload_n dJ5_ensureCapacityInternal_22 rfl rfl ?_
    refine zr_iload_n dJ5_ensureCapacityInternal_23 rfl ?_
    refine zc_vP1 rfl dJ5_ensureCapacityInternal_24 hJ5_newCapacity gJ5_newCapacity rfl rfl 2 0 0 (by omega) (Nat.zero_le _) (Nat.zero_le _) q495 q497 (z_selP (by decide) q496 q497 q527 rfl) H.rc ?_
    refine kJ5_newCapacity H (by omega) (by omega) (by omega) (zK_i ?_)
    generalize hw : (n : Int) + (if (n : Int) + 2 ≤ m - n then m - n else (n : Int) + 2) = w
    have hw2 : (n : Int) < w ∧ m ≤ w ∧ w ≤ 400 := by rw [← hw]; split <;> omega
    refine zr_aload_n dJ5_ensureCapacityInternal_27 rfl rfl ?_
    refine zr_getf dJ5_ensureCapacityInternal_28 nJ6 (k := 1) (by decide) q260 (Or.inl rfl) s1 rfl ?_
    refine zr_ishl dJ5_ensureCapacityInternal_31 (z_shl0 _) ?_
    refine zc_s2 dJ5_ensureCapacityInternal_32 hJ17_copyOf gJ17_copyOf rfl rfl 1 1 w.toNat (by omega) (by omega) (by omega) q510 q511 ?_
    refine kJ17_copyOf s3 (by omega) (by omega) s7 (by omega) (by omega) (by omega) (fun q hq => zK_i ?_)
    have hqa : a ≠ q := fun z => by rw [← z, s1] at hq; cases hq
    refine zr_putf dJ5_ensureCapacityInternal_35 nJ6 (k := 0) (by decide) q259 (Or.inl rfl) (Or.inl rfl) ((z_up_n hqa).trans s1) (z_ble rfl) rfl rfl ?_
    refine zr_return dJ5_ensureCapacityInternal_38 rfl ?_
    refine k _ q w.toNat _ ⟨by rw [z_up_s]; rfl, hqa, by rw [z_up_n (fun z => hqa z.symm), z_up_s], by omega, by omega, fun i c hi => ?_, fun i hi => ?_⟩ (by omega) (by omega) (fun b y hb b1 b2 => ?_) (Or.inr hq)
    · have hil := (List.getElem?_eq_some_iff.mp hi).1
      try dsimp only
      rw [if_pos (by omega)]
      exact s6 i c hi
    · try dsimp only
      split
      · rename_i z; exact s7 i z.1
      · rfl
    · rw [z_up_n b1, z_up_n (fun z => by rw [z, hq] at hb; cases hb)]
      exact hb
theorem zSb_put {G : State} {ah : zH} {a v n : Nat} {ml : Int} {g : Nat → Value} {l : List Int} {c : Int} (H : zSb G ah a v n ml g l) (hl : l.length < n) (hc : 0 ≤ c ∧ c < 128) {ah9 : zH} (h1 : ah9 a = some (.inl (16, [.ref v, .int (zi 0), .int (zi ml), .int (zi ((l.length : Nat) + 1))]))) (h2 : ah9 v = some (.inr (.byte, n, z_upV g l.length (.int (zi c))))) : zSb G ah9 a v n ml (z_upV g l.length (.int (zi c))) (l ++ [c]) := by
  obtain ⟨s1, s2, s3, s4, s5, s6, s7⟩ := H
  refine ⟨by rw [h1]; simp, s2, h2, by simp; omega, s5, fun i y hy => ?_, fun i hi => ?_⟩
  · by_cases hi : i < l.length
    · rw [List.getElem?_append_left hi] at hy
      rw [z_upV_n (by omega)]
      exact s6 i y hy
    · have hi2 : i = l.length := by
        have := (List.getElem?_eq_some_iff.mp hy).1
        simp at this
        omega
      subst hi2
      rw [List.getElem?_append_right (by omega)] at hy
      simp at hy
      rw [z_upV_s, hy]
  · by_cases e : i = l.length
    · rw [e, z_upV_s]; exact z_f8 hc
    · rw [z_upV_n e]; exact s7 i hi
theorem kJ20_canEncode {G : State} {d rc rs : Nat} {ah : zH} {Q : zRs → zH → Prop} {c : Int} (hc : 0 ≤ c ∧ c < 128) (k : Q (.inl (some (.int (zi 1)))) ah) : zW G mJ20_canEncode d rc rs 0 (zent [.int (zi c)]) [] ah Q := by
  refine zW_open 0 [some (.int (zi c))] rfl ?_
  refine zr_iload_n dJ20_canEncode_0 rfl ?_
  refine zr_sipush dJ20_canEncode_1 rfl ?_
  refine zr_icmpgt dJ20_canEncode_4 (tgt := 11) (by decide) (by omega) (by omega) (fun h4 => ?_) (fun h4 => ?_)
  · exfalso; omega
  · refine zr_iconst dJ20_canEncode_7 ?_
    refine zr_goto dJ20_canEncode_8 (tgt := 12) (by decide) ?_
    refine zr_ireturn dJ20_canEncode_12 rfl (by first | rfl | exact z_nb _) ?_
    exact k
theorem kJ20_canEncode_2 {G : State} {d rc rs : Nat} {ah : zH} {Q : zRs → zH → Prop} {c : Int} (hc : 0 ≤ c ∧ c < 128) (k : Q (.inl (some (.int (zi 1)))) ah) : zW G mJ20_canEncode_2 d rc rs 0 (zent [.int (zi c)]) [] ah Q := by
  refine zW_open 0 [some (.int (zi c))] rfl ?_
  refine zr_iload_n dJ20_canEncode_2_0 rfl ?_
  refine zr_iflt dJ20_canEncode_2_1 (tgt := 15) (by decide) (by omega) (fun h1 => ?_) (fun h1 => ?_)
  · exfalso; omega
  · refine zr_iload_n dJ20_canEncode_2_4 rfl ?_
    refine zr_sipush dJ20_canEncode_2_5 rfl ?_
    refine zr_icmpgt dJ20_canEncode_2_8 (tgt := 15) (by decide) (by omega) (by omega) (fun h8 => ?_) (fun h8 => ?_)
    · exfalso; omega
    · refine zr_iconst dJ20_canEncode_2_11 ?_
      refine zr_goto dJ20_canEncode_2_12 (tgt := 16) (by decide) ?_
      refine zr_ireturn dJ20_canEncode_2_16 rfl (by first | rfl | exact z_nb _) ?_
      exact k
theorem kJ5_append_3 {G : State} {d rc rs : Nat} {ah : zH} {Q : zRs → zH → Prop} {a v n : Nat} {ml : Int} {g : Nat → Value} {l : List Int} (H : zSb G ah a v n ml g l) {c : Int} (hn : n ≤ 400) (hl : l.length ≤ 148) (hc : 0 ≤ c ∧ c < 128) (hd : 4 ≤ d) (hcl : 1 ≤ rc) (hs : 400 ≤ rs) (k : ∀ (ah9 : zH) (v9 n9 : Nat) (g9 : Nat → Value), zSb G ah9 a v9 n9 ml g9 (l ++ [c]) → (n ≤ n9 ∧ n9 ≤ 400) → (∀ b o, ah b = some o → b ≠ a → b ≠ v → ah9 b = some o) → (v9 = v ∨ ah v9 = none) → Q (.inl (some (.ref a))) ah9) : zW G mJ5_append_3 d rc rs 0 (zent [.ref a, .int (zi c)]) [] ah Q := by
  refine zW_open 0 [some (.ref a), some (.int (zi c))] rfl ?_
  refine zr_aload_n dJ5_append_3_0 rfl rfl ?_
  refine zr_aload_n dJ5_append_3_1 rfl rfl ?_
  refine zr_getf dJ5_append_3_2 nJ6 (k := 3) (by decide) q263 (Or.inl rfl) H.1 rfl ?_
  refine zr_iconst dJ5_append_3_5 ?_
  refine zr_iadd dJ5_append_3_6 ?_
  refine zc_vP1 rfl dJ5_append_3_7 hJ5_ensureCapacityInternal gJ5_ensureCapacityInternal rfl rfl 3 1 400 (by omega) (by omega) (by omega) q491 q493 (z_selP (by decide) q492 q493 q527 rfl) H.rc ?_
  refine kJ5_ensureCapacityInternal H (by omega) (by omega) (by omega) (by omega) (by omega) (fun ah1 v1 n1 g1 H1 b1 b2 f1 w1 => zK_v ?_)
  obtain ⟨s1, s2, s3, s4, s5, s6, s7⟩ := id H1
  refine zr_aload_n dJ5_append_3_10 rfl rfl ?_
  refine zc_v0 dJ5_append_3_11 hJ5_isLatin1 gJ5_isLatin1 rfl rfl 0 0 0 (by omega) (Nat.zero_le _) (Nat.zero_le _) q524 q525 q527 H1.rc ?_
  refine kJ5_isLatin1 H1 (zK_i ?_)
  refine zr_ifeq dJ5_append_3_14 (tgt := 45) (by decide) (by decide) (fun h => absurd h (by decide)) (fun _ => ?_)
  refine zr_iload_n dJ5_append_3_17 rfl ?_
  refine zc_s1 dJ5_append_3_18 hJ20_canEncode gJ20_canEncode rfl rfl 0 0 0 (by omega) (Nat.zero_le _) (Nat.zero_le _) q920 q921 ?_
  refine kJ20_canEncode (by omega) (zK_i ?_)
  refine zr_ifeq dJ5_append_3_21 (tgt := 45) (by decide) (by decide) (fun h => absurd h (by decide)) (fun _ => ?_)
  refine zr_aload_n dJ5_append_3_24 rfl rfl ?_
  refine zr_getf dJ5_append_3_25 nJ6 (k := 0) (by decide) q259 (Or.inl rfl) s1 rfl ?_
  refine zr_aload_n dJ5_append_3_28 rfl rfl ?_
  refine zr_dup dJ5_append_3_29 rfl ?_
  refine zr_getf dJ5_append_3_30 nJ6 (k := 3) (by decide) q263 (Or.inl rfl) s1 rfl ?_
  refine zr_dup_x1 dJ5_append_3_33 rfl rfl ?_
  refine zr_iconst dJ5_append_3_34 ?_
  refine zr_iadd dJ5_append_3_35 ?_
  refine zr_putf dJ5_append_3_36 nJ6 (k := 3) (by decide) q263 (Or.inl rfl) (Or.inl rfl) s1 (z_ble rfl) rfl rfl ?_
  refine zr_iload_n dJ5_append_3_39 rfl ?_
  refine zr_i2b dJ5_append_3_40 (z_i2b hc) ?_
  refine zr_bastore dJ5_append_3_41 ((z_up_n (fun z => s2 z.symm)).trans s3) (by omega) (by omega) (by show Value.int _ = _; rw [z_i2b hc]) ?_
  rw [Int.toNat_natCast]
  refine zr_goto dJ5_append_3_42 (tgt := 75) (by decide) ?_
  refine zr_aload_n dJ5_append_3_75 rfl rfl ?_
  refine zr_areturn dJ5_append_3_76 rfl rfl rfl ?_
  refine k _ v1 n1 _ (zSb_put (c := c) H1 (by omega) hc (by rw [z_up_n s2, z_up_s]; rfl) z_up_s) b2 (fun b y hb q1 q2 => ?_) w1
  have q3 : b ≠ v1 := fun z => by
    rcases w1 with w | w
    · exact q2 (z.trans w)
    · rw [z, w] at hb; cases hb
  rw [z_up_n q3, z_up_n q1]
  exact f1 b y hb q1 q2
theorem kJ5_inflateIfNeededFor {G : State} {d rc rs : Nat} {ah : zH} {Q : zRs → zH → Prop} {a v n : Nat} {ml : Int} {g : Nat → Value} {l : List Int} (H : zSb G ah a v n ml g l) {x : Nat} {m : List Int} (hx : zTx G ah x m) (hd : 1 ≤ d) (k : Q (.inl none) ah) : zW G mJ5_inflateIfNeededFor d rc rs 0 (zent [.ref a, .ref x]) [] ah Q := by
  refine zW_open 0 [some (.ref a), some (.ref x)] rfl ?_
  refine zW_tb (fun T => ?_)
  refine zr_getstatic dJ5_inflateIfNeededFor_0 q250 (z_compact T) ?_
  refine zr_ifeq dJ5_inflateIfNeededFor_3 (tgt := 21) (by decide) (by decide) (fun h => absurd h (by decide)) (fun _ => ?_)
  refine zr_aload_n dJ5_inflateIfNeededFor_6 rfl rfl ?_
  refine zr_getf dJ5_inflateIfNeededFor_7 nJ6 (k := 1) (by decide) q260 (Or.inl rfl) H.1 rfl ?_
  refine zr_aload_n dJ5_inflateIfNeededFor_10 rfl rfl ?_
  refine zc_v0 dJ5_inflateIfNeededFor_11 hJ7_coder gJ7_coder rfl rfl 0 0 0 (by omega) (Nat.zero_le _) (Nat.zero_le _) q572 q560 q561 hx.rc ?_
  refine kJ7_coder hx (zK_i ?_)
  refine zr_icmpeq dJ5_inflateIfNeededFor_14 (tgt := 21) (by decide) (by decide) (by decide) (fun _ => ?_) (fun h => absurd rfl h)
  refine zr_return dJ5_inflateIfNeededFor_21 rfl ?_
  exact k
theorem kJ7_getBytes {G : State} {d rc rs : Nat} {ah : zH} {Q : zRs → zH → Prop} {x w n i : Nat} {m : List Int} {g : Nat → Value} (hx : zTx G ah x m) (h8 : zL8 m) (hw : ah w = some (.inr (.byte, n, g))) (hn : n ≤ 2000) (hi : i + m.length ≤ n) (hd : 1 ≤ d) (k : Q (.inl none) (z_up ah w (.inr (.byte, n, va_cpy (zBy m) g (Int.toNat 0) (i : Int).toNat ((m.length : Nat) : Int).toNat)))) : zW G mJ7_getBytes d rc rs 0 (zent [.ref x, .ref w, .int (zi (i : Nat)), .int (zi 0)]) [] ah Q := by
  refine zW_open 0 [some (.ref x), some (.ref w), some (.int (zi (i : Nat))), some (.int (zi 0))] rfl ?_
  refine zr_aload_n dJ7_getBytes_0 rfl rfl ?_
  refine zc_v0 dJ7_getBytes_1 hJ7_coder gJ7_coder rfl rfl 0 0 0 (by omega) (Nat.zero_le _) (Nat.zero_le _) q559 q560 q561 hx.rc ?_
  refine kJ7_coder hx (zK_i ?_)
  refine zr_iload_n dJ7_getBytes_4 rfl ?_
  refine zr_icmpne dJ7_getBytes_5 (tgt := 28) (by decide) (by decide) (by decide) (fun h => absurd rfl h) (fun _ => ?_)
  refine zr_aload_n dJ7_getBytes_8 rfl rfl ?_
  refine zr_strV dJ7_getBytes_9 q750 hx (fun v hv => ?_)
  refine zr_iconst dJ7_getBytes_12 ?_
  refine zr_aload_n dJ7_getBytes_13 rfl rfl ?_
  refine zr_iload_n dJ7_getBytes_14 rfl ?_
  refine zr_iload_n dJ7_getBytes_15 rfl ?_
  refine zr_ishl dJ7_getBytes_16 (z_shl0 _) ?_
  refine zr_aload_n dJ7_getBytes_17 rfl rfl ?_
  refine zr_strV dJ7_getBytes_18 q750 hx (fun v2 hv2 => ?_)
  refine zr_alen dJ7_getBytes_21 hv2 ?_
  refine zr_copy dJ7_getBytes_22 q596 q523 q522 q115 hv hw (by have := h8.1; omega) (by omega) (fun j hj => ⟨z_f8 (by have := zBy_b h8 (i := (j : Int)) (by omega); simpa using this), trivial⟩) (by decide) (by omega) ?_
  refine zr_goto dJ7_getBytes_25 (tgt := 43) (by decide) ?_
  refine zr_return dJ7_getBytes_43 rfl ?_
  exact k
theorem kJ5_putStringAt {G : State} {d rc rs : Nat} {ah : zH} {Q : zRs → zH → Prop} {a v n : Nat} {ml : Int} {g : Nat → Value} {l : List Int} (H : zSb G ah a v n ml g l) {x i : Nat} {m : List Int} (hx : zTx G ah x m) (h8 : zL8 m) (hi : i + m.length ≤ n) (hd : 2 ≤ d) (k : Q (.inl none) (z_up ah v (.inr (.byte, n, va_cpy (zBy m) g (Int.toNat 0) (i : Int).toNat ((m.length : Nat) : Int).toNat)))) : zW G mJ5_putStringAt d rc rs 0 (zent [.ref a, .int (zi (i : Nat)), .ref x]) [] ah Q := by
  refine zW_open 0 [some (.ref a), some (.int (zi (i : Nat))), some (.ref x)] rfl ?_
  obtain ⟨s1, s2, s3, s4, s5, s6, s7⟩ := id H
  refine zr_aload_n dJ5_putStringAt_0 rfl rfl ?_
  refine zr_aload_n dJ5_putStringAt_1 rfl rfl ?_
  refine zc_vP1 rfl dJ5_putStringAt_2 hJ5_inflateIfNeededFor gJ5_inflateIfNeededFor rfl rfl 1 0 0 (by omega) (Nat.zero_le _) (Nat.zero_le _) q568 q570 (z_selP (by decide) q569 q570 q527 rfl) H.rc ?_
  refine kJ5_inflateIfNeededFor H hx (by omega) (zK_v ?_)
  refine zr_aload_n dJ5_putStringAt_5 rfl rfl ?_
  refine zr_aload_n dJ5_putStringAt_6 rfl rfl ?_
  refine zr_getf dJ5_putStringAt_7 nJ6 (k := 0) (by decide) q259 (Or.inl rfl) s1 rfl ?_
  refine zr_iload_n dJ5_putStringAt_10 rfl ?_
  refine zr_aload_n dJ5_putStringAt_11 rfl rfl ?_
  refine zr_getf dJ5_putStringAt_12 nJ6 (k := 1) (by decide) q260 (Or.inl rfl) s1 rfl ?_
  refine zc_v3 dJ5_putStringAt_15 hJ7_getBytes gJ7_getBytes rfl rfl 1 0 0 (by omega) (Nat.zero_le _) (Nat.zero_le _) q592 q593 q594 hx.rc ?_
  refine kJ7_getBytes hx h8 s3 s5 hi (by omega) (zK_v ?_)
  refine zr_return dJ5_putStringAt_18 rfl ?_
  exact k
theorem zSb_cat {G : State} {ah : zH} {a v n : Nat} {ml : Int} {g : Nat → Value} {l m : List Int} (H : zSb G ah a v n ml g l) (hl : l.length + m.length ≤ n) (h8 : zL8 m) {ah9 : zH} (h1 : ah9 a = some (.inl (16, [.ref v, .int (zi 0), .int (zi ml), .int (zi ((l.length : Nat) + (m.length : Nat)))]))) (h2 : ah9 v = some (.inr (.byte, n, va_cpy (zBy m) g (Int.toNat 0) ((l.length : Nat) : Int).toNat ((m.length : Nat) : Int).toNat))) : zSb G ah9 a v n ml (va_cpy (zBy m) g (Int.toNat 0) ((l.length : Nat) : Int).toNat ((m.length : Nat) : Int).toNat) (l ++ m) := by
  obtain ⟨s1, s2, s3, s4, s5, s6, s7⟩ := H
  refine ⟨by rw [h1]; simp, s2, h2, by simp; omega, s5, fun i y hy => ?_, fun i hi => ?_⟩
  · unfold va_cpy
    by_cases hi : i < l.length
    · rw [List.getElem?_append_left hi] at hy
      rw [if_neg (by simp; omega)]
      exact s6 i y hy
    · rw [List.getElem?_append_right (by omega)] at hy
      have hm := (List.getElem?_eq_some_iff.mp hy).1
      rw [if_pos (by simp; omega)]
      unfold zBy
      rw [List.getD_eq_getElem?_getD]
      simp only [Int.toNat_zero, Int.toNat_natCast, Nat.zero_add]
      rw [hy]
      rfl
  · unfold va_cpy
    split
    · rename_i z
      simp only [Int.toNat_zero, Int.toNat_natCast, Nat.zero_add] at z ⊢
      have := zBy_b h8 (i := ((i - l.length : Nat) : Int)) (by omega)
      exact z_f8 (by simpa using this)
    · exact s7 i hi
theorem kJ5_append {G : State} {d rc rs : Nat} {ah : zH} {Q : zRs → zH → Prop} {a v n : Nat} {ml : Int} {g : Nat → Value} {l : List Int} (H : zSb G ah a v n ml g l) {x : Nat} {m : List Int} (hx : ∀ ah1 : zH, (∀ b o, ah b = some o → b ≠ a → b ≠ v → ah1 b = some o) → zTx G ah1 x m) (h8 : zL8 m) (hn : n ≤ 400) (hl : l.length + m.length ≤ 150) (hd : 4 ≤ d) (hcl : 1 ≤ rc) (hs : 400 ≤ rs) (k : ∀ (ah9 : zH) (v9 n9 : Nat) (g9 : Nat → Value), zSb G ah9 a v9 n9 ml g9 (l ++ m) → (n ≤ n9 ∧ n9 ≤ 400) → (∀ b o, ah b = some o → b ≠ a → b ≠ v → ah9 b = some o) → (v9 = v ∨ ah v9 = none) → Q (.inl (some (.ref a))) ah9) : zW G mJ5_append d rc rs 0 (zent [.ref a, .ref x]) [] ah Q := by
  refine zW_open 1 [some (.ref a), some (.ref x), none] rfl ?_
  have hx0 := hx ah (fun b o h _ _ => h)
  refine zr_aload_n dJ5_append_0 rfl rfl ?_
  refine zr_ifnonnull dJ5_append_1 (tgt := 9) (by decide) ?_
  refine zr_aload_n dJ5_append_9 rfl rfl ?_
  refine zc_v0 dJ5_append_10 hJ7_length gJ7_length rfl rfl 1 0 0 (by omega) (Nat.zero_le _) (Nat.zero_le _) q555 q556 q557 hx0.rc ?_
  refine kJ7_length hx0 (by omega) (zK_i ?_)
  refine zr_istore_n dJ5_append_13 (by decide) (zs3_2 rfl ?_)
  refine zr_aload_n dJ5_append_14 rfl rfl ?_
  refine zr_aload_n dJ5_append_15 rfl rfl ?_
  refine zr_getf dJ5_append_16 nJ6 (k := 3) (by decide) q263 (Or.inl rfl) H.1 rfl ?_
  refine zr_iload_n dJ5_append_19 rfl ?_
  refine zr_iadd dJ5_append_20 ?_
  refine zc_vP1 rfl dJ5_append_21 hJ5_ensureCapacityInternal gJ5_ensureCapacityInternal rfl rfl 3 1 400 (by omega) (by omega) (by omega) q491 q493 (z_selP (by decide) q492 q493 q527 rfl) H.rc ?_
  refine kJ5_ensureCapacityInternal H (by omega) (by omega) (by omega) (by omega) (by omega) (fun ah1 v1 n1 g1 H1 b1 b2 f1 w1 => zK_v ?_)
  obtain ⟨s1, s2, s3, s4, s5, s6, s7⟩ := id H1
  refine zr_aload_n dJ5_append_24 rfl rfl ?_
  refine zr_aload_n dJ5_append_25 rfl rfl ?_
  have hx1 := hx ah1 f1
  refine zr_getf dJ5_append_26 nJ6 (k := 3) (by decide) q263 (Or.inl rfl) s1 rfl ?_
  refine zr_aload_n dJ5_append_29 rfl rfl ?_
  refine zc_vP2 rfl dJ5_append_30 hJ5_putStringAt gJ5_putStringAt rfl rfl 2 0 0 (by omega) (Nat.zero_le _) (Nat.zero_le _) q564 q566 (z_selP (by decide) q565 q566 q527 rfl) H1.rc ?_
  refine kJ5_putStringAt H1 hx1 h8 (by omega) (by omega) (zK_v ?_)
  refine zr_aload_n dJ5_append_33 rfl rfl ?_
  refine zr_dup dJ5_append_34 rfl ?_
  refine zr_getf dJ5_append_35 nJ6 (k := 3) (by decide) q263 (Or.inl rfl) ((z_up_n s2).trans s1) rfl ?_
  refine zr_iload_n dJ5_append_38 rfl ?_
  refine zr_iadd dJ5_append_39 ?_
  refine zr_putf dJ5_append_40 nJ6 (k := 3) (by decide) q263 (Or.inl rfl) (Or.inl rfl) ((z_up_n s2).trans s1) (z_ble rfl) rfl rfl ?_
  refine zr_aload_n dJ5_append_43 rfl rfl ?_
  refine zr_areturn dJ5_append_44 rfl rfl rfl ?_
  refine k _ v1 n1 _ (zSb_cat H1 (by omega) h8 (by rw [z_up_s]; rfl) (by rw [z_up_n (fun z => s2 z.symm), z_up_s])) b2 (fun b y hb q1 q2 => ?_) w1
  have q3 : b ≠ v1 := fun z => by
    rcases w1 with w | w
    · exact q2 (z.trans w)
    · rw [z, w] at hb; cases hb
  rw [z_up_n q1, z_up_n q3]
  exact f1 b y hb q1 q2
theorem kJ18_stringSize {G : State} {d rc rs : Nat} {ah : zH} {Q : zRs → zH → Prop} {x : Int} (hx : 0 ≤ x ∧ x < 100) (k : Q (.inl (some (.int (zi (if 10 ≤ x then 2 else 1))))) ah) : zW G mJ18_stringSize d rc rs 0 (zent [.int (zi x)]) [] ah Q := by
  refine zW_open 3 [some (.int (zi x)), none, none, none] rfl ?_
  refine zr_iconst dJ18_stringSize_0 ?_
  refine zr_istore_n dJ18_stringSize_1 (by decide) (zs4_1 rfl ?_)
  refine zr_iload_n dJ18_stringSize_2 rfl ?_
  refine zr_iflt dJ18_stringSize_3 (tgt := 11) (by decide) (by omega) (fun h3 => ?_) (fun h3 => ?_)
  · exfalso; omega
  · refine zr_iconst dJ18_stringSize_6 ?_
    refine zr_istore_n dJ18_stringSize_7 (by decide) (zs4_1 rfl ?_)
    refine zr_iload_n dJ18_stringSize_8 rfl ?_
    refine zr_ineg dJ18_stringSize_9 ?_
    refine zr_istore_n dJ18_stringSize_10 (by decide) (zs4_0 ?_)
    refine zr_bipush dJ18_stringSize_11 rfl ?_
    refine zr_istore_n dJ18_stringSize_13 (by decide) (zs4_2 rfl ?_)
    refine zr_iconst dJ18_stringSize_14 ?_
    refine zr_istore_n dJ18_stringSize_15 (by decide) (zs4_3 rfl ?_)
    refine zr_iload_n dJ18_stringSize_16 rfl ?_
    refine zr_bipush dJ18_stringSize_17 rfl ?_
    refine zr_icmpge dJ18_stringSize_19 (tgt := 42) (by decide) (by decide) (by decide) (fun h => absurd h (by decide)) (fun _ => ?_)
    refine zr_iload_n dJ18_stringSize_22 rfl ?_
    refine zr_iload_n dJ18_stringSize_23 rfl ?_
    refine zr_icmple dJ18_stringSize_24 (tgt := 31) (by decide) (by omega) (by omega) (fun h24 => ?_) (fun h24 => ?_)
    · refine zr_bipush dJ18_stringSize_31 rfl ?_
      refine zr_iload_n dJ18_stringSize_33 rfl ?_
      refine zr_imul dJ18_stringSize_34 ?_
      refine zr_istore_n dJ18_stringSize_35 (by decide) (zs4_2 rfl ?_)
      refine zr_iinc dJ18_stringSize_36 rfl (by decide) (zs4_3 rfl ?_)
      refine zr_goto dJ18_stringSize_39 (tgt := 16) (by decide) ?_
      refine zr_iload_n dJ18_stringSize_16 rfl ?_
      refine zr_bipush dJ18_stringSize_17 rfl ?_
      refine zr_icmpge dJ18_stringSize_19 (tgt := 42) (by decide) (by decide) (by decide) (fun h => absurd h (by decide)) (fun _ => ?_)
      refine zr_iload_n dJ18_stringSize_22 rfl ?_
      refine zr_iload_n dJ18_stringSize_23 rfl ?_
      refine zr_icmple dJ18_stringSize_24 (tgt := 31) (by decide) (by omega) (by omega) (fun h24 => ?_) (fun h24 => ?_)
      · exfalso; omega
      · refine zr_iload_n dJ18_stringSize_27 rfl ?_
        refine zr_iload_n dJ18_stringSize_28 rfl ?_
        refine zr_iadd dJ18_stringSize_29 ?_
        refine zr_ireturn dJ18_stringSize_30 rfl (by first | rfl | exact z_nb _) ?_
        rw [if_pos (by omega)] at k
        exact k
    · refine zr_iload_n dJ18_stringSize_27 rfl ?_
      refine zr_iload_n dJ18_stringSize_28 rfl ?_
      refine zr_iadd dJ18_stringSize_29 ?_
      refine zr_ireturn dJ18_stringSize_30 rfl (by first | rfl | exact z_nb _) ?_
      rw [if_neg (by omega)] at k
      exact k
theorem z_nb8 {c : Int} (h : 0 ≤ c ∧ c < 128) : narrow .byte (.int (zi c)) = .int (zi c) := by show Value.int _ = _; rw [z_i2b h]
theorem kJ18_getChars {G : State} {d rc rs : Nat} {ah : zH} {Q : zRs → zH → Prop} {x : Int} {p w n : Nat} {g : Nat → Value} (hx : 0 ≤ x ∧ x < 100) (hw : ah w = some (.inr (.byte, n, g))) (hn : n ≤ 2000) (hp : (if 10 ≤ x then 2 else 1) ≤ p ∧ p ≤ n) (k : Q (.inl (some (.int (zi ((p : Int) - (if 10 ≤ x then 2 else 1)))))) (z_up ah w (.inr (.byte, n, (if 10 ≤ x then z_upV (z_upV g (p - 1) (.int (zi (48 + x % 10)))) (p - 2) (.int (zi (48 + x / 10))) else z_upV g (p - 1) (.int (zi (48 + x % 10)))))))) : zW G mJ18_getChars d rc rs 0 (zent [.int (zi x), .int (zi (p : Nat)), .ref w]) [] ah Q := by
  refine zW_open 4 [some (.int (zi x)), some (.int (zi (p : Nat))), some (.ref w), none, none, none, none] rfl ?_
  refine zW_tb (fun T => ?_)
  obtain ⟨o1, o2, o3⟩ := z_DigitOnes T
  obtain ⟨t1, t2, t3⟩ := z_DigitTens T
  have hp1 : 1 ≤ p := by split at hp <;> omega
  have hp2 : 10 ≤ x → 2 ≤ p := fun h => by rw [if_pos h] at hp; omega
  obtain ⟨y, rfl⟩ : ∃ y : Nat, x = y := ⟨x.toNat, by omega⟩
  refine zr_iload_n dJ18_getChars_0 rfl ?_
  refine zr_istore dJ18_getChars_1 (by decide) (zs7_5 rfl ?_)
  refine zr_iload_n dJ18_getChars_3 rfl ?_
  refine zr_ifge dJ18_getChars_4 (tgt := 11) (by decide) (by omega) (fun h4 => ?_) (fun h4 => ?_)
  · refine zr_iconst dJ18_getChars_11 ?_
    refine zr_istore dJ18_getChars_12 (by decide) (zs7_6 rfl ?_)
    refine zr_iload dJ18_getChars_14 rfl ?_
    refine zr_ifne dJ18_getChars_16 (tgt := 22) (by decide) (by decide) (fun h => absurd h (by decide)) (fun _ => ?_)
    refine zr_iload_n dJ18_getChars_19 rfl ?_
    refine zr_ineg dJ18_getChars_20 ?_
    refine zr_istore_n dJ18_getChars_21 (by decide) (zs7_0 ?_)
    refine zr_iload_n dJ18_getChars_22 rfl ?_
    refine zr_bipush dJ18_getChars_23 rfl ?_
    refine zr_icmpgt dJ18_getChars_25 (tgt := 72) (by decide) (by omega) (by omega) (fun h25 => ?_) (fun h25 => ?_)
    · refine zr_aload_n dJ18_getChars_72 rfl rfl ?_
      refine zr_iinc dJ18_getChars_73 rfl (by decide) (zs7_5 rfl ?_)
      refine zr_iload dJ18_getChars_76 rfl ?_
      refine zr_getstatic dJ18_getChars_78 q611 o2 ?_
      refine zr_iload_n dJ18_getChars_81 rfl ?_
      refine zr_ineg dJ18_getChars_82 ?_
      refine zr_baload (v := .int (zi (48 + (y : Int) % 10))) dJ18_getChars_83 (Or.inr o3) (by decide) (by omega) (by rw [show (- -(y : Int)).toNat = y by omega]; rw [show ((y % 10 : Nat) : Int) = (y : Int) % 10 by omega]) ?_
      refine zr_bastore dJ18_getChars_84 hw (by omega) (by omega) (z_nb8 (by omega)) ?_
      rw [show ((p : Int) + (-1)).toNat = p - 1 by omega]
      refine zr_iload_n dJ18_getChars_85 rfl ?_
      refine zr_bipush dJ18_getChars_86 rfl ?_
      refine zr_icmpge dJ18_getChars_88 (tgt := 104) (by decide) (by omega) (by omega) (fun h88 => ?_) (fun h88 => ?_)
      · refine zr_iload dJ18_getChars_104 rfl ?_
        refine zr_ifeq dJ18_getChars_106 (tgt := 118) (by decide) (by decide) (fun _ => ?_) (fun h => absurd h (by decide))
        refine zr_iload dJ18_getChars_118 rfl ?_
        refine zr_ireturn dJ18_getChars_120 rfl (by first | rfl | exact z_nb _) ?_
        first
          | (rw [if_pos (by omega), if_pos (by omega)] at k
             exact zQe k (by rw [show (p : Int) - 2 = (p : Int) + (-1) + (-1) by omega]) rfl)
          | (rw [if_neg (by omega), if_neg (by omega)] at k
             exact zQe k (by rw [show (p : Int) - 1 = (p : Int) + (-1) by omega]) rfl)
      · refine zr_aload_n dJ18_getChars_91 rfl rfl ?_
        refine zr_iinc dJ18_getChars_92 rfl (by decide) (zs7_5 rfl ?_)
        refine zr_iload dJ18_getChars_95 rfl ?_
        refine zr_getstatic dJ18_getChars_97 q613 t2 ?_
        refine zr_iload_n dJ18_getChars_100 rfl ?_
        refine zr_ineg dJ18_getChars_101 ?_
        refine zr_baload (v := .int (zi (48 + (y : Int) / 10))) dJ18_getChars_102 (Or.inr t3) (by decide) (by omega) (by rw [show (- -(y : Int)).toNat = y by omega]; rw [show ((y / 10 : Nat) : Int) = (y : Int) / 10 by omega]) ?_
        refine zr_bastore dJ18_getChars_103 z_up_s (by omega) (by omega) (z_nb8 (by omega)) ?_
        rw [z_up_o, show ((p : Int) + (-1) + (-1)).toNat = p - 2 by omega]
        refine zr_iload dJ18_getChars_104 rfl ?_
        refine zr_ifeq dJ18_getChars_106 (tgt := 118) (by decide) (by decide) (fun _ => ?_) (fun h => absurd h (by decide))
        refine zr_iload dJ18_getChars_118 rfl ?_
        refine zr_ireturn dJ18_getChars_120 rfl (by first | rfl | exact z_nb _) ?_
        first
          | (rw [if_pos (by omega), if_pos (by omega)] at k
             exact zQe k (by rw [show (p : Int) - 2 = (p : Int) + (-1) + (-1) by omega]) rfl)
          | (rw [if_neg (by omega), if_neg (by omega)] at k
             exact zQe k (by rw [show (p : Int) - 1 = (p : Int) + (-1) by omega]) rfl)
    · exfalso; omega
  · exfalso; omega
theorem kJ5_append_2 {G : State} {d rc rs : Nat} {ah : zH} {Q : zRs → zH → Prop} {a v n : Nat} {ml : Int} {g : Nat → Value} {l : List Int} (H : zSb G ah a v n ml g l) {x : Int} (hx : 0 ≤ x ∧ x < 100) (hn : n ≤ 400) (hl : l.length ≤ 140) (hd : 4 ≤ d) (hcl : 1 ≤ rc) (hs : 400 ≤ rs) (k : ∀ (ah9 : zH) (v9 n9 : Nat) (g9 : Nat → Value), zSb G ah9 a v9 n9 ml g9 (l ++ pDg x) → (n ≤ n9 ∧ n9 ≤ 400) → (∀ b o, ah b = some o → b ≠ a → b ≠ v → ah9 b = some o) → (v9 = v ∨ ah v9 = none) → Q (.inl (some (.ref a))) ah9) : zW G mJ5_append_2 d rc rs 0 (zent [.ref a, .int (zi x)]) [] ah Q := by
  refine zW_open 2 [some (.ref a), some (.int (zi x)), none, none] rfl ?_
  refine zr_aload_n dJ5_append_2_0 rfl rfl ?_
  refine zr_getf dJ5_append_2_1 nJ6 (k := 3) (by decide) q263 (Or.inl rfl) H.1 rfl ?_
  refine zr_istore_n dJ5_append_2_4 (by decide) (zs4_2 rfl ?_)
  refine zr_iload_n dJ5_append_2_5 rfl ?_
  refine zr_iload_n dJ5_append_2_6 rfl ?_
  refine zc_s1 dJ5_append_2_7 hJ18_stringSize gJ18_stringSize rfl rfl 0 0 0 (by omega) (Nat.zero_le _) (Nat.zero_le _) q605 q606 ?_
  refine kJ18_stringSize (by omega) (zK_i ?_)
  generalize hz : (if 10 ≤ x then (2 : Int) else 1) = z
  have hz2 : 1 ≤ z ∧ z ≤ 2 ∧ (10 ≤ x → z = 2) ∧ (¬ 10 ≤ x → z = 1) := by rw [← hz]; split <;> omega
  refine zr_iadd dJ5_append_2_10 ?_
  refine zr_istore_n dJ5_append_2_11 (by decide) (zs4_3 rfl ?_)
  refine zr_aload_n dJ5_append_2_12 rfl rfl ?_
  refine zr_iload_n dJ5_append_2_13 rfl ?_
  refine zc_vP1 rfl dJ5_append_2_14 hJ5_ensureCapacityInternal gJ5_ensureCapacityInternal rfl rfl 3 1 400 (by omega) (by omega) (by omega) q491 q493 (z_selP (by decide) q492 q493 q527 rfl) H.rc ?_
  refine kJ5_ensureCapacityInternal H (by omega) (by omega) (by omega) (by omega) (by omega) (fun ah1 v1 n1 g1 H1 b1 b2 f1 w1 => zK_v ?_)
  obtain ⟨s1, s2, s3, s4, s5, s6, s7⟩ := id H1
  refine zr_aload_n dJ5_append_2_17 rfl rfl ?_
  refine zc_v0 dJ5_append_2_18 hJ5_isLatin1 gJ5_isLatin1 rfl rfl 0 0 0 (by omega) (Nat.zero_le _) (Nat.zero_le _) q524 q525 q527 H1.rc ?_
  refine kJ5_isLatin1 H1 (zK_i ?_)
  refine zr_ifeq dJ5_append_2_21 (tgt := 37) (by decide) (by decide) (fun h => absurd h (by decide)) (fun _ => ?_)
  refine zr_iload_n dJ5_append_2_24 rfl ?_
  refine zr_iload_n dJ5_append_2_25 rfl ?_
  refine zr_aload_n dJ5_append_2_26 rfl rfl ?_
  refine zr_getf dJ5_append_2_27 nJ6 (k := 0) (by decide) q259 (Or.inl rfl) s1 rfl ?_
  refine zc_s3 dJ5_append_2_30 hJ18_getChars gJ18_getChars rfl rfl 0 0 0 (by omega) (Nat.zero_le _) (Nat.zero_le _) q608 q609 ?_
  obtain ⟨pn, hpn⟩ : ∃ pn : Nat, ((l.length : Nat) : Int) + z = pn := ⟨(((l.length : Nat) : Int) + z).toNat, by omega⟩
  rw [hpn]
  refine kJ18_getChars hx s3 s5 (by split <;> omega) (zK_i ?_)
  refine zr_pop dJ5_append_2_33 rfl ?_
  refine zr_goto dJ5_append_2_34 (tgt := 48) (by decide) ?_
  refine zr_aload_n dJ5_append_2_48 rfl rfl ?_
  refine zr_iload_n dJ5_append_2_49 rfl ?_
  refine zr_putf dJ5_append_2_50 nJ6 (k := 3) (by decide) q263 (Or.inl rfl) (Or.inl rfl) ((z_up_n s2).trans s1) (z_ble rfl) rfl rfl ?_
  refine zr_aload_n dJ5_append_2_53 rfl rfl ?_
  refine zr_areturn dJ5_append_2_54 rfl rfl rfl ?_
  by_cases h10 : 10 ≤ x
  · have hz3 := hz2.2.2.1 h10
    have q := zSb_put (c := 48 + x / 10) H1 (by omega) (by omega) (ah9 := z_up (z_up ah1 a (.inl (16, [.ref v1, .int (zi 0), .int (zi ml), .int (zi ((l.length : Nat) + 1))]))) v1 (.inr (.byte, n1, z_upV g1 l.length (.int (zi (48 + x / 10)))))) (by rw [z_up_n s2, z_up_s]) z_up_s
    have q2 := zSb_put (c := 48 + x % 10) q (by simp; omega) (by omega) (ah9 := z_up (z_up ah1 v1 (.inr (.byte, n1, z_upV (z_upV g1 (pn - 1) (.int (zi (48 + x % 10)))) (pn - 2) (.int (zi (48 + x / 10)))))) a (.inl (16, [.ref v1, .int (zi 0), .int (zi ml), .int (zi (pn : Nat))]))) (by rw [z_up_s]; simp; rw [show ((pn : Nat) : Int) = (l.length : Int) + 1 + 1 by omega]) (by
      rw [z_up_n (fun z => s2 z.symm), z_up_s]
      simp only [List.length_append, List.length_singleton]
      rw [show pn - 1 = l.length + 1 by omega, show pn - 2 = l.length by omega]
      congr 4
      funext j
      unfold z_upV
      by_cases e1 : j = l.length
      · subst e1; simp
      · by_cases e2 : j = l.length + 1
        · simp [e1, e2]
        · simp [e1, e2])
    rw [if_pos h10]
    refine k _ v1 n1 _ (by unfold pDg; rw [if_pos h10]; rw [List.append_assoc] at q2; exact q2) b2 (fun b y hb q3 q4 => ?_) w1
    have q5 : b ≠ v1 := fun z => by
      rcases w1 with w | w
      · exact q4 (z.trans w)
      · rw [z, w] at hb; cases hb
    rw [z_up_n q3, z_up_n q5]
    exact f1 b y hb q3 q4
  · have hz3 := hz2.2.2.2 h10
    rw [if_neg h10]
    have q := zSb_put (c := 48 + x) H1 (by omega) (by omega) (ah9 := z_up (z_up ah1 v1 (.inr (.byte, n1, z_upV g1 (pn - 1) (.int (zi (48 + x % 10)))))) a (.inl (16, [.ref v1, .int (zi 0), .int (zi ml), .int (zi (pn : Nat))]))) (by rw [z_up_s]; rw [show ((pn : Nat) : Int) = (l.length : Int) + 1 by omega]) (by
      rw [z_up_n (fun z => s2 z.symm), z_up_s, show pn - 1 = l.length by omega, show x % 10 = x by omega])
    refine k _ v1 n1 _ (by unfold pDg; rw [if_neg h10]; exact q) b2 (fun b y hb q3 q4 => ?_) w1
    have q5 : b ≠ v1 := fun z => by
      rcases w1 with w | w
      · exact q4 (z.trans w)
      · rw [z, w] at hb; cases hb
    rw [z_up_n q3, z_up_n q5]
    exact f1 b y hb q3 q4
