set_option maxRecDepth 100000
/-! ===== ArrayList: addAll, iterator ===== -/
theorem kJ2_addAll {G : State} {d rc rs : Nat} {ah : zH} {Q : zRs → zH → Prop} {a b e n : Nat} {mc mb : Int} {f g : Nat → Value} {l : List Nat} {Cn : String} (hca : Cond.castable Cn "java/lang/Object" ∈ lw_tbl) (ha : ah a = some (.inl (13, [.int (zi mc), .ref (zEm G), .int (zi 0)]))) (hL : zLst G ah b e n mb f l) (hel : ∀ x ∈ l, zRc G ah x Cn) (hla : ∀ y ∈ l, y ≠ a) (hba : b ≠ a) (hl : l.length ≤ 20) (hd : 5 ≤ d) (hc : 2 ≤ rc) (hs : 80 ≤ rs) (k : ∀ (r : Int) (ah9 : zH) (e9 n9 : Nat) (f9 : Nat → Value), zLst G ah9 a e9 n9 (mc + 1) f9 l → (∀ b o, ah b = some o → b ≠ a → ah9 b = some o) → (ah e9 = none ∨ e9 = zEm G) → n9 ≤ 40 → Q (.inl (some (.int (zi r)))) ah9) : zW G mJ2_addAll d rc rs 0 (zent [.ref a, .ref b]) [] ah Q := by
  refine zW_open 4 [some (.ref a), some (.ref b), none, none, none, none] rfl ?_
  refine zW_tb (fun T => ?_)
  have h4 := hL.2.2.2.1
  refine zr_aload_n dJ2_addAll_0 rfl rfl ?_
  refine zr_iface (x := ⟨"java/util/Collection", "toArray", "()[Ljava/lang/Object;"⟩) (as := []) rfl dJ2_addAll_1 hJ2_toArray (zSig.of (by decide +kernel)) rfl (z_ble rfl) (z_ble rfl) (d' := 3) (mc := 1) (ms := 20) (by omega) (by omega) (by omega) q947 q949 q948 q971 q969 q967 (by decide) q970 q968 rfl hL.rc ?_
  refine kJ2_toArray hL hca hel (by omega) (by omega) (by omega) (fun q hq g hg => zK_i ?_)
  have hqa : a ≠ q := fun z => by rw [← z, ha] at hq; cases hq
  refine zr_astore_n dJ2_addAll_6 (by decide) rfl (zs6_2 rfl ?_)
  refine zr_aload_n dJ2_addAll_7 rfl rfl ?_
  refine zr_dup dJ2_addAll_8 rfl ?_
  refine zr_getf dJ2_addAll_9 nJ2 (k := 0) (by decide) q173 (Or.inr q172) ((z_up_n hqa).trans ha) rfl ?_
  refine zr_iconst dJ2_addAll_12 ?_
  refine zr_iadd dJ2_addAll_13 ?_
  refine zr_putf dJ2_addAll_14 nJ2 (k := 0) (by decide) q173 (Or.inr q172) (Or.inl rfl) ((z_up_n hqa).trans ha) (z_ble rfl) rfl rfl ?_
  refine zr_aload_n dJ2_addAll_17 rfl rfl ?_
  refine zr_alen dJ2_addAll_18 (Or.inl ((z_up_n (fun z => hqa z.symm)).trans z_up_s)) ?_
  refine zr_istore_n dJ2_addAll_19 (by decide) (zs6_3 rfl ?_)
  refine zr_iload_n dJ2_addAll_20 rfl ?_
  refine zr_ifne dJ2_addAll_21 (tgt := 26) (by decide) (by omega) (fun h21 => ?_) (fun h21 => ?_)
  · refine zr_iload_n dJ2_addAll_26 rfl ?_
    refine zr_aload_n dJ2_addAll_27 rfl rfl ?_
    refine zr_getf dJ2_addAll_28 nJ2 (k := 1) (by decide) q166 (Or.inl rfl) z_up_s rfl ?_
    refine zr_dup dJ2_addAll_31 rfl ?_
    refine zr_astore dJ2_addAll_32 (by decide) rfl (zs6_4 rfl ?_)
    have ZE : zSA G (.object "java/lang/Object") (zEm G) 0 (fun _ => .null) := (z_empty T).2.1
    refine zr_alen dJ2_addAll_34 (Or.inr ZE) ?_
    refine zr_aload_n dJ2_addAll_35 rfl rfl ?_
    refine zr_getf dJ2_addAll_36 nJ2 (k := 2) (by decide) q169 (Or.inl rfl) z_up_s rfl ?_
    refine zr_dup dJ2_addAll_39 rfl ?_
    refine zr_istore dJ2_addAll_40 (by decide) (zs6_5 rfl ?_)
    refine zr_isub dJ2_addAll_42 ?_
    refine zr_icmple dJ2_addAll_43 (tgt := 56) (by decide) (by omega) (by omega) (fun h43 => ?_) (fun h43 => ?_)
    · exfalso; omega
    · refine zr_aload_n dJ2_addAll_46 rfl rfl ?_
      refine zr_iload dJ2_addAll_47 rfl ?_
      refine zr_iload_n dJ2_addAll_49 rfl ?_
      refine zr_iadd dJ2_addAll_50 ?_
      refine zc_v1 dJ2_addAll_51 hJ2_grow gJ2_grow rfl rfl 3 1 40 (by omega) (by omega) (by omega) q1014 q1016 sp8 (Or.inl ⟨13, _, TJ2, 3, tyJ2, nJ2, z_up_s⟩) ?_
      have hL0 : zLst G (z_up (z_up ah q (.inr (.object "java/lang/Object", l.length, g))) a (.inl (13, [.int (zi (mc + 1)), .ref (zEm G), .int (zi 0)]))) a (zEm G) 0 (mc + 1) (fun _ => .null) [] := ⟨z_up_s, Or.inl ⟨rfl, rfl⟩, Nat.le_refl _, by decide, fun i x hx => by simp at hx, fun i _ i2 => by omega⟩
      refine kJ2_grow hL0 hca (fun x hx => by cases hx) (by omega) (by omega) (by omega) (by omega) (fun e9 n9 f9 q1 q2 q3 q4 q5 q6 => zK_i ?_)
      have he : e9 ≠ a := fun z => by rw [z, z_up_s] at q1; cases q1
      rw [z_up_n he] at q1
      have heq : e9 ≠ q := fun z => by rw [z, z_up_s] at q1; cases q1
      rw [z_up_n heq] at q1
      refine zr_astore dJ2_addAll_54 (by decide) rfl (zs6_4 rfl ?_)
      refine zr_aload_n dJ2_addAll_56 rfl rfl ?_
      refine zr_iconst dJ2_addAll_57 ?_
      refine zr_aload dJ2_addAll_58 rfl rfl ?_
      refine zr_iload dJ2_addAll_60 rfl ?_
      refine zr_iload_n dJ2_addAll_62 rfl ?_
      refine zr_copy (f := g) dJ2_addAll_63 q1021 q523 q522 q115 (Or.inl (by rw [z_up_n (fun z => hqa z.symm), z_up_n (fun z => heq z.symm), z_up_n (fun z => hqa z.symm), z_up_s])) (by rw [z_up_n he, z_up_s]) (by omega) (by omega) (fun i hi => ?_) (by decide) (by omega) ?_
      · have hil : i < l.length := by omega
        have hx := hg i l[i] (List.getElem?_eq_getElem hil)
        rw [show (Int.toNat 0 + i) = i by simp, hx]
        have hr := hel l[i] (List.getElem_mem hil)
        have hn := hla l[i] (List.getElem_mem hil)
        exact ⟨rfl, "java/lang/Object", Cn, rfl, hr.fr (fun o ho => by
          rw [z_up_n hn, z_up_n (fun z => by rw [z, q1] at ho; cases ho), z_up_n hn, z_up_n (fun z => by rw [z, hq] at ho; cases ho)]
          exact ho), hca⟩
      refine zr_aload_n dJ2_addAll_66 rfl rfl ?_
      refine zr_iload dJ2_addAll_67 rfl ?_
      refine zr_iload_n dJ2_addAll_69 rfl ?_
      refine zr_iadd dJ2_addAll_70 ?_
      refine zr_putf dJ2_addAll_71 nJ2 (k := 2) (by decide) q169 (Or.inl rfl) (Or.inl rfl) (by rw [z_up_n (fun z => he z.symm), z_up_s]) (z_ble rfl) rfl rfl ?_
      refine zr_iconst dJ2_addAll_74 ?_
      refine zr_ireturn dJ2_addAll_75 rfl (by first | rfl | exact z_nb _) ?_
      refine k _ _ e9 n9 (va_cpy g f9 (Int.toNat 0) (Int.toNat 0) (l.length : Int).toNat) ⟨by rw [z_up_s]; simp, Or.inr ⟨by omega, fun z => he z.symm, by rw [z_up_n he, z_up_s]⟩, by omega, by omega, fun i x hx => ?_, fun i i1 i2 => ?_⟩ (fun b y hb b1 => ?_) (Or.inl q1) q3
      · have hil := (List.getElem?_eq_some_iff.mp hx).1
        unfold va_cpy
        rw [if_pos (by simp; omega)]
        simpa using hg i x hx
      · unfold va_cpy
        rw [if_neg (by simp; omega)]
        exact q6 i (by simp) i2
      · have b2 : b ≠ e9 := fun z => by rw [z, q1] at hb; cases hb
        have b3 : b ≠ q := fun z => by rw [z, hq] at hb; cases hb
        rw [z_up_n b1, z_up_n b2, z_up_n b1, z_up_n b2, z_up_n b1, z_up_n b3]
        exact hb
  · have l0 : l = [] := List.eq_nil_of_length_eq_zero (by omega)
    subst l0
    refine zr_iconst dJ2_addAll_24 ?_
    refine zr_ireturn dJ2_addAll_25 rfl (by first | rfl | exact z_nb _) ?_
    refine k _ _ (zEm G) 0 (fun _ => .null) ⟨z_up_s, Or.inl ⟨rfl, rfl⟩, Nat.le_refl _, by decide, fun i x hx => by simp at hx, fun i _ i2 => by omega⟩ (fun b y hb b1 => ?_) (Or.inr rfl) (by decide)
    rw [z_up_n b1, z_up_n (fun z => by rw [z, hq] at hb; cases hb)]
    exact hb
