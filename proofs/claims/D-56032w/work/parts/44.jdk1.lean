set_option maxRecDepth 100000
/-! ===== Math, Arrays, ArrayList ===== -/
theorem zRc.up {G : State} {ah : zH} {b q : Nat} {Cn : String} {x : zO} (h : zRc G ah b Cn) (hq : ah q = none) : zRc G (z_up ah q x) b Cn := by
  rcases h with ⟨ci, fs, T, N, ty, hK, h⟩ | h
  · exact Or.inl ⟨ci, fs, T, N, ty, hK, by rw [z_up_n (fun e => by rw [e, hq] at h; cases h)]; exact h⟩
  · exact Or.inr h
theorem zRc.fr {G : State} {ah ah' : zH} {b : Nat} {Cn : String} (h : zRc G ah b Cn) (hk : ∀ o, ah b = some o → ah' b = some o) : zRc G ah' b Cn := by
  rcases h with ⟨ci, fs, T, N, ty, hK, h⟩ | h
  · exact Or.inl ⟨ci, fs, T, N, ty, hK, hk _ h⟩
  · exact Or.inr h
/-- null, or an object of this class -/
def zEl (G : State) (ah : zH) (Cn : String) (v : Value) : Prop := v = .null ∨ ∃ x, v = .ref x ∧ zRc G ah x Cn
theorem zEl.up {G : State} {ah : zH} {q : Nat} {Cn : String} {v : Value} {x : zO} (h : zEl G ah Cn v) (hq : ah q = none) : zEl G (z_up ah q x) Cn v := by
  rcases h with h | ⟨y, h1, h2⟩
  · exact Or.inl h
  · exact Or.inr ⟨y, h1, h2.up hq⟩
theorem zEl.tk {G : State} {ah : zH} {Cn : String} {v : Value} (h : zEl G ah Cn v) (hc : Cond.castable Cn "java/lang/Object" ∈ lw_tbl) : fits (.object "java/lang/Object") v = true ∧ zTk G ah (.object "java/lang/Object") v := by
  rcases h with rfl | ⟨x, rfl, h⟩
  · exact ⟨rfl, trivial⟩
  · exact ⟨rfl, "java/lang/Object", Cn, rfl, h, hc⟩
theorem kJ16_min {G : State} {d rc rs : Nat} {ah : zH} {Q : zRs → zH → Prop} {x y : Int} (qx : -2147483648 ≤ x ∧ x ≤ 2147483647) (qy : -2147483648 ≤ y ∧ y ≤ 2147483647) (k : Q (.inl (some (.int (zi (if x ≤ y then x else y))))) ah) : zW G mJ16_min d rc rs 0 (zent [.int (zi x), .int (zi y)]) [] ah Q := by
  refine zW_open 0 [some (.int (zi x)), some (.int (zi y))] rfl ?_
  refine zr_iload_n dJ16_min_0 rfl ?_
  refine zr_iload_n dJ16_min_1 rfl ?_
  refine zr_icmpgt dJ16_min_2 (tgt := 9) (by decide) (by omega) (by omega) (fun h2 => ?_) (fun h2 => ?_)
  · refine zr_iload_n dJ16_min_9 rfl ?_
    refine zr_ireturn dJ16_min_10 rfl (by first | rfl | exact z_nb _) ?_
    exact zQi k (by first | rw [if_pos (by omega)] | rw [if_neg (by omega)])
  · refine zr_iload_n dJ16_min_5 rfl ?_
    refine zr_goto dJ16_min_6 (tgt := 10) (by decide) ?_
    refine zr_ireturn dJ16_min_10 rfl (by first | rfl | exact z_nb _) ?_
    exact zQi k (by first | rw [if_pos (by omega)] | rw [if_neg (by omega)])
theorem kJ16_max {G : State} {d rc rs : Nat} {ah : zH} {Q : zRs → zH → Prop} {x y : Int} (qx : -2147483648 ≤ x ∧ x ≤ 2147483647) (qy : -2147483648 ≤ y ∧ y ≤ 2147483647) (k : Q (.inl (some (.int (zi (if y ≤ x then x else y))))) ah) : zW G mJ16_max d rc rs 0 (zent [.int (zi x), .int (zi y)]) [] ah Q := by
  refine zW_open 0 [some (.int (zi x)), some (.int (zi y))] rfl ?_
  refine zr_iload_n dJ16_max_0 rfl ?_
  refine zr_iload_n dJ16_max_1 rfl ?_
  refine zr_icmplt dJ16_max_2 (tgt := 9) (by decide) (by omega) (by omega) (fun h2 => ?_) (fun h2 => ?_)
  · refine zr_iload_n dJ16_max_9 rfl ?_
    refine zr_ireturn dJ16_max_10 rfl (by first | rfl | exact z_nb _) ?_
    exact zQi k (by first | rw [if_pos (by omega)] | rw [if_neg (by omega)])
  · refine zr_iload_n dJ16_max_5 rfl ?_
    refine zr_goto dJ16_max_6 (tgt := 10) (by decide) ?_
    refine zr_ireturn dJ16_max_10 rfl (by first | rfl | exact z_nb _) ?_
    exact zQi k (by first | rw [if_pos (by omega)] | rw [if_neg (by omega)])
theorem kJ15_newLength {G : State} {d rc rs : Nat} {ah : zH} {Q : zRs → zH → Prop} {x y z : Int} (hx : 0 ≤ x ∧ x ≤ 1000) (hy : 1 ≤ y ∧ y ≤ 1000) (hz : 0 ≤ z ∧ z ≤ 1000) (hd : 1 ≤ d) (k : Q (.inl (some (.int (zi (x + (if z ≤ y then y else z)))))) ah) : zW G mJ15_newLength d rc rs 0 (zent [.int (zi x), .int (zi y), .int (zi z)]) [] ah Q := by
  refine zW_open 1 [some (.int (zi x)), some (.int (zi y)), some (.int (zi z)), none] rfl ?_
  refine zr_iload_n dJ15_newLength_0 rfl ?_
  refine zr_iload_n dJ15_newLength_1 rfl ?_
  refine zr_iload_n dJ15_newLength_2 rfl ?_
  refine zc_s2 dJ15_newLength_3 hJ16_max gJ16_max rfl rfl 0 0 0 (by omega) (Nat.zero_le _) (Nat.zero_le _) q502 q503 ?_
  refine kJ16_max (by omega) (by omega) (zK_i ?_)
  generalize hm : (if z ≤ y then y else z) = w at k ⊢
  have hw : 1 ≤ w ∧ w ≤ 1000 := by rw [← hm]; split <;> omega
  refine zr_iadd dJ15_newLength_6 ?_
  refine zr_istore_n dJ15_newLength_7 (by decide) (zs4_3 rfl ?_)
  refine zr_iconst dJ15_newLength_8 ?_
  refine zr_iload_n dJ15_newLength_9 rfl ?_
  refine zr_icmpge dJ15_newLength_10 (tgt := 21) (by decide) (by omega) (by omega) (fun h10 => ?_) (fun h10 => ?_)
  · exfalso; omega
  · refine zr_iload_n dJ15_newLength_13 rfl ?_
    refine zr_ldc dJ15_newLength_14 q505 (n := 2147483639) rfl ?_
    refine zr_icmpgt dJ15_newLength_16 (tgt := 21) (by decide) (by omega) (by omega) (fun h16 => ?_) (fun h16 => ?_)
    · exfalso; omega
    · refine zr_iload_n dJ15_newLength_19 rfl ?_
      refine zr_ireturn dJ15_newLength_20 rfl (by first | rfl | exact z_nb _) ?_
      exact k
theorem kJ17_copyOf_3 {G : State} {d rc rs : Nat} {ah : zH} {Q : zRs → zH → Prop} {a n : Nat} {m : Int} {f : Nat → Value} {Cn : String} (hca : Cond.castable Cn "java/lang/Object" ∈ lw_tbl) (hx : zAO G ah a n f) (hn : n ≤ 1000) (hm : 0 ≤ m ∧ m ≤ 1000) (hel : ∀ i, i < n → zEl G ah Cn (f i)) (hd : 1 ≤ d) (hc : 1 ≤ rc) (hs : m.toNat ≤ rs) (k : ∀ q, ah q = none → Q (.inl (some (.ref q))) (z_up ah q (.inr (.object "java/lang/Object", m.toNat, (fun j => if j < n ∧ j < m.toNat then f j else .null))))) : zW G mJ17_copyOf_3 d rc rs 0 (zent [.ref a, .int (zi m), .ref (zMir G)]) [] ah Q := by
  refine zW_open 1 [some (.ref a), some (.int (zi m)), some (.ref (zMir G)), none] rfl ?_
  refine zW_tb (fun T => ?_)
  refine zr_aload_n dJ17_copyOf_3_0 rfl rfl ?_
  refine zr_ldcM dJ17_copyOf_3_1 q964 ?_
  refine zr_acmpne (rx := some (zMir G)) (ry := some (zMir G)) dJ17_copyOf_3_3 (tgt := 13) (by decide) (fun h => absurd rfl h) (fun _ => ?_)
  refine zr_iload_n dJ17_copyOf_3_6 rfl ?_
  refine zr_anewarray dJ17_copyOf_3_7 q965 q230 (by omega) (by omega) (by omega) (fun q hq => ?_)
  have ha1 : zAr G (z_up ah q (.inr (.object "java/lang/Object", m.toNat, fun _ => .null))) a (.object "java/lang/Object") n f := by
    rcases hx.ar T with h | h
    · exact Or.inl (by rw [z_up_n (fun e => by rw [e, hq] at h; cases h)]; exact h)
    · exact Or.inr h
  refine zr_goto dJ17_copyOf_3_10 (tgt := 24) (by decide) ?_
  refine zr_astore_n dJ17_copyOf_3_24 (by decide) rfl (zs4_3 rfl ?_)
  refine zr_aload_n dJ17_copyOf_3_25 rfl rfl ?_
  refine zr_iconst dJ17_copyOf_3_26 ?_
  refine zr_aload_n dJ17_copyOf_3_27 rfl rfl ?_
  refine zr_iconst dJ17_copyOf_3_28 ?_
  refine zr_aload_n dJ17_copyOf_3_29 rfl rfl ?_
  refine zr_alen dJ17_copyOf_3_30 ha1 ?_
  refine zr_iload_n dJ17_copyOf_3_31 rfl ?_
  refine zc_s2 dJ17_copyOf_3_32 hJ16_min gJ16_min rfl rfl 0 0 0 (by omega) (Nat.zero_le _) (Nat.zero_le _) q520 q434 ?_
  refine kJ16_min (by omega) (by omega) (zK_i ?_)
  generalize hw : (if (n : Int) ≤ m then (n : Int) else m) = w
  have hw2 : 0 ≤ w ∧ w ≤ n ∧ w ≤ m := by rw [← hw]; split <;> omega
  refine zr_copy dJ17_copyOf_3_35 q521 q523 q522 q115 ha1 z_up_s (by omega) (by omega) (fun i hi => ((hel _ (by simp; omega)).up hq).tk hca) (by decide) (by omega) ?_
  rw [z_up_o, show va_cpy f (fun _ => Value.null) (Int.toNat 0) (Int.toNat 0) w.toNat = (fun j => if j < n ∧ j < m.toNat then f j else .null) from ?_]
  rotate_left
  · funext j
    unfold va_cpy
    by_cases e : j < n ∧ j < m.toNat
    · rw [if_pos e, if_pos (by have := e.1; have := e.2; rw [← hw]; split <;> simp <;> omega)]; simp
    · rw [if_neg e, if_neg (fun z => e (by have := z.2; simp at this; omega))]
  refine zr_aload_n dJ17_copyOf_3_38 rfl rfl ?_
  refine zr_areturn dJ17_copyOf_3_39 rfl rfl rfl ?_
  exact k q hq
