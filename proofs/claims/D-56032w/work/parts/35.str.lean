set_option maxRecDepth 100000
/-! ===== String ===== -/
/-- the bytes of a text -/
def zBy (l : List Int) : Nat → Value := fun j => .int (zi (l.getD j 0))
/-- a text of one byte a char, made or constant -/
def zTx (G : State) (ah : zH) (a : Nat) (l : List Int) : Prop := zStr G a l ∨ ∃ v h hz, ah a = some (.inl (17, [.ref v, .int (zi 0), h, hz])) ∧ ah v = some (.inr (.byte, l.length, zBy l))
def zL8 (l : List Int) : Prop := l.length < 1000 ∧ ∀ c ∈ l, 0 ≤ c ∧ c < 128
theorem zTx.rc {G : State} {ah : zH} {a : Nat} {l : List Int} (h : zTx G ah a l) : zRc G ah a "java/lang/String" := by
  rcases h with h | ⟨v, x, y, h, -⟩
  · exact Or.inr h.1
  · exact Or.inl ⟨17, _, TJ7, 4, tyJ7, nJ7, h⟩
section ZSTR
variable {G : State} {M : zMd} {d rc rs pc : Nat} {ls : List (Option Value)} {st : List Value} {ah : zH} {Q : zRs → zH → Prop} {idx : Nat}
theorem zr_strV {a : Nat} {l : List Int} (hd : decode M.2.1 pc = .ok (.getfield idx, 3)) (hl : Cond.fieldLink M.1.cls idx "java/lang/String" "value" "[B" ∈ lw_all) (h : zTx G ah a l) (k : ∀ v, zAr G ah v .byte l.length (zBy l) → zW G M d rc rs (pc + 3) ls (.ref v :: st) ah Q) : zW G M d rc rs pc ls (.ref a :: st) ah Q := by
  rcases h with ⟨-, -, v, h1, h2⟩ | ⟨v, x, y, h1, h2⟩
  · exact zr_getfS hd hl h1 (k v (Or.inr h2))
  · exact zr_getf hd nJ7 (k := 0) (by decide) hl (Or.inl rfl) h1 rfl (k v (Or.inl h2))
theorem zr_strC {a : Nat} {l : List Int} (hd : decode M.2.1 pc = .ok (.getfield idx, 3)) (hl : Cond.fieldLink M.1.cls idx "java/lang/String" "coder" "B" ∈ lw_all) (h : zTx G ah a l) (k : zW G M d rc rs (pc + 3) ls (.int (zi 0) :: st) ah Q) : zW G M d rc rs pc ls (.ref a :: st) ah Q := by
  rcases h with ⟨-, h1, -⟩ | ⟨v, x, y, h1, h2⟩
  · exact zr_getfS hd hl h1 k
  · exact zr_getf hd nJ7 (k := 1) (by decide) hl (Or.inl rfl) h1 rfl k
end ZSTR
theorem zBy_b {l : List Int} (h : zL8 l) {i : Int} (hi : 0 ≤ i ∧ i < l.length) : 0 ≤ l.getD i.toNat 0 ∧ l.getD i.toNat 0 < 128 := by
  rw [List.getD_eq_getElem?_getD, List.getElem?_eq_getElem (by omega)]
  exact h.2 _ (List.getElem_mem _)
theorem z_and255 {x : Int} (h : 0 ≤ x ∧ x < 256) : (zi x) &&& (zi 255) = zi x := by
  obtain ⟨n, rfl⟩ : ∃ n : Nat, x = n := ⟨x.toNat, by omega⟩
  have hn : n < 256 := by omega
  have : ∀ m : Fin 256, (zi ((m : Nat) : Int)) &&& (zi 255) = zi ((m : Nat) : Int) := by decide +kernel
  exact this ⟨n, hn⟩
theorem z_shr0 (x : Int) : (zi x) >>> ((zi 0) &&& 31) = zi x := by
  rw [show ((zi 0) &&& 31 : Int32) = 0 by decide]
  exact Int32.shiftRight_zero
theorem kJ7_coder {G : State} {d rc rs : Nat} {ah : zH} {Q : zRs → zH → Prop} {a : Nat} {l : List Int} (h : zTx G ah a l) (k : Q (.inl (some (.int (zi 0)))) ah) : zW G mJ7_coder d rc rs 0 (zent [.ref a]) [] ah Q := by
  refine zW_open 0 [some (.ref a)] rfl ?_
  refine zW_tb (fun T => ?_)
  refine zr_getstatic dJ7_coder_0 q563 (z_compact T) ?_
  refine zr_ifeq dJ7_coder_3 (tgt := 13) (by decide) (by decide) (fun h => absurd h (by decide)) (fun _ => ?_)
  refine zr_aload_n dJ7_coder_6 rfl rfl ?_
  refine zr_strC dJ7_coder_7 q751 h ?_
  refine zr_goto dJ7_coder_10 (tgt := 14) (by decide) ?_
  refine zr_ireturn dJ7_coder_14 rfl (by first | rfl | exact z_nb _) ?_
  exact k
theorem kJ7_isLatin1 {G : State} {d rc rs : Nat} {ah : zH} {Q : zRs → zH → Prop} {a : Nat} {l : List Int} (h : zTx G ah a l) (k : Q (.inl (some (.int (zi 1)))) ah) : zW G mJ7_isLatin1 d rc rs 0 (zent [.ref a]) [] ah Q := by
  refine zW_open 0 [some (.ref a)] rfl ?_
  refine zW_tb (fun T => ?_)
  refine zr_getstatic dJ7_isLatin1_0 q563 (z_compact T) ?_
  refine zr_ifeq dJ7_isLatin1_3 (tgt := 17) (by decide) (by decide) (fun h => absurd h (by decide)) (fun _ => ?_)
  refine zr_aload_n dJ7_isLatin1_6 rfl rfl ?_
  refine zr_strC dJ7_isLatin1_7 q751 h ?_
  refine zr_ifne dJ7_isLatin1_10 (tgt := 17) (by decide) (by decide) (fun h => absurd h (by decide)) (fun _ => ?_)
  refine zr_iconst dJ7_isLatin1_13 ?_
  refine zr_goto dJ7_isLatin1_14 (tgt := 18) (by decide) ?_
  refine zr_ireturn dJ7_isLatin1_18 rfl (by first | rfl | exact z_nb _) ?_
  exact k
theorem kJ7_length {G : State} {d rc rs : Nat} {ah : zH} {Q : zRs → zH → Prop} {a : Nat} {l : List Int} (hx : zTx G ah a l) (hd : 1 ≤ d) (k : Q (.inl (some (.int (zi (l.length : Nat))))) ah) : zW G mJ7_length d rc rs 0 (zent [.ref a]) [] ah Q := by
  refine zW_open 0 [some (.ref a)] rfl ?_
  refine zr_aload_n dJ7_length_0 rfl rfl ?_
  refine zr_strV dJ7_length_1 q750 hx (fun v hv => ?_)
  refine zr_alen dJ7_length_4 hv ?_
  refine zr_aload_n dJ7_length_5 rfl rfl ?_
  refine zc_v0 dJ7_length_6 hJ7_coder gJ7_coder rfl rfl 0 0 0 (by omega) (Nat.zero_le _) (Nat.zero_le _) q559 q560 q561 hx.rc ?_
  refine kJ7_coder hx (zK_i ?_)
  refine zr_ishr dJ7_length_9 (z_shr0 _) ?_
  refine zr_ireturn dJ7_length_10 rfl (by first | rfl | exact z_nb _) ?_
  exact k
theorem kJ19_checkIndexN {G : State} {d rc rs : Nat} {ah : zH} {Q : zRs → zH → Prop} {i n : Int} (hi : 0 ≤ i ∧ i < n) (hn : n ≤ 2147483647) (k : Q (.inl (some (.int (zi i)))) ah) : zW G mJ19_checkIndex d rc rs 0 (zent [.int (zi i), .int (zi n), .null]) [] ah Q := by
  refine zW_open 0 [some (.int (zi i)), some (.int (zi n)), some (.null)] rfl ?_
  refine zr_iload_n dJ19_checkIndex_0 rfl ?_
  refine zr_iflt dJ19_checkIndex_1 (tgt := 9) (by decide) (by omega) (fun h1 => ?_) (fun h1 => ?_)
  · exfalso; omega
  · refine zr_iload_n dJ19_checkIndex_4 rfl ?_
    refine zr_iload_n dJ19_checkIndex_5 rfl ?_
    refine zr_icmplt dJ19_checkIndex_6 (tgt := 16) (by decide) (by omega) (by omega) (fun h6 => ?_) (fun h6 => ?_)
    · refine zr_iload_n dJ19_checkIndex_16 rfl ?_
      refine zr_ireturn dJ19_checkIndex_17 rfl (by first | rfl | exact z_nb _) ?_
      exact k
    · exfalso; omega
theorem kJ19_checkIndexR {G : State} {d rc rs : Nat} {ah : zH} {Q : zRs → zH → Prop} {t : Nat} {i n : Int} (hi : 0 ≤ i ∧ i < n) (hn : n ≤ 2147483647) (k : Q (.inl (some (.int (zi i)))) ah) : zW G mJ19_checkIndex d rc rs 0 (zent [.int (zi i), .int (zi n), .ref t]) [] ah Q := by
  refine zW_open 0 [some (.int (zi i)), some (.int (zi n)), some (.ref t)] rfl ?_
  refine zr_iload_n dJ19_checkIndex_0 rfl ?_
  refine zr_iflt dJ19_checkIndex_1 (tgt := 9) (by decide) (by omega) (fun h1 => ?_) (fun h1 => ?_)
  · exfalso; omega
  · refine zr_iload_n dJ19_checkIndex_4 rfl ?_
    refine zr_iload_n dJ19_checkIndex_5 rfl ?_
    refine zr_icmplt dJ19_checkIndex_6 (tgt := 16) (by decide) (by omega) (by omega) (fun h6 => ?_) (fun h6 => ?_)
    · refine zr_iload_n dJ19_checkIndex_16 rfl ?_
      refine zr_ireturn dJ19_checkIndex_17 rfl (by first | rfl | exact z_nb _) ?_
      exact k
    · exfalso; omega
theorem kJ7_checkIndex {G : State} {d rc rs : Nat} {ah : zH} {Q : zRs → zH → Prop} {i n : Int} (hi : 0 ≤ i ∧ i < n) (hn : n ≤ 2147483647) (hd : 1 ≤ d) (k : Q (.inl none) ah) : zW G mJ7_checkIndex d rc rs 0 (zent [.int (zi i), .int (zi n)]) [] ah Q := by
  refine zW_open 0 [some (.int (zi i)), some (.int (zi n))] rfl ?_
  refine zW_tb (fun T => ?_)
  obtain ⟨v, hv, hsv⟩ := z_siob T
  have hc : v = .null ∨ ∃ t, v = .ref t := by cases v <;> simp [z_ref] at hv ⊢
  rcases hc with rfl | ⟨t, rfl⟩
  · refine zr_iload_n dJ7_checkIndex_0 rfl ?_
    refine zr_iload_n dJ7_checkIndex_1 rfl ?_
    refine zr_getstatic dJ7_checkIndex_2 q541 hsv ?_
    refine zc_s3 dJ7_checkIndex_5 hJ19_checkIndex gJ19_checkIndex rfl rfl 0 0 0 (by omega) (Nat.zero_le _) (Nat.zero_le _) q932 q848 ?_
    refine kJ19_checkIndexN (by omega) (by omega) (zK_i ?_)
    refine zr_pop dJ7_checkIndex_8 rfl ?_
    refine zr_return dJ7_checkIndex_9 rfl ?_
    exact k
  · refine zr_iload_n dJ7_checkIndex_0 rfl ?_
    refine zr_iload_n dJ7_checkIndex_1 rfl ?_
    refine zr_getstatic dJ7_checkIndex_2 q541 hsv ?_
    refine zc_s3 dJ7_checkIndex_5 hJ19_checkIndex gJ19_checkIndex rfl rfl 0 0 0 (by omega) (Nat.zero_le _) (Nat.zero_le _) q932 q848 ?_
    refine kJ19_checkIndexR (by omega) (by omega) (zK_i ?_)
    refine zr_pop dJ7_checkIndex_8 rfl ?_
    refine zr_return dJ7_checkIndex_9 rfl ?_
    exact k
theorem kJ20_charAt {G : State} {d rc rs : Nat} {ah : zH} {Q : zRs → zH → Prop} {v : Nat} {l : List Int} {i : Int} (hv : zAr G ah v .byte l.length (zBy l)) (h8 : zL8 l) (hi : 0 ≤ i ∧ i < l.length) (hd : 2 ≤ d) (k : Q (.inl (some (.int (zi (l.getD i.toNat 0))))) ah) : zW G mJ20_charAt d rc rs 0 (zent [.ref v, .int (zi i)]) [] ah Q := by
  refine zW_open 0 [some (.ref v), some (.int (zi i))] rfl ?_
  refine zr_iload_n dJ20_charAt_0 rfl ?_
  refine zr_aload_n dJ20_charAt_1 rfl rfl ?_
  refine zr_alen dJ20_charAt_2 hv ?_
  have hl := h8.1
  have hb := zBy_b h8 hi
  refine zc_s2 dJ20_charAt_3 hJ7_checkIndex gJ7_checkIndex rfl rfl 1 0 0 (by omega) (Nat.zero_le _) (Nat.zero_le _) q1901 q930 ?_
  refine kJ7_checkIndex (by omega) (by omega) (by omega) (zK_v ?_)
  refine zr_aload_n dJ20_charAt_6 rfl rfl ?_
  refine zr_iload_n dJ20_charAt_7 rfl ?_
  refine zr_baload dJ20_charAt_8 hv (by omega) hi rfl ?_
  refine zr_sipush dJ20_charAt_9 rfl ?_
  refine zr_iand dJ20_charAt_12 (z_and255 (by omega)) ?_
  refine zr_i2c dJ20_charAt_13 (z_c16 (by omega)) ?_
  refine zr_ireturn dJ20_charAt_14 rfl (z_nc (by omega)) ?_
  exact k
theorem kJ7_charAt {G : State} {d rc rs : Nat} {ah : zH} {Q : zRs → zH → Prop} {a : Nat} {l : List Int} {i : Int} (hx : zTx G ah a l) (h8 : zL8 l) (hi : 0 ≤ i ∧ i < l.length) (hd : 3 ≤ d) (k : Q (.inl (some (.int (zi (l.getD i.toNat 0))))) ah) : zW G mJ7_charAt d rc rs 0 (zent [.ref a, .int (zi i)]) [] ah Q := by
  refine zW_open 0 [some (.ref a), some (.int (zi i))] rfl ?_
  refine zr_aload_n dJ7_charAt_0 rfl rfl ?_
  refine zc_v0 dJ7_charAt_1 hJ7_isLatin1 gJ7_isLatin1 rfl rfl 0 0 0 (by omega) (Nat.zero_le _) (Nat.zero_le _) q1810 q1811 q1812 hx.rc ?_
  refine kJ7_isLatin1 hx (zK_i ?_)
  refine zr_ifeq dJ7_charAt_4 (tgt := 16) (by decide) (by decide) (fun h => absurd h (by decide)) (fun _ => ?_)
  refine zr_aload_n dJ7_charAt_7 rfl rfl ?_
  refine zr_strV dJ7_charAt_8 q750 hx (fun v hv => ?_)
  refine zr_iload_n dJ7_charAt_11 rfl ?_
  refine zc_s2 dJ7_charAt_12 hJ20_charAt gJ20_charAt rfl rfl 2 0 0 (by omega) (Nat.zero_le _) (Nat.zero_le _) q1898 q1899 ?_
  refine kJ20_charAt hv h8 hi (by omega) (zK_i ?_)
  have hb := zBy_b h8 hi
  refine zr_ireturn dJ7_charAt_15 rfl (z_nc (by omega)) ?_
  exact k
