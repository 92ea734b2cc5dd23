set_option maxRecDepth 100000
/-! ===== StringBuilder: the public methods; String made of it ===== -/
theorem z_up_id {ah : zH} {a : Nat} {x : zO} (h : ah a = some x) : z_up ah a x = ah := by
  funext b
  by_cases e : b = a
  · rw [e, z_up_s, h]
  · rw [z_up_n e]
theorem z_i2c {x : Int} (h : 0 ≤ x ∧ x < 128) : ((zi x).toUInt32 % 65536).toInt32 = zi x := by
  obtain ⟨n, rfl⟩ : ∃ n : Nat, x = n := ⟨x.toNat, by omega⟩
  have hn : n < 128 := by omega
  have : ∀ m : Fin 128, ((zi ((m : Nat) : Int)).toUInt32 % 65536).toInt32 = zi ((m : Nat) : Int) := by decide +kernel
  exact this ⟨n, hn⟩
theorem z_nc8 {x : Int} (h : 0 ≤ x ∧ x < 128) : narrow .char (.int (zi x)) = .int (zi x) := z_nc (by omega)
section ZUP
variable {G : State} {M M' : zMd} {d rc rs pc : Nat} {ls : List (Option Value)} {rest : List Value} {ah : zH} {Q : zRs → zH → Prop} {idx : Nat}
theorem zc_u0 {b : Nat} {Cn : String} (hnh : M'.2.2.2.2 = []) (hd : decode M.2.1 pc = .ok (.invokespecial idx, 3)) (hM : zHas M') (hsig : zSig M'.1 0) (hen : Nat.ble (lg_sl (.ref b :: [])).length M'.2.2.1 = true) (hw : Nat.ble (rest.map fun v => v.category).sum 8 = true) (d' mc ms : Nat) (hd' : d' + 1 ≤ d) (hc : mc ≤ rc) (hs : ms ≤ rs) (hl : Cond.methodLink M.1.cls idx M'.1 ∈ lw_all) (hsm : Cond.sameMethod M'.1.cls M'.1.cls M'.1.name M'.1.desc ∈ lw_all) (hsu : Cond.superclass M.1.cls M'.1.cls ∈ lw_all) (hin : Cond.instanceMethod M'.1 ∈ lw_all) (hno : M'.1.name ≠ "<init>") (hr : zRc G ah b Cn) (k : zW G M' d' mc ms 0 (zent (.ref b :: [])) [] ah (zK G M d (rc - mc) (rs - ms) pc 3 ls rest Q)) : zW G M d rc rs pc ls (.ref b :: rest) ah Q := zr_super hnh hd hM hsig rfl (z_ble hen) (z_ble hw) hd' hc hs hl hsm hsu hin hno rfl hr k
theorem zc_u1 {a1 : Value} {b : Nat} {Cn : String} (hnh : M'.2.2.2.2 = []) (hd : decode M.2.1 pc = .ok (.invokespecial idx, 3)) (hM : zHas M') (hsig : zSig M'.1 1) (hen : Nat.ble (lg_sl (.ref b :: [a1])).length M'.2.2.1 = true) (hw : Nat.ble (rest.map fun v => v.category).sum 8 = true) (d' mc ms : Nat) (hd' : d' + 1 ≤ d) (hc : mc ≤ rc) (hs : ms ≤ rs) (hl : Cond.methodLink M.1.cls idx M'.1 ∈ lw_all) (hsm : Cond.sameMethod M'.1.cls M'.1.cls M'.1.name M'.1.desc ∈ lw_all) (hsu : Cond.superclass M.1.cls M'.1.cls ∈ lw_all) (hin : Cond.instanceMethod M'.1 ∈ lw_all) (hno : M'.1.name ≠ "<init>") (hr : zRc G ah b Cn) (k : zW G M' d' mc ms 0 (zent (.ref b :: [a1])) [] ah (zK G M d (rc - mc) (rs - ms) pc 3 ls rest Q)) : zW G M d rc rs pc ls (a1 :: .ref b :: rest) ah Q := zr_super hnh hd hM hsig rfl (z_ble hen) (z_ble hw) hd' hc hs hl hsm hsu hin hno rfl hr k
theorem zc_u2 {a1 a2 : Value} {b : Nat} {Cn : String} (hnh : M'.2.2.2.2 = []) (hd : decode M.2.1 pc = .ok (.invokespecial idx, 3)) (hM : zHas M') (hsig : zSig M'.1 2) (hen : Nat.ble (lg_sl (.ref b :: [a1, a2])).length M'.2.2.1 = true) (hw : Nat.ble (rest.map fun v => v.category).sum 8 = true) (d' mc ms : Nat) (hd' : d' + 1 ≤ d) (hc : mc ≤ rc) (hs : ms ≤ rs) (hl : Cond.methodLink M.1.cls idx M'.1 ∈ lw_all) (hsm : Cond.sameMethod M'.1.cls M'.1.cls M'.1.name M'.1.desc ∈ lw_all) (hsu : Cond.superclass M.1.cls M'.1.cls ∈ lw_all) (hin : Cond.instanceMethod M'.1 ∈ lw_all) (hno : M'.1.name ≠ "<init>") (hr : zRc G ah b Cn) (k : zW G M' d' mc ms 0 (zent (.ref b :: [a1, a2])) [] ah (zK G M d (rc - mc) (rs - ms) pc 3 ls rest Q)) : zW G M d rc rs pc ls (a2 :: a1 :: .ref b :: rest) ah Q := zr_super hnh hd hM hsig rfl (z_ble hen) (z_ble hw) hd' hc hs hl hsm hsu hin hno rfl hr k
theorem zc_u3 {a1 a2 a3 : Value} {b : Nat} {Cn : String} (hnh : M'.2.2.2.2 = []) (hd : decode M.2.1 pc = .ok (.invokespecial idx, 3)) (hM : zHas M') (hsig : zSig M'.1 3) (hen : Nat.ble (lg_sl (.ref b :: [a1, a2, a3])).length M'.2.2.1 = true) (hw : Nat.ble (rest.map fun v => v.category).sum 8 = true) (d' mc ms : Nat) (hd' : d' + 1 ≤ d) (hc : mc ≤ rc) (hs : ms ≤ rs) (hl : Cond.methodLink M.1.cls idx M'.1 ∈ lw_all) (hsm : Cond.sameMethod M'.1.cls M'.1.cls M'.1.name M'.1.desc ∈ lw_all) (hsu : Cond.superclass M.1.cls M'.1.cls ∈ lw_all) (hin : Cond.instanceMethod M'.1 ∈ lw_all) (hno : M'.1.name ≠ "<init>") (hr : zRc G ah b Cn) (k : zW G M' d' mc ms 0 (zent (.ref b :: [a1, a2, a3])) [] ah (zK G M d (rc - mc) (rs - ms) pc 3 ls rest Q)) : zW G M d rc rs pc ls (a3 :: a2 :: a1 :: .ref b :: rest) ah Q := zr_super hnh hd hM hsig rfl (z_ble hen) (z_ble hw) hd' hc hs hl hsm hsu hin hno rfl hr k
theorem zc_u4 {a1 a2 a3 a4 : Value} {b : Nat} {Cn : String} (hnh : M'.2.2.2.2 = []) (hd : decode M.2.1 pc = .ok (.invokespecial idx, 3)) (hM : zHas M') (hsig : zSig M'.1 4) (hen : Nat.ble (lg_sl (.ref b :: [a1, a2, a3, a4])).length M'.2.2.1 = true) (hw : Nat.ble (rest.map fun v => v.category).sum 8 = true) (d' mc ms : Nat) (hd' : d' + 1 ≤ d) (hc : mc ≤ rc) (hs : ms ≤ rs) (hl : Cond.methodLink M.1.cls idx M'.1 ∈ lw_all) (hsm : Cond.sameMethod M'.1.cls M'.1.cls M'.1.name M'.1.desc ∈ lw_all) (hsu : Cond.superclass M.1.cls M'.1.cls ∈ lw_all) (hin : Cond.instanceMethod M'.1 ∈ lw_all) (hno : M'.1.name ≠ "<init>") (hr : zRc G ah b Cn) (k : zW G M' d' mc ms 0 (zent (.ref b :: [a1, a2, a3, a4])) [] ah (zK G M d (rc - mc) (rs - ms) pc 3 ls rest Q)) : zW G M d rc rs pc ls (a4 :: a3 :: a2 :: a1 :: .ref b :: rest) ah Q := zr_super hnh hd hM hsig rfl (z_ble hen) (z_ble hw) hd' hc hs hl hsm hsu hin hno rfl hr k
end ZUP
theorem kJ5_setLength {G : State} {d rc rs : Nat} {ah : zH} {Q : zRs → zH → Prop} {a v n : Nat} {ml : Int} {g : Nat → Value} {l : List Int} (H : zSb G ah a v n ml g l) (hn : n ≤ 400) (hd : 4 ≤ d) (hcl : 1 ≤ rc) (hs : 400 ≤ rs) (k : ∀ (ah9 : zH) (v9 n9 : Nat) (ml9 : Int) (g9 : Nat → Value), zSb G ah9 a v9 n9 ml9 g9 [] → n9 ≤ 400 → (∀ b o, ah b = some o → b ≠ a → b ≠ v → ah9 b = some o) → (v9 = v ∨ ah v9 = none) → Q (.inl none) ah9) : zW G mJ5_setLength d rc rs 0 (zent [.ref a, .int (zi 0)]) [] ah Q := by
  refine zW_open 0 [some (.ref a), some (.int (zi 0))] rfl ?_
  refine zr_iload_n dJ5_setLength_0 rfl ?_
  refine zr_ifge dJ5_setLength_1 (tgt := 13) (by decide) (by decide) (fun _ => ?_) (fun h => absurd h (by decide))
  refine zr_aload_n dJ5_setLength_13 rfl rfl ?_
  refine zr_iload_n dJ5_setLength_14 rfl ?_
  refine zc_vP1 rfl dJ5_setLength_15 hJ5_ensureCapacityInternal gJ5_ensureCapacityInternal rfl rfl 3 1 400 (by omega) (by omega) (by omega) q491 q493 (z_selP (by decide) q492 q493 q527 rfl) H.rc ?_
  refine kJ5_ensureCapacityInternal H (by omega) (by omega) (by omega) (by omega) (by omega) (fun ah1 v1 n1 g1 H1 b1 b2 f1 w1 => zK_v ?_)
  obtain ⟨s1, s2, s3, s4, s5, s6, s7⟩ := id H1
  refine zr_aload_n dJ5_setLength_18 rfl rfl ?_
  refine zr_getf dJ5_setLength_19 nJ6 (k := 3) (by decide) q263 (Or.inl rfl) s1 rfl ?_
  refine zr_iload_n dJ5_setLength_22 rfl ?_
  refine zr_icmpge dJ5_setLength_23 (tgt := 63) (by decide) (by omega) (by omega) (fun h23 => ?_) (fun h23 => ?_)
  · refine zr_aload_n dJ5_setLength_63 rfl rfl ?_
    refine zr_getf dJ5_setLength_64 nJ6 (k := 3) (by decide) q263 (Or.inl rfl) s1 rfl ?_
    refine zr_iload_n dJ5_setLength_67 rfl ?_
    refine zr_icmple dJ5_setLength_68 (tgt := 76) (by decide) (by omega) (by omega) (fun h68 => ?_) (fun h68 => ?_)
    · refine zr_aload_n dJ5_setLength_76 rfl rfl ?_
      refine zr_iload_n dJ5_setLength_77 rfl ?_
      refine zr_putf dJ5_setLength_78 nJ6 (k := 3) (by decide) q263 (Or.inl rfl) (Or.inl rfl) (by first | exact z_up_s | exact s1) (z_ble rfl) rfl rfl ?_
      refine zr_return dJ5_setLength_81 rfl ?_
      first
        | (rw [z_up_o]
           exact k _ v1 n1 1 g1 ⟨z_up_s, s2, (z_up_n (fun z => s2 z.symm)).trans s3, Nat.zero_le _, s5, fun i c h => by simp at h, s7⟩ b2.2 (fun b y hb q1 q2 => (z_up_n q1).trans (f1 b y hb q1 q2)) w1)
        | exact k _ v1 n1 ml g1 ⟨z_up_s, s2, (z_up_n (fun z => s2 z.symm)).trans s3, Nat.zero_le _, s5, fun i c h => by simp at h, s7⟩ b2.2 (fun b y hb q1 q2 => (z_up_n q1).trans (f1 b y hb q1 q2)) w1
    · refine zr_aload_n dJ5_setLength_71 rfl rfl ?_
      refine zr_iconst dJ5_setLength_72 ?_
      refine zr_putf dJ5_setLength_73 nJ6 (k := 2) (by decide) q261 (Or.inl rfl) (Or.inl rfl) s1 (z_ble rfl) rfl rfl ?_
      refine zr_aload_n dJ5_setLength_76 rfl rfl ?_
      refine zr_iload_n dJ5_setLength_77 rfl ?_
      refine zr_putf dJ5_setLength_78 nJ6 (k := 3) (by decide) q263 (Or.inl rfl) (Or.inl rfl) (by first | exact z_up_s | exact s1) (z_ble rfl) rfl rfl ?_
      refine zr_return dJ5_setLength_81 rfl ?_
      first
        | (rw [z_up_o]
           exact k _ v1 n1 1 g1 ⟨z_up_s, s2, (z_up_n (fun z => s2 z.symm)).trans s3, Nat.zero_le _, s5, fun i c h => by simp at h, s7⟩ b2.2 (fun b y hb q1 q2 => (z_up_n q1).trans (f1 b y hb q1 q2)) w1)
        | exact k _ v1 n1 ml g1 ⟨z_up_s, s2, (z_up_n (fun z => s2 z.symm)).trans s3, Nat.zero_le _, s5, fun i c h => by simp at h, s7⟩ b2.2 (fun b y hb q1 q2 => (z_up_n q1).trans (f1 b y hb q1 q2)) w1
  · exfalso; omega
theorem kJ5_charAt {G : State} {d rc rs : Nat} {ah : zH} {Q : zRs → zH → Prop} {a v n : Nat} {ml : Int} {g : Nat → Value} {l : List Int} (H : zSb G ah a v n ml g l) {i : Int} {c : Int} (hi : 0 ≤ i) (hx : l[i.toNat]? = some c) (h8 : zL8 l) (hn : n ≤ 400) (hd : 2 ≤ d) (k : Q (.inl (some (.int (zi c)))) ah) : zW G mJ5_charAt d rc rs 0 (zent [.ref a, .int (zi i)]) [] ah Q := by
  refine zW_open 3 [some (.ref a), some (.int (zi i)), none, none, none] rfl ?_
  obtain ⟨s1, s2, s3, s4, s5, s6, s7⟩ := id H
  have hil := (List.getElem?_eq_some_iff.mp hx).1
  have hc8 := h8.2 c (List.mem_of_getElem? hx)
  refine zr_aload_n dJ5_charAt_0 rfl rfl ?_
  refine zr_getf dJ5_charAt_1 nJ6 (k := 1) (by decide) q260 (Or.inl rfl) s1 rfl ?_
  refine zr_istore_n dJ5_charAt_4 (by decide) (zs5_2 rfl ?_)
  refine zr_aload_n dJ5_charAt_5 rfl rfl ?_
  refine zr_getf dJ5_charAt_6 nJ6 (k := 0) (by decide) q259 (Or.inl rfl) s1 rfl ?_
  refine zr_astore_n dJ5_charAt_9 (by decide) rfl (zs5_3 rfl ?_)
  refine zr_aload_n dJ5_charAt_10 rfl rfl ?_
  refine zr_getf dJ5_charAt_11 nJ6 (k := 3) (by decide) q263 (Or.inl rfl) s1 rfl ?_
  refine zr_aload_n dJ5_charAt_14 rfl rfl ?_
  refine zr_alen dJ5_charAt_15 (Or.inl s3) ?_
  refine zr_iload_n dJ5_charAt_16 rfl ?_
  refine zr_ishr dJ5_charAt_17 (z_shr0 _) ?_
  refine zc_s2 dJ5_charAt_18 hJ16_min gJ16_min rfl rfl 0 0 0 (by omega) (Nat.zero_le _) (Nat.zero_le _) q1755 q434 ?_
  refine kJ16_min (by omega) (by omega) (zK_i ?_)
  generalize hw : (if ((l.length : Nat) : Int) ≤ (n : Int) then ((l.length : Nat) : Int) else (n : Int)) = w
  have hw2 : w = ((l.length : Nat) : Int) := by rw [← hw, if_pos (by omega)]
  refine zr_istore dJ5_charAt_21 (by decide) (zs5_4 rfl ?_)
  refine zr_iload_n dJ5_charAt_23 rfl ?_
  refine zr_iload dJ5_charAt_24 rfl ?_
  refine zc_s2 dJ5_charAt_26 hJ7_checkIndex gJ7_checkIndex rfl rfl 1 0 0 (by omega) (Nat.zero_le _) (Nat.zero_le _) q1756 q930 ?_
  refine kJ7_checkIndex (by omega) (by omega) (by omega) (zK_v ?_)
  refine zr_iload_n dJ5_charAt_29 rfl ?_
  refine zr_ifne dJ5_charAt_30 (tgt := 42) (by decide) (by decide) (fun h => absurd rfl h) (fun _ => ?_)
  refine zr_aload_n dJ5_charAt_33 rfl rfl ?_
  refine zr_iload_n dJ5_charAt_34 rfl ?_
  refine zr_baload dJ5_charAt_35 (Or.inl s3) (by omega) (by omega) (s6 i.toNat c hx) ?_
  refine zr_sipush dJ5_charAt_36 rfl ?_
  refine zr_iand dJ5_charAt_39 (z_and255 (by omega)) ?_
  refine zr_i2c dJ5_charAt_40 (z_i2c hc8) ?_
  refine zr_ireturn dJ5_charAt_41 rfl (z_nc8 hc8) ?_
  exact k
theorem kJ6_init {G : State} {d rc rs : Nat} {ah : zH} {Q : zRs → zH → Prop} {a : Nat} (ha : ah a = some (.inl (16, [.null, .int (zi 0), .int (zi 0), .int (zi 0)]))) (hd : 2 ≤ d) (hcl : 1 ≤ rc) (hs : 400 ≤ rs) (k : ∀ (ah9 : zH) (v : Nat), ah v = none → zSb G ah9 a v 16 0 (fun _ => .int (zi 0)) [] → (∀ b o, ah b = some o → b ≠ a → ah9 b = some o) → Q (.inl none) ah9) : zW G mJ6_init d rc rs 0 (zent [.ref a]) [] ah Q := by
  refine zW_open 0 [some (.ref a)] rfl ?_
  refine zr_aload_n dJ6_init_0 rfl rfl ?_
  refine zr_bipush dJ6_init_1 rfl ?_
  refine zc_i1 rfl rfl rfl dJ6_init_3 hJ5_init gJ5_init rfl rfl 1 1 400 (by omega) (by omega) (by omega) q246 q247 ?_
  refine kJ5_init ha (by omega) (by omega) (by omega) (by show (16 : Int).toNat ≤ 400; decide) (fun ah1 v1 e1 e2 e3 => zK_v ?_)
  refine zr_return dJ6_init_6 rfl ?_
  exact k ah1 v1 e1 e2 e3
theorem kJ6_append {G : State} {d rc rs : Nat} {ah : zH} {Q : zRs → zH → Prop} {a v n : Nat} {ml : Int} {g : Nat → Value} {l : List Int} (H : zSb G ah a v n ml g l) {x : Nat} {m : List Int} (hx : ∀ ah1 : zH, (∀ b o, ah b = some o → b ≠ a → b ≠ v → ah1 b = some o) → zTx G ah1 x m) (h8 : zL8 m) (hl : l.length + m.length ≤ 150) (hn : n ≤ 400) (hd : 5 ≤ d) (hcl : 1 ≤ rc) (hs : 400 ≤ rs) (k : ∀ (ah9 : zH) (v9 n9 : Nat) (g9 : Nat → Value), zSb G ah9 a v9 n9 ml g9 (l ++ m) → (n ≤ n9 ∧ n9 ≤ 400) → (∀ b o, ah b = some o → b ≠ a → b ≠ v → ah9 b = some o) → (v9 = v ∨ ah v9 = none) → Q (.inl (some (.ref a))) ah9) : zW G mJ6_append d rc rs 0 (zent [.ref a, .ref x]) [] ah Q := by
  refine zW_open 0 [some (.ref a), some (.ref x)] rfl ?_
  refine zr_aload_n dJ6_append_0 rfl rfl ?_
  refine zr_aload_n dJ6_append_1 rfl rfl ?_
  refine zc_u1 rfl dJ6_append_2 hJ5_append gJ5_append rfl rfl 4 1 400 (by omega) (by omega) (by omega) q484 q2611 q272 q485 (by decide) (zSb.rc H) ?_
  refine kJ5_append H hx h8 hn hl (by omega) (by omega) (by omega) (fun ah1 v1 n1 g1 H1 b2 f1 w1 => zK_i ?_)
  refine zr_pop dJ6_append_5 rfl ?_
  refine zr_aload_n dJ6_append_6 rfl rfl ?_
  refine zr_areturn dJ6_append_7 rfl rfl rfl ?_
  exact k ah1 v1 n1 g1 H1 b2 f1 w1
theorem kJ6_append_2 {G : State} {d rc rs : Nat} {ah : zH} {Q : zRs → zH → Prop} {a v n : Nat} {ml : Int} {g : Nat → Value} {l : List Int} (H : zSb G ah a v n ml g l) {x : Int} (hx : 0 ≤ x ∧ x < 100) (hl : l.length ≤ 140) (hn : n ≤ 400) (hd : 5 ≤ d) (hcl : 1 ≤ rc) (hs : 400 ≤ rs) (k : ∀ (ah9 : zH) (v9 n9 : Nat) (g9 : Nat → Value), zSb G ah9 a v9 n9 ml g9 (l ++ pDg x) → (n ≤ n9 ∧ n9 ≤ 400) → (∀ b o, ah b = some o → b ≠ a → b ≠ v → ah9 b = some o) → (v9 = v ∨ ah v9 = none) → Q (.inl (some (.ref a))) ah9) : zW G mJ6_append_2 d rc rs 0 (zent [.ref a, .int (zi x)]) [] ah Q := by
  refine zW_open 0 [some (.ref a), some (.int (zi x))] rfl ?_
  refine zr_aload_n dJ6_append_2_0 rfl rfl ?_
  refine zr_iload_n dJ6_append_2_1 rfl ?_
  refine zc_u1 rfl dJ6_append_2_2 hJ5_append_2 gJ5_append_2 rfl rfl 4 1 400 (by omega) (by omega) (by omega) q602 q2618 q272 q603 (by decide) (zSb.rc H) ?_
  refine kJ5_append_2 H hx hn hl (by omega) (by omega) (by omega) (fun ah1 v1 n1 g1 H1 b2 f1 w1 => zK_i ?_)
  refine zr_pop dJ6_append_2_5 rfl ?_
  refine zr_aload_n dJ6_append_2_6 rfl rfl ?_
  refine zr_areturn dJ6_append_2_7 rfl rfl rfl ?_
  exact k ah1 v1 n1 g1 H1 b2 f1 w1
theorem kJ6_append_3 {G : State} {d rc rs : Nat} {ah : zH} {Q : zRs → zH → Prop} {a v n : Nat} {ml : Int} {g : Nat → Value} {l : List Int} (H : zSb G ah a v n ml g l) {c : Int} (hc : 0 ≤ c ∧ c < 128) (hl : l.length ≤ 148) (hn : n ≤ 400) (hd : 5 ≤ d) (hcl : 1 ≤ rc) (hs : 400 ≤ rs) (k : ∀ (ah9 : zH) (v9 n9 : Nat) (g9 : Nat → Value), zSb G ah9 a v9 n9 ml g9 (l ++ [c]) → (n ≤ n9 ∧ n9 ≤ 400) → (∀ b o, ah b = some o → b ≠ a → b ≠ v → ah9 b = some o) → (v9 = v ∨ ah v9 = none) → Q (.inl (some (.ref a))) ah9) : zW G mJ6_append_3 d rc rs 0 (zent [.ref a, .int (zi c)]) [] ah Q := by
  refine zW_open 0 [some (.ref a), some (.int (zi c))] rfl ?_
  refine zr_aload_n dJ6_append_3_0 rfl rfl ?_
  refine zr_iload_n dJ6_append_3_1 rfl ?_
  refine zc_u1 rfl dJ6_append_3_2 hJ5_append_3 gJ5_append_3 rfl rfl 4 1 400 (by omega) (by omega) (by omega) q917 q2620 q272 q918 (by decide) (zSb.rc H) ?_
  refine kJ5_append_3 H hn hl hc (by omega) (by omega) (by omega) (fun ah1 v1 n1 g1 H1 b2 f1 w1 => zK_i ?_)
  refine zr_pop dJ6_append_3_5 rfl ?_
  refine zr_aload_n dJ6_append_3_6 rfl rfl ?_
  refine zr_areturn dJ6_append_3_7 rfl rfl rfl ?_
  exact k ah1 v1 n1 g1 H1 b2 f1 w1
theorem kJ6_setLength {G : State} {d rc rs : Nat} {ah : zH} {Q : zRs → zH → Prop} {a v n : Nat} {ml : Int} {g : Nat → Value} {l : List Int} (H : zSb G ah a v n ml g l) (hn : n ≤ 400) (hd : 5 ≤ d) (hcl : 1 ≤ rc) (hs : 400 ≤ rs) (k : ∀ (ah9 : zH) (v9 n9 : Nat) (ml9 : Int) (g9 : Nat → Value), zSb G ah9 a v9 n9 ml9 g9 [] → n9 ≤ 400 → (∀ b o, ah b = some o → b ≠ a → b ≠ v → ah9 b = some o) → (v9 = v ∨ ah v9 = none) → Q (.inl none) ah9) : zW G mJ6_setLength d rc rs 0 (zent [.ref a, .int (zi 0)]) [] ah Q := by
  refine zW_open 0 [some (.ref a), some (.int (zi 0))] rfl ?_
  refine zr_aload_n dJ6_setLength_0 rfl rfl ?_
  refine zr_iload_n dJ6_setLength_1 rfl ?_
  refine zc_u1 rfl dJ6_setLength_2 hJ5_setLength gJ5_setLength rfl rfl 4 1 400 (by omega) (by omega) (by omega) q469 q2610 q272 q470 (by decide) (zSb.rc H) ?_
  refine kJ5_setLength H hn (by omega) (by omega) (by omega) (fun ah1 v1 n1 ml1 g1 H1 b2 f1 w1 => zK_v ?_)
  refine zr_return dJ6_setLength_5 rfl ?_
  exact k ah1 v1 n1 ml1 g1 H1 b2 f1 w1
theorem kJ6_length {G : State} {d rc rs : Nat} {ah : zH} {Q : zRs → zH → Prop} {a v n : Nat} {ml : Int} {g : Nat → Value} {l : List Int} (H : zSb G ah a v n ml g l) (hd : 1 ≤ d) (k : Q (.inl (some (.int (zi (l.length : Nat))))) ah) : zW G mJ6_length d rc rs 0 (zent [.ref a]) [] ah Q := by
  refine zW_open 0 [some (.ref a)] rfl ?_
  refine zr_aload_n dJ6_length_0 rfl rfl ?_
  refine zc_u0 rfl dJ6_length_1 hJ5_length gJ5_length rfl rfl 0 0 0 (by omega) (Nat.zero_le _) (Nat.zero_le _) q647 q643 q272 q642 (by decide) (zSb.rc H) ?_
  refine kJ5_length H (zK_i ?_)
  refine zr_ireturn dJ6_length_4 rfl (by first | rfl | exact z_nb _) ?_
  exact k
theorem kJ6_charAt {G : State} {d rc rs : Nat} {ah : zH} {Q : zRs → zH → Prop} {a v n : Nat} {ml : Int} {g : Nat → Value} {l : List Int} (H : zSb G ah a v n ml g l) {i : Int} {c : Int} (hi : 0 ≤ i) (hx : l[i.toNat]? = some c) (h8 : zL8 l) (hn : n ≤ 400) (hd : 3 ≤ d) (k : Q (.inl (some (.int (zi c)))) ah) : zW G mJ6_charAt d rc rs 0 (zent [.ref a, .int (zi i)]) [] ah Q := by
  refine zW_open 0 [some (.ref a), some (.int (zi i))] rfl ?_
  refine zr_aload_n dJ6_charAt_0 rfl rfl ?_
  refine zr_iload_n dJ6_charAt_1 rfl ?_
  refine zc_u1 rfl dJ6_charAt_2 hJ5_charAt gJ5_charAt rfl rfl 2 0 0 (by omega) (Nat.zero_le _) (Nat.zero_le _) q1752 q2622 q272 q1753 (by decide) (zSb.rc H) ?_
  refine kJ5_charAt H hi hx h8 hn (by omega) (zK_i ?_)
  refine zr_ireturn dJ6_charAt_5 rfl (z_nc8 (h8.2 c (List.mem_of_getElem? hx))) ?_
  exact k
theorem kJ17_checkLength {G : State} {d rc rs : Nat} {ah : zH} {Q : zRs → zH → Prop} {i n : Int} (hi : i ≤ n) (hin : -2147483648 ≤ i) (hn : n ≤ 2147483647) (k : Q (.inl none) ah) : zW G mJ17_checkLength d rc rs 0 (zent [.int (zi i), .int (zi n)]) [] ah Q := by
  refine zW_open 0 [some (.int (zi i)), some (.int (zi n))] rfl ?_
  refine zr_iload_n dJ17_checkLength_0 rfl ?_
  refine zr_iload_n dJ17_checkLength_1 rfl ?_
  refine zr_icmpge dJ17_checkLength_2 (tgt := 37) (by decide) (by omega) (by omega) (fun h2 => ?_) (fun h2 => ?_)
  · refine zr_return dJ17_checkLength_37 rfl ?_
    exact k
  · exfalso; omega
theorem kJ17_copyOfRangeByte {G : State} {d rc rs : Nat} {ah : zH} {Q : zRs → zH → Prop} {a n : Nat} {m : Int} {f : Nat → Value} (hx : ah a = some (.inr (.byte, n, f))) (hn : n ≤ 2000) (hm : 0 ≤ m ∧ m ≤ n) (hel : ∀ i, i < n → fits .byte (f i) = true) (hd : 1 ≤ d) (hc : 1 ≤ rc) (hs : m.toNat ≤ rs) (k : ∀ q, ah q = none → Q (.inl (some (.ref q))) (z_up ah q (.inr (.byte, m.toNat, (fun j => if j < m.toNat then f j else .int (zi 0)))))) : zW G mJ17_copyOfRangeByte d rc rs 0 (zent [.ref a, .int (zi 0), .int (zi m)]) [] ah Q := by
  refine zW_open 2 [some (.ref a), some (.int (zi 0)), some (.int (zi m)), none, none] rfl ?_
  refine zr_iload_n dJ17_copyOfRangeByte_0 rfl ?_
  refine zr_iload_n dJ17_copyOfRangeByte_1 rfl ?_
  refine zc_s2 dJ17_copyOfRangeByte_2 hJ17_checkLength gJ17_checkLength rfl rfl 0 0 0 (by omega) (Nat.zero_le _) (Nat.zero_le _) q656 q657 ?_
  refine kJ17_checkLength (by omega) (by omega) (by omega) (zK_v ?_)
  refine zr_iload_n dJ17_copyOfRangeByte_5 rfl ?_
  refine zr_iload_n dJ17_copyOfRangeByte_6 rfl ?_
  refine zr_isub dJ17_copyOfRangeByte_7 ?_
  rw [show m - 0 = m by omega]
  refine zr_istore_n dJ17_copyOfRangeByte_8 (by decide) (zs5_3 rfl ?_)
  refine zr_iload_n dJ17_copyOfRangeByte_9 rfl ?_
  refine zr_newarray (ty := .byte) dJ17_copyOfRangeByte_10 rfl q273 (fun _ z => by cases z) (by omega) (by omega) (by omega) (fun q hq => ?_)
  have hqa : a ≠ q := fun z => by rw [← z, hx] at hq; cases hq
  refine zr_astore dJ17_copyOfRangeByte_12 (by decide) rfl (zs5_4 rfl ?_)
  refine zr_aload_n dJ17_copyOfRangeByte_14 rfl rfl ?_
  refine zr_iload_n dJ17_copyOfRangeByte_15 rfl ?_
  refine zr_aload dJ17_copyOfRangeByte_16 rfl rfl ?_
  refine zr_iconst dJ17_copyOfRangeByte_18 ?_
  refine zr_aload_n dJ17_copyOfRangeByte_19 rfl rfl ?_
  refine zr_alen dJ17_copyOfRangeByte_20 (Or.inl ((z_up_n hqa).trans hx)) ?_
  refine zr_iload_n dJ17_copyOfRangeByte_21 rfl ?_
  refine zr_isub dJ17_copyOfRangeByte_22 ?_
  refine zr_iload_n dJ17_copyOfRangeByte_23 rfl ?_
  refine zc_s2 dJ17_copyOfRangeByte_24 hJ16_min gJ16_min rfl rfl 0 0 0 (by omega) (Nat.zero_le _) (Nat.zero_le _) q520 q434 ?_
  refine kJ16_min (by omega) (by omega) (zK_i ?_)
  generalize hw : (if (n : Int) - 0 ≤ m then (n : Int) - 0 else m) = w
  have hw2 : w = m := by rw [← hw]; split <;> omega
  refine zr_copy dJ17_copyOfRangeByte_27 q521 q523 q522 q115 (Or.inl ((z_up_n hqa).trans hx)) z_up_s (by omega) (by omega) (fun i hi => ?_) (by decide) (by omega) ?_
  · have := hel (Int.toNat 0 + i) (by simp; omega)
    refine ⟨this, ?_⟩
    cases hf : f (Int.toNat 0 + i) <;> rw [hf] at this <;> first | trivial | cases this
  rw [z_up_o, show va_cpy f (fun _ => defaultValue .byte) (Int.toNat 0) (Int.toNat 0) w.toNat = (fun j => if j < m.toNat then f j else .int (zi 0)) from ?_]
  rotate_left
  · funext j
    unfold va_cpy
    by_cases e : j < m.toNat
    · rw [if_pos e, if_pos (by simp; omega)]; simp
    · rw [if_neg e, if_neg (by simp; omega)]; rfl
  refine zr_aload dJ17_copyOfRangeByte_30 rfl rfl ?_
  refine zr_areturn dJ17_copyOfRangeByte_32 rfl rfl rfl ?_
  exact k q hq
theorem kJ17_copyOfRange {G : State} {d rc rs : Nat} {ah : zH} {Q : zRs → zH → Prop} {a n : Nat} {m : Int} {f : Nat → Value} (hx : ah a = some (.inr (.byte, n, f))) (hn : n ≤ 2000) (hm : 0 ≤ m ∧ m < n) (hel : ∀ i, i < n → fits .byte (f i) = true) (hd : 2 ≤ d) (hc : 1 ≤ rc) (hs : m.toNat ≤ rs) (k : ∀ q, ah q = none → Q (.inl (some (.ref q))) (z_up ah q (.inr (.byte, m.toNat, (fun j => if j < m.toNat then f j else .int (zi 0)))))) : zW G mJ17_copyOfRange d rc rs 0 (zent [.ref a, .int (zi 0), .int (zi m)]) [] ah Q := by
  refine zW_open 0 [some (.ref a), some (.int (zi 0)), some (.int (zi m))] rfl ?_
  refine zr_iload_n dJ17_copyOfRange_0 rfl ?_
  refine zr_ifne dJ17_copyOfRange_1 (tgt := 10) (by decide) (by decide) (fun h => absurd rfl h) (fun _ => ?_)
  refine zr_iload_n dJ17_copyOfRange_4 rfl ?_
  refine zr_aload_n dJ17_copyOfRange_5 rfl rfl ?_
  refine zr_alen dJ17_copyOfRange_6 (Or.inl hx) ?_
  refine zr_icmpeq dJ17_copyOfRange_7 (tgt := 17) (by decide) (by omega) (by omega) (fun h7 => ?_) (fun h7 => ?_)
  · exfalso; omega
  · refine zr_aload_n dJ17_copyOfRange_10 rfl rfl ?_
    refine zr_iload_n dJ17_copyOfRange_11 rfl ?_
    refine zr_iload_n dJ17_copyOfRange_12 rfl ?_
    refine zc_s3 dJ17_copyOfRange_13 hJ17_copyOfRangeByte gJ17_copyOfRangeByte rfl rfl 1 1 m.toNat (by omega) (by omega) (by omega) q653 q654 ?_
    refine kJ17_copyOfRangeByte hx hn (by omega) hel (by omega) (by omega) (by omega) (fun q hq => zK_i ?_)
    refine zr_areturn dJ17_copyOfRange_16 rfl rfl rfl ?_
    exact k q hq
theorem kJ7_init_2 {G : State} {d rc rs : Nat} {ah : zH} {Q : zRs → zH → Prop} {a v n : Nat} {ml : Int} {g : Nat → Value} {l : List Int} (H : zSb G ah a v n ml g l) {x : Nat} {u w : Value} (hx : ah x = some (.inl (17, [.null, .int (zi 0), u, w]))) (hxa : x ≠ a) (h8 : zL8 l) (hln : l.length < n) (hd : 3 ≤ d) (hc : 1 ≤ rc) (hs : l.length ≤ rs) (k : ∀ v9 : Nat, ah v9 = none → v9 ≠ x → Q (.inl none) (z_up (z_up ah v9 (.inr (.byte, l.length, zBy l))) x (.inl (17, [.ref v9, .int (zi 0), u, w])))) : zW G mJ7_init_2 d rc rs 0 (zent [.ref x, .ref a, .null]) [] ah Q := by
  refine zW_open 2 [some (.ref x), some (.ref a), some (.null), none, none] rfl ?_
  obtain ⟨s1, s2, s3, s4, s5, s6, s7⟩ := id H
  refine zr_aload_n dJ7_init_2_0 rfl rfl ?_
  refine zr_objInit dJ7_init_2_1 q635 q144 q145 (by decide) (by omega) ?_
  refine zr_aload_n dJ7_init_2_4 rfl rfl ?_
  refine zc_v0 dJ7_init_2_5 hJ5_getValue gJ5_getValue rfl rfl 0 0 0 (by omega) (Nat.zero_le _) (Nat.zero_le _) q636 q637 q639 H.rc ?_
  refine kJ5_getValue H (zK_i ?_)
  refine zr_astore_n dJ7_init_2_8 (by decide) rfl (zs5_3 rfl ?_)
  refine zr_aload_n dJ7_init_2_9 rfl rfl ?_
  refine zr_virtU (M' := mJ6_length) (x := ⟨"java/lang/AbstractStringBuilder", "length", "()I"⟩) (as := []) (rest := []) rfl dJ7_init_2_10 hJ6_length (zSig.of (by decide +kernel)) rfl (z_ble rfl) (z_ble rfl) (d' := 1) (mc := 0) (ms := 0) (by omega) (Nat.zero_le _) (Nat.zero_le _) q641 q643 (Or.inr ⟨q642, _, _, _, q648⟩) (by decide) q645 q644 rfl H.rc ?_
  refine kJ6_length H (by omega) (zK_i ?_)
  refine zr_istore dJ7_init_2_13 (by decide) (zs5_4 rfl ?_)
  refine zr_aload_n dJ7_init_2_15 rfl rfl ?_
  refine zc_v0 dJ7_init_2_16 hJ5_isLatin1 gJ5_isLatin1 rfl rfl 0 0 0 (by omega) (Nat.zero_le _) (Nat.zero_le _) q649 q525 q527 H.rc ?_
  refine kJ5_isLatin1 H (zK_i ?_)
  refine zr_ifeq dJ7_init_2_19 (tgt := 41) (by decide) (by decide) (fun h => absurd h (by decide)) (fun _ => ?_)
  refine zr_aload_n dJ7_init_2_22 rfl rfl ?_
  refine zr_iconst dJ7_init_2_23 ?_
  refine zr_putf dJ7_init_2_24 nJ7 (k := 1) (by decide) q751 (Or.inl rfl) (Or.inr ⟨rfl, rfl, rfl⟩) hx (z_ble rfl) rfl rfl ?_
  rw [show z_up ah x (.inl (17, [.null, .int (zi 0), u, w].set 1 (.int (zi 0)))) = ah from z_up_id hx]
  refine zr_aload_n dJ7_init_2_27 rfl rfl ?_
  refine zr_aload_n dJ7_init_2_28 rfl rfl ?_
  refine zr_iconst dJ7_init_2_29 ?_
  refine zr_iload dJ7_init_2_30 rfl ?_
  refine zc_s3 dJ7_init_2_32 hJ17_copyOfRange gJ17_copyOfRange rfl rfl 2 1 l.length (by omega) (by omega) (by omega) q650 q651 ?_
  refine kJ17_copyOfRange (m := ((l.length : Nat) : Int)) s3 (by omega) (by omega) s7 (by omega) (by omega) (by omega) (fun q hq => zK_i ?_)
  have hqx : x ≠ q := fun z => by rw [← z, hx] at hq; cases hq
  rw [show (Sum.inr (.byte, ((l.length : Nat) : Int).toNat, fun j => if j < ((l.length : Nat) : Int).toNat then g j else .int (zi 0)) : zO) = .inr (.byte, l.length, zBy l) from ?_]
  rotate_left
  · congr 3
    funext j
    rw [Int.toNat_natCast]
    unfold zBy
    rw [List.getD_eq_getElem?_getD]
    by_cases e : j < l.length
    · rw [if_pos e, List.getElem?_eq_getElem e]
      exact s6 j _ (List.getElem?_eq_getElem e)
    · rw [if_neg e, List.getElem?_eq_none (by omega)]; rfl
  refine zr_putf dJ7_init_2_35 nJ7 (k := 0) (by decide) q750 (Or.inl rfl) (Or.inr ⟨rfl, rfl, rfl⟩) ((z_up_n hqx).trans hx) (z_ble rfl) rfl rfl ?_
  refine zr_goto dJ7_init_2_38 (tgt := 97) (by decide) ?_
  refine zr_return dJ7_init_2_97 rfl ?_
  exact k q hq hqx.symm
theorem kJ7_init {G : State} {d rc rs : Nat} {ah : zH} {Q : zRs → zH → Prop} {a v n : Nat} {ml : Int} {g : Nat → Value} {l : List Int} (H : zSb G ah a v n ml g l) {x : Nat} {u w : Value} (hx : ah x = some (.inl (17, [.null, .int (zi 0), u, w]))) (hxa : x ≠ a) (h8 : zL8 l) (hln : l.length < n) (hd : 4 ≤ d) (hc : 1 ≤ rc) (hs : l.length ≤ rs) (k : ∀ v9 : Nat, ah v9 = none → v9 ≠ x → Q (.inl none) (z_up (z_up ah v9 (.inr (.byte, l.length, zBy l))) x (.inl (17, [.ref v9, .int (zi 0), u, w])))) : zW G mJ7_init d rc rs 0 (zent [.ref x, .ref a]) [] ah Q := by
  refine zW_open 0 [some (.ref x), some (.ref a)] rfl ?_
  refine zr_aload_n dJ7_init_0 rfl rfl ?_
  refine zr_aload_n dJ7_init_1 rfl rfl ?_
  refine zr_null dJ7_init_2 ?_
  refine zc_i2 rfl rfl rfl dJ7_init_3 hJ7_init_2 gJ7_init_2 rfl rfl 3 1 l.length (by omega) (by omega) (by omega) q632 q633 ?_
  refine kJ7_init_2 H hx hxa h8 hln (by omega) (by omega) (by omega) (fun v9 e1 e2 => zK_v ?_)
  refine zr_return dJ7_init_6 rfl ?_
  exact k v9 e1 e2
theorem kJ6_toString {G : State} {d rc rs : Nat} {ah : zH} {Q : zRs → zH → Prop} {a v n : Nat} {ml : Int} {g : Nat → Value} {l : List Int} (H : zSb G ah a v n ml g l) (h8 : zL8 l) (hln : l.length < n) (hd : 5 ≤ d) (hc : 2 ≤ rc) (hs : l.length + 4 ≤ rs) (k : ∀ (ah9 : zH) (q : Nat), ah q = none → (∀ b o, ah b = some o → ah9 b = some o) → (∀ ah1 : zH, (∀ b o, ah9 b = some o → ah b = none → ah1 b = some o) → zTx G ah1 q l) → Q (.inl (some (.ref q))) ah9) : zW G mJ6_toString d rc rs 0 (zent [.ref a]) [] ah Q := by
  refine zW_open 0 [some (.ref a)] rfl ?_
  refine zr_new (fs := [.null, .int (zi 0), .int (zi 0), .int (zi 0)]) dJ6_toString_0 nJ7 q627 q628 q101 (z_ble rfl) dfJ7 (by omega) (by omega) (fun q0 hq0 => ?_)
  refine zr_dup dJ6_toString_3 rfl ?_
  refine zr_aload_n dJ6_toString_4 rfl rfl ?_
  refine zc_i1 rfl rfl rfl dJ6_toString_5 hJ7_init gJ7_init rfl rfl 4 1 l.length (by omega) (by omega) (by omega) q629 q630 ?_
  have hxa : q0 ≠ a := fun z => by rw [z, H.1] at hq0; cases hq0
  have H1 := H.fr (ah' := z_up ah q0 (.inl (17, [.null, .int (zi 0), .int (zi 0), .int (zi 0)]))) (fun b o _ hb => by rw [z_up_n (fun z => by rw [z, hq0] at hb; cases hb)]; exact hb)
  refine kJ7_init H1 z_up_s hxa h8 hln (by omega) (by omega) (by omega) (fun v9 e1 e2 => zK_v ?_)
  refine zr_areturn dJ6_toString_8 rfl rfl rfl ?_
  have e3 : ah v9 = none := by rw [z_up_n e2] at e1; exact e1
  refine k _ q0 hq0 (fun b o hb => ?_) (fun ah1 h1 => Or.inr ⟨v9, _, _, h1 q0 _ z_up_s hq0, h1 v9 _ ((z_up_n e2).trans z_up_s) e3⟩)
  have b1 : b ≠ q0 := fun z => by rw [z, hq0] at hb; cases hb
  have b2 : b ≠ v9 := fun z => by rw [z, e3] at hb; cases hb
  rw [z_up_n b1, z_up_n b2, z_up_n b1]
  exact hb
/-- the first place of c from i on -/
def pIx (c : Int) : List Int → Int → Int
  | [], _ => -1
  | x :: l, i => if x = c then i else pIx c l (i + 1)
theorem pIx_b {c : Int} : ∀ (l : List Int) (i : Int), 0 ≤ i → (0 ≤ pIx c l i ↔ c ∈ l) ∧ -1 ≤ pIx c l i ∧ pIx c l i ≤ i + l.length := by
  intro l
  induction l with
  | nil => intro i _; unfold pIx; refine ⟨⟨fun h => by omega, fun h => by cases h⟩, by omega, by omega⟩
  | cons x l ih =>
    intro i hi
    unfold pIx
    by_cases e : x = c
    · rw [if_pos e]
      exact ⟨⟨fun _ => by rw [e]; exact List.mem_cons_self, fun _ => hi⟩, by omega, by omega⟩
    · rw [if_neg e]
      obtain ⟨h1, h2, h3⟩ := ih (i + 1) (by omega)
      refine ⟨⟨fun h => List.mem_cons_of_mem _ (h1.mp h), fun h => ?_⟩, h2, by simp only [List.length_cons]; omega⟩
      rcases List.mem_cons.mp h with z | z
      · exact absurd z.symm e
      · exact h1.mpr z
def pI2b (c : Int) : Int := if c < 128 then c else c - 256
theorem z_i2bw {c : Int} (h : 0 ≤ c ∧ c < 256) : (zi c).toInt8.toInt32 = zi (pI2b c) := by
  obtain ⟨n, rfl⟩ : ∃ n : Nat, c = n := ⟨c.toNat, by omega⟩
  have hn : n < 256 := by omega
  have : ∀ m : Fin 256, (zi ((m : Nat) : Int)).toInt8.toInt32 = zi (pI2b ((m : Nat) : Int)) := by decide +kernel
  exact this ⟨n, hn⟩
theorem kJ20_canEncodeW {G : State} {d rc rs : Nat} {ah : zH} {Q : zRs → zH → Prop} {c : Int} (hc : 0 ≤ c ∧ c ≤ 65535) (k : Q (.inl (some (.int (zi (zB (decide (c < 256))))))) ah) : zW G mJ20_canEncode_2 d rc rs 0 (zent [.int (zi c)]) [] ah Q := by
  refine zW_open 0 [some (.int (zi c))] rfl ?_
  refine zr_iload_n dJ20_canEncode_2_0 rfl ?_
  refine zr_iflt dJ20_canEncode_2_1 (tgt := 15) (by decide) (by omega) (fun h1 => ?_) (fun h1 => ?_)
  · exfalso; omega
  · refine zr_iload_n dJ20_canEncode_2_4 rfl ?_
    refine zr_sipush dJ20_canEncode_2_5 rfl ?_
    refine zr_icmpgt dJ20_canEncode_2_8 (tgt := 15) (by decide) (by omega) (by omega) (fun h8 => ?_) (fun h8 => ?_)
    · refine zr_iconst dJ20_canEncode_2_15 ?_
      refine zr_ireturn dJ20_canEncode_2_16 rfl (by first | rfl | exact z_nb _) ?_
      first
        | (rw [decide_eq_true (by omega)] at k; exact k)
        | (rw [decide_eq_false (by omega)] at k; exact k)
    · refine zr_iconst dJ20_canEncode_2_11 ?_
      refine zr_goto dJ20_canEncode_2_12 (tgt := 16) (by decide) ?_
      refine zr_ireturn dJ20_canEncode_2_16 rfl (by first | rfl | exact z_nb _) ?_
      first
        | (rw [decide_eq_true (by omega)] at k; exact k)
        | (rw [decide_eq_false (by omega)] at k; exact k)
theorem kJ20_indexOfCharI {G : State} {d rc rs : Nat} {ah : zH} {Q : zRs → zH → Prop} {a : Nat} {l : List Int} {c y : Int} (ha : zAr G ah a .byte l.length (zBy l)) (h8 : zL8 l) (hy : -200 ≤ y ∧ y ≤ 200) (n : Nat) : ∀ (i : Nat), i + n = l.length → (Q (.inl (some (.int (zi (pIx y (l.drop i) i))))) ah) → zW G mJ20_indexOfChar d rc rs 7 [some (.ref a), some (.int (zi c)), some (.int (zi 0)), some (.int (zi (l.length : Nat))), some (.int (zi y)), some (.int (zi ((i : Nat) : Int)))] [] ah Q := by
  have hl8 := h8.1
  induction n with
  | zero =>
    intro i g1 k
    refine zr_iload dJ20_indexOfChar_7 rfl ?_
    refine zr_iload_n dJ20_indexOfChar_9 rfl ?_
    refine zr_icmpge dJ20_indexOfChar_10 (tgt := 31) (by decide) (by omega) (by omega) (fun h10 => ?_) (fun h10 => ?_)
    · refine zr_iconst dJ20_indexOfChar_31 ?_
      refine zr_ireturn dJ20_indexOfChar_32 rfl (by first | rfl | exact z_nb _) ?_
      rw [List.drop_of_length_le (by omega)] at k
      exact k
    · exfalso; omega
  | succ n ih =>
    intro i g1 k
    have hil : i < l.length := by omega
    have hb := zBy_b h8 (i := (i : Int)) (by omega)
    rw [Int.toNat_natCast] at hb
    rw [List.drop_eq_getElem_cons hil] at k
    have hg : l.getD i 0 = l[i] := by rw [List.getD_eq_getElem?_getD, List.getElem?_eq_getElem hil]; rfl
    rw [hg] at hb
    unfold pIx at k
    refine zr_iload dJ20_indexOfChar_7 rfl ?_
    refine zr_iload_n dJ20_indexOfChar_9 rfl ?_
    refine zr_icmpge dJ20_indexOfChar_10 (tgt := 31) (by decide) (by omega) (by omega) (fun h10 => ?_) (fun h10 => ?_)
    · exfalso; omega
    · refine zr_aload_n dJ20_indexOfChar_13 rfl rfl ?_
      refine zr_iload dJ20_indexOfChar_14 rfl ?_
      refine zr_baload dJ20_indexOfChar_16 ha (by omega) (by omega) (show zBy l (Int.toNat (i : Int)) = .int (zi l[i]) by unfold zBy; rw [Int.toNat_natCast, hg]) ?_
      refine zr_iload dJ20_indexOfChar_17 rfl ?_
      refine zr_icmpne dJ20_indexOfChar_19 (tgt := 25) (by decide) (by omega) (by omega) (fun h19 => ?_) (fun h19 => ?_)
      · refine zr_iinc dJ20_indexOfChar_25 rfl (by decide) (zs6_5 rfl ?_)
        refine zr_goto dJ20_indexOfChar_28 (tgt := 7) (by decide) ?_
        rw [if_neg (by omega)] at k
        exact ih (i + 1) (by omega) k
      · refine zr_iload dJ20_indexOfChar_22 rfl ?_
        refine zr_ireturn dJ20_indexOfChar_24 rfl (by first | rfl | exact z_nb _) ?_
        rw [if_pos (by omega)] at k
        exact k
theorem kJ20_indexOfChar {G : State} {d rc rs : Nat} {ah : zH} {Q : zRs → zH → Prop} {a : Nat} {l : List Int} {c : Int} (ha : zAr G ah a .byte l.length (zBy l)) (h8 : zL8 l) (hc : 0 ≤ c ∧ c < 256) (k : Q (.inl (some (.int (zi (pIx (pI2b c) l 0))))) ah) : zW G mJ20_indexOfChar d rc rs 0 (zent [.ref a, .int (zi c), .int (zi 0), .int (zi (l.length : Nat))]) [] ah Q := by
  refine zW_open 2 [some (.ref a), some (.int (zi c)), some (.int (zi 0)), some (.int (zi (l.length : Nat))), none, none] rfl ?_
  refine zr_iload_n dJ20_indexOfChar_0 rfl ?_
  refine zr_i2b dJ20_indexOfChar_1 (z_i2bw hc) ?_
  refine zr_istore dJ20_indexOfChar_2 (by decide) (zs6_4 rfl ?_)
  refine zr_iload_n dJ20_indexOfChar_4 rfl ?_
  refine zr_istore dJ20_indexOfChar_5 (by decide) (zs6_5 rfl ?_)
  refine kJ20_indexOfCharI ha h8 (by unfold pI2b; split <;> omega) l.length 0 (by omega) ?_
  rw [List.drop_zero]
  exact k
theorem kJ20_indexOf {G : State} {d rc rs : Nat} {ah : zH} {Q : zRs → zH → Prop} {a : Nat} {l : List Int} {c : Int} (ha : zAr G ah a .byte l.length (zBy l)) (h8 : zL8 l) (hc : 0 ≤ c ∧ c ≤ 65535) (hd : 1 ≤ d) (k : ∀ r : Int, -1 ≤ r ∧ r ≤ 1000 → (0 ≤ r ↔ c ∈ l) → Q (.inl (some (.int (zi r)))) ah) : zW G mJ20_indexOf d rc rs 0 (zent [.ref a, .int (zi c), .int (zi 0), .int (zi (l.length : Nat))]) [] ah Q := by
  refine zW_open 0 [some (.ref a), some (.int (zi c)), some (.int (zi 0)), some (.int (zi (l.length : Nat)))] rfl ?_
  have hl8 := h8.1
  have hm : ¬ c < 128 → c ∉ l := fun h z => h (h8.2 c z).2
  refine zr_iload_n dJ20_indexOf_0 rfl ?_
  refine zc_s1 dJ20_indexOf_1 hJ20_canEncode_2 gJ20_canEncode_2 rfl rfl 0 0 0 (by omega) (Nat.zero_le _) (Nat.zero_le _) q1818 q1819 ?_
  refine kJ20_canEncodeW hc (zK_i ?_)
  refine zr_ifneB dJ20_indexOf_4 (tgt := 9) (by decide) (fun h4 => ?_) (fun h4 => ?_)
  · refine zr_iload_n dJ20_indexOf_9 rfl ?_
    refine zr_iconst dJ20_indexOf_10 ?_
    refine zc_s2 dJ20_indexOf_11 hJ16_max gJ16_max rfl rfl 0 0 0 (by omega) (Nat.zero_le _) (Nat.zero_le _) q1821 q503 ?_
    refine kJ16_max (by omega) (by omega) (zK_i ?_)
    rw [show (if (0 : Int) ≤ 0 then (0 : Int) else 0) = 0 from rfl]
    refine zr_istore_n dJ20_indexOf_14 (by decide) (zs4_2 rfl ?_)
    refine zr_iload_n dJ20_indexOf_15 rfl ?_
    refine zr_aload_n dJ20_indexOf_16 rfl rfl ?_
    refine zr_alen dJ20_indexOf_17 ha ?_
    refine zc_s2 dJ20_indexOf_18 hJ16_min gJ16_min rfl rfl 0 0 0 (by omega) (Nat.zero_le _) (Nat.zero_le _) q1822 q434 ?_
    refine kJ16_min (by omega) (by omega) (zK_i ?_)
    rw [if_pos (Int.le_refl _)]
    refine zr_istore_n dJ20_indexOf_21 (by decide) (zs4_3 rfl ?_)
    refine zr_iload_n dJ20_indexOf_22 rfl ?_
    refine zr_iload_n dJ20_indexOf_23 rfl ?_
    refine zr_icmplt dJ20_indexOf_24 (tgt := 29) (by decide) (by omega) (by omega) (fun h24 => ?_) (fun h24 => ?_)
    · refine zr_aload_n dJ20_indexOf_29 rfl rfl ?_
      refine zr_iload_n dJ20_indexOf_30 rfl ?_
      refine zr_iload_n dJ20_indexOf_31 rfl ?_
      refine zr_iload_n dJ20_indexOf_32 rfl ?_
      refine zc_s4 dJ20_indexOf_33 hJ20_indexOfChar gJ20_indexOfChar rfl rfl 0 0 0 (by omega) (Nat.zero_le _) (Nat.zero_le _) q1823 q1824 ?_
      refine kJ20_indexOfChar ha h8 (by have := of_decide_eq_true h4; omega) (zK_i ?_)
      refine zr_ireturn dJ20_indexOf_36 rfl (by first | rfl | exact z_nb _) ?_
      have b := pIx_b (c := pI2b c) l 0 (Int.le_refl _)
      refine k _ ⟨b.2.1, by omega⟩ (b.1.trans ?_)
      unfold pI2b
      by_cases e : c < 128
      · rw [if_pos e]
      · rw [if_neg e]
        exact ⟨fun z => by have := (h8.2 _ z).1; have := of_decide_eq_true h4; omega, fun z => absurd z (hm e)⟩
    · refine zr_iconst dJ20_indexOf_27 ?_
      refine zr_ireturn dJ20_indexOf_28 rfl (by first | rfl | exact z_nb _) ?_
      exact k (-1) (by omega) ⟨fun z => by omega, fun z => by have := List.length_pos_of_mem z; omega⟩
  · refine zr_iconst dJ20_indexOf_7 ?_
    refine zr_ireturn dJ20_indexOf_8 rfl (by first | rfl | exact z_nb _) ?_
    exact k (-1) (by omega) ⟨fun z => by omega, fun z => absurd z (hm (by have := of_decide_eq_false h4; omega))⟩
theorem kJ7_indexOf_2 {G : State} {d rc rs : Nat} {ah : zH} {Q : zRs → zH → Prop} {a : Nat} {l : List Int} {c : Int} (ha : zTx G ah a l) (h8 : zL8 l) (hc : 0 ≤ c ∧ c ≤ 65535) (hd : 2 ≤ d) (k : ∀ r : Int, -1 ≤ r ∧ r ≤ 1000 → (0 ≤ r ↔ c ∈ l) → Q (.inl (some (.int (zi r)))) ah) : zW G mJ7_indexOf_2 d rc rs 0 (zent [.ref a, .int (zi c), .int (zi 0)]) [] ah Q := by
  refine zW_open 0 [some (.ref a), some (.int (zi c)), some (.int (zi 0))] rfl ?_
  refine zr_aload_n dJ7_indexOf_2_0 rfl rfl ?_
  refine zc_v0 dJ7_indexOf_2_1 hJ7_isLatin1 gJ7_isLatin1 rfl rfl 0 0 0 (by omega) (Nat.zero_le _) (Nat.zero_le _) q1810 q1811 q1812 ha.rc ?_
  refine kJ7_isLatin1 ha (zK_i ?_)
  refine zr_ifeq dJ7_indexOf_2_4 (tgt := 23) (by decide) (by decide) (fun h => absurd h (by decide)) (fun _ => ?_)
  refine zr_aload_n dJ7_indexOf_2_7 rfl rfl ?_
  refine zr_strV dJ7_indexOf_2_8 q750 ha (fun v hv => ?_)
  refine zr_iload_n dJ7_indexOf_2_11 rfl ?_
  refine zr_iload_n dJ7_indexOf_2_12 rfl ?_
  refine zr_aload_n dJ7_indexOf_2_13 rfl rfl ?_
  refine zc_v0 dJ7_indexOf_2_14 hJ7_length gJ7_length rfl rfl 1 0 0 (by omega) (Nat.zero_le _) (Nat.zero_le _) q1814 q556 q557 ha.rc ?_
  refine kJ7_length ha (by omega) (zK_i ?_)
  refine zc_s4 dJ7_indexOf_2_17 hJ20_indexOf gJ20_indexOf rfl rfl 1 0 0 (by omega) (Nat.zero_le _) (Nat.zero_le _) q1815 q1816 ?_
  refine kJ20_indexOf hv h8 hc (by omega) (fun r r1 r2 => zK_i ?_)
  refine zr_goto dJ7_indexOf_2_20 (tgt := 36) (by decide) ?_
  refine zr_ireturn dJ7_indexOf_2_36 rfl (by first | rfl | exact z_nb _) ?_
  exact k r r1 r2
theorem kJ7_indexOf {G : State} {d rc rs : Nat} {ah : zH} {Q : zRs → zH → Prop} {a : Nat} {l : List Int} {c : Int} (ha : zTx G ah a l) (h8 : zL8 l) (hc : 0 ≤ c ∧ c ≤ 65535) (hd : 3 ≤ d) (k : ∀ r : Int, -1 ≤ r ∧ r ≤ 1000 → (0 ≤ r ↔ c ∈ l) → Q (.inl (some (.int (zi r)))) ah) : zW G mJ7_indexOf d rc rs 0 (zent [.ref a, .int (zi c)]) [] ah Q := by
  refine zW_open 0 [some (.ref a), some (.int (zi c))] rfl ?_
  refine zr_aload_n dJ7_indexOf_0 rfl rfl ?_
  refine zr_iload_n dJ7_indexOf_1 rfl ?_
  refine zr_iconst dJ7_indexOf_2 ?_
  refine zc_v2 dJ7_indexOf_3 hJ7_indexOf_2 gJ7_indexOf_2 rfl rfl 2 0 0 (by omega) (Nat.zero_le _) (Nat.zero_le _) q1806 q1807 q1808 ha.rc ?_
  refine kJ7_indexOf_2 ha h8 hc (by omega) (fun r r1 r2 => zK_i ?_)
  refine zr_ireturn dJ7_indexOf_6 rfl (by first | rfl | exact z_nb _) ?_
  exact k r r1 r2
