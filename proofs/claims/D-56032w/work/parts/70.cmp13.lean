set_option maxRecDepth 100000
/-! ===== the component: new states ===== -/
theorem z_b5 {v : Int} (h : 0 ≤ v ∧ v ≤ 1) : narrow .boolean (.int (zi v)) = .int (zi v) ∧ fits .boolean (.int (zi v)) = true := by
  rcases (show v = 0 ∨ v = 1 by omega) with rfl | rfl <;> exact ⟨by decide, by decide⟩
/-- the row at first -/
def pI0 : Int → Int := fun j => if j = 6 then 1000 else if j = 7 then 1 else if j = 8 then 5 else 0
theorem kX2_init {G : State} {d rc rs : Nat} {ah : zH} {Q : zRs → zH → Prop} {a : Nat} (ha : ah a = some (.inl (1, [.null, .null, .null, .int (zi 0), .int (zi 0), .int (zi 0), .null, .int (zi 0), .int (zi 0), .int (zi 0)]))) (hd : 4 ≤ d) (hc : 2 ≤ rc) (hs : 150 ≤ rs) (k : ∀ (ah9 : zH) (w l : Nat), ah w = none → ah l = none → (∀ b o, ah b = some o → b ≠ a → ah9 b = some o) → ah9 a = some (.inl (1, zSf G w l .null pI0)) → ah9 w = some (.inl (13, [.int (zi 0), .ref (zEm G), .int (zi 0)])) → ah9 l = some (.inr (.int, 144, fun _ => .int (zi 0))) → Q (.inl none) ah9) : zW G mX2_init d rc rs 0 (zent [.ref a]) [] ah Q := by
  refine zW_open 0 [some (.ref a)] rfl ?_
  refine zW_tb (fun T => ?_)
  refine zr_aload_n dX2_init_0 rfl rfl ?_
  refine zr_objInit dX2_init_1 q151 q144 q145 (by decide) (by omega) ?_
  refine zr_aload_n dX2_init_4 rfl rfl ?_
  refine zr_new (fs := [.int (zi 0), .null, .int (zi 0)]) dX2_init_5 nJ2 q152 q153 q95 (z_ble rfl) dfJ2 (by omega) (by omega) (fun w hw => ?_)
  refine zr_dup dX2_init_8 rfl ?_
  refine zc_i0 rfl rfl rfl dX2_init_9 hJ2_init gJ2_init rfl rfl 3 0 0 (by omega) (Nat.zero_le _) (Nat.zero_le _) q154 q155 ?_
  refine kJ2_init z_up_s (by omega) (zK_v ?_)
  rw [z_up_o]
  have nwa : w ≠ a := fun z => by rw [z, ha] at hw; cases hw
  refine zr_putf dX2_init_12 nX2 (k := 0) (by decide) q183 (Or.inl rfl) (Or.inr ⟨rfl, rfl, rfl⟩) (z_upk hw ha) (z_ble rfl) rfl rfl ?_
  refine zr_aload_n dX2_init_15 rfl rfl ?_
  refine zr_sipush dX2_init_16 rfl ?_
  refine zr_newarray (ty := .int) dX2_init_19 rfl q222 (fun _ z => by cases z) (by omega) (by omega) (by show (144 : Int).toNat ≤ _; simp; omega) (fun l hl => ?_)
  have nla : l ≠ a := fun z => by rw [z, z_up_s] at hl; cases hl
  have nlw : l ≠ w := fun z => by rw [z, z_up_n nwa, z_up_s] at hl; cases hl
  have hl0 : ah l = none := by rw [z_up_n nla, z_up_n nlw] at hl; exact hl
  refine zr_putf dX2_init_21 nX2 (k := 1) (by decide) q184 (Or.inl rfl) (Or.inr ⟨rfl, rfl, rfl⟩) ((z_up_n nla.symm).trans z_up_s) (z_ble rfl) rfl rfl ?_
  refine zr_aload_n dX2_init_24 rfl rfl ?_
  refine zr_sipush dX2_init_25 rfl ?_
  refine zr_putf dX2_init_28 nX2 (k := 4) (by decide) q189 (Or.inl rfl) (Or.inl rfl) z_up_s (z_ble rfl) rfl rfl ?_
  rw [z_up_o]
  refine zr_aload_n dX2_init_31 rfl rfl ?_
  refine zr_iconst dX2_init_32 ?_
  refine zr_putf dX2_init_33 nX2 (k := 5) (by decide) q191 (Or.inl rfl) (Or.inl rfl) z_up_s (z_ble rfl) rfl rfl ?_
  rw [z_up_o]
  refine zr_aload_n dX2_init_36 rfl rfl ?_
  refine zr_getstatic dX2_init_37 q181 (z_modeV1 T) ?_
  refine zr_putf dX2_init_40 nX2 (k := 6) (by decide) q193 (Or.inl rfl) (Or.inl rfl) z_up_s (z_ble rfl) rfl rfl ?_
  rw [z_up_o]
  refine zr_return dX2_init_43 rfl ?_
  refine k _ w l hw hl0 (fun b x hb hn => ?_) ?_ ?_ ?_
  · rw [z_up_n hn, z_up_n (fun z => by rw [z, hl0] at hb; cases hb), z_up_n hn, z_up_n (fun z => by rw [z, hw] at hb; cases hb)]; exact hb
  · exact z_up_s
  · exact (z_up_n nwa).trans ((z_up_n nlw.symm).trans ((z_up_n nwa).trans z_up_s))
  · exact (z_up_n nla).trans z_up_s
theorem kX2_init_2 {G : State} {d rc rs : Nat} {ah : zH} {Q : zRs → zH → Prop} {ahB : zH} {F U : Nat → Prop} {b w0 e n l0 : Nat} {s : Int → Int} {mc : Int} {f g : Nat → Value} {ps : List Nat} {tv : Value} (H : zSt G F U ahB b s w0 e n mc f ps l0 g tv) (hV : pV s) {a : Nat} (hg : zGr ahB ah) (haB : ahB a = none) (ha : ah a = some (.inl (1, [.null, .null, .null, .int (zi 0), .int (zi 0), .int (zi 0), .null, .int (zi 0), .int (zi 0), .int (zi 0)]))) (hF : ∀ b, F b → zFre ahB b) (hd : 6 ≤ d) (hc : 4 ≤ rc) (hs : 240 ≤ rs) (k : ∀ ah9, zGr ahB ah9 → zStR G F (zFre ahB) ah9 a s → Q (.inl none) ah9) : zW G mX2_init_2 d rc rs 0 (zent [.ref a, .ref b]) [] ah Q := by
  refine zW_open 1 [some (.ref a), some (.ref b), none] rfl ?_
  refine zW_tb (fun T => ?_)
  have vv := hV.h
  have nba : b ≠ a := fun z => by have := hg _ _ H.1; rw [z, ha] at this; cases this
  refine zr_aload_n dX2_init_2_0 rfl rfl ?_
  refine zr_objInit dX2_init_2_1 q151 q144 q145 (by decide) (by omega) ?_
  refine zr_aload_n dX2_init_2_4 rfl rfl ?_
  refine zr_new (fs := [.int (zi 0), .null, .int (zi 0)]) dX2_init_2_5 nJ2 q152 q153 q95 (z_ble rfl) dfJ2 (by omega) (by omega) (fun w hw => ?_)
  refine zr_dup dX2_init_2_8 rfl ?_
  refine zc_i0 rfl rfl rfl dX2_init_2_9 hJ2_init gJ2_init rfl rfl 3 0 0 (by omega) (Nat.zero_le _) (Nat.zero_le _) q154 q155 ?_
  refine kJ2_init z_up_s (by omega) (zK_v ?_)
  rw [z_up_o]
  have nwa : w ≠ a := fun z => by rw [z, ha] at hw; cases hw
  refine zr_putf dX2_init_2_12 nX2 (k := 0) (by decide) q183 (Or.inl rfl) (Or.inr ⟨rfl, rfl, rfl⟩) (z_upk hw ha) (z_ble rfl) rfl rfl ?_
  refine zr_aload_n dX2_init_2_15 rfl rfl ?_
  refine zr_sipush dX2_init_2_16 rfl ?_
  refine zr_newarray (ty := .int) dX2_init_2_19 rfl q222 (fun _ z => by cases z) (by omega) (by omega) (by show (144 : Int).toNat ≤ _; simp; omega) (fun l hl => ?_)
  have nla : l ≠ a := fun z => by rw [z, z_up_s] at hl; cases hl
  have nlw : l ≠ w := fun z => by rw [z, z_up_n nwa, z_up_s] at hl; cases hl
  have hl0 : ah l = none := by rw [z_up_n nla, z_up_n nlw] at hl; exact hl
  refine zr_putf dX2_init_2_21 nX2 (k := 1) (by decide) q184 (Or.inl rfl) (Or.inr ⟨rfl, rfl, rfl⟩) ((z_up_n nla.symm).trans z_up_s) (z_ble rfl) rfl rfl ?_
  refine zr_aload_n dX2_init_2_24 rfl rfl ?_
  refine zr_sipush dX2_init_2_25 rfl ?_
  refine zr_putf dX2_init_2_28 nX2 (k := 4) (by decide) q189 (Or.inl rfl) (Or.inl rfl) z_up_s (z_ble rfl) rfl rfl ?_
  rw [z_up_o]
  refine zr_aload_n dX2_init_2_31 rfl rfl ?_
  refine zr_iconst dX2_init_2_32 ?_
  refine zr_putf dX2_init_2_33 nX2 (k := 5) (by decide) q191 (Or.inl rfl) (Or.inl rfl) z_up_s (z_ble rfl) rfl rfl ?_
  rw [z_up_o]
  refine zr_aload_n dX2_init_2_36 rfl rfl ?_
  refine zr_getstatic dX2_init_2_37 q181 (z_modeV1 T) ?_
  refine zr_putf dX2_init_2_40 nX2 (k := 6) (by decide) q193 (Or.inl rfl) (Or.inl rfl) z_up_s (z_ble rfl) rfl rfl ?_
  rw [z_up_o]
  have wB : ahB w = none := hg.no hw
  have lB : ahB l = none := hg.no hl0
  have g4 := (((hg.tu (o := .inl (13, [.int (zi 0), .ref (zEm G), .int (zi 0)])) wB).tu (o := .inl (1, [.ref w, .null, .null, .int (zi 0), .int (zi 0), .int (zi 0), .null, .int (zi 0), .int (zi 0), .int (zi 0)])) haB).tu (o := .inr (.int, (144 : Int).toNat, fun _ => defaultValue .int)) lB).tu (o := .inl (1, [.ref w, .ref l, .null, .int (zi 0), .int (zi 1000), .int (zi 5), .ref (zMo G 1), .int (zi 0), .int (zi 0), .int (zi 0)])) haB
  have A4 : (z_up (z_up (z_up (z_up ah w (.inl (13, [.int (zi 0), .ref (zEm G), .int (zi 0)]))) a (.inl (1, [.ref w, .null, .null, .int (zi 0), .int (zi 0), .int (zi 0), .null, .int (zi 0), .int (zi 0), .int (zi 0)]))) l (.inr (.int, (144 : Int).toNat, fun _ => defaultValue .int))) a (.inl (1, [.ref w, .ref l, .null, .int (zi 0), .int (zi 1000), .int (zi 5), .ref (zMo G 1), .int (zi 0), .int (zi 0), .int (zi 0)]))) a = some (.inl (1, [.ref w, .ref l, .null, .int (zi 0), .int (zi 1000), .int (zi 5), .ref (zMo G 1), .int (zi 0), .int (zi 0), .int (zi 0)])) := z_up_s
  have W4 : (z_up (z_up (z_up (z_up ah w (.inl (13, [.int (zi 0), .ref (zEm G), .int (zi 0)]))) a (.inl (1, [.ref w, .null, .null, .int (zi 0), .int (zi 0), .int (zi 0), .null, .int (zi 0), .int (zi 0), .int (zi 0)]))) l (.inr (.int, (144 : Int).toNat, fun _ => defaultValue .int))) a (.inl (1, [.ref w, .ref l, .null, .int (zi 0), .int (zi 1000), .int (zi 5), .ref (zMo G 1), .int (zi 0), .int (zi 0), .int (zi 0)]))) w = some (.inl (13, [.int (zi 0), .ref (zEm G), .int (zi 0)])) := (z_up_n nwa).trans ((z_up_n nlw.symm).trans ((z_up_n nwa).trans z_up_s))
  have L4 : (z_up (z_up (z_up (z_up ah w (.inl (13, [.int (zi 0), .ref (zEm G), .int (zi 0)]))) a (.inl (1, [.ref w, .null, .null, .int (zi 0), .int (zi 0), .int (zi 0), .null, .int (zi 0), .int (zi 0), .int (zi 0)]))) l (.inr (.int, (144 : Int).toNat, fun _ => defaultValue .int))) a (.inl (1, [.ref w, .ref l, .null, .int (zi 0), .int (zi 1000), .int (zi 5), .ref (zMo G 1), .int (zi 0), .int (zi 0), .int (zi 0)]))) l = some (.inr (.int, 144, fun _ => .int (zi 0))) := (z_up_n nla).trans z_up_s
  change zW G mX2_init_2 d _ _ _ _ _ (z_up (z_up (z_up (z_up ah w (.inl (13, [.int (zi 0), .ref (zEm G), .int (zi 0)]))) a (.inl (1, [.ref w, .null, .null, .int (zi 0), .int (zi 0), .int (zi 0), .null, .int (zi 0), .int (zi 0), .int (zi 0)]))) l (.inr (.int, (144 : Int).toNat, fun _ => defaultValue .int))) a (.inl (1, [.ref w, .ref l, .null, .int (zi 0), .int (zi 1000), .int (zi 5), .ref (zMo G 1), .int (zi 0), .int (zi 0), .int (zi 0)]))) Q
  generalize (z_up (z_up (z_up (z_up ah w (.inl (13, [.int (zi 0), .ref (zEm G), .int (zi 0)]))) a (.inl (1, [.ref w, .null, .null, .int (zi 0), .int (zi 0), .int (zi 0), .null, .int (zi 0), .int (zi 0), .int (zi 0)]))) l (.inr (.int, (144 : Int).toNat, fun _ => defaultValue .int))) a (.inl (1, [.ref w, .ref l, .null, .int (zi 0), .int (zi 1000), .int (zi 5), .ref (zMo G 1), .int (zi 0), .int (zi 0), .int (zi 0)]))) = ah4 at g4 A4 W4 L4 ⊢
  have H4 := H.gr g4
  refine zW_dom (fun hdom => ?_)
  refine zr_aload_n dX2_init_2_43 rfl rfl ?_
  refine zr_getf dX2_init_2_44 nX2 (k := 0) (by decide) q183 (Or.inl rfl) A4 rfl ?_
  refine zr_aload_n dX2_init_2_47 rfl rfl ?_
  refine zr_getf dX2_init_2_48 nX2 (k := 0) (by decide) q183 (Or.inl rfl) H4.1 rfl ?_
  refine zc_v1 dX2_init_2_51 hJ2_addAll gJ2_addAll rfl rfl 5 2 80 (by omega) (by omega) (by omega) q942 q943 q944 (Or.inl ⟨13, _, TJ2, 3, tyJ2, nJ2, W4⟩) ?_
  have nw0 : w0 ≠ w := fun z => by have := H.2.1.1; rw [z, wB] at this; cases this
  refine kJ2_addAll (g := fun _ => .null) q2635 W4 H4.2.1 H4.el (fun y hy z => by
    obtain ⟨i, hi⟩ := List.getElem?_of_mem hy
    obtain ⟨-, p, -, h, -⟩ := H4.2.2.2.1 i y hi
    rw [z, W4] at h; cases h) nw0 (by have := H.2.2.1; omega) (by omega) (by omega) (by omega) (fun r9 ah5 e9 n9 f9 q1 q2 q3 q4 => zK_i ?_)
  have g5 : zGr ahB ah5 := fun x u hx => q2 x u (g4 x u hx) (fun z => by rw [z, wB] at hx; cases hx)
  have H5 := H.gr g5
  have A5 := q2 _ _ A4 nwa.symm
  have L5 := q2 _ _ L4 nlw
  refine zr_istore_n dX2_init_2_54 (by decide) (zs3_2 rfl ?_)
  refine zW_dom (fun hdom5 => ?_)
  refine zr_aload_n dX2_init_2_55 rfl rfl ?_
  refine zr_getf dX2_init_2_56 nX2 (k := 1) (by decide) q184 (Or.inl rfl) H5.1 rfl ?_
  refine zr_iconst dX2_init_2_59 ?_
  refine zr_aload_n dX2_init_2_60 rfl rfl ?_
  refine zr_getf dX2_init_2_61 nX2 (k := 1) (by decide) q184 (Or.inl rfl) A5 rfl ?_
  refine zr_iconst dX2_init_2_64 ?_
  refine zr_aload_n dX2_init_2_65 rfl rfl ?_
  refine zr_getf dX2_init_2_66 nX2 (k := 1) (by decide) q184 (Or.inl rfl) A5 rfl ?_
  refine zr_alen dX2_init_2_69 (Or.inl L5) ?_
  refine zr_copy dX2_init_2_70 q1022 q523 q522 q115 (Or.inl H5.2.2.2.2.1) L5 (by decide) (by decide) (fun i hi => ?_) (by decide) (by omega) ?_
  · rw [show (Int.toNat 0 + i) = i by simp, H5.2.2.2.2.2.1 i (by simp at hi; omega)]
    exact ⟨rfl, trivial⟩
  have hcp : ∀ j : Nat, j < 144 → va_cpy g (fun _ => .int (zi 0)) (Int.toNat 0) (Int.toNat 0) (((144 : Nat) : Int)).toNat j = .int (zi (s (48 + (j : Int)))) := fun j hj => by
    unfold va_cpy
    rw [if_pos (by simp; omega), show Int.toNat 0 + (j - Int.toNat 0) = j by simp]
    exact H5.2.2.2.2.2.1 j hj
  have g6 := g5.tu (o := .inr (.int, 144, va_cpy g (fun _ => .int (zi 0)) (Int.toNat 0) (Int.toNat 0) (((144 : Nat) : Int)).toNat)) lB
  have A6 : z_up ah5 l (.inr (.int, 144, va_cpy g (fun _ => .int (zi 0)) (Int.toNat 0) (Int.toNat 0) (((144 : Nat) : Int)).toNat)) a = some (.inl (1, [.ref w, .ref l, .null, .int (zi 0), .int (zi 1000), .int (zi 5), .ref (zMo G 1), .int (zi 0), .int (zi 0), .int (zi 0)])) := (z_up_n nla.symm).trans A5
  have W6 : zLst G (z_up ah5 l (.inr (.int, 144, va_cpy g (fun _ => .int (zi 0)) (Int.toNat 0) (Int.toNat 0) (((144 : Nat) : Int)).toNat))) w e9 n9 (0 + 1) f9 ps := q1.fr (fun x u hx hu => by
    rw [z_up_n (fun z => by rw [z, L5] at hu; rcases hx with hx | hx
                            · rw [hx] at z; rw [z] at nlw; exact nlw rfl
                            · rw [hx] at z
                              rcases q1.2.1 with ⟨_, z2⟩ | ⟨_, _, z2⟩
                              · rw [← z, z2, zEm_no T (fun x u h => hdom5 x u h)] at L5; cases L5
                              · rw [z, L5] at z2; cases z2)]
    exact hu)
  have L6 : z_up ah5 l (.inr (.int, 144, va_cpy g (fun _ => .int (zi 0)) (Int.toNat 0) (Int.toNat 0) (((144 : Nat) : Int)).toNat)) l = some (.inr (.int, 144, va_cpy g (fun _ => .int (zi 0)) (Int.toNat 0) (Int.toNat 0) (((144 : Nat) : Int)).toNat)) := z_up_s
  generalize va_cpy g (fun _ => .int (zi 0)) (Int.toNat 0) (Int.toNat 0) (((144 : Nat) : Int)).toNat = gg at hcp g6 A6 W6 L6 ⊢
  generalize z_up ah5 l (.inr (.int, 144, gg)) = ah6 at g6 A6 W6 L6 ⊢
  have B6 := (H.gr g6).1
  have bk : ∀ X, z_up ah6 a X b = some (.inl (1, zSf G w0 l0 tv s)) := fun X => (z_up_n nba).trans B6
  refine zW_dom (fun hdom6 => ?_)
  refine zr_aload_n dX2_init_2_73 rfl rfl ?_
  refine zr_aload_n dX2_init_2_74 rfl rfl ?_
  refine zr_getf dX2_init_2_75 nX2 (k := 2) (by decide) q185 (Or.inl rfl) B6 rfl ?_
  refine zr_putf dX2_init_2_78 nX2 (k := 2) (by decide) q185 (Or.inl rfl) (Or.inl rfl) A6 (z_ble rfl) rfl (by rcases H.2.2.2.2.2.2.1 with ⟨_, z⟩ | ⟨_, _, _, _, _, z, _⟩ <;> rw [z] <;> rfl) ?_
  refine zr_aload_n dX2_init_2_81 rfl rfl ?_
  refine zr_aload_n dX2_init_2_82 rfl rfl ?_
  refine zr_getf dX2_init_2_83 nX2 (k := 3) (by decide) q187 (Or.inl rfl) (bk _) rfl ?_
  refine zr_putf dX2_init_2_86 nX2 (k := 3) (by decide) q187 (Or.inl rfl) (Or.inl rfl) z_up_s (z_ble rfl) (z_b5 vv.2.2.2.2.2.1).1 (z_b5 vv.2.2.2.2.2.1).2 ?_
  rw [z_up_o]
  refine zr_aload_n dX2_init_2_89 rfl rfl ?_
  refine zr_aload_n dX2_init_2_90 rfl rfl ?_
  refine zr_getf dX2_init_2_91 nX2 (k := 4) (by decide) q189 (Or.inl rfl) (bk _) rfl ?_
  refine zr_putf dX2_init_2_94 nX2 (k := 4) (by decide) q189 (Or.inl rfl) (Or.inl rfl) z_up_s (z_ble rfl) rfl rfl ?_
  rw [z_up_o]
  refine zr_aload_n dX2_init_2_97 rfl rfl ?_
  refine zr_aload_n dX2_init_2_98 rfl rfl ?_
  refine zr_getf dX2_init_2_99 nX2 (k := 5) (by decide) q191 (Or.inl rfl) (bk _) rfl ?_
  refine zr_putf dX2_init_2_102 nX2 (k := 5) (by decide) q191 (Or.inl rfl) (Or.inl rfl) z_up_s (z_ble rfl) rfl rfl ?_
  rw [z_up_o]
  refine zr_aload_n dX2_init_2_105 rfl rfl ?_
  refine zr_aload_n dX2_init_2_106 rfl rfl ?_
  refine zr_getf dX2_init_2_107 nX2 (k := 6) (by decide) q193 (Or.inl rfl) (bk _) rfl ?_
  refine zr_putf dX2_init_2_110 nX2 (k := 6) (by decide) q193 (Or.inl rfl) (Or.inl rfl) z_up_s (z_ble rfl) rfl rfl ?_
  rw [z_up_o]
  refine zr_aload_n dX2_init_2_113 rfl rfl ?_
  refine zr_aload_n dX2_init_2_114 rfl rfl ?_
  refine zr_getf dX2_init_2_115 nX2 (k := 7) (by decide) q195 (Or.inl rfl) (bk _) rfl ?_
  refine zr_putf dX2_init_2_118 nX2 (k := 7) (by decide) q195 (Or.inl rfl) (Or.inl rfl) z_up_s (z_ble rfl) rfl rfl ?_
  rw [z_up_o]
  refine zr_aload_n dX2_init_2_121 rfl rfl ?_
  refine zr_aload_n dX2_init_2_122 rfl rfl ?_
  refine zr_getf dX2_init_2_123 nX2 (k := 8) (by decide) q197 (Or.inl rfl) (bk _) rfl ?_
  refine zr_putf dX2_init_2_126 nX2 (k := 8) (by decide) q197 (Or.inl rfl) (Or.inl rfl) z_up_s (z_ble rfl) rfl rfl ?_
  rw [z_up_o]
  refine zr_aload_n dX2_init_2_129 rfl rfl ?_
  refine zr_aload_n dX2_init_2_130 rfl rfl ?_
  refine zr_getf dX2_init_2_131 nX2 (k := 9) (by decide) q199 (Or.inl rfl) (bk _) rfl ?_
  refine zr_putf dX2_init_2_134 nX2 (k := 9) (by decide) q199 (Or.inl rfl) (Or.inl rfl) z_up_s (z_ble rfl) rfl rfl ?_
  rw [z_up_o]
  refine zr_return dX2_init_2_137 rfl ?_
  have e9F : 0 < n9 → ah4 e9 = none := fun hn => by
    rcases q3 with z | z
    · exact z
    · exfalso
      rcases q1.2.1 with ⟨z2, _⟩ | ⟨_, _, z2⟩
      · omega
      · rw [z, zEm_no T hdom5] at z2; cases z2
  have fr : ∀ x u, ah6 x = some u → x ≠ a → z_up ah6 a (.inl (1, zSf G w l tv s)) x = some u := fun x u hx hn => (z_up_n hn).trans hx
  have H6 := H.gr g6
  have g7 := g6.tu (o := .inl (1, zSf G w l tv s)) haB
  have H7 := H.gr g7
  have new : ∀ x, ahB x = none → ¬ F x ∧ ¬ zFre ahB x := fun x hx => ⟨fun z => hF _ z hx, fun z => z hx⟩
  refine k _ g7 ⟨w, e9, n9, 0 + 1, f9, ps, l, gg, tv, z_up_s, W6.fr (fun x u hx hu => fr x u hu (fun z => ?_)), H.2.2.1, H7.2.2.2.1, fr _ _ L6 nla, hcp, H7.2.2.2.2.2.2.1, ⟨(new a haB).1, (new w wB).1, (new l lB).1, fun hn => (new e9 (g4.no (e9F hn))).1⟩, (new a haB).2, (new w wB).2, (new l lB).2, fun hn => (new e9 (g4.no (e9F hn))).2⟩
  rw [z, A6] at hu
  rcases hx with hx | hx
  · rw [← hx, z] at nwa; exact nwa rfl
  · rcases W6.2.1 with ⟨_, z2⟩ | ⟨_, _, z2⟩
    · rw [← z, hx, z2, zEm_no T hdom6] at A6; cases A6
    · rw [← hx, z, A6] at z2; cases z2
