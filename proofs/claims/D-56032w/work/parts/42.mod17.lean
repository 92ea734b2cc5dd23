set_option maxRecDepth 100000
/-! ===== the reference: made ===== -/
theorem z_up_self {ah : zH} {a : Nat} {x : zO} (h : ah a = some x) : z_up ah a x = ah := by
  funext b
  unfold z_up
  by_cases e : b = a
  · rw [if_pos e, e, h]
  · rw [if_neg e]
theorem z_up_w {ah : zH} {a q : Nat} {x y z : zO} (h : a ≠ q) : z_up (z_up (z_up ah q x) a y) q z = z_up (z_up ah a y) q z := by
  funext b
  unfold z_up
  by_cases e : b = q
  · rw [if_pos e, if_pos e]
  · rw [if_neg e, if_neg e, if_neg e]
def zMA (q a0 a1 a2 a3 a4 a5 a6 a7 : Nat) : Nat → Nat := fun k => match k with
  | 0 => a0
  | 1 => a1
  | 2 => a2
  | 3 => a3
  | 4 => a4
  | 11 => a5
  | 13 => a6
  | 14 => a7
  | _ => q
/-- apart, all nine -/
def zMD : List Nat → Prop
  | [] => True
  | a :: l => (∀ b ∈ l, a ≠ b) ∧ zMD l
theorem z_up_o {ah : zH} {q : Nat} {x y : zO} : z_up (z_up ah q x) q y = z_up ah q y := by
  funext b
  unfold z_up
  by_cases e : b = q
  · rw [if_pos e, if_pos e]
  · rw [if_neg e, if_neg e, if_neg e]
theorem zMA_i {q a0 a1 a2 a3 a4 a5 a6 a7 : Nat} (h : zMD [q, a0, a1, a2, a3, a4, a5, a6, a7]) : zMi (zMA q a0 a1 a2 a3 a4 a5 a6 a7) := by
  simp only [zMD, List.mem_cons, List.not_mem_nil, or_false, forall_eq_or_imp, forall_eq, and_true] at h
  obtain ⟨⟨x1, x2, x3, x4, x5, x6, x7, x8⟩, ⟨y1, y2, y3, y4, y5, y6, y7⟩, ⟨z1, z2, z3, z4, z5, z6⟩, ⟨w1, w2, w3, w4, w5⟩, ⟨u1, u2, u3, u4⟩, ⟨v1, v2, v3⟩, ⟨s1, s2⟩, t1, -⟩ := h
  intro i hi j hj
  simp only [zMl, List.mem_cons, List.not_mem_nil, or_false] at hi hj
  rcases hi with rfl | rfl | rfl | rfl | rfl | rfl | rfl | rfl | rfl <;> rcases hj with rfl | rfl | rfl | rfl | rfl | rfl | rfl | rfl | rfl <;> intro e
  · rfl
  · exact absurd e x1
  · exact absurd e x2
  · exact absurd e x3
  · exact absurd e x4
  · exact absurd e x5
  · exact absurd e x6
  · exact absurd e x7
  · exact absurd e x8
  · exact absurd e.symm x1
  · rfl
  · exact absurd e y1
  · exact absurd e y2
  · exact absurd e y3
  · exact absurd e y4
  · exact absurd e y5
  · exact absurd e y6
  · exact absurd e y7
  · exact absurd e.symm x2
  · exact absurd e.symm y1
  · rfl
  · exact absurd e z1
  · exact absurd e z2
  · exact absurd e z3
  · exact absurd e z4
  · exact absurd e z5
  · exact absurd e z6
  · exact absurd e.symm x3
  · exact absurd e.symm y2
  · exact absurd e.symm z1
  · rfl
  · exact absurd e w1
  · exact absurd e w2
  · exact absurd e w3
  · exact absurd e w4
  · exact absurd e w5
  · exact absurd e.symm x4
  · exact absurd e.symm y3
  · exact absurd e.symm z2
  · exact absurd e.symm w1
  · rfl
  · exact absurd e u1
  · exact absurd e u2
  · exact absurd e u3
  · exact absurd e u4
  · exact absurd e.symm x5
  · exact absurd e.symm y4
  · exact absurd e.symm z3
  · exact absurd e.symm w2
  · exact absurd e.symm u1
  · rfl
  · exact absurd e v1
  · exact absurd e v2
  · exact absurd e v3
  · exact absurd e.symm x6
  · exact absurd e.symm y5
  · exact absurd e.symm z4
  · exact absurd e.symm w3
  · exact absurd e.symm u2
  · exact absurd e.symm v1
  · rfl
  · exact absurd e s1
  · exact absurd e s2
  · exact absurd e.symm x7
  · exact absurd e.symm y6
  · exact absurd e.symm z5
  · exact absurd e.symm w4
  · exact absurd e.symm u3
  · exact absurd e.symm v2
  · exact absurd e.symm s1
  · rfl
  · exact absurd e t1
  · exact absurd e.symm x8
  · exact absurd e.symm y7
  · exact absurd e.symm z6
  · exact absurd e.symm w5
  · exact absurd e.symm u4
  · exact absurd e.symm v3
  · exact absurd e.symm s2
  · exact absurd e.symm t1
  · rfl
theorem zMh_mk {ah : zH} {q a0 a1 a2 a3 a4 a5 a6 a7 : Nat} {S : zMS} {f0 f1 f2 f3 f4 f5 f6 f7 : Int → Int} (h : zMD [q, a0, a1, a2, a3, a4, a5, a6, a7]) (e0 : S.1 0 = f0) (e1 : S.1 1 = f1) (e2 : S.1 2 = f2) (e3 : S.1 3 = f3) (e4 : S.1 4 = f4) (e5 : S.1 11 = f5) (e6 : S.1 13 = f6) (e7 : S.1 14 = f7) : z_up (z_up (z_up (z_up (z_up (z_up (z_up (z_up (z_up ah a0 (.inr (.int, 204, zIa f0))) a1 (.inr (.int, 204, zIa f1))) a2 (.inr (.int, 204, zIa f2))) a3 (.inr (.int, 1632, zIa f3))) a4 (.inr (.int, 12, zIa f4))) a5 (.inr (.int, 120, zIa f5))) a6 (.inr (.int, 60, zIa f6))) a7 (.inr (.int, 124, zIa f7))) q (.inl (2, zMf (zMA q a0 a1 a2 a3 a4 a5 a6 a7) S)) = zMh ah (zMA q a0 a1 a2 a3 a4 a5 a6 a7) S := by
  have hA := zMA_i h
  funext b
  by_cases c : ∃ k ∈ (18 :: zMl), b = zMA q a0 a1 a2 a3 a4 a5 a6 a7 k
  · obtain ⟨k, hk, rfl⟩ := c
    rcases List.mem_cons.mp hk with rfl | hk
    · rw [zMh_o]; exact z_up_s
    · rw [zMh_k hA hk]
      simp only [zMD, List.mem_cons, List.not_mem_nil, or_false, forall_eq_or_imp, forall_eq, and_true] at h
      obtain ⟨⟨x1, x2, x3, x4, x5, x6, x7, x8⟩, ⟨y1, y2, y3, y4, y5, y6, y7⟩, ⟨z1, z2, z3, z4, z5, z6⟩, ⟨w1, w2, w3, w4, w5⟩, ⟨u1, u2, u3, u4⟩, ⟨v1, v2, v3⟩, ⟨s1, s2⟩, t1, -⟩ := h
      simp only [zMl, List.mem_cons, List.not_mem_nil, or_false] at hk
      rcases hk with rfl | rfl | rfl | rfl | rfl | rfl | rfl | rfl

      · show z_up _ q _ a0 = some (.inr (.int, 204, zIa (S.1 0)))
        rw [z_up_n (fun z => x1 z.symm), z_up_n y7, z_up_n y6, z_up_n y5, z_up_n y4, z_up_n y3, z_up_n y2, z_up_n y1, z_up_s, e0]
      · show z_up _ q _ a1 = some (.inr (.int, 204, zIa (S.1 1)))
        rw [z_up_n (fun z => x2 z.symm), z_up_n z6, z_up_n z5, z_up_n z4, z_up_n z3, z_up_n z2, z_up_n z1, z_up_s, e1]
      · show z_up _ q _ a2 = some (.inr (.int, 204, zIa (S.1 2)))
        rw [z_up_n (fun z => x3 z.symm), z_up_n w5, z_up_n w4, z_up_n w3, z_up_n w2, z_up_n w1, z_up_s, e2]
      · show z_up _ q _ a3 = some (.inr (.int, 1632, zIa (S.1 3)))
        rw [z_up_n (fun z => x4 z.symm), z_up_n u4, z_up_n u3, z_up_n u2, z_up_n u1, z_up_s, e3]
      · show z_up _ q _ a4 = some (.inr (.int, 12, zIa (S.1 4)))
        rw [z_up_n (fun z => x5 z.symm), z_up_n v3, z_up_n v2, z_up_n v1, z_up_s, e4]
      · show z_up _ q _ a5 = some (.inr (.int, 120, zIa (S.1 11)))
        rw [z_up_n (fun z => x6 z.symm), z_up_n s2, z_up_n s1, z_up_s, e5]
      · show z_up _ q _ a6 = some (.inr (.int, 60, zIa (S.1 13)))
        rw [z_up_n (fun z => x7 z.symm), z_up_n t1, z_up_s, e6]
      · show z_up _ q _ a7 = some (.inr (.int, 124, zIa (S.1 14)))
        rw [z_up_n (fun z => x8 z.symm), z_up_s, e7]
  · have n : ∀ k ∈ (18 :: zMl), b ≠ zMA q a0 a1 a2 a3 a4 a5 a6 a7 k := fun k hk z => c ⟨k, hk, z⟩
    have e9 : zMh ah (zMA q a0 a1 a2 a3 a4 a5 a6 a7) S b = ah b := by
      unfold zMh
      rw [if_neg (n 18 (by decide))]
      have : zMl.find? (fun k => b == zMA q a0 a1 a2 a3 a4 a5 a6 a7 k) = none := by
        rw [List.find?_eq_none]
        intro k hk z
        exact n k (List.mem_cons_of_mem _ hk) (by simpa using z)
      rw [this]
    rw [e9]
    show z_up _ q _ b = _
    have m18 : b ≠ q := n 18 (by decide)
    have m0 : b ≠ a0 := n 0 (by decide)
    have m1 : b ≠ a1 := n 1 (by decide)
    have m2 : b ≠ a2 := n 2 (by decide)
    have m3 : b ≠ a3 := n 3 (by decide)
    have m4 : b ≠ a4 := n 4 (by decide)
    have m5 : b ≠ a5 := n 11 (by decide)
    have m6 : b ≠ a6 := n 13 (by decide)
    have m7 : b ≠ a7 := n 14 (by decide)
    rw [z_up_n m18, z_up_n m7, z_up_n m6, z_up_n m5, z_up_n m4, z_up_n m3, z_up_n m2, z_up_n m1, z_up_n m0]
/-- the state at first -/
def pS0 : zMS := (fun k j => if k = 0 then (if j = 6 then 1000 else if j = 7 then 1 else if j = 8 then 5 else 0) else 0, fun k => if k = 7 ∨ k = 8 then -1 else 0)
def pSz : zMS := (fun _ _ => 0, fun k => if k = 7 ∨ k = 8 then -1 else 0)
theorem pS0_eq : zua pSz 0 (z_upF (z_upF (z_upF (pSz.1 0) 6 1000) 7 1) 8 5) = pS0 := by
  refine Prod.ext (funext fun k => funext fun j => ?_) rfl
  unfold zua pSz pS0 z_upF
  by_cases h : k = 0
  · subst h
    simp only [if_true]
    by_cases h8 : j = 8
    · subst h8; simp
    · rw [if_neg h8]
      by_cases h7 : j = 7
      · subst h7; simp
      · by_cases h6 : j = 6
        · subst h6; simp
        · simp [h6, h7, h8]
  · simp [h]
theorem kX4_init {G : State} {d rc rs : Nat} {ah : zH} {Q : zRs → zH → Prop} {q : Nat} (hd : 1 ≤ d) (hc : 8 ≤ rc) (hs : 2560 ≤ rs) (hq : ah q = some (.inl (2, [.null, .null, .null, .null, .null, .int (zi 0), .int (zi 0), .int (zi 0), .int (zi 0), .int (zi 0), .int (zi 0), .null, .int (zi 0), .null, .null, .int (zi 0), .int (zi 0), .int (zi 0)])))
    (k : ∀ A, zMi A → A 18 = q → (∀ k ∈ zMl, ah (A k) = none) → Q (.inl none) (zMh ah A pS0)) : zW G mX4_init d rc rs 0 (zent [.ref q]) [] ah Q := by
  refine zW_open 0 [some (.ref q)] rfl ?_
  rw [← z_up_self hq]
  refine zr_aload_n dX4_init_0 rfl rfl ?_
  refine zr_objInit dX4_init_1 q2118 q144 q145 (by decide) (by omega) ?_
  refine zr_aload_n dX4_init_4 rfl rfl ?_
  refine zr_sipush dX4_init_5 rfl ?_
  refine zr_newarray (ty := .int) dX4_init_8 rfl q222 (fun _ z => by cases z) (by decide) (by omega) (by show 204 ≤ _; omega) (fun a0 h0 => ?_)
  have n0 : a0 ≠ q := fun z => by rw [z, z_up_s] at h0; cases h0
  rw [z_up_n n0] at h0
  rw [show (Sum.inr (ClassFile.FieldType.int, ((204 : Int)).toNat, fun _ => defaultValue ClassFile.FieldType.int) : zO) = .inr (.int, 204, zIa (fun _ => 0)) from rfl]
  refine zr_putf dX4_init_10 nX4 (k := 0) (by decide) q2119 (Or.inl rfl) (Or.inr ⟨rfl, rfl, rfl⟩) ((z_up_n (fun z => n0 z.symm)).trans z_up_s) (z_ble rfl) rfl rfl ?_
  rw [z_up_w n0]
  refine zr_aload_n dX4_init_13 rfl rfl ?_
  refine zr_sipush dX4_init_14 rfl ?_
  refine zr_newarray (ty := .int) dX4_init_17 rfl q222 (fun _ z => by cases z) (by decide) (by omega) (by show 204 ≤ _; omega) (fun a1 h1 => ?_)
  have n1 : a1 ≠ q := fun z => by rw [z, z_up_s] at h1; cases h1
  rw [z_up_n n1] at h1
  have m1_0 : a1 ≠ a0 := fun z => by rw [z, z_up_s] at h1; cases h1
  rw [z_up_n m1_0] at h1
  rw [show (Sum.inr (ClassFile.FieldType.int, ((204 : Int)).toNat, fun _ => defaultValue ClassFile.FieldType.int) : zO) = .inr (.int, 204, zIa (fun _ => 0)) from rfl]
  refine zr_putf dX4_init_19 nX4 (k := 1) (by decide) q2120 (Or.inl rfl) (Or.inr ⟨rfl, rfl, rfl⟩) ((z_up_n (fun z => n1 z.symm)).trans z_up_s) (z_ble rfl) rfl rfl ?_
  rw [z_up_w n1]
  refine zr_aload_n dX4_init_22 rfl rfl ?_
  refine zr_sipush dX4_init_23 rfl ?_
  refine zr_newarray (ty := .int) dX4_init_26 rfl q222 (fun _ z => by cases z) (by decide) (by omega) (by show 204 ≤ _; omega) (fun a2 h2 => ?_)
  have n2 : a2 ≠ q := fun z => by rw [z, z_up_s] at h2; cases h2
  rw [z_up_n n2] at h2
  have m2_1 : a2 ≠ a1 := fun z => by rw [z, z_up_s] at h2; cases h2
  rw [z_up_n m2_1] at h2
  have m2_0 : a2 ≠ a0 := fun z => by rw [z, z_up_s] at h2; cases h2
  rw [z_up_n m2_0] at h2
  rw [show (Sum.inr (ClassFile.FieldType.int, ((204 : Int)).toNat, fun _ => defaultValue ClassFile.FieldType.int) : zO) = .inr (.int, 204, zIa (fun _ => 0)) from rfl]
  refine zr_putf dX4_init_28 nX4 (k := 2) (by decide) q2121 (Or.inl rfl) (Or.inr ⟨rfl, rfl, rfl⟩) ((z_up_n (fun z => n2 z.symm)).trans z_up_s) (z_ble rfl) rfl rfl ?_
  rw [z_up_w n2]
  refine zr_aload_n dX4_init_31 rfl rfl ?_
  refine zr_sipush dX4_init_32 rfl ?_
  refine zr_newarray (ty := .int) dX4_init_35 rfl q222 (fun _ z => by cases z) (by decide) (by omega) (by show 1632 ≤ _; omega) (fun a3 h3 => ?_)
  have n3 : a3 ≠ q := fun z => by rw [z, z_up_s] at h3; cases h3
  rw [z_up_n n3] at h3
  have m3_2 : a3 ≠ a2 := fun z => by rw [z, z_up_s] at h3; cases h3
  rw [z_up_n m3_2] at h3
  have m3_1 : a3 ≠ a1 := fun z => by rw [z, z_up_s] at h3; cases h3
  rw [z_up_n m3_1] at h3
  have m3_0 : a3 ≠ a0 := fun z => by rw [z, z_up_s] at h3; cases h3
  rw [z_up_n m3_0] at h3
  rw [show (Sum.inr (ClassFile.FieldType.int, ((1632 : Int)).toNat, fun _ => defaultValue ClassFile.FieldType.int) : zO) = .inr (.int, 1632, zIa (fun _ => 0)) from rfl]
  refine zr_putf dX4_init_37 nX4 (k := 3) (by decide) q2122 (Or.inl rfl) (Or.inr ⟨rfl, rfl, rfl⟩) ((z_up_n (fun z => n3 z.symm)).trans z_up_s) (z_ble rfl) rfl rfl ?_
  rw [z_up_w n3]
  refine zr_aload_n dX4_init_40 rfl rfl ?_
  refine zr_bipush dX4_init_41 rfl ?_
  refine zr_newarray (ty := .int) dX4_init_43 rfl q222 (fun _ z => by cases z) (by decide) (by omega) (by show 12 ≤ _; omega) (fun a4 h4 => ?_)
  have n4 : a4 ≠ q := fun z => by rw [z, z_up_s] at h4; cases h4
  rw [z_up_n n4] at h4
  have m4_3 : a4 ≠ a3 := fun z => by rw [z, z_up_s] at h4; cases h4
  rw [z_up_n m4_3] at h4
  have m4_2 : a4 ≠ a2 := fun z => by rw [z, z_up_s] at h4; cases h4
  rw [z_up_n m4_2] at h4
  have m4_1 : a4 ≠ a1 := fun z => by rw [z, z_up_s] at h4; cases h4
  rw [z_up_n m4_1] at h4
  have m4_0 : a4 ≠ a0 := fun z => by rw [z, z_up_s] at h4; cases h4
  rw [z_up_n m4_0] at h4
  rw [show (Sum.inr (ClassFile.FieldType.int, ((12 : Int)).toNat, fun _ => defaultValue ClassFile.FieldType.int) : zO) = .inr (.int, 12, zIa (fun _ => 0)) from rfl]
  refine zr_putf dX4_init_45 nX4 (k := 4) (by decide) q2123 (Or.inl rfl) (Or.inr ⟨rfl, rfl, rfl⟩) ((z_up_n (fun z => n4 z.symm)).trans z_up_s) (z_ble rfl) rfl rfl ?_
  rw [z_up_w n4]
  refine zr_aload_n dX4_init_48 rfl rfl ?_
  refine zr_iconst dX4_init_49 ?_
  refine zr_putf dX4_init_50 nX4 (k := 7) (by decide) q2126 (Or.inl rfl) (Or.inl rfl) z_up_s (z_ble rfl) rfl rfl ?_
  rw [z_up_o]
  refine zr_aload_n dX4_init_53 rfl rfl ?_
  refine zr_iconst dX4_init_54 ?_
  refine zr_putf dX4_init_55 nX4 (k := 8) (by decide) q2127 (Or.inl rfl) (Or.inl rfl) z_up_s (z_ble rfl) rfl rfl ?_
  rw [z_up_o]
  refine zr_aload_n dX4_init_58 rfl rfl ?_
  refine zr_bipush dX4_init_59 rfl ?_
  refine zr_newarray (ty := .int) dX4_init_61 rfl q222 (fun _ z => by cases z) (by decide) (by omega) (by show 120 ≤ _; omega) (fun a5 h5 => ?_)
  have n5 : a5 ≠ q := fun z => by rw [z, z_up_s] at h5; cases h5
  rw [z_up_n n5] at h5
  have m5_4 : a5 ≠ a4 := fun z => by rw [z, z_up_s] at h5; cases h5
  rw [z_up_n m5_4] at h5
  have m5_3 : a5 ≠ a3 := fun z => by rw [z, z_up_s] at h5; cases h5
  rw [z_up_n m5_3] at h5
  have m5_2 : a5 ≠ a2 := fun z => by rw [z, z_up_s] at h5; cases h5
  rw [z_up_n m5_2] at h5
  have m5_1 : a5 ≠ a1 := fun z => by rw [z, z_up_s] at h5; cases h5
  rw [z_up_n m5_1] at h5
  have m5_0 : a5 ≠ a0 := fun z => by rw [z, z_up_s] at h5; cases h5
  rw [z_up_n m5_0] at h5
  rw [show (Sum.inr (ClassFile.FieldType.int, ((120 : Int)).toNat, fun _ => defaultValue ClassFile.FieldType.int) : zO) = .inr (.int, 120, zIa (fun _ => 0)) from rfl]
  refine zr_putf dX4_init_63 nX4 (k := 11) (by decide) q2130 (Or.inl rfl) (Or.inr ⟨rfl, rfl, rfl⟩) ((z_up_n (fun z => n5 z.symm)).trans z_up_s) (z_ble rfl) rfl rfl ?_
  rw [z_up_w n5]
  refine zr_aload_n dX4_init_66 rfl rfl ?_
  refine zr_bipush dX4_init_67 rfl ?_
  refine zr_newarray (ty := .int) dX4_init_69 rfl q222 (fun _ z => by cases z) (by decide) (by omega) (by show 60 ≤ _; omega) (fun a6 h6 => ?_)
  have n6 : a6 ≠ q := fun z => by rw [z, z_up_s] at h6; cases h6
  rw [z_up_n n6] at h6
  have m6_5 : a6 ≠ a5 := fun z => by rw [z, z_up_s] at h6; cases h6
  rw [z_up_n m6_5] at h6
  have m6_4 : a6 ≠ a4 := fun z => by rw [z, z_up_s] at h6; cases h6
  rw [z_up_n m6_4] at h6
  have m6_3 : a6 ≠ a3 := fun z => by rw [z, z_up_s] at h6; cases h6
  rw [z_up_n m6_3] at h6
  have m6_2 : a6 ≠ a2 := fun z => by rw [z, z_up_s] at h6; cases h6
  rw [z_up_n m6_2] at h6
  have m6_1 : a6 ≠ a1 := fun z => by rw [z, z_up_s] at h6; cases h6
  rw [z_up_n m6_1] at h6
  have m6_0 : a6 ≠ a0 := fun z => by rw [z, z_up_s] at h6; cases h6
  rw [z_up_n m6_0] at h6
  rw [show (Sum.inr (ClassFile.FieldType.int, ((60 : Int)).toNat, fun _ => defaultValue ClassFile.FieldType.int) : zO) = .inr (.int, 60, zIa (fun _ => 0)) from rfl]
  refine zr_putf dX4_init_71 nX4 (k := 13) (by decide) q2132 (Or.inl rfl) (Or.inr ⟨rfl, rfl, rfl⟩) ((z_up_n (fun z => n6 z.symm)).trans z_up_s) (z_ble rfl) rfl rfl ?_
  rw [z_up_w n6]
  refine zr_aload_n dX4_init_74 rfl rfl ?_
  refine zr_bipush dX4_init_75 rfl ?_
  refine zr_newarray (ty := .int) dX4_init_77 rfl q222 (fun _ z => by cases z) (by decide) (by omega) (by show 124 ≤ _; omega) (fun a7 h7 => ?_)
  have n7 : a7 ≠ q := fun z => by rw [z, z_up_s] at h7; cases h7
  rw [z_up_n n7] at h7
  have m7_6 : a7 ≠ a6 := fun z => by rw [z, z_up_s] at h7; cases h7
  rw [z_up_n m7_6] at h7
  have m7_5 : a7 ≠ a5 := fun z => by rw [z, z_up_s] at h7; cases h7
  rw [z_up_n m7_5] at h7
  have m7_4 : a7 ≠ a4 := fun z => by rw [z, z_up_s] at h7; cases h7
  rw [z_up_n m7_4] at h7
  have m7_3 : a7 ≠ a3 := fun z => by rw [z, z_up_s] at h7; cases h7
  rw [z_up_n m7_3] at h7
  have m7_2 : a7 ≠ a2 := fun z => by rw [z, z_up_s] at h7; cases h7
  rw [z_up_n m7_2] at h7
  have m7_1 : a7 ≠ a1 := fun z => by rw [z, z_up_s] at h7; cases h7
  rw [z_up_n m7_1] at h7
  have m7_0 : a7 ≠ a0 := fun z => by rw [z, z_up_s] at h7; cases h7
  rw [z_up_n m7_0] at h7
  rw [show (Sum.inr (ClassFile.FieldType.int, ((124 : Int)).toNat, fun _ => defaultValue ClassFile.FieldType.int) : zO) = .inr (.int, 124, zIa (fun _ => 0)) from rfl]
  refine zr_putf dX4_init_79 nX4 (k := 14) (by decide) q2133 (Or.inl rfl) (Or.inr ⟨rfl, rfl, rfl⟩) ((z_up_n (fun z => n7 z.symm)).trans z_up_s) (z_ble rfl) rfl rfl ?_
  rw [z_up_w n7]
  have hD : zMD [q, a0, a1, a2, a3, a4, a5, a6, a7] := by
    refine ⟨fun b hb => ?_, ?_⟩
    · simp only [List.mem_cons, List.not_mem_nil, or_false] at hb
      rcases hb with rfl | rfl | rfl | rfl | rfl | rfl | rfl | rfl
      · exact n0.symm
      · exact n1.symm
      · exact n2.symm
      · exact n3.symm
      · exact n4.symm
      · exact n5.symm
      · exact n6.symm
      · exact n7.symm
    refine ⟨fun b hb => ?_, ?_⟩
    · simp only [List.mem_cons, List.not_mem_nil, or_false] at hb
      rcases hb with rfl | rfl | rfl | rfl | rfl | rfl | rfl
      · exact m1_0.symm
      · exact m2_0.symm
      · exact m3_0.symm
      · exact m4_0.symm
      · exact m5_0.symm
      · exact m6_0.symm
      · exact m7_0.symm
    refine ⟨fun b hb => ?_, ?_⟩
    · simp only [List.mem_cons, List.not_mem_nil, or_false] at hb
      rcases hb with rfl | rfl | rfl | rfl | rfl | rfl
      · exact m2_1.symm
      · exact m3_1.symm
      · exact m4_1.symm
      · exact m5_1.symm
      · exact m6_1.symm
      · exact m7_1.symm
    refine ⟨fun b hb => ?_, ?_⟩
    · simp only [List.mem_cons, List.not_mem_nil, or_false] at hb
      rcases hb with rfl | rfl | rfl | rfl | rfl
      · exact m3_2.symm
      · exact m4_2.symm
      · exact m5_2.symm
      · exact m6_2.symm
      · exact m7_2.symm
    refine ⟨fun b hb => ?_, ?_⟩
    · simp only [List.mem_cons, List.not_mem_nil, or_false] at hb
      rcases hb with rfl | rfl | rfl | rfl
      · exact m4_3.symm
      · exact m5_3.symm
      · exact m6_3.symm
      · exact m7_3.symm
    refine ⟨fun b hb => ?_, ?_⟩
    · simp only [List.mem_cons, List.not_mem_nil, or_false] at hb
      rcases hb with rfl | rfl | rfl
      · exact m5_4.symm
      · exact m6_4.symm
      · exact m7_4.symm
    refine ⟨fun b hb => ?_, ?_⟩
    · simp only [List.mem_cons, List.not_mem_nil, or_false] at hb
      rcases hb with rfl | rfl
      · exact m6_5.symm
      · exact m7_5.symm
    refine ⟨fun b hb => ?_, ?_⟩
    · simp only [List.mem_cons, List.not_mem_nil, or_false] at hb
      rw [hb]
      exact m7_6.symm
    exact ⟨fun b hb => (by cases hb), trivial⟩
  have hA := zMA_i hD
  have hm := zMh_mk (ah := ah) (S := pSz) hD rfl rfl rfl rfl rfl rfl rfl rfl
  refine zW_heap hm ?_
  generalize hAA : zMA q a0 a1 a2 a3 a4 a5 a6 a7 = A at hA hm ⊢
  have hq18 : A 18 = q := by rw [← hAA]; rfl
  rw [← hq18]
  refine zr_aload_n dX4_init_82 rfl rfl ?_
  refine zm_geta 0 dX4_init_83 q2119 rfl ?_
  try simp only [zuf_1, zua_s, zua_2, zuf_s, zuf_zuf, zua_zuf, zua_zua, zua_e, zuf_e, Nat.reduceBEq, pPs_13, pPs_14, pPs_15, pPs_16, pPs_17, pPs_a, pPs_h, pPs_m]
  refine zr_bipush dX4_init_86 rfl ?_
  refine zr_sipush dX4_init_88 rfl ?_
  refine zm_store hA (by decide) dX4_init_91 (by constructor <;> (try simp only [zMn]) <;> omega) ?_
  try simp only [zuf_1, zua_s, zua_2, zuf_s, zuf_zuf, zua_zuf, zua_zua, zua_e, zuf_e, Nat.reduceBEq, pPs_13, pPs_14, pPs_15, pPs_16, pPs_17, pPs_a, pPs_h, pPs_m]
  refine zr_aload_n dX4_init_92 rfl rfl ?_
  refine zm_geta 0 dX4_init_93 q2119 rfl ?_
  try simp only [zuf_1, zua_s, zua_2, zuf_s, zuf_zuf, zua_zuf, zua_zua, zua_e, zuf_e, Nat.reduceBEq, pPs_13, pPs_14, pPs_15, pPs_16, pPs_17, pPs_a, pPs_h, pPs_m]
  refine zr_bipush dX4_init_96 rfl ?_
  refine zr_iconst dX4_init_98 ?_
  refine zm_store hA (by decide) dX4_init_99 (by constructor <;> (try simp only [zMn]) <;> omega) ?_
  try simp only [zuf_1, zua_s, zua_2, zuf_s, zuf_zuf, zua_zuf, zua_zua, zua_e, zuf_e, Nat.reduceBEq, pPs_13, pPs_14, pPs_15, pPs_16, pPs_17, pPs_a, pPs_h, pPs_m]
  refine zr_aload_n dX4_init_100 rfl rfl ?_
  refine zm_geta 0 dX4_init_101 q2119 rfl ?_
  try simp only [zuf_1, zua_s, zua_2, zuf_s, zuf_zuf, zua_zuf, zua_zua, zua_e, zuf_e, Nat.reduceBEq, pPs_13, pPs_14, pPs_15, pPs_16, pPs_17, pPs_a, pPs_h, pPs_m]
  refine zr_bipush dX4_init_104 rfl ?_
  refine zr_iconst dX4_init_106 ?_
  refine zm_store hA (by decide) dX4_init_107 (by constructor <;> (try simp only [zMn]) <;> omega) ?_
  try simp only [zuf_1, zua_s, zua_2, zuf_s, zuf_zuf, zua_zuf, zua_zua, zua_e, zuf_e, Nat.reduceBEq, pPs_13, pPs_14, pPs_15, pPs_16, pPs_17, pPs_a, pPs_h, pPs_m]
  refine zr_return dX4_init_108 rfl ?_
  rw [pS0_eq]
  refine k A hA hq18 (fun k hk => ?_)
  rw [← hAA]
  simp only [zMl, List.mem_cons, List.not_mem_nil, or_false] at hk
  rcases hk with rfl | rfl | rfl | rfl | rfl | rfl | rfl | rfl
  · exact h0
  · exact h1
  · exact h2
  · exact h3
  · exact h4
  · exact h5
  · exact h6
  · exact h7
