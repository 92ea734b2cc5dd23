set_option maxRecDepth 100000
/-! ===== the component: changes, with the history ===== -/
section ZGE
variable {G : State} {F0 : Nat → Prop} {gd q D lb tx : Nat} {ah : zH} {s : Int → Int} {sv : Option (Int → Int)} {hs : List (Int → Int)} {ln : List Int} {tp : Int → Int} {tn er fl : Int} {a : Nat} {v : Value} {h : Nat} {f : Nat → Value} {hl : List Nat} {lv n : Nat} {ml : Int} {gl ft : Nat → Value}
theorem zGc.dq {ah' : zH} (H : zGc G F0 gd q D lb tx ah s sv hs ln tp tn er fl a v h f hl lv n ml gl ft) (hk : ∀ b o, ah b = some o → b ≠ gd → b ≠ q → b ≠ D → ah' b = some o) {a' : Nat} {s' : Int → Int} {hs' : List (Int → Int)} {h' : Nat} {f' : Nat → Value} {hl' : List Nat} (h1 : ah' gd = some (.inl (0, zGo a' v q lb tx tn er fl))) (h2 : zStR G (zFg gd q D lb tx F0) zNo ah' a' s') (h4 : zDq G ah' q D h' f' hl') (h5 : zHs G (zFg gd q D lb tx F0) ah' hl' hs') : zGc G F0 gd q D lb tx ah' s' sv hs' ln tp tn er fl a' v h' f' hl' lv n ml gl ft := by
  obtain ⟨g1, g2, g3, g4, g5, g6, g7, g8⟩ := H
  have hx : ∀ b o, ah b = some o → (∀ fs, o ≠ .inl (0, fs)) → (∀ fs, o ≠ .inl (15, fs)) → (∀ m z, o ≠ .inr (.object "java/lang/Object", m, z)) → ah' b = some o := fun b o hb n1 n2 n3 => hk b o hb (fun z => by rw [z, g1] at hb; cases hb; exact n1 _ rfl) (fun z => by rw [z, g4.1] at hb; cases hb; exact n2 _ rfl) (fun z => by rw [z, g4.2.2.1] at hb; cases hb; exact n3 _ _ rfl)
  refine ⟨h1, h2, g3.kp (fun b o nf _ hb => hk b o hb (fun z => nf (Or.inl z)) (fun z => nf (Or.inr (Or.inl z))) (fun z => nf (Or.inr (Or.inr (Or.inl z))))), h4, h5, ⟨g6.1.fr (fun b o hb ho => ?_), g6.2⟩, ⟨hx _ _ g7.1 (fun _ z => by cases z) (fun _ z => by cases z) (fun _ _ z => by cases z), g7.2⟩, fun b hb => ?_⟩
  · rcases hb with hb | hb
    · rw [hb, g6.1.1] at ho; cases ho; rw [hb]; exact hx _ _ g6.1.1 (fun _ z => by cases z) (fun _ z => by cases z) (fun _ _ z => by cases z)
    · rw [hb, g6.1.2.2.1] at ho; cases ho; rw [hb]; exact hx _ _ g6.1.2.2.1 (fun _ z => by cases z) (fun _ z => by cases z) (fun _ _ z => by cases z)
  · obtain ⟨o, ho, ht⟩ := g8 b hb
    exact ⟨o, hx b o ho (fun fs z => by rw [z] at ht; exact ht) (fun fs z => by rw [z] at ht; exact ht) (fun m y z => by rw [z] at ht; exact ht), ht⟩
theorem zGc.kt3 {ah' : zH} (H : zGc G F0 gd q D lb tx ah s sv hs ln tp tn er fl a v h f hl lv n ml gl ft) (hk : ∀ b o, ah b = some o → b ≠ gd → b ≠ q → b ≠ D → ah' b = some o) : zKt ah ah' := fun b o hb ht =>
  hk b o hb (fun z => by rw [z, H.1] at hb; cases hb; exact ht) (fun z => by rw [z, H.2.2.2.1.1] at hb; cases hb; exact ht) (fun z => by rw [z, H.2.2.2.1.2.2.1] at hb; cases hb; exact ht)
theorem zHs.app {F : Nat → Prop} {b : Nat} {r : Int → Int} (h : zHs G F ah hl hs) (hb : zStR G F zNo ah b r) : zHs G F ah (hl ++ [b]) (hs ++ [r]) := by
  refine ⟨by simp [h.1], fun i c u h1 h2 => ?_⟩
  by_cases hi : i < hl.length
  · rw [List.getElem?_append_left hi] at h1
    rw [List.getElem?_append_left (by rw [← h.1]; exact hi)] at h2
    exact h.2 i c u h1 h2
  · have hil := (List.getElem?_eq_some_iff.mp h1).1
    simp at hil
    obtain rfl : i = hl.length := by omega
    rw [List.getElem?_append_right (Nat.le_refl _)] at h1
    rw [List.getElem?_append_right (by rw [h.1]; exact Nat.le_refl _)] at h2
    simp [h.1] at h1 h2
    rw [← h1, ← h2]
    exact hb
theorem zHs.tl {F : Nat → Prop} {x : Nat} {l : List Nat} (h : zHs G F ah (x :: l) hs) : zHs G F ah l (hs.drop 1) := by
  refine ⟨by have := h.1; simp at this ⊢; omega, fun i c u h1 h2 => h.2 (i + 1) c u (by simpa using h1) (by simpa [Nat.add_comm] using h2)⟩
end ZGE
theorem kX1_commit23 {G : State} {d rc rs : Nat} {ah : zH} {Q : zRs → zH → Prop} {F0 : Nat → Prop} {gd q D lb tx a h lv n : Nat} {s : Int → Int} {sv : Option (Int → Int)} {hs : List (Int → Int)} {ln : List Int} {tp : Int → Int} {tn er fl ml : Int} {v : Value} {f gl ft : Nat → Value} {hl : List Nat} (H : zGc G F0 gd q D lb tx ah s sv hs ln tp tn er fl a v h f hl lv n ml gl ft) {c : Nat} {r : Int → Int} (hc : zStR G (zFg gd q D lb tx F0) zNo ah c r) {ah1 : zH} {h1 : Nat} {f1 : Nat → Value} {l1 : List Nat} {hs1 : List (Int → Int)} {J : Option Value} (D1 : zDq G ah1 q D h1 f1 l1) (fr : ∀ b u, ah b = some u → b ≠ q → b ≠ D → ah1 b = some u) (hl1 : zHs G (zFg gd q D lb tx F0) ah l1 hs1) (h14 : l1.length ≤ 14) (hd : 2 ≤ d) (k : ∀ ah9, zKt ah ah9 → zGd G F0 gd q D lb tx ah9 r sv (hs1 ++ [s]) ln tp tn er fl → Q (.inl none) ah9) : zW G mX1_commit d rc rs 23 [some (.ref gd), some (.ref c), J] [] ah1 Q := by
  have nq : gd ≠ q := fun z => by have := H.1; rw [z, H.2.2.2.1.1] at this; cases this
  have nD : gd ≠ D := fun z => by have := H.1; rw [z, H.2.2.2.1.2.2.1] at this; cases this
  have gd1 := fr _ _ H.1 nq nD
  have kp1 : zKp (zFg gd q D lb tx F0) ah ah1 := (fun b u nf _ hb => fr b u hb (fun z => nf (Or.inr (Or.inl z))) (fun z => nf (Or.inr (Or.inr (Or.inl z)))))
  refine zr_aload_n dX1_commit_23 rfl rfl ?_
  refine zr_getf dX1_commit_24 nX1 (k := 2) (by decide) q276 (Or.inl rfl) gd1 rfl ?_
  refine zr_aload_n dX1_commit_27 rfl rfl ?_
  refine zr_getf dX1_commit_28 nX1 (k := 0) (by decide) q274 (Or.inl rfl) gd1 rfl ?_
  refine zc_v1 dX1_commit_31 hJ4_addLast gJ4_addLast rfl rfl 1 0 0 (by omega) (Nat.zero_le _) (Nat.zero_le _) q1149 q1150 q1151 D1.rc ?_
  refine kJ4_addLast D1 q2628 (H.2.1.kp kp1).rc (by omega) (by omega) (fun ah2 f2 D2 fr2 => zK_v ?_)
  have gd2 := fr2 _ _ gd1 nq nD
  refine zr_aload_n dX1_commit_34 rfl rfl ?_
  refine zr_aload_n dX1_commit_35 rfl rfl ?_
  refine zr_putf dX1_commit_36 nX1 (k := 0) (by decide) q274 (Or.inl rfl) (Or.inl rfl) gd2 (z_ble rfl) rfl rfl ?_
  refine zr_return dX1_commit_39 rfl ?_
  have hk : ∀ b u, ah b = some u → b ≠ gd → b ≠ q → b ≠ D → z_up ah2 gd (.inl (0, zGo c v q lb tx tn er fl)) b = some u := fun b u hb n1 n2 n3 => (z_up_n n1).trans (fr2 b u (fr b u hb n2 n3) n2 n3)
  have kp : zKp (zFg gd q D lb tx F0) ah (z_up ah2 gd (.inl (0, zGo c v q lb tx tn er fl))) := fun b u nf _ hb => hk b u hb (fun z => nf (Or.inl z)) (fun z => nf (Or.inr (Or.inl z))) (fun z => nf (Or.inr (Or.inr (Or.inl z))))
  refine k _ (H.kt3 hk) ⟨_, _, _, _, _, _, _, _, _, _, H.dq hk z_up_s (hc.kp kp) (D2.fr (fun b u hb hu => (z_up_n (fun z => ?_)).trans hu)) ((hl1.app H.2.1).kp kp)⟩
  rw [z] at hb
  rcases hb with hb | hb
  · exact nq hb
  · exact nD hb
theorem kX1_commit {G : State} {d rc rs : Nat} {ah : zH} {Q : zRs → zH → Prop} {F0 : Nat → Prop} {gd q D lb tx a h lv n : Nat} {s : Int → Int} {sv : Option (Int → Int)} {hs : List (Int → Int)} {ln : List Int} {tp : Int → Int} {tn er fl ml : Int} {v : Value} {f gl ft : Nat → Value} {hl : List Nat} (H : zGc G F0 gd q D lb tx ah s sv hs ln tp tn er fl a v h f hl lv n ml gl ft) {c : Nat} {r : Int → Int} (hc : zStR G (zFg gd q D lb tx F0) zNo ah c r) (h8 : hs.length ≤ 8) (hd : 3 ≤ d) (k : ∀ ah9, zKt ah ah9 → zGd G F0 gd q D lb tx ah9 r sv (pHp hs s) ln tp tn er fl → Q (.inl none) ah9) : zW G mX1_commit d rc rs 0 (zent [.ref gd, .ref c]) [] ah Q := by
  refine zW_open 1 [some (.ref gd), some (.ref c), none] rfl ?_
  have hll := H.2.2.2.2.1.1
  refine zr_aload_n dX1_commit_0 rfl rfl ?_
  refine zr_getf dX1_commit_1 nX1 (k := 2) (by decide) q276 (Or.inl rfl) H.1 rfl ?_
  refine zc_v0 dX1_commit_4 hJ4_size gJ4_size rfl rfl 1 0 0 (by omega) (Nat.zero_le _) (Nat.zero_le _) q1113 q1114 q1115 H.2.2.2.1.rc ?_
  refine kJ4_size H.2.2.2.1 (by omega) (zK_i ?_)
  refine zr_bipush dX1_commit_7 rfl ?_
  refine zr_icmpne dX1_commit_9 (tgt := 23) (by decide) (by omega) (by omega) (fun h9 => ?_) (fun h9 => ?_)
  · refine kX1_commit23 H hc H.2.2.2.1 (fun b u hb _ _ => hb) H.2.2.2.2.1 (by omega) (by omega) ?_
    rw [show pHp hs s = hs ++ [s] from by unfold pHp; rw [if_neg (by omega)]] at k
    exact k
  · refine zr_aload_n dX1_commit_12 rfl rfl ?_
    obtain ⟨x, l9, rfl⟩ : ∃ x l9, hl = x :: l9 := by
      cases hl with
      | nil => simp at h9
      | cons x l9 => exact ⟨x, l9, rfl⟩
    refine zr_getf dX1_commit_13 nX1 (k := 2) (by decide) q276 (Or.inl rfl) H.1 rfl ?_
    refine zc_v0 dX1_commit_16 hJ4_removeFirst gJ4_removeFirst rfl rfl 2 0 0 (by omega) (Nat.zero_le _) (Nat.zero_le _) q1120 q1121 q1122 H.2.2.2.1.rc ?_
    refine kJ4_removeFirst H.2.2.2.1 (by omega) (fun ah1 h1 f1 D1 fr => zK_i ?_)
    obtain ⟨r0, hr0⟩ : ∃ r0, hs[0]? = some r0 := ⟨hs[0]'(by simp at hll; omega), List.getElem?_eq_getElem _⟩
    have sx := (H.2.2.2.2.1.2 0 x r0 (by simp) hr0).kp (ah' := ah1) (fun b u nf _ hb => fr b u hb (fun z => nf (Or.inr (Or.inl z))) (fun z => nf (Or.inr (Or.inr (Or.inl z)))))
    refine zr_cast dX1_commit_19 q146 sx.rc ?_
    refine zr_astore_n dX1_commit_22 (by decide) rfl (zs3_2 rfl ?_)
    refine kX1_commit23 H hc D1 fr H.2.2.2.2.1.tl (by simp at hll; omega) (by omega) ?_
    rw [show pHp hs s = hs.drop 1 ++ [s] from by unfold pHp; rw [if_pos (by omega)]] at k
    exact k
/-- how a change of the component ends -/
def zAnG (G : State) (F0 : Nat → Prop) (gd q D lb tx : Nat) (ah : zH) (s : Int → Int) (sv : Option (Int → Int)) (hs : List (Int → Int)) (ln : List Int) (tp : Int → Int) (tn er fl : Int) (E : Int → String) (X : Int × Int × (Int → Int)) (Q : zRs → zH → Prop) : Prop :=
  (X.1 = 0 → ∀ ah9, zKt ah ah9 → zGd G F0 gd q D lb tx ah9 X.2.2 sv (pHp hs s) ln tp tn er fl → Q (.inl (some (.int (zi X.2.1)))) ah9) ∧ (X.1 ≠ 0 → ∀ ah9 q9, zGr ah ah9 → Q (.inr (E X.1, q9)) ah9)
theorem zAns.qx {G : State} {F : Nat → Prop} {ah0 : zH} {a : Nat} {E : Int → String} {X : Int × Int × (Int → Int)} {Q : zRs → zH → Prop} (h : zAns G F ah0 a E X Q) : zAns G F ah0 a E X (zQx Q (some .int)) := ⟨fun e ah9 g hS => ⟨h.1 e ah9 g hS, _, rfl, rfl⟩, fun e ah9 q g => ⟨h.2 e ah9 q g, trivial⟩⟩
theorem kX1_apply {G : State} {d rc rs : Nat} {ah : zH} {Q : zRs → zH → Prop} {F0 : Nat → Prop} {gd q D lb tx a h lv n : Nat} {s : Int → Int} {sv : Option (Int → Int)} {hs : List (Int → Int)} {ln : List Int} {tp : Int → Int} {tn er fl ml : Int} {v : Value} {f gl ft : Nat → Value} {hl : List Nat} (H : zGc G F0 gd q D lb tx ah s sv hs ln tp tn er fl a v h f hl lv n ml gl ft) {E : Int → String} {X : Int × Int × (Int → Int)} {b : Nat} (hV : pV s) (h8 : hs.length ≤ 8) (hcl : ∀ (c : Nat) (ah1 : zH) (rc rs : Nat) (ls : List (Option Value)) (Q : zRs → zH → Prop), zGr ah ah1 → zStR G (zFg gd q D lb tx F0) (zFre ah) ah1 c s → 80 ≤ rc → 260 ≤ rs → zAns G (zFg gd q D lb tx F0) ah c E X (zK G mX1_apply d (rc - 80) (rs - 260) 14 5 ls [] Q) → zW G mX1_apply d rc rs 14 ls [.ref c, .ref b] ah1 Q) (hd : 10 ≤ d) (hc : 100 ≤ rc) (hs9 : 600 ≤ rs) (k : zAnG G F0 gd q D lb tx ah s sv hs ln tp tn er fl E (X) Q) : zW G mX1_apply d rc rs 0 (zent [.ref gd, .ref b]) [] ah Q := by
  refine zW_open 2 [some (.ref gd), some (.ref b), none, none] rfl ?_
  refine zr_new (fs := [.null, .null, .null, .int (zi 0), .int (zi 0), .int (zi 0), .null, .int (zi 0), .int (zi 0), .int (zi 0)]) dX1_apply_0 nX2 q146 q147 q92 (z_ble rfl) dfX2 (by omega) (by omega) (fun c hc9 => ?_)
  refine zr_dup dX1_apply_3 rfl ?_
  refine zr_aload_n dX1_apply_4 rfl rfl ?_
  refine zr_getf dX1_apply_5 nX1 (k := 0) (by decide) q274 (Or.inl rfl) (z_upk hc9 H.1) rfl ?_
  refine zc_i1 rfl rfl rfl dX1_apply_8 hX2_init_2 gX2_init_2 rfl rfl 6 4 240 (by omega) (by omega) (by omega) q939 q940 ?_
  obtain ⟨w, e, n1, mc, f1, ps, l, g, tv, HS⟩ := id H.2.1
  refine kX2_init_2 HS hV (zGr.up hc9) hc9 z_up_s H.hF (by omega) (by omega) (by omega) (fun ah2 g2 s2 => zK_v ?_)
  refine zr_astore_n dX1_apply_11 (by decide) rfl (zs4_2 rfl ?_)
  refine zr_aload_n dX1_apply_12 rfl rfl ?_
  refine zr_aload_n dX1_apply_13 rfl rfl ?_
  refine hcl _ _ _ _ _ _ g2 s2 (by omega) (by omega) ⟨fun e0 ah3 g3 s3 => zK_i ?_, fun e0 ah3 q3 g3 => zK_x (zX_out (fun x hx => nomatch hx) (k.2 e0 ah3 q3 g3))⟩
  refine zr_istore_n dX1_apply_19 (by decide) (zs4_3 rfl ?_)
  refine zr_aload_n dX1_apply_20 rfl rfl ?_
  refine zr_aload_n dX1_apply_21 rfl rfl ?_
  refine zc_v1 dX1_apply_22 hX1_commit gX1_commit rfl rfl 3 0 0 (by omega) (Nat.zero_le _) (Nat.zero_le _) q1109 q1111 sp12 (H.gr g3).rc ?_
  refine kX1_commit (H.gr g3) s3.fr h8 (by omega) (fun ah4 t4 G4 => zK_v ?_)
  refine zr_iload_n dX1_apply_25 rfl ?_
  refine zr_ireturn dX1_apply_26 rfl (by first | rfl | exact z_nb _) ?_
  exact k.1 e0 ah4 (g3.kt.tr t4) G4
theorem kX1_lambda_addWaypoint_0 {G : State} {d rc rs : Nat} {ah : zH} {Q : zRs → zH → Prop} {F : Nat → Prop} {ah0 : zH} {a : Nat} {s : Int → Int} (H : zStR G F (zFre ah0) ah a s) (hg : zGr ah0 ah) {B : Int} (hI : pI B s) (hB : B < 100000) (hAl : pAl s) (hF : ∀ b, F b → zFre ah0 b) {c0 c1 c2 : Int} (qc0 : -2147483648 ≤ c0 ∧ c0 ≤ 2147483647) (qc1 : -2147483648 ≤ c1 ∧ c1 ≤ 2147483647) (qc2 : -2147483648 ≤ c2 ∧ c2 ≤ 2147483647) (hd : 41 ≤ d) (hc : 80 ≤ rc) (hs : 260 ≤ rs) (k : zAns G F ah0 a (zE ["java/lang/IllegalArgumentException", "java/lang/IllegalStateException"]) (pAdd s c0 c1 c2) Q) : zW G mX1_lambda_addWaypoint_0 d rc rs 0 (zent [.int (zi c0), .int (zi c1), .int (zi c2), .ref a]) [] ah Q := by
  refine zW_open 0 [some (.int (zi c0)), some (.int (zi c1)), some (.int (zi c2)), some (.ref a)] rfl ?_
  obtain ⟨w, e, n1, mc, f1, ps, l, g, tv, Hs⟩ := id H
  refine zr_aload_n dX1_lambda_addWaypoint_0_0 rfl rfl ?_
  refine zr_iload_n dX1_lambda_addWaypoint_0_1 rfl ?_
  refine zr_iload_n dX1_lambda_addWaypoint_0_2 rfl ?_
  refine zr_iload_n dX1_lambda_addWaypoint_0_3 rfl ?_
  refine zc_v3 dX1_lambda_addWaypoint_0_4 hX2_addWaypoint gX2_addWaypoint rfl rfl 10 6 64 (by omega) (by omega) (by omega) q1034 q1035 q1036 H.rc ?_
  refine kX2_addWaypoint Hs hg hI (by omega) (by omega) (by omega) hF (by omega) (by omega) (by omega) ?_
  refine ⟨fun e0 ah9 g9 s9 => zK_i ?_, fun e0 ah9 q9 g9 => zK_x (zX_out (fun x hx => nomatch hx) (k.2 e0 ah9 q9 g9))⟩
  refine zr_ireturn dX1_lambda_addWaypoint_0_7 rfl (by first | rfl | exact z_nb _) ?_
  exact k.1 e0 ah9 g9 s9
theorem kX1_addWaypoint {G : State} {d rc rs : Nat} {ah : zH} {Q : zRs → zH → Prop} {F0 : Nat → Prop} {gd q D lb tx a h lv n : Nat} {s : Int → Int} {sv : Option (Int → Int)} {hs : List (Int → Int)} {ln : List Int} {tp : Int → Int} {tn er fl ml : Int} {v : Value} {f gl ft : Nat → Value} {hl : List Nat} (H : zGc G F0 gd q D lb tx ah s sv hs ln tp tn er fl a v h f hl lv n ml gl ft) {B : Int} (hI : pI B s) (hB : B < 100000) (hAl : pAl s) (h8 : hs.length ≤ 8) {c0 c1 c2 : Int} (qc0 : -2147483648 ≤ c0 ∧ c0 ≤ 2147483647) (qc1 : -2147483648 ≤ c1 ∧ c1 ≤ 2147483647) (qc2 : -2147483648 ≤ c2 ∧ c2 ≤ 2147483647) (hd : 60 ≤ d) (hc : 101 ≤ rc) (hs9 : 603 ≤ rs) (k : zAnG G F0 gd q D lb tx ah s sv hs ln tp tn er fl (zE ["java/lang/IllegalArgumentException", "java/lang/IllegalStateException"]) (pAdd s c0 c1 c2) Q) : zW G mX1_addWaypoint d rc rs 0 (zent [.ref gd, .int (zi c0), .int (zi c1), .int (zi c2)]) [] ah Q := by
  refine zW_open 0 [some (.ref gd), some (.int (zi c0)), some (.int (zi c1)), some (.int (zi c2))] rfl ?_
  refine zr_aload_n dX1_addWaypoint_0 rfl rfl ?_
  refine zr_iload_n dX1_addWaypoint_1 rfl ?_
  refine zr_iload_n dX1_addWaypoint_2 rfl ?_
  refine zr_iload_n dX1_addWaypoint_3 rfl ?_
  refine zln5 rfl rfl dX1_addWaypoint_4 rfl (by omega) (by omega) (by omega) (fun b hb => ?_)
  have HH := H.gr (zGr.up (o := .inl (1005, [.int (zi c0), .int (zi c1), .int (zi c2)])) hb)
  have g0 := zGr.up (o := .inl (1005, [.int (zi c0), .int (zi c1), .int (zi c2)])) hb
  have ob : z_up ah b (.inl (1005, [.int (zi c0), .int (zi c1), .int (zi c2)])) b = some (.inl (1005, [.int (zi c0), .int (zi c1), .int (zi c2)])) := z_up_s
  generalize z_up ah b (.inl (1005, [.int (zi c0), .int (zi c1), .int (zi c2)])) = ahL at HH g0 ob ⊢
  refine zc_v1 dX1_addWaypoint_9 hX1_apply gX1_apply rfl rfl 45 100 600 (by omega) (by omega) (by omega) q1101 q1103 sp11 HH.rc ?_
  refine kX1_apply (E := (zE ["java/lang/IllegalArgumentException", "java/lang/IllegalStateException"])) (X := pAdd s c0 c1 c2) HH hI.1 h8 (fun c ah1 rc rs ls Q g1 s1 r1 r2 ka => ?_) (by omega) (by omega) (by omega) ⟨fun e0 ah9 t9 G9 => zK_i ?_, fun e0 ah9 q9 g9 => zK_x (zX_out (fun x hx => nomatch hx) (k.2 e0 ah9 q9 (g0.tr g9)))⟩
  · exact zlm5 dX1_apply_14 q1106 rfl 41 80 260 (by omega) r1 r2 (g1 _ _ ob) (kX1_lambda_addWaypoint_0 s1 g1 hI hB hAl HH.hF (by omega) (by omega) (by omega) (by omega) (by omega) (by omega) ka.qx)
  refine zr_ireturn dX1_addWaypoint_12 rfl (by first | rfl | exact z_nb _) ?_
  exact k.1 e0 ah9 (g0.kt.tr t9) G9
theorem kX1_lambda_addTrail_1 {G : State} {d rc rs : Nat} {ah : zH} {Q : zRs → zH → Prop} {F : Nat → Prop} {ah0 : zH} {a : Nat} {s : Int → Int} (H : zStR G F (zFre ah0) ah a s) (hg : zGr ah0 ah) {B : Int} (hI : pI B s) (hB : B < 100000) (hAl : pAl s) (hF : ∀ b, F b → zFre ah0 b) {c0 c1 c2 : Int} (qc0 : -2147483648 ≤ c0 ∧ c0 ≤ 2147483647) (qc1 : -2147483648 ≤ c1 ∧ c1 ≤ 2147483647) (qc2 : -2147483648 ≤ c2 ∧ c2 ≤ 2147483647) (hd : 41 ≤ d) (hc : 80 ≤ rc) (hs : 260 ≤ rs) (k : zAns G F ah0 a (zE ["java/lang/IndexOutOfBoundsException", "java/lang/IllegalArgumentException", "java/lang/IllegalStateException"]) (pJoin s c0 c1 c2) Q) : zW G mX1_lambda_addTrail_1 d rc rs 0 (zent [.int (zi c0), .int (zi c1), .int (zi c2), .ref a]) [] ah Q := by
  refine zW_open 0 [some (.int (zi c0)), some (.int (zi c1)), some (.int (zi c2)), some (.ref a)] rfl ?_
  obtain ⟨w, e, n1, mc, f1, ps, l, g, tv, Hs⟩ := id H
  refine zr_aload_n dX1_lambda_addTrail_1_0 rfl rfl ?_
  refine zr_iload_n dX1_lambda_addTrail_1_1 rfl ?_
  refine zr_iload_n dX1_lambda_addTrail_1_2 rfl ?_
  refine zr_iload_n dX1_lambda_addTrail_1_3 rfl ?_
  refine zc_v3 dX1_lambda_addTrail_1_4 hX2_addTrail gX2_addTrail rfl rfl 10 4 24 (by omega) (by omega) (by omega) q1182 q1183 q1184 H.rc ?_
  refine kX2_addTrail Hs hg hI (by omega) (by omega) (by omega) (by omega) (by omega) (by omega) ?_
  refine ⟨fun e0 ah9 g9 s9 => zK_i ?_, fun e0 ah9 q9 g9 => zK_x (zX_out (fun x hx => nomatch hx) (k.2 e0 ah9 q9 g9))⟩
  refine zr_ireturn dX1_lambda_addTrail_1_7 rfl (by first | rfl | exact z_nb _) ?_
  exact k.1 e0 ah9 g9 s9
theorem kX1_addTrail {G : State} {d rc rs : Nat} {ah : zH} {Q : zRs → zH → Prop} {F0 : Nat → Prop} {gd q D lb tx a h lv n : Nat} {s : Int → Int} {sv : Option (Int → Int)} {hs : List (Int → Int)} {ln : List Int} {tp : Int → Int} {tn er fl ml : Int} {v : Value} {f gl ft : Nat → Value} {hl : List Nat} (H : zGc G F0 gd q D lb tx ah s sv hs ln tp tn er fl a v h f hl lv n ml gl ft) {B : Int} (hI : pI B s) (hB : B < 100000) (hAl : pAl s) (h8 : hs.length ≤ 8) {c0 c1 c2 : Int} (qc0 : -2147483648 ≤ c0 ∧ c0 ≤ 2147483647) (qc1 : -2147483648 ≤ c1 ∧ c1 ≤ 2147483647) (qc2 : -2147483648 ≤ c2 ∧ c2 ≤ 2147483647) (hd : 60 ≤ d) (hc : 101 ≤ rc) (hs9 : 603 ≤ rs) (k : zAnG G F0 gd q D lb tx ah s sv hs ln tp tn er fl (zE ["java/lang/IndexOutOfBoundsException", "java/lang/IllegalArgumentException", "java/lang/IllegalStateException"]) (pJoin s c0 c1 c2) Q) : zW G mX1_addTrail d rc rs 0 (zent [.ref gd, .int (zi c0), .int (zi c1), .int (zi c2)]) [] ah Q := by
  refine zW_open 0 [some (.ref gd), some (.int (zi c0)), some (.int (zi c1)), some (.int (zi c2))] rfl ?_
  refine zr_aload_n dX1_addTrail_0 rfl rfl ?_
  refine zr_iload_n dX1_addTrail_1 rfl ?_
  refine zr_iload_n dX1_addTrail_2 rfl ?_
  refine zr_iload_n dX1_addTrail_3 rfl ?_
  refine zln6 rfl rfl dX1_addTrail_4 rfl (by omega) (by omega) (by omega) (fun b hb => ?_)
  have HH := H.gr (zGr.up (o := .inl (1006, [.int (zi c0), .int (zi c1), .int (zi c2)])) hb)
  have g0 := zGr.up (o := .inl (1006, [.int (zi c0), .int (zi c1), .int (zi c2)])) hb
  have ob : z_up ah b (.inl (1006, [.int (zi c0), .int (zi c1), .int (zi c2)])) b = some (.inl (1006, [.int (zi c0), .int (zi c1), .int (zi c2)])) := z_up_s
  generalize z_up ah b (.inl (1006, [.int (zi c0), .int (zi c1), .int (zi c2)])) = ahL at HH g0 ob ⊢
  refine zc_v1 dX1_addTrail_9 hX1_apply gX1_apply rfl rfl 45 100 600 (by omega) (by omega) (by omega) q1101 q1103 sp11 HH.rc ?_
  refine kX1_apply (E := (zE ["java/lang/IndexOutOfBoundsException", "java/lang/IllegalArgumentException", "java/lang/IllegalStateException"])) (X := pJoin s c0 c1 c2) HH hI.1 h8 (fun c ah1 rc rs ls Q g1 s1 r1 r2 ka => ?_) (by omega) (by omega) (by omega) ⟨fun e0 ah9 t9 G9 => zK_i ?_, fun e0 ah9 q9 g9 => zK_x (zX_out (fun x hx => nomatch hx) (k.2 e0 ah9 q9 (g0.tr g9)))⟩
  · exact zlm6 dX1_apply_14 q1106 rfl 41 80 260 (by omega) r1 r2 (g1 _ _ ob) (kX1_lambda_addTrail_1 s1 g1 hI hB hAl HH.hF (by omega) (by omega) (by omega) (by omega) (by omega) (by omega) ka.qx)
  refine zr_ireturn dX1_addTrail_12 rfl (by first | rfl | exact z_nb _) ?_
  exact k.1 e0 ah9 (g0.kt.tr t9) G9
theorem kX1_lambda_removeTrail_2 {G : State} {d rc rs : Nat} {ah : zH} {Q : zRs → zH → Prop} {F : Nat → Prop} {ah0 : zH} {a : Nat} {s : Int → Int} (H : zStR G F (zFre ah0) ah a s) (hg : zGr ah0 ah) {B : Int} (hI : pI B s) (hB : B < 100000) (hAl : pAl s) (hF : ∀ b, F b → zFre ah0 b) {c0 c1 : Int} (qc0 : -2147483648 ≤ c0 ∧ c0 ≤ 2147483647) (qc1 : -2147483648 ≤ c1 ∧ c1 ≤ 2147483647) (hd : 41 ≤ d) (hc : 80 ≤ rc) (hs : 260 ≤ rs) (k : zAns G F ah0 a (zE ["java/lang/IndexOutOfBoundsException", "java/util/NoSuchElementException"]) (pCut s c0 c1) Q) : zW G mX1_lambda_removeTrail_2 d rc rs 0 (zent [.int (zi c0), .int (zi c1), .ref a]) [] ah Q := by
  refine zW_open 0 [some (.int (zi c0)), some (.int (zi c1)), some (.ref a)] rfl ?_
  obtain ⟨w, e, n1, mc, f1, ps, l, g, tv, Hs⟩ := id H
  refine zr_aload_n dX1_lambda_removeTrail_2_0 rfl rfl ?_
  refine zr_iload_n dX1_lambda_removeTrail_2_1 rfl ?_
  refine zr_iload_n dX1_lambda_removeTrail_2_2 rfl ?_
  refine zc_v2 dX1_lambda_removeTrail_2_3 hX2_removeTrail gX2_removeTrail rfl rfl 10 3 18 (by omega) (by omega) (by omega) q1223 q1224 q1225 H.rc ?_
  refine kX2_removeTrail Hs hg hI (by omega) (by omega) (by omega) (by omega) (by omega) ?_
  refine ⟨fun e0 ah9 g9 s9 => zK_i ?_, fun e0 ah9 q9 g9 => zK_x (zX_out (fun x hx => nomatch hx) (k.2 e0 ah9 q9 g9))⟩
  refine zr_ireturn dX1_lambda_removeTrail_2_6 rfl (by first | rfl | exact z_nb _) ?_
  exact k.1 e0 ah9 g9 s9
theorem kX1_removeTrail {G : State} {d rc rs : Nat} {ah : zH} {Q : zRs → zH → Prop} {F0 : Nat → Prop} {gd q D lb tx a h lv n : Nat} {s : Int → Int} {sv : Option (Int → Int)} {hs : List (Int → Int)} {ln : List Int} {tp : Int → Int} {tn er fl ml : Int} {v : Value} {f gl ft : Nat → Value} {hl : List Nat} (H : zGc G F0 gd q D lb tx ah s sv hs ln tp tn er fl a v h f hl lv n ml gl ft) {B : Int} (hI : pI B s) (hB : B < 100000) (hAl : pAl s) (h8 : hs.length ≤ 8) {c0 c1 : Int} (qc0 : -2147483648 ≤ c0 ∧ c0 ≤ 2147483647) (qc1 : -2147483648 ≤ c1 ∧ c1 ≤ 2147483647) (hd : 60 ≤ d) (hc : 101 ≤ rc) (hs9 : 603 ≤ rs) (k : zAnG G F0 gd q D lb tx ah s sv hs ln tp tn er fl (zE ["java/lang/IndexOutOfBoundsException", "java/util/NoSuchElementException"]) (pCut s c0 c1) Q) : zW G mX1_removeTrail d rc rs 0 (zent [.ref gd, .int (zi c0), .int (zi c1)]) [] ah Q := by
  refine zW_open 0 [some (.ref gd), some (.int (zi c0)), some (.int (zi c1))] rfl ?_
  refine zr_aload_n dX1_removeTrail_0 rfl rfl ?_
  refine zr_iload_n dX1_removeTrail_1 rfl ?_
  refine zr_iload_n dX1_removeTrail_2 rfl ?_
  refine zln7 rfl rfl dX1_removeTrail_3 rfl (by omega) (by omega) (by omega) (fun b hb => ?_)
  have HH := H.gr (zGr.up (o := .inl (1007, [.int (zi c0), .int (zi c1)])) hb)
  have g0 := zGr.up (o := .inl (1007, [.int (zi c0), .int (zi c1)])) hb
  have ob : z_up ah b (.inl (1007, [.int (zi c0), .int (zi c1)])) b = some (.inl (1007, [.int (zi c0), .int (zi c1)])) := z_up_s
  generalize z_up ah b (.inl (1007, [.int (zi c0), .int (zi c1)])) = ahL at HH g0 ob ⊢
  refine zc_v1 dX1_removeTrail_8 hX1_apply gX1_apply rfl rfl 45 100 600 (by omega) (by omega) (by omega) q1101 q1103 sp11 HH.rc ?_
  refine kX1_apply (E := (zE ["java/lang/IndexOutOfBoundsException", "java/util/NoSuchElementException"])) (X := pCut s c0 c1) HH hI.1 h8 (fun c ah1 rc rs ls Q g1 s1 r1 r2 ka => ?_) (by omega) (by omega) (by omega) ⟨fun e0 ah9 t9 G9 => zK_i ?_, fun e0 ah9 q9 g9 => zK_x (zX_out (fun x hx => nomatch hx) (k.2 e0 ah9 q9 (g0.tr g9)))⟩
  · exact zlm7 dX1_apply_14 q1106 rfl 41 80 260 (by omega) r1 r2 (g1 _ _ ob) (kX1_lambda_removeTrail_2 s1 g1 hI hB hAl HH.hF (by omega) (by omega) (by omega) (by omega) (by omega) ka.qx)
  refine zr_ireturn dX1_removeTrail_11 rfl (by first | rfl | exact z_nb _) ?_
  exact k.1 e0 ah9 (g0.kt.tr t9) G9
theorem kX1_lambda_startTour_3 {G : State} {d rc rs : Nat} {ah : zH} {Q : zRs → zH → Prop} {F : Nat → Prop} {ah0 : zH} {a : Nat} {s : Int → Int} (H : zStR G F (zFre ah0) ah a s) (hg : zGr ah0 ah) {B : Int} (hI : pI B s) (hB : B < 100000) (hAl : pAl s) (hF : ∀ b, F b → zFre ah0 b) {c0 c1 : Int} (qc0 : -2147483648 ≤ c0 ∧ c0 ≤ 2147483647) (qc1 : -2147483648 ≤ c1 ∧ c1 ≤ 2147483647) (hd : 41 ≤ d) (hc : 80 ≤ rc) (hs : 260 ≤ rs) (k : zAns G F ah0 a (zE ["java/lang/IndexOutOfBoundsException", "java/lang/IllegalArgumentException", "java/lang/IllegalStateException", "java/util/NoSuchElementException"]) (pTour s c0 c1) Q) : zW G mX1_lambda_startTour_3 d rc rs 0 (zent [.int (zi c0), .int (zi c1), .ref a]) [] ah Q := by
  refine zW_open 0 [some (.int (zi c0)), some (.int (zi c1)), some (.ref a)] rfl ?_
  obtain ⟨w, e, n1, mc, f1, ps, l, g, tv, Hs⟩ := id H
  refine zr_aload_n dX1_lambda_startTour_3_0 rfl rfl ?_
  refine zr_iload_n dX1_lambda_startTour_3_1 rfl ?_
  refine zr_iload_n dX1_lambda_startTour_3_2 rfl ?_
  refine zc_v2 dX1_lambda_startTour_3_3 hX2_startTour gX2_startTour rfl rfl 40 80 260 (by omega) (by omega) (by omega) q1241 q1242 q1243 H.rc ?_
  refine kX2_startTour Hs hg hI (by omega) (by omega) hAl hF (by omega) (by omega) (by omega) ?_
  refine ⟨fun e0 ah9 g9 s9 => zK_i ?_, fun e0 ah9 q9 g9 => zK_x (zX_out (fun x hx => nomatch hx) (k.2 e0 ah9 q9 g9))⟩
  refine zr_ireturn dX1_lambda_startTour_3_6 rfl (by first | rfl | exact z_nb _) ?_
  exact k.1 e0 ah9 g9 s9
theorem kX1_startTour {G : State} {d rc rs : Nat} {ah : zH} {Q : zRs → zH → Prop} {F0 : Nat → Prop} {gd q D lb tx a h lv n : Nat} {s : Int → Int} {sv : Option (Int → Int)} {hs : List (Int → Int)} {ln : List Int} {tp : Int → Int} {tn er fl ml : Int} {v : Value} {f gl ft : Nat → Value} {hl : List Nat} (H : zGc G F0 gd q D lb tx ah s sv hs ln tp tn er fl a v h f hl lv n ml gl ft) {B : Int} (hI : pI B s) (hB : B < 100000) (hAl : pAl s) (h8 : hs.length ≤ 8) {c0 c1 : Int} (qc0 : -2147483648 ≤ c0 ∧ c0 ≤ 2147483647) (qc1 : -2147483648 ≤ c1 ∧ c1 ≤ 2147483647) (hd : 60 ≤ d) (hc : 101 ≤ rc) (hs9 : 603 ≤ rs) (k : zAnG G F0 gd q D lb tx ah s sv hs ln tp tn er fl (zE ["java/lang/IndexOutOfBoundsException", "java/lang/IllegalArgumentException", "java/lang/IllegalStateException", "java/util/NoSuchElementException"]) (pTour s c0 c1) Q) : zW G mX1_startTour d rc rs 0 (zent [.ref gd, .int (zi c0), .int (zi c1)]) [] ah Q := by
  refine zW_open 0 [some (.ref gd), some (.int (zi c0)), some (.int (zi c1))] rfl ?_
  refine zr_aload_n dX1_startTour_0 rfl rfl ?_
  refine zr_iload_n dX1_startTour_1 rfl ?_
  refine zr_iload_n dX1_startTour_2 rfl ?_
  refine zln8 rfl rfl dX1_startTour_3 rfl (by omega) (by omega) (by omega) (fun b hb => ?_)
  have HH := H.gr (zGr.up (o := .inl (1008, [.int (zi c0), .int (zi c1)])) hb)
  have g0 := zGr.up (o := .inl (1008, [.int (zi c0), .int (zi c1)])) hb
  have ob : z_up ah b (.inl (1008, [.int (zi c0), .int (zi c1)])) b = some (.inl (1008, [.int (zi c0), .int (zi c1)])) := z_up_s
  generalize z_up ah b (.inl (1008, [.int (zi c0), .int (zi c1)])) = ahL at HH g0 ob ⊢
  refine zc_v1 dX1_startTour_8 hX1_apply gX1_apply rfl rfl 45 100 600 (by omega) (by omega) (by omega) q1101 q1103 sp11 HH.rc ?_
  refine kX1_apply (E := (zE ["java/lang/IndexOutOfBoundsException", "java/lang/IllegalArgumentException", "java/lang/IllegalStateException", "java/util/NoSuchElementException"])) (X := pTour s c0 c1) HH hI.1 h8 (fun c ah1 rc rs ls Q g1 s1 r1 r2 ka => ?_) (by omega) (by omega) (by omega) ⟨fun e0 ah9 t9 G9 => zK_i ?_, fun e0 ah9 q9 g9 => zK_x (zX_out (fun x hx => nomatch hx) (k.2 e0 ah9 q9 (g0.tr g9)))⟩
  · exact zlm8 dX1_apply_14 q1106 rfl 41 80 260 (by omega) r1 r2 (g1 _ _ ob) (kX1_lambda_startTour_3 s1 g1 hI hB hAl HH.hF (by omega) (by omega) (by omega) (by omega) (by omega) ka.qx)
  refine zr_ireturn dX1_startTour_11 rfl (by first | rfl | exact z_nb _) ?_
  exact k.1 e0 ah9 (g0.kt.tr t9) G9
theorem kX1_lambda_stopTour_4 {G : State} {d rc rs : Nat} {ah : zH} {Q : zRs → zH → Prop} {F : Nat → Prop} {ah0 : zH} {a : Nat} {s : Int → Int} (H : zStR G F (zFre ah0) ah a s) (hg : zGr ah0 ah) {B : Int} (hI : pI B s) (hB : B < 100000) (hAl : pAl s) (hF : ∀ b, F b → zFre ah0 b)  (hd : 41 ≤ d) (hc : 80 ≤ rc) (hs : 260 ≤ rs) (k : zAns G F ah0 a (zE ["java/lang/IllegalStateException"]) (pStop s) Q) : zW G mX1_lambda_stopTour_4 d rc rs 0 (zent [.ref a]) [] ah Q := by
  refine zW_open 0 [some (.ref a)] rfl ?_
  obtain ⟨w, e, n1, mc, f1, ps, l, g, tv, Hs⟩ := id H
  refine zr_aload_n dX1_lambda_stopTour_4_0 rfl rfl ?_
  refine zc_v0 dX1_lambda_stopTour_4_1 hX2_stopTour gX2_stopTour rfl rfl 10 1 6 (by omega) (by omega) (by omega) q1278 q1279 q1280 H.rc ?_
  refine kX2_stopTour Hs hg hI (by omega) (by omega) (by omega) ?_
  refine ⟨fun e0 ah9 g9 s9 => zK_i ?_, fun e0 ah9 q9 g9 => zK_x (zX_out (fun x hx => nomatch hx) (k.2 e0 ah9 q9 g9))⟩
  refine zr_ireturn dX1_lambda_stopTour_4_4 rfl (by first | rfl | exact z_nb _) ?_
  exact k.1 e0 ah9 g9 s9
theorem kX1_stopTour {G : State} {d rc rs : Nat} {ah : zH} {Q : zRs → zH → Prop} {F0 : Nat → Prop} {gd q D lb tx a h lv n : Nat} {s : Int → Int} {sv : Option (Int → Int)} {hs : List (Int → Int)} {ln : List Int} {tp : Int → Int} {tn er fl ml : Int} {v : Value} {f gl ft : Nat → Value} {hl : List Nat} (H : zGc G F0 gd q D lb tx ah s sv hs ln tp tn er fl a v h f hl lv n ml gl ft) {B : Int} (hI : pI B s) (hB : B < 100000) (hAl : pAl s) (h8 : hs.length ≤ 8)  (hd : 60 ≤ d) (hc : 101 ≤ rc) (hs9 : 603 ≤ rs) (k : zAnG G F0 gd q D lb tx ah s sv hs ln tp tn er fl (zE ["java/lang/IllegalStateException"]) (pStop s) Q) : zW G mX1_stopTour d rc rs 0 (zent [.ref gd]) [] ah Q := by
  refine zW_open 0 [some (.ref gd)] rfl ?_
  refine zr_aload_n dX1_stopTour_0 rfl rfl ?_
  refine zln10 rfl rfl dX1_stopTour_1 rfl (by omega) ?_
  have HH := H
  have g0 : zGr ah ah := zGr.rf
  refine zc_v1 dX1_stopTour_6 hX1_apply gX1_apply rfl rfl 45 100 600 (by omega) (by omega) (by omega) q1101 q1103 sp11 HH.rc ?_
  refine kX1_apply (E := (zE ["java/lang/IllegalStateException"])) (X := pStop s) HH hI.1 h8 (fun c ah1 rc rs ls Q g1 s1 r1 r2 ka => ?_) (by omega) (by omega) (by omega) ⟨fun e0 ah9 t9 G9 => zK_i ?_, fun e0 ah9 q9 g9 => zK_x (zX_out (fun x hx => nomatch hx) (k.2 e0 ah9 q9 (g0.tr g9)))⟩
  · exact zlm10 dX1_apply_14 q1106 rfl 41 80 260 (by omega) r1 r2 rfl (kX1_lambda_stopTour_4 s1 g1 hI hB hAl HH.hF (by omega) (by omega) (by omega) ka.qx)
  refine zr_ireturn dX1_stopTour_9 rfl (by first | rfl | exact z_nb _) ?_
  exact k.1 e0 ah9 (g0.kt.tr t9) G9
theorem kX1_lambda_update_5 {G : State} {d rc rs : Nat} {ah : zH} {Q : zRs → zH → Prop} {F : Nat → Prop} {ah0 : zH} {a : Nat} {s : Int → Int} (H : zStR G F (zFre ah0) ah a s) (hg : zGr ah0 ah) {B : Int} (hI : pI B s) (hB : B < 100000) (hAl : pAl s) (hF : ∀ b, F b → zFre ah0 b) {c0 c1 : Int} (qc0 : -2147483648 ≤ c0 ∧ c0 ≤ 2147483647) (qc1 : -2147483648 ≤ c1 ∧ c1 ≤ 2147483647) (hd : 41 ≤ d) (hc : 80 ≤ rc) (hs : 260 ≤ rs) (k : zAns G F ah0 a (zE ["java/lang/IllegalArgumentException", "java/lang/IllegalStateException", "java/lang/UnsupportedOperationException"]) (pUpd s c0 c1) Q) : zW G mX1_lambda_update_5 d rc rs 0 (zent [.int (zi c0), .int (zi c1), .ref a]) [] ah Q := by
  refine zW_open 0 [some (.int (zi c0)), some (.int (zi c1)), some (.ref a)] rfl ?_
  obtain ⟨w, e, n1, mc, f1, ps, l, g, tv, Hs⟩ := id H
  refine zr_aload_n dX1_lambda_update_5_0 rfl rfl ?_
  refine zr_iload_n dX1_lambda_update_5_1 rfl ?_
  refine zr_iload_n dX1_lambda_update_5_2 rfl ?_
  refine zc_v2 dX1_lambda_update_5_3 hX2_update gX2_update rfl rfl 12 20 64 (by omega) (by omega) (by omega) q1301 q1302 q1303 H.rc ?_
  refine kX2_update Hs hg hI (by omega) (by omega) hB hF (by omega) (by omega) (by omega) ?_
  refine ⟨fun e0 ah9 g9 s9 => zK_i ?_, fun e0 ah9 q9 g9 => zK_x (zX_out (fun x hx => nomatch hx) (k.2 e0 ah9 q9 g9))⟩
  refine zr_ireturn dX1_lambda_update_5_6 rfl (by first | rfl | exact z_nb _) ?_
  exact k.1 e0 ah9 g9 s9
theorem kX1_update {G : State} {d rc rs : Nat} {ah : zH} {Q : zRs → zH → Prop} {F0 : Nat → Prop} {gd q D lb tx a h lv n : Nat} {s : Int → Int} {sv : Option (Int → Int)} {hs : List (Int → Int)} {ln : List Int} {tp : Int → Int} {tn er fl ml : Int} {v : Value} {f gl ft : Nat → Value} {hl : List Nat} (H : zGc G F0 gd q D lb tx ah s sv hs ln tp tn er fl a v h f hl lv n ml gl ft) {B : Int} (hI : pI B s) (hB : B < 100000) (hAl : pAl s) (h8 : hs.length ≤ 8) {c0 c1 : Int} (qc0 : -2147483648 ≤ c0 ∧ c0 ≤ 2147483647) (qc1 : -2147483648 ≤ c1 ∧ c1 ≤ 2147483647) (hd : 60 ≤ d) (hc : 101 ≤ rc) (hs9 : 603 ≤ rs) (k : zAnG G F0 gd q D lb tx ah s sv hs ln tp tn er fl (zE ["java/lang/IllegalArgumentException", "java/lang/IllegalStateException", "java/lang/UnsupportedOperationException"]) (pUpd s c0 c1) Q) : zW G mX1_update d rc rs 0 (zent [.ref gd, .int (zi c0), .int (zi c1)]) [] ah Q := by
  refine zW_open 0 [some (.ref gd), some (.int (zi c0)), some (.int (zi c1))] rfl ?_
  refine zr_aload_n dX1_update_0 rfl rfl ?_
  refine zr_iload_n dX1_update_1 rfl ?_
  refine zr_iload_n dX1_update_2 rfl ?_
  refine zln11 rfl rfl dX1_update_3 rfl (by omega) (by omega) (by omega) (fun b hb => ?_)
  have HH := H.gr (zGr.up (o := .inl (1011, [.int (zi c0), .int (zi c1)])) hb)
  have g0 := zGr.up (o := .inl (1011, [.int (zi c0), .int (zi c1)])) hb
  have ob : z_up ah b (.inl (1011, [.int (zi c0), .int (zi c1)])) b = some (.inl (1011, [.int (zi c0), .int (zi c1)])) := z_up_s
  generalize z_up ah b (.inl (1011, [.int (zi c0), .int (zi c1)])) = ahL at HH g0 ob ⊢
  refine zc_v1 dX1_update_8 hX1_apply gX1_apply rfl rfl 45 100 600 (by omega) (by omega) (by omega) q1101 q1103 sp11 HH.rc ?_
  refine kX1_apply (E := (zE ["java/lang/IllegalArgumentException", "java/lang/IllegalStateException", "java/lang/UnsupportedOperationException"])) (X := pUpd s c0 c1) HH hI.1 h8 (fun c ah1 rc rs ls Q g1 s1 r1 r2 ka => ?_) (by omega) (by omega) (by omega) ⟨fun e0 ah9 t9 G9 => zK_i ?_, fun e0 ah9 q9 g9 => zK_x (zX_out (fun x hx => nomatch hx) (k.2 e0 ah9 q9 (g0.tr g9)))⟩
  · exact zlm11 dX1_apply_14 q1106 rfl 41 80 260 (by omega) r1 r2 (g1 _ _ ob) (kX1_lambda_update_5 s1 g1 hI hB hAl HH.hF (by omega) (by omega) (by omega) (by omega) (by omega) ka.qx)
  refine zr_iconst dX1_update_11 ?_
  have ub : (pUpd s c0 c1).2.1 = 0 ∨ (pUpd s c0 c1).2.1 = 1 := by unfold pUpd; (repeat' split) <;> simp
  refine zr_icmpne dX1_update_12 (tgt := 19) (by decide) (by omega) (by omega) (fun h12 => ?_) (fun h12 => ?_)
  · refine zr_iconst dX1_update_19 ?_
    refine zr_ireturn dX1_update_20 rfl (by first | rfl | exact z_nb _) ?_
    have w := k.1 e0 ah9 (g0.kt.tr t9) G9
    first
      | (rw [show (pUpd s c0 c1).2.1 = 1 by omega] at w; exact w)
      | (rw [show (pUpd s c0 c1).2.1 = 0 by omega] at w; exact w)
  · refine zr_iconst dX1_update_15 ?_
    refine zr_goto dX1_update_16 (tgt := 20) (by decide) ?_
    refine zr_ireturn dX1_update_20 rfl (by first | rfl | exact z_nb _) ?_
    have w := k.1 e0 ah9 (g0.kt.tr t9) G9
    first
      | (rw [show (pUpd s c0 c1).2.1 = 1 by omega] at w; exact w)
      | (rw [show (pUpd s c0 c1).2.1 = 0 by omega] at w; exact w)
theorem kX1_lambda_setTolerance_6 {G : State} {d rc rs : Nat} {ah : zH} {Q : zRs → zH → Prop} {F : Nat → Prop} {ah0 : zH} {a : Nat} {s : Int → Int} (H : zStR G F (zFre ah0) ah a s) (hg : zGr ah0 ah) {B : Int} (hI : pI B s) (hB : B < 100000) (hAl : pAl s) (hF : ∀ b, F b → zFre ah0 b) {c0 : Int} (qc0 : -2147483648 ≤ c0 ∧ c0 ≤ 2147483647) (hd : 41 ≤ d) (hc : 80 ≤ rc) (hs : 260 ≤ rs) (k : zAns G F ah0 a (zE ["java/lang/IllegalArgumentException"]) (pTell s 8 c0 1 30) Q) : zW G mX1_lambda_setTolerance_6 d rc rs 0 (zent [.int (zi c0), .ref a]) [] ah Q := by
  refine zW_open 0 [some (.int (zi c0)), some (.ref a)] rfl ?_
  obtain ⟨w, e, n1, mc, f1, ps, l, g, tv, Hs⟩ := id H
  refine zr_aload_n dX1_lambda_setTolerance_6_0 rfl rfl ?_
  refine zr_iload_n dX1_lambda_setTolerance_6_1 rfl ?_
  refine zc_v1 dX1_lambda_setTolerance_6_2 hX2_setTolerance gX2_setTolerance rfl rfl 9 1 6 (by omega) (by omega) (by omega) q1471 q1472 q1473 H.rc ?_
  refine kX2_setTolerance Hs hg hI (by omega) (by omega) (by omega) (by omega) ?_
  refine ⟨fun e0 ah9 g9 s9 => zK_i ?_, fun e0 ah9 q9 g9 => zK_x (zX_out (fun x hx => nomatch hx) (k.2 e0 ah9 q9 g9))⟩
  refine zr_ireturn dX1_lambda_setTolerance_6_5 rfl (by first | rfl | exact z_nb _) ?_
  exact k.1 e0 ah9 g9 s9
theorem kX1_setTolerance {G : State} {d rc rs : Nat} {ah : zH} {Q : zRs → zH → Prop} {F0 : Nat → Prop} {gd q D lb tx a h lv n : Nat} {s : Int → Int} {sv : Option (Int → Int)} {hs : List (Int → Int)} {ln : List Int} {tp : Int → Int} {tn er fl ml : Int} {v : Value} {f gl ft : Nat → Value} {hl : List Nat} (H : zGc G F0 gd q D lb tx ah s sv hs ln tp tn er fl a v h f hl lv n ml gl ft) {B : Int} (hI : pI B s) (hB : B < 100000) (hAl : pAl s) (h8 : hs.length ≤ 8) {c0 : Int} (qc0 : -2147483648 ≤ c0 ∧ c0 ≤ 2147483647) (hd : 60 ≤ d) (hc : 101 ≤ rc) (hs9 : 603 ≤ rs) (k : zAnG G F0 gd q D lb tx ah s sv hs ln tp tn er fl (zE ["java/lang/IllegalArgumentException"]) (pTell s 8 c0 1 30) Q) : zW G mX1_setTolerance d rc rs 0 (zent [.ref gd, .int (zi c0)]) [] ah Q := by
  refine zW_open 0 [some (.ref gd), some (.int (zi c0))] rfl ?_
  refine zr_aload_n dX1_setTolerance_0 rfl rfl ?_
  refine zr_iload_n dX1_setTolerance_1 rfl ?_
  refine zln12 rfl rfl dX1_setTolerance_2 rfl (by omega) (by omega) (by omega) (fun b hb => ?_)
  have HH := H.gr (zGr.up (o := .inl (1012, [.int (zi c0)])) hb)
  have g0 := zGr.up (o := .inl (1012, [.int (zi c0)])) hb
  have ob : z_up ah b (.inl (1012, [.int (zi c0)])) b = some (.inl (1012, [.int (zi c0)])) := z_up_s
  generalize z_up ah b (.inl (1012, [.int (zi c0)])) = ahL at HH g0 ob ⊢
  refine zc_v1 dX1_setTolerance_7 hX1_apply gX1_apply rfl rfl 45 100 600 (by omega) (by omega) (by omega) q1101 q1103 sp11 HH.rc ?_
  refine kX1_apply (E := (zE ["java/lang/IllegalArgumentException"])) (X := pTell s 8 c0 1 30) HH hI.1 h8 (fun c ah1 rc rs ls Q g1 s1 r1 r2 ka => ?_) (by omega) (by omega) (by omega) ⟨fun e0 ah9 t9 G9 => zK_i ?_, fun e0 ah9 q9 g9 => zK_x (zX_out (fun x hx => nomatch hx) (k.2 e0 ah9 q9 (g0.tr g9)))⟩
  · exact zlm12 dX1_apply_14 q1106 rfl 41 80 260 (by omega) r1 r2 (g1 _ _ ob) (kX1_lambda_setTolerance_6 s1 g1 hI hB hAl HH.hF (by omega) (by omega) (by omega) (by omega) ka.qx)
  refine zr_ireturn dX1_setTolerance_10 rfl (by first | rfl | exact z_nb _) ?_
  exact k.1 e0 ah9 (g0.kt.tr t9) G9
theorem kX1_lambda_setMode_7 {G : State} {d rc rs : Nat} {ah : zH} {Q : zRs → zH → Prop} {F : Nat → Prop} {ah0 : zH} {a : Nat} {s : Int → Int} (H : zStR G F (zFre ah0) ah a s) (hg : zGr ah0 ah) {B : Int} (hI : pI B s) (hB : B < 100000) (hAl : pAl s) (hF : ∀ b, F b → zFre ah0 b) {c0 : Int} (qc0 : -2147483648 ≤ c0 ∧ c0 ≤ 2147483647) (hd : 41 ≤ d) (hc : 80 ≤ rc) (hs : 260 ≤ rs) (k : zAns G F ah0 a (zE ["java/lang/IllegalArgumentException"]) (pTell s 7 c0 0 2) Q) : zW G mX1_lambda_setMode_7 d rc rs 0 (zent [.int (zi c0), .ref a]) [] ah Q := by
  refine zW_open 0 [some (.int (zi c0)), some (.ref a)] rfl ?_
  obtain ⟨w, e, n1, mc, f1, ps, l, g, tv, Hs⟩ := id H
  refine zr_aload_n dX1_lambda_setMode_7_0 rfl rfl ?_
  refine zr_iload_n dX1_lambda_setMode_7_1 rfl ?_
  refine zc_v1 dX1_lambda_setMode_7_2 hX2_setMode gX2_setMode rfl rfl 10 1 6 (by omega) (by omega) (by omega) q1484 q1485 q1486 H.rc ?_
  refine kX2_setMode Hs hg hI (by omega) (by omega) (by omega) (by omega) ?_
  refine ⟨fun e0 ah9 g9 s9 => zK_i ?_, fun e0 ah9 q9 g9 => zK_x (zX_out (fun x hx => nomatch hx) (k.2 e0 ah9 q9 g9))⟩
  refine zr_ireturn dX1_lambda_setMode_7_5 rfl (by first | rfl | exact z_nb _) ?_
  exact k.1 e0 ah9 g9 s9
theorem kX1_setMode {G : State} {d rc rs : Nat} {ah : zH} {Q : zRs → zH → Prop} {F0 : Nat → Prop} {gd q D lb tx a h lv n : Nat} {s : Int → Int} {sv : Option (Int → Int)} {hs : List (Int → Int)} {ln : List Int} {tp : Int → Int} {tn er fl ml : Int} {v : Value} {f gl ft : Nat → Value} {hl : List Nat} (H : zGc G F0 gd q D lb tx ah s sv hs ln tp tn er fl a v h f hl lv n ml gl ft) {B : Int} (hI : pI B s) (hB : B < 100000) (hAl : pAl s) (h8 : hs.length ≤ 8) {c0 : Int} (qc0 : -2147483648 ≤ c0 ∧ c0 ≤ 2147483647) (hd : 60 ≤ d) (hc : 101 ≤ rc) (hs9 : 603 ≤ rs) (k : zAnG G F0 gd q D lb tx ah s sv hs ln tp tn er fl (zE ["java/lang/IllegalArgumentException"]) (pTell s 7 c0 0 2) Q) : zW G mX1_setMode d rc rs 0 (zent [.ref gd, .int (zi c0)]) [] ah Q := by
  refine zW_open 0 [some (.ref gd), some (.int (zi c0))] rfl ?_
  refine zr_aload_n dX1_setMode_0 rfl rfl ?_
  refine zr_iload_n dX1_setMode_1 rfl ?_
  refine zln13 rfl rfl dX1_setMode_2 rfl (by omega) (by omega) (by omega) (fun b hb => ?_)
  have HH := H.gr (zGr.up (o := .inl (1013, [.int (zi c0)])) hb)
  have g0 := zGr.up (o := .inl (1013, [.int (zi c0)])) hb
  have ob : z_up ah b (.inl (1013, [.int (zi c0)])) b = some (.inl (1013, [.int (zi c0)])) := z_up_s
  generalize z_up ah b (.inl (1013, [.int (zi c0)])) = ahL at HH g0 ob ⊢
  refine zc_v1 dX1_setMode_7 hX1_apply gX1_apply rfl rfl 45 100 600 (by omega) (by omega) (by omega) q1101 q1103 sp11 HH.rc ?_
  refine kX1_apply (E := (zE ["java/lang/IllegalArgumentException"])) (X := pTell s 7 c0 0 2) HH hI.1 h8 (fun c ah1 rc rs ls Q g1 s1 r1 r2 ka => ?_) (by omega) (by omega) (by omega) ⟨fun e0 ah9 t9 G9 => zK_i ?_, fun e0 ah9 q9 g9 => zK_x (zX_out (fun x hx => nomatch hx) (k.2 e0 ah9 q9 (g0.tr g9)))⟩
  · exact zlm13 dX1_apply_14 q1106 rfl 41 80 260 (by omega) r1 r2 (g1 _ _ ob) (kX1_lambda_setMode_7 s1 g1 hI hB hAl HH.hF (by omega) (by omega) (by omega) (by omega) ka.qx)
  refine zr_ireturn dX1_setMode_10 rfl (by first | rfl | exact z_nb _) ?_
  exact k.1 e0 ah9 (g0.kt.tr t9) G9
theorem kX1_lambda_charge_8 {G : State} {d rc rs : Nat} {ah : zH} {Q : zRs → zH → Prop} {F : Nat → Prop} {ah0 : zH} {a : Nat} {s : Int → Int} (H : zStR G F (zFre ah0) ah a s) (hg : zGr ah0 ah) {B : Int} (hI : pI B s) (hB : B < 100000) (hAl : pAl s) (hF : ∀ b, F b → zFre ah0 b) {c0 : Int} (qc0 : -2147483648 ≤ c0 ∧ c0 ≤ 2147483647) (hd : 41 ≤ d) (hc : 80 ≤ rc) (hs : 260 ≤ rs) (k : zAns G F ah0 a (zE ["java/lang/IllegalArgumentException"]) (pChg s c0) Q) : zW G mX1_lambda_charge_8 d rc rs 0 (zent [.int (zi c0), .ref a]) [] ah Q := by
  refine zW_open 0 [some (.int (zi c0)), some (.ref a)] rfl ?_
  obtain ⟨w, e, n1, mc, f1, ps, l, g, tv, Hs⟩ := id H
  refine zr_aload_n dX1_lambda_charge_8_0 rfl rfl ?_
  refine zr_iload_n dX1_lambda_charge_8_1 rfl ?_
  refine zc_v1 dX1_lambda_charge_8_2 hX2_charge gX2_charge rfl rfl 9 1 6 (by omega) (by omega) (by omega) q1508 q1509 q1510 H.rc ?_
  refine kX2_charge Hs hg hI (by omega) (by omega) (by omega) (by omega) ?_
  refine ⟨fun e0 ah9 g9 s9 => zK_i ?_, fun e0 ah9 q9 g9 => zK_x (zX_out (fun x hx => nomatch hx) (k.2 e0 ah9 q9 g9))⟩
  refine zr_ireturn dX1_lambda_charge_8_5 rfl (by first | rfl | exact z_nb _) ?_
  exact k.1 e0 ah9 g9 s9
theorem kX1_charge {G : State} {d rc rs : Nat} {ah : zH} {Q : zRs → zH → Prop} {F0 : Nat → Prop} {gd q D lb tx a h lv n : Nat} {s : Int → Int} {sv : Option (Int → Int)} {hs : List (Int → Int)} {ln : List Int} {tp : Int → Int} {tn er fl ml : Int} {v : Value} {f gl ft : Nat → Value} {hl : List Nat} (H : zGc G F0 gd q D lb tx ah s sv hs ln tp tn er fl a v h f hl lv n ml gl ft) {B : Int} (hI : pI B s) (hB : B < 100000) (hAl : pAl s) (h8 : hs.length ≤ 8) {c0 : Int} (qc0 : -2147483648 ≤ c0 ∧ c0 ≤ 2147483647) (hd : 60 ≤ d) (hc : 101 ≤ rc) (hs9 : 603 ≤ rs) (k : zAnG G F0 gd q D lb tx ah s sv hs ln tp tn er fl (zE ["java/lang/IllegalArgumentException"]) (pChg s c0) Q) : zW G mX1_charge d rc rs 0 (zent [.ref gd, .int (zi c0)]) [] ah Q := by
  refine zW_open 0 [some (.ref gd), some (.int (zi c0))] rfl ?_
  refine zr_aload_n dX1_charge_0 rfl rfl ?_
  refine zr_iload_n dX1_charge_1 rfl ?_
  refine zln14 rfl rfl dX1_charge_2 rfl (by omega) (by omega) (by omega) (fun b hb => ?_)
  have HH := H.gr (zGr.up (o := .inl (1014, [.int (zi c0)])) hb)
  have g0 := zGr.up (o := .inl (1014, [.int (zi c0)])) hb
  have ob : z_up ah b (.inl (1014, [.int (zi c0)])) b = some (.inl (1014, [.int (zi c0)])) := z_up_s
  generalize z_up ah b (.inl (1014, [.int (zi c0)])) = ahL at HH g0 ob ⊢
  refine zc_v1 dX1_charge_7 hX1_apply gX1_apply rfl rfl 45 100 600 (by omega) (by omega) (by omega) q1101 q1103 sp11 HH.rc ?_
  refine kX1_apply (E := (zE ["java/lang/IllegalArgumentException"])) (X := pChg s c0) HH hI.1 h8 (fun c ah1 rc rs ls Q g1 s1 r1 r2 ka => ?_) (by omega) (by omega) (by omega) ⟨fun e0 ah9 t9 G9 => zK_i ?_, fun e0 ah9 q9 g9 => zK_x (zX_out (fun x hx => nomatch hx) (k.2 e0 ah9 q9 (g0.tr g9)))⟩
  · exact zlm14 dX1_apply_14 q1106 rfl 41 80 260 (by omega) r1 r2 (g1 _ _ ob) (kX1_lambda_charge_8 s1 g1 hI hB hAl HH.hF (by omega) (by omega) (by omega) (by omega) ka.qx)
  refine zr_ireturn dX1_charge_10 rfl (by first | rfl | exact z_nb _) ?_
  exact k.1 e0 ah9 (g0.kt.tr t9) G9
