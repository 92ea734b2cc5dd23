set_option maxRecDepth 100000
/-! ===== the component: snapshots, undo, the text, its making ===== -/
theorem zWp.mono {F F' : Nat → Prop} {ah : zH} {w : Nat} {x y r : Int} (h : zWp F ah w x y r) (hF : ∀ b, F' b → F b) : zWp F' ah w x y r := by
  obtain ⟨h1, p, h2, h3⟩ := h
  exact ⟨fun z => h1 (hF _ z), p, fun z => h2 (hF _ z), h3⟩
theorem zTv.mono {F F' : Nat → Prop} {ah : zH} {tv : Value} {s : Int → Int} (h : zTv F ah tv s) (hF : ∀ b, F' b → F b) : zTv F' ah tv s := by
  rcases h with h | ⟨h, t, rt, hk, f, h1, h2, h3, h4, h5⟩
  · exact Or.inl h
  · exact Or.inr ⟨h, t, rt, hk, f, h1, fun z => h2 (hF _ z), fun z => h3 (hF _ z), fun z => h4 (hF _ z), h5⟩
theorem zStR.mono {G : State} {F F' U : Nat → Prop} {ah : zH} {a : Nat} {s : Int → Int} (h : zStR G F U ah a s) (hF : ∀ b, F' b → F b) : zStR G F' U ah a s := by
  obtain ⟨w, e, n, mc, f, ps, l, g, tv, h1, h2, h3, h4, h5, h6, h7, ⟨n1, n2, n3, n4⟩, h9⟩ := h
  exact ⟨w, e, n, mc, f, ps, l, g, tv, h1, h2, h3, fun i p hp => (h4 i p hp).mono hF, h5, h6, h7.mono hF, ⟨fun z => n1 (hF _ z), fun z => n2 (hF _ z), fun z => n3 (hF _ z), fun q z => n4 q (hF _ z)⟩, h9⟩
/-- the places where nothing lies are none of the State's -/
theorem zStR.oc {G : State} {F U : Nat → Prop} {ah : zH} {a : Nat} {s : Int → Int} (h : zStR G F U ah a s) : zStR G (fun b => F b ∨ ah b = none) U ah a s := by
  obtain ⟨w, e, n, mc, f, ps, l, g, tv, h1, h2, h3, h4, h5, h6, h7, ⟨n1, n2, n3, n4⟩, h9⟩ := h
  have ne : ∀ b o, ah b = some o → ¬ F b → ¬ (F b ∨ ah b = none) := fun b o hb hn z => by
    rcases z with z | z
    · exact hn z
    · rw [hb] at z; cases z
  refine ⟨w, e, n, mc, f, ps, l, g, tv, h1, h2, h3, fun i p hp => ?_, h5, h6, ?_, ⟨ne _ _ h1 n1, ne _ _ h2.1 n2, ne _ _ h5 n3, fun q => ?_⟩, h9⟩
  · obtain ⟨a1, p9, a2, a3, a4⟩ := h4 i p hp
    exact ⟨ne _ _ a3 a1, p9, ne _ _ a4 a2, a3, a4⟩
  · rcases h7 with h7 | ⟨q, t, rt, hk, f9, b1, b2, b3, b4, b5, b6, b7, b8⟩
    · exact Or.inl h7
    · exact Or.inr ⟨q, t, rt, hk, f9, b1, ne _ _ b5 b2, ne _ _ b6 b3, ne _ _ b8 b4, b5, b6, b7, b8⟩
  · rcases h2.2.1 with z | ⟨-, -, z⟩
    · omega
    · exact ne _ _ z (n4 q)
/-- more places of the law -/
theorem zGd.ext {G : State} {gd q D lb tx : Nat} {ah ah' : zH} {s : Int → Int} {ln : List Int} {tp : Int → Int} {tn er fl : Int} (H : zGd G zNo gd q D lb tx ah s none [] ln tp tn er fl) {F1 : Nat → Prop} (g : zGr ah ah') (h1 : ∀ b, F1 b → ah b = none) (h2 : ∀ b, F1 b → ∃ o, ah' b = some o ∧ zTy o) : zGd G F1 gd q D lb tx ah' s none [] ln tp tn er fl := by
  obtain ⟨a, v, h, f, hl, lv, n, ml, gl, ft, H0⟩ := H
  obtain ⟨g1, g2, g3, g4, g5, g6, g7, g8⟩ := H0.gr g
  have hFF : ∀ b, zFg gd q D lb tx F1 b → zFg gd q D lb tx zNo b ∨ ah b = none := fun b hb => by
    rcases hb with hb | hb | hb | hb | hb | hb
    · exact Or.inl (Or.inl hb)
    · exact Or.inl (Or.inr (Or.inl hb))
    · exact Or.inl (Or.inr (Or.inr (Or.inl hb)))
    · exact Or.inl (Or.inr (Or.inr (Or.inr (Or.inl hb))))
    · exact Or.inl (Or.inr (Or.inr (Or.inr (Or.inr (Or.inl hb)))))
    · exact Or.inr (h1 b hb)
  refine ⟨a, v, h, f, hl, lv, n, ml, gl, ft, g1, (H0.2.1.oc.gr g).mono hFF, ?_, g4, ⟨g5.1, fun i b r _ hr => by simp at hr⟩, g6, g7, h2⟩
  rcases g3 with g3 | ⟨b, r, -, z, -⟩
  · exact Or.inl g3
  · cases z
theorem kX1_save {G : State} {d rc rs : Nat} {ah : zH} {Q : zRs → zH → Prop} {F0 : Nat → Prop} {gd q D lb tx a h lv n : Nat} {s : Int → Int} {sv : Option (Int → Int)} {hs : List (Int → Int)} {ln : List Int} {tp : Int → Int} {tn er fl ml : Int} {v : Value} {f gl ft : Nat → Value} {hl : List Nat} (H : zGc G F0 gd q D lb tx ah s sv hs ln tp tn er fl a v h f hl lv n ml gl ft) {B : Int} (hI : pI B s) (hd : 20 ≤ d) (hc : 10 ≤ rc) (hs9 : 300 ≤ rs) (k : ∀ ah9, zKt ah ah9 → zGd G F0 gd q D lb tx ah9 s (some s) hs ln tp tn er fl → Q (.inl (some (.int (zi (s 0))))) ah9) : zW G mX1_save d rc rs 0 (zent [.ref gd]) [] ah Q := by
  refine zW_open 0 [some (.ref gd)] rfl ?_
  obtain ⟨w, e, n1, mc, f1, ps, l, g, tv, HS⟩ := id H.2.1
  have hV := hI.1
  have hY := hI.2.1
  have vv := hV.h
  have hT := hI.2.2.2.2
  refine zr_aload_n dX1_save_0 rfl rfl ?_
  refine zr_new (fs := [.null, .null, .null, .int (zi 0), .int (zi 0), .int (zi 0), .null, .int (zi 0), .int (zi 0), .int (zi 0)]) dX1_save_1 nX2 q146 q147 q92 (z_ble rfl) dfX2 (by omega) (by omega) (fun c hc9 => ?_)
  refine zr_dup dX1_save_4 rfl ?_
  refine zr_aload_n dX1_save_5 rfl rfl ?_
  refine zr_getf dX1_save_6 nX1 (k := 0) (by decide) q274 (Or.inl rfl) (z_upk hc9 H.1) rfl ?_
  refine zc_i1 rfl rfl rfl dX1_save_9 hX2_init_2 gX2_init_2 rfl rfl 6 4 240 (by omega) (by omega) (by omega) q939 q940 ?_
  refine kX2_init_2 HS hV (zGr.up hc9) hc9 z_up_s H.hF (by omega) (by omega) (by omega) (fun ah2 g2 s2 => zK_v ?_)
  obtain ⟨w9, e9, n9, mc9, f9, ps9, l9, g9, tv9, S9⟩ := id s2
  refine zr_putf dX1_save_12 nX1 (k := 1) (by decide) q275 (Or.inl rfl) (Or.inl rfl) (g2 _ _ H.1) (z_ble rfl) rfl rfl ?_
  have hk : ∀ b u, ah b = some u → b ≠ gd → z_up ah2 gd (.inl (0, zGo a (.ref c) q lb tx tn er fl)) b = some u := fun b u hb n1 => (z_up_n n1).trans (g2 b u hb)
  have kp2 : zKp (zFg gd q D lb tx F0) ah2 (z_up ah2 gd (.inl (0, zGo a (.ref c) q lb tx tn er fl))) := fun b u nf _ hb => (z_up_n (fun z => nf (Or.inl z))).trans hb
  have sa := (H.2.1.gr g2).kp kp2
  have W9 := H.kp (fun b o hb n1 _ => hk b o hb n1) (v' := .ref c) z_up_s sa (Or.inr ⟨c, s, rfl, rfl, s2.fr.kp kp2⟩) (hk _ _ H.2.2.2.2.2.2.1.1 (fun z => by have := H.2.2.2.2.2.2.1.1; rw [z, H.1] at this; cases this)) H.2.2.2.2.2.2.1.2
  have kt : zKt ah (z_up ah2 gd (.inl (0, zGo a (.ref c) q lb tx tn er fl))) := fun b o hb ht => hk b o hb (fun z => by rw [z, H.1] at hb; cases hb; exact ht)
  obtain ⟨w8, e8, n8, mc8, f8, ps8, l8, g8, tv8, S8⟩ := id W9.2.1
  refine zr_aload_n dX1_save_15 rfl rfl ?_
  refine zr_getf dX1_save_16 nX1 (k := 0) (by decide) q274 (Or.inl rfl) z_up_s rfl ?_
  refine zc_v0 dX1_save_19 hX2_size gX2_size rfl rfl 1 0 0 (by omega) (Nat.zero_le _) (Nat.zero_le _) q306 q307 q308 S8.rc ?_
  refine kX2_size S8 (by omega) (zK_i ?_)
  refine zr_ireturn dX1_save_22 rfl (by first | rfl | exact z_nb _) ?_
  exact k _ kt ⟨_, _, _, _, _, _, _, _, _, _, W9⟩
theorem kX1_restore {G : State} {d rc rs : Nat} {ah : zH} {Q : zRs → zH → Prop} {F0 : Nat → Prop} {gd q D lb tx a h lv n : Nat} {s : Int → Int} {sv : Option (Int → Int)} {hs : List (Int → Int)} {ln : List Int} {tp : Int → Int} {tn er fl ml : Int} {v : Value} {f gl ft : Nat → Value} {hl : List Nat} (H : zGc G F0 gd q D lb tx ah s sv hs ln tp tn er fl a v h f hl lv n ml gl ft) (hsv : ∀ r, sv = some r → pV r) (hd : 20 ≤ d) (hc : 10 ≤ rc) (hs9 : 300 ≤ rs) (k0 : sv = none → ∀ ah9 q9, zGr ah ah9 → Q (.inr ("java/lang/IllegalStateException", q9)) ah9) (k : ∀ r, sv = some r → ∀ ah9, zKt ah ah9 → zGd G F0 gd q D lb tx ah9 r sv [] ln tp tn er fl → Q (.inl (some (.int (zi (r 0))))) ah9) : zW G mX1_restore d rc rs 0 (zent [.ref gd]) [] ah Q := by
  refine zW_open 0 [some (.ref gd)] rfl ?_
  rcases id H.2.2.1 with ⟨z1, z2⟩ | ⟨b0, r, z1, z2, z3⟩
  · subst z1
    subst z2
    refine zr_aload_n dX1_restore_0 rfl rfl ?_
    refine zr_getf dX1_restore_1 nX1 (k := 1) (by decide) q275 (Or.inl rfl) H.1 rfl ?_
    refine zr_ifnullN dX1_restore_4 (tgt := 11) (by decide) ?_
    refine zr_iconst dX1_restore_11 ?_
    refine zc_s1 dX1_restore_12 hX1_checkState gX1_checkState rfl rfl 8 1 6 (by omega) (by omega) (by omega) q1765 q1058 ?_
    refine kX1_checkState (b := false) (by omega) (by omega) (by omega) (fun h => absurd h (by decide)) (fun h12 q12 hq12 => zK_x (zX_out (fun x hx => nomatch hx) ?_))
    exact k0 rfl _ q12 (zGr.up hq12)
  · subst z1
    subst z2
    obtain ⟨w, e, n1, mc, f1, ps, l, g, tv, Sr⟩ := id z3
    refine zr_aload_n dX1_restore_0 rfl rfl ?_
    refine zr_getf dX1_restore_1 nX1 (k := 1) (by decide) q275 (Or.inl rfl) H.1 rfl ?_
    refine zr_ifnull dX1_restore_4 ?_
    refine zr_iconst dX1_restore_7 ?_
    refine zr_goto dX1_restore_8 (tgt := 12) (by decide) ?_
    refine zc_s1 dX1_restore_12 hX1_checkState gX1_checkState rfl rfl 8 1 6 (by omega) (by omega) (by omega) q1765 q1058 ?_
    refine kX1_checkState (b := true) (by omega) (by omega) (by omega) (fun _ => zK_v ?_) (fun h => absurd h (by decide))
    refine zr_aload_n dX1_restore_15 rfl rfl ?_
    refine zr_new (fs := [.null, .null, .null, .int (zi 0), .int (zi 0), .int (zi 0), .null, .int (zi 0), .int (zi 0), .int (zi 0)]) dX1_restore_16 nX2 q146 q147 q92 (z_ble rfl) dfX2 (by omega) (by omega) (fun c hc9 => ?_)
    refine zr_dup dX1_restore_19 rfl ?_
    refine zr_aload_n dX1_restore_20 rfl rfl ?_
    refine zr_getf dX1_restore_21 nX1 (k := 1) (by decide) q275 (Or.inl rfl) (z_upk hc9 H.1) rfl ?_
    refine zc_i1 rfl rfl rfl dX1_restore_24 hX2_init_2 gX2_init_2 rfl rfl 6 4 240 (by omega) (by omega) (by omega) q939 q940 ?_
    refine kX2_init_2 Sr (hsv r rfl) (zGr.up hc9) hc9 z_up_s H.hF (by omega) (by omega) (by omega) (fun ah2 g2 s2 => zK_v ?_)
    refine zr_putf dX1_restore_27 nX1 (k := 0) (by decide) q274 (Or.inl rfl) (Or.inl rfl) (g2 _ _ H.1) (z_ble rfl) rfl rfl ?_
    have nq : q ≠ gd := fun z => by have := H.1; rw [← z, H.2.2.2.1.1] at this; cases this
    have nD : D ≠ gd := fun z => by have := H.1; rw [← z, H.2.2.2.1.2.2.1] at this; cases this
    have hk : ∀ b u, ah b = some u → b ≠ gd → z_up ah2 gd (.inl (0, zGo c (.ref b0) q lb tx tn er fl)) b = some u := fun b u hb n1 => (z_up_n n1).trans (g2 b u hb)
    have gd3 : z_up ah2 gd (.inl (0, zGo c (.ref b0) q lb tx tn er fl)) gd = some (.inl (0, zGo c (.ref b0) q lb tx tn er fl)) := z_up_s
    have s3 : zStR G (zFg gd q D lb tx F0) zNo (z_up ah2 gd (.inl (0, zGo c (.ref b0) q lb tx tn er fl))) c r := s2.fr.kp (fun b u nf _ hb => (z_up_n (fun z => nf (Or.inl z))).trans hb)
    have D3 : zDq G (z_up ah2 gd (.inl (0, zGo c (.ref b0) q lb tx tn er fl))) q D h f hl := H.2.2.2.1.fr (fun b u hb hu => hk b u hu (by rcases hb with hb | hb <;> rw [hb] <;> assumption))
    change zW G mX1_restore d _ _ _ _ _ (z_up ah2 gd (.inl (0, zGo c (.ref b0) q lb tx tn er fl))) Q
    generalize z_up ah2 gd (.inl (0, zGo c (.ref b0) q lb tx tn er fl)) = ah3 at hk gd3 s3 D3 ⊢
    refine zr_aload_n dX1_restore_30 rfl rfl ?_
    refine zr_getf dX1_restore_31 nX1 (k := 2) (by decide) q276 (Or.inl rfl) gd3 rfl ?_
    refine zc_v0 dX1_restore_34 hJ4_clear gJ4_clear rfl rfl 1 0 0 (by omega) (Nat.zero_le _) (Nat.zero_le _) q2106 q2107 q2108 D3.rc ?_
    refine kJ4_clear D3 (by omega) (fun ah4 f4 D4 fr4 => zK_v ?_)
    have s4 : zStR G (zFg gd q D lb tx F0) zNo ah4 c r := s3.kp (fun b u nf _ hb => fr4 b u hb (fun z => nf (Or.inr (Or.inl z))) (fun z => nf (Or.inr (Or.inr (Or.inl z)))))
    have hk4 : ∀ b u, ah b = some u → b ≠ gd → b ≠ q → b ≠ D → ah4 b = some u := fun b u hb n1 n2 n3 => fr4 b u (hk b u hb n1) n2 n3
    have gd4 := fr4 _ _ gd3 nq.symm nD.symm
    have W9 := H.dq hk4 gd4 s4 D4 (hs' := []) ⟨rfl, fun i b r _ hr => by simp at hr⟩
    obtain ⟨w8, e8, n8, mc8, f8, ps8, l8, g8, tv8, S8⟩ := id s4
    refine zr_aload_n dX1_restore_37 rfl rfl ?_
    refine zr_getf dX1_restore_38 nX1 (k := 0) (by decide) q274 (Or.inl rfl) gd4 rfl ?_
    refine zc_v0 dX1_restore_41 hX2_size gX2_size rfl rfl 1 0 0 (by omega) (Nat.zero_le _) (Nat.zero_le _) q306 q307 q308 S8.rc ?_
    refine kX2_size S8 (by omega) (zK_i ?_)
    refine zr_ireturn dX1_restore_44 rfl (by first | rfl | exact z_nb _) ?_
    exact k r rfl _ (H.kt3 hk4) ⟨_, _, _, _, _, _, _, _, _, _, W9⟩
theorem kX1_undo {G : State} {d rc rs : Nat} {ah : zH} {Q : zRs → zH → Prop} {F0 : Nat → Prop} {gd q D lb tx a h lv n : Nat} {s : Int → Int} {sv : Option (Int → Int)} {hs : List (Int → Int)} {ln : List Int} {tp : Int → Int} {tn er fl ml : Int} {v : Value} {f gl ft : Nat → Value} {hl : List Nat} (H : zGc G F0 gd q D lb tx ah s sv hs ln tp tn er fl a v h f hl lv n ml gl ft) (hd : 20 ≤ d) (hc : 10 ≤ rc) (hs9 : 30 ≤ rs) (k0 : hs = [] → ∀ ah9 q9, zGr ah ah9 → Q (.inr ("java/lang/IllegalStateException", q9)) ah9) (k : ∀ hs' r, hs = hs' ++ [r] → ∀ ah9, zKt ah ah9 → zGd G F0 gd q D lb tx ah9 r sv hs' ln tp tn er fl → Q (.inl (some (.int (zi (hs'.length : Nat))))) ah9) : zW G mX1_undo d rc rs 0 (zent [.ref gd]) [] ah Q := by
  refine zW_open 0 [some (.ref gd)] rfl ?_
  refine zr_aload_n dX1_undo_0 rfl rfl ?_
  refine zr_getf dX1_undo_1 nX1 (k := 2) (by decide) q276 (Or.inl rfl) H.1 rfl ?_
  refine zc_v0 dX1_undo_4 hJ4_isEmpty gJ4_isEmpty rfl rfl 0 0 0 (by omega) (Nat.zero_le _) (Nat.zero_le _) q2084 q2085 q2086 H.2.2.2.1.rc ?_
  refine kJ4_isEmpty H.2.2.2.1 (zK_i ?_)
  refine zr_ifneB dX1_undo_7 (tgt := 14) (by decide) (fun h7 => ?_) (fun h7 => ?_)
  · refine zr_iconst dX1_undo_14 ?_
    refine zc_s1 dX1_undo_15 hX1_checkState gX1_checkState rfl rfl 8 1 6 (by omega) (by omega) (by omega) q1765 q1058 ?_
    refine kX1_checkState (b := false) (by omega) (by omega) (by omega) (fun h => absurd h (by decide)) (fun h15 q15 hq15 => zK_x (zX_out (fun x hx => nomatch hx) ?_))
    exact k0 (List.length_eq_zero_iff.mp (by have := H.2.2.2.2.1.1; have := of_decide_eq_true h7; omega)) _ q15 (zGr.up hq15)
  · refine zr_iconst dX1_undo_10 ?_
    refine zr_goto dX1_undo_11 (tgt := 15) (by decide) ?_
    refine zc_s1 dX1_undo_15 hX1_checkState gX1_checkState rfl rfl 8 1 6 (by omega) (by omega) (by omega) q1765 q1058 ?_
    refine kX1_checkState (b := true) (by omega) (by omega) (by omega) (fun _ => zK_v ?_) (fun h => absurd h (by decide))
    have hll := H.2.2.2.2.1.1
    have hl0 := of_decide_eq_false h7
    obtain ⟨l9, x, rfl⟩ : ∃ l9 x, hl = l9 ++ [x] := ⟨hl.dropLast, hl.getLast (fun z => hl0 (by rw [z]; rfl)), (List.dropLast_concat_getLast _).symm⟩
    obtain ⟨hs9', r, rfl⟩ : ∃ l9 x, hs = l9 ++ [x] := ⟨hs.dropLast, hs.getLast (fun z => hl0 (by rw [hll, z]; rfl)), (List.dropLast_concat_getLast _).symm⟩
    have hl1 : l9.length = hs9'.length := by simpa using hll
    refine zr_aload_n dX1_undo_18 rfl rfl ?_
    refine zr_aload_n dX1_undo_19 rfl rfl ?_
    refine zr_getf dX1_undo_20 nX1 (k := 2) (by decide) q276 (Or.inl rfl) H.1 rfl ?_
    refine zc_v0 dX1_undo_23 hJ4_removeLast gJ4_removeLast rfl rfl 2 0 0 (by omega) (Nat.zero_le _) (Nat.zero_le _) q2088 q2089 q2090 H.2.2.2.1.rc ?_
    refine kJ4_removeLast H.2.2.2.1 (by omega) (fun ah1 f1 D1 fr => zK_i ?_)
    have nq : gd ≠ q := fun z => by have := H.1; rw [z, H.2.2.2.1.1] at this; cases this
    have nD : gd ≠ D := fun z => by have := H.1; rw [z, H.2.2.2.1.2.2.1] at this; cases this
    have gd1 := fr _ _ H.1 nq nD
    have kp1 : zKp (zFg gd q D lb tx F0) ah ah1 := (fun b u nf _ hb => fr b u hb (fun z => nf (Or.inr (Or.inl z))) (fun z => nf (Or.inr (Or.inr (Or.inl z)))))
    have sx := (H.2.2.2.2.1.2 l9.length x r (by simp) (by rw [hl1]; simp)).kp kp1
    refine zr_cast dX1_undo_26 q146 sx.rc ?_
    refine zr_putf dX1_undo_29 nX1 (k := 0) (by decide) q274 (Or.inl rfl) (Or.inl rfl) gd1 (z_ble rfl) rfl rfl ?_
    have hk : ∀ b u, ah b = some u → b ≠ gd → b ≠ q → b ≠ D → z_up ah1 gd (.inl (0, zGo x v q lb tx tn er fl)) b = some u := fun b u hb n1 n2 n3 => (z_up_n n1).trans (fr b u hb n2 n3)
    have kp : zKp (zFg gd q D lb tx F0) ah (z_up ah1 gd (.inl (0, zGo x v q lb tx tn er fl))) := fun b u nf _ hb => hk b u hb (fun z => nf (Or.inl z)) (fun z => nf (Or.inr (Or.inl z))) (fun z => nf (Or.inr (Or.inr (Or.inl z))))
    have gd2 : z_up ah1 gd (.inl (0, zGo x v q lb tx tn er fl)) gd = some (.inl (0, zGo x v q lb tx tn er fl)) := z_up_s
    have D2 : zDq G (z_up ah1 gd (.inl (0, zGo x v q lb tx tn er fl))) q D h f1 l9 := D1.fr (fun b u hb hu => (z_up_n (fun z => by rcases hb with hb | hb <;> rw [hb] at z <;> first | exact nq z.symm | exact nD z.symm)).trans hu)
    have h2 : zHs G (zFg gd q D lb tx F0) ah l9 hs9' := ⟨hl1, fun i b u hb hu => H.2.2.2.2.1.2 i b u (by rw [List.getElem?_append_left (List.getElem?_eq_some_iff.mp hb).1]; exact hb) (by rw [List.getElem?_append_left (List.getElem?_eq_some_iff.mp hu).1]; exact hu)⟩
    have W9 := H.dq hk gd2 ((H.2.2.2.2.1.2 l9.length x r (by simp) (by rw [hl1]; simp)).kp kp) D2 (h2.kp kp)
    refine zr_aload_n dX1_undo_32 rfl rfl ?_
    refine zr_getf dX1_undo_33 nX1 (k := 2) (by decide) q276 (Or.inl rfl) gd2 rfl ?_
    refine zc_v0 dX1_undo_36 hJ4_size gJ4_size rfl rfl 1 0 0 (by omega) (Nat.zero_le _) (Nat.zero_le _) q1113 q1114 q1115 D2.rc ?_
    refine kJ4_size D2 (by omega) (zK_i ?_)
    refine zr_ireturn dX1_undo_39 rfl (by first | rfl | exact z_nb _) ?_
    rw [hl1]
    exact k _ _ rfl _ (H.kt3 hk) ⟨_, _, _, _, _, _, _, _, _, _, W9⟩
theorem kX1_type {G : State} {d rc rs : Nat} {ah : zH} {Q : zRs → zH → Prop} {F0 : Nat → Prop} {gd q D lb tx a h lv n : Nat} {s : Int → Int} {sv : Option (Int → Int)} {hs : List (Int → Int)} {ln : List Int} {tp : Int → Int} {tn er fl ml : Int} {v : Value} {f gl ft : Nat → Value} {hl : List Nat} (H : zGc G F0 gd q D lb tx ah s sv hs ln tp tn er fl a v h f hl lv n ml gl ft) {c : Int} (bc : 0 ≤ c ∧ c ≤ 65535) (bt : 0 ≤ tn ∧ tn ≤ 60) (hd : 20 ≤ d) (hc : 10 ≤ rc) (hs9 : 30 ≤ rs) (k0 : tn = 60 → ∀ ah9 q9, zGr ah ah9 → Q (.inr ("java/lang/IllegalStateException", q9)) ah9) (k : tn < 60 → ∀ ah9, zKt ah ah9 → zGd G F0 gd q D lb tx ah9 s sv hs ln (z_upF tp tn c) (tn + 1) er fl → Q (.inl (some (.int (zi (tn + 1))))) ah9) : zW G mX1_type d rc rs 0 (zent [.ref gd, .int (zi c)]) [] ah Q := by
  refine zW_open 0 [some (.ref gd), some (.int (zi c))] rfl ?_
  refine zr_aload_n dX1_type_0 rfl rfl ?_
  refine zr_getf dX1_type_1 nX1 (k := 5) (by decide) q281 (Or.inl rfl) H.1 rfl ?_
  refine zr_bipush dX1_type_4 rfl ?_
  refine zr_icmpge dX1_type_6 (tgt := 13) (by decide) (by omega) (by omega) (fun h6 => ?_) (fun h6 => ?_)
  · refine zr_iconst dX1_type_13 ?_
    refine zc_s1 dX1_type_14 hX1_checkState gX1_checkState rfl rfl 8 1 6 (by omega) (by omega) (by omega) q1765 q1058 ?_
    refine kX1_checkState (b := false) (by omega) (by omega) (by omega) (fun h => absurd h (by decide)) (fun h14 q14 hq14 => zK_x (zX_out (fun x hx => nomatch hx) ?_))
    exact k0 (by omega) _ q14 (zGr.up hq14)
  · refine zr_iconst dX1_type_9 ?_
    refine zr_goto dX1_type_10 (tgt := 14) (by decide) ?_
    refine zc_s1 dX1_type_14 hX1_checkState gX1_checkState rfl rfl 8 1 6 (by omega) (by omega) (by omega) q1765 q1058 ?_
    refine kX1_checkState (b := true) (by omega) (by omega) (by omega) (fun _ => zK_v ?_) (fun h => absurd h (by decide))
    refine zr_aload_n dX1_type_17 rfl rfl ?_
    refine zr_getf dX1_type_18 nX1 (k := 4) (by decide) q279 (Or.inl rfl) H.1 rfl ?_
    refine zr_aload_n dX1_type_21 rfl rfl ?_
    refine zr_getf dX1_type_22 nX1 (k := 5) (by decide) q281 (Or.inl rfl) H.1 rfl ?_
    refine zr_iload_n dX1_type_25 rfl ?_
    have nt : gd ≠ tx := fun z => by have := H.1; rw [z, H.2.2.2.2.2.2.1.1] at this; cases this
    refine zr_castore dX1_type_26 H.2.2.2.2.2.2.1.1 (by decide) (by omega) (z_nc bc) ?_
    refine zr_aload_n dX1_type_27 rfl rfl ?_
    refine zr_dup dX1_type_28 rfl ?_
    refine zr_getf dX1_type_29 nX1 (k := 5) (by decide) q281 (Or.inl rfl) ((z_up_n nt).trans H.1) rfl ?_
    refine zr_iconst dX1_type_32 ?_
    refine zr_iadd dX1_type_33 ?_
    refine zr_putf dX1_type_34 nX1 (k := 5) (by decide) q281 (Or.inl rfl) (Or.inl rfl) ((z_up_n nt).trans H.1) (z_ble rfl) rfl rfl ?_
    have hk : ∀ b u, ah b = some u → b ≠ gd → b ≠ tx → z_up (z_up ah tx (.inr (.char, 60, z_upV ft tn.toNat (.int (zi c))))) gd (.inl (0, zGo a v q lb tx (tn + 1) er fl)) b = some u := fun b u hb n1 n2 => (z_up_n n1).trans ((z_up_n n2).trans hb)
    have kp : zKp (zFg gd q D lb tx F0) ah (z_up (z_up ah tx (.inr (.char, 60, z_upV ft tn.toNat (.int (zi c))))) gd (.inl (0, zGo a v q lb tx (tn + 1) er fl))) := fun b u nf _ hb => hk b u hb (fun z => nf (Or.inl z)) (fun z => nf (Or.inr (Or.inr (Or.inr (Or.inr (Or.inl z))))))
    have W9 := H.kp hk (tp' := z_upF tp tn c) (tn' := tn + 1) z_up_s (H.2.1.kp kp) (H.2.2.1.kp kp) ((z_up_n nt.symm).trans z_up_s) (fun j hj => by
      by_cases hjt : (j : Int) = tn
      · rw [hjt, z_upF_s, show j = tn.toNat by omega, z_upV_s]
      · rw [z_upF_n hjt, z_upV_n (by omega)]
        exact H.2.2.2.2.2.2.1.2 j (by omega))
    refine zr_aload_n dX1_type_37 rfl rfl ?_
    refine zr_getf dX1_type_38 nX1 (k := 5) (by decide) q281 (Or.inl rfl) z_up_s rfl ?_
    refine zr_ireturn dX1_type_41 rfl (by first | rfl | exact z_nb _) ?_
    exact k (by omega) _ (fun b o hb ht => hk b o hb (fun z => by rw [z, H.1] at hb; cases hb; exact ht) (fun z => by rw [z, H.2.2.2.2.2.2.1.1] at hb; cases hb; exact ht)) ⟨_, _, _, _, _, _, _, _, _, _, W9⟩
def qCl (l : List Int) (i : Int) : Int × Int := if ¬ pIn i 0 ((l.length : Int) - 1) = true then (1, 0) else (0, l.getD i.toNat 0)
def qEr (e : Int) : Int × Int := if e = -1 then (1, 0) else (0, e)
theorem kX1_charAt {G : State} {d rc rs : Nat} {ah : zH} {Q : zRs → zH → Prop} {F0 : Nat → Prop} {gd q D lb tx a h lv n : Nat} {s : Int → Int} {sv : Option (Int → Int)} {hs : List (Int → Int)} {ln : List Int} {tp : Int → Int} {tn er fl ml : Int} {v : Value} {f gl ft : Nat → Value} {hl : List Nat} (H : zGc G F0 gd q D lb tx ah s sv hs ln tp tn er fl a v h f hl lv n ml gl ft) {i : Int} (qi : -2147483648 ≤ i ∧ i ≤ 2147483647) (h8 : zL8 ln) (hd : 20 ≤ d) (hc : 10 ≤ rc) (hs9 : 30 ≤ rs) (k : zAnQ ah (zE ["java/lang/IndexOutOfBoundsException"]) (qCl ln i) Q) : zW G mX1_charAt d rc rs 0 (zent [.ref gd, .int (zi i)]) [] ah Q := by
  refine zW_open 0 [some (.ref gd), some (.int (zi i))] rfl ?_
  have hl8 := h8.1
  refine zr_iload_n dX1_charAt_0 rfl ?_
  refine zr_aload_n dX1_charAt_1 rfl rfl ?_
  refine zr_getf dX1_charAt_2 nX1 (k := 3) (by decide) q277 (Or.inl rfl) H.1 rfl ?_
  refine zc_v0 dX1_charAt_5 hJ6_length gJ6_length rfl rfl 1 0 0 (by omega) (Nat.zero_le _) (Nat.zero_le _) q934 q645 q2621 H.2.2.2.2.2.1.1.rc ?_
  refine kJ6_length H.2.2.2.2.2.1.1 (by omega) (zK_i ?_)
  refine zc_s2 dX1_charAt_8 hX1_checkIndex gX1_checkIndex rfl rfl 8 1 6 (by omega) (by omega) (by omega) q1615 q1191 ?_
  refine kX1_checkIndex (by omega) (by omega) (by omega) (by omega) (by omega) (fun h9 => zK_v ?_) (fun h9 q hq => zK_x (zX_out (fun x hx => nomatch hx) ?_))
  rotate_left
  · exact k.thr (c := 1) (v := 0) (by unfold qCl; rw [if_pos (by rw [h9]; decide)]) (by decide) (zGr.up hq)
  have p9 := pIn_iff.mp h9
  obtain ⟨cc, hcc⟩ : ∃ cc, ln[i.toNat]? = some cc := ⟨ln[i.toNat]'(by omega), List.getElem?_eq_getElem _⟩
  have bcc := h8.2 cc (List.mem_of_getElem? hcc)
  refine zr_aload_n dX1_charAt_11 rfl rfl ?_
  refine zr_getf dX1_charAt_12 nX1 (k := 3) (by decide) q277 (Or.inl rfl) H.1 rfl ?_
  refine zr_iload_n dX1_charAt_15 rfl ?_
  refine zc_v1 dX1_charAt_16 hJ6_charAt gJ6_charAt rfl rfl 3 0 0 (by omega) (Nat.zero_le _) (Nat.zero_le _) q1748 q1749 q1750 H.2.2.2.2.2.1.1.rc ?_
  refine kJ6_charAt H.2.2.2.2.2.1.1 (by omega) hcc h8 H.2.2.2.2.2.1.2 (by omega) (zK_i ?_)
  refine zr_ireturn dX1_charAt_19 rfl (z_nc (by omega)) ?_
  exact k.ok (by unfold qCl; rw [if_neg (fun z => z h9), List.getD_eq_getElem?_getD, hcc]; rfl) (zGr.rf)
theorem kX1_errorPosition {G : State} {d rc rs : Nat} {ah : zH} {Q : zRs → zH → Prop} {F0 : Nat → Prop} {gd q D lb tx a h lv n : Nat} {s : Int → Int} {sv : Option (Int → Int)} {hs : List (Int → Int)} {ln : List Int} {tp : Int → Int} {tn er fl ml : Int} {v : Value} {f gl ft : Nat → Value} {hl : List Nat} (H : zGc G F0 gd q D lb tx ah s sv hs ln tp tn er fl a v h f hl lv n ml gl ft) (be : -1 ≤ er ∧ er ≤ 1000) (hd : 20 ≤ d) (hc : 10 ≤ rc) (hs9 : 30 ≤ rs) (k : zAnQ ah (zE ["java/util/NoSuchElementException"]) (qEr er) Q) : zW G mX1_errorPosition d rc rs 0 (zent [.ref gd]) [] ah Q := by
  refine zW_open 0 [some (.ref gd)] rfl ?_
  refine zr_aload_n dX1_errorPosition_0 rfl rfl ?_
  refine zr_getf dX1_errorPosition_1 nX1 (k := 6) (by decide) q282 (Or.inl rfl) H.1 rfl ?_
  refine zr_iconst dX1_errorPosition_4 ?_
  refine zr_icmpeq dX1_errorPosition_5 (tgt := 12) (by decide) (by omega) (by omega) (fun h5 => ?_) (fun h5 => ?_)
  · refine zr_iconst dX1_errorPosition_12 ?_
    refine zc_s1 dX1_errorPosition_13 hX1_checkElement gX1_checkElement rfl rfl 8 1 6 (by omega) (by omega) (by omega) q1566 q1228 ?_
    refine kX1_checkElement (b := false) (by omega) (by omega) (by omega) (fun h => absurd h (by decide)) (fun h13 q13 hq13 => zK_x (zX_out (fun x hx => nomatch hx) ?_))
    exact k.thr (c := 1) (v := 0) (by unfold qEr; rw [if_pos (by omega)]) (by decide) (zGr.up hq13)
  · refine zr_iconst dX1_errorPosition_8 ?_
    refine zr_goto dX1_errorPosition_9 (tgt := 13) (by decide) ?_
    refine zc_s1 dX1_errorPosition_13 hX1_checkElement gX1_checkElement rfl rfl 8 1 6 (by omega) (by omega) (by omega) q1566 q1228 ?_
    refine kX1_checkElement (b := true) (by omega) (by omega) (by omega) (fun _ => zK_v ?_) (fun h => absurd h (by decide))
    refine zr_aload_n dX1_errorPosition_16 rfl rfl ?_
    refine zr_getf dX1_errorPosition_17 nX1 (k := 6) (by decide) q282 (Or.inl rfl) H.1 rfl ?_
    refine zr_ireturn dX1_errorPosition_20 rfl (by first | rfl | exact z_nb _) ?_
    exact k.ok (by unfold qEr; rw [if_neg (by omega)]) (zGr.rf)
theorem kX1_failedCommand {G : State} {d rc rs : Nat} {ah : zH} {Q : zRs → zH → Prop} {F0 : Nat → Prop} {gd q D lb tx a h lv n : Nat} {s : Int → Int} {sv : Option (Int → Int)} {hs : List (Int → Int)} {ln : List Int} {tp : Int → Int} {tn er fl ml : Int} {v : Value} {f gl ft : Nat → Value} {hl : List Nat} (H : zGc G F0 gd q D lb tx ah s sv hs ln tp tn er fl a v h f hl lv n ml gl ft) (be : -1 ≤ fl ∧ fl ≤ 1000) (hd : 20 ≤ d) (hc : 10 ≤ rc) (hs9 : 30 ≤ rs) (k : zAnQ ah (zE ["java/util/NoSuchElementException"]) (qEr fl) Q) : zW G mX1_failedCommand d rc rs 0 (zent [.ref gd]) [] ah Q := by
  refine zW_open 0 [some (.ref gd)] rfl ?_
  refine zr_aload_n dX1_failedCommand_0 rfl rfl ?_
  refine zr_getf dX1_failedCommand_1 nX1 (k := 7) (by decide) q283 (Or.inl rfl) H.1 rfl ?_
  refine zr_iconst dX1_failedCommand_4 ?_
  refine zr_icmpeq dX1_failedCommand_5 (tgt := 12) (by decide) (by omega) (by omega) (fun h5 => ?_) (fun h5 => ?_)
  · refine zr_iconst dX1_failedCommand_12 ?_
    refine zc_s1 dX1_failedCommand_13 hX1_checkElement gX1_checkElement rfl rfl 8 1 6 (by omega) (by omega) (by omega) q1566 q1228 ?_
    refine kX1_checkElement (b := false) (by omega) (by omega) (by omega) (fun h => absurd h (by decide)) (fun h13 q13 hq13 => zK_x (zX_out (fun x hx => nomatch hx) ?_))
    exact k.thr (c := 1) (v := 0) (by unfold qEr; rw [if_pos (by omega)]) (by decide) (zGr.up hq13)
  · refine zr_iconst dX1_failedCommand_8 ?_
    refine zr_goto dX1_failedCommand_9 (tgt := 13) (by decide) ?_
    refine zc_s1 dX1_failedCommand_13 hX1_checkElement gX1_checkElement rfl rfl 8 1 6 (by omega) (by omega) (by omega) q1566 q1228 ?_
    refine kX1_checkElement (b := true) (by omega) (by omega) (by omega) (fun _ => zK_v ?_) (fun h => absurd h (by decide))
    refine zr_aload_n dX1_failedCommand_16 rfl rfl ?_
    refine zr_getf dX1_failedCommand_17 nX1 (k := 7) (by decide) q283 (Or.inl rfl) H.1 rfl ?_
    refine zr_ireturn dX1_failedCommand_20 rfl (by first | rfl | exact z_nb _) ?_
    exact k.ok (by unfold qEr; rw [if_neg (by omega)]) (zGr.rf)
theorem kX1_init {G : State} {d rc rs : Nat} {ah : zH} {Q : zRs → zH → Prop} {gd : Nat} (hgd : ah gd = some (.inl (0, [.null, .null, .null, .null, .null, .int (zi 0), .int (zi 0), .int (zi 0)]))) (hd : 20 ≤ d) (hc : 20 ≤ rc) (hs9 : 1000 ≤ rs) (k : ∀ ah9 q D lb tx, (∀ b o, ah b = some o → b ≠ gd → ah9 b = some o) → zGd G zNo gd q D lb tx ah9 pI0 none [] [] (fun _ => 0) 0 (-1) (-1) → Q (.inl none) ah9) : zW G mX1_init d rc rs 0 (zent [.ref gd]) [] ah Q := by
  refine zW_open 0 [some (.ref gd)] rfl ?_
  refine zr_aload_n dX1_init_0 rfl rfl ?_
  refine zr_objInit dX1_init_1 q143 q144 q145 (by decide) (by omega) ?_
  refine zr_aload_n dX1_init_4 rfl rfl ?_
  refine zr_new (fs := [.null, .null, .null, .int (zi 0), .int (zi 0), .int (zi 0), .null, .int (zi 0), .int (zi 0), .int (zi 0)]) dX1_init_5 nX2 q146 q147 q92 (z_ble rfl) dfX2 (by omega) (by omega) (fun c hcc => ?_)
  refine zr_dup dX1_init_8 rfl ?_
  refine zc_i0 rfl rfl rfl dX1_init_9 hX2_init gX2_init rfl rfl 4 2 150 (by omega) (by omega) (by omega) q148 q149 ?_
  refine kX2_init z_up_s (by omega) (by omega) (by omega) (fun ah1 w l hw hl fr1 a1 w1 l1 => zK_v ?_)
  have ncg : gd ≠ c := fun z => by rw [z, hcc] at hgd; cases hgd
  have nwg : gd ≠ w := fun z => by rw [← z, z_up_n ncg, hgd] at hw; cases hw
  have nlg : gd ≠ l := fun z => by rw [← z, z_up_n ncg, hgd] at hl; cases hl
  have x1 : ∀ b o, ah b = some o → ah1 b = some o := fun b o hb => fr1 b o (z_upk hcc hb) (fun z => by rw [z, hcc] at hb; cases hb)
  have gd1 := x1 _ _ hgd
  have g1 : ∀ b o, ah b = some o → b ≠ gd → ah1 b = some o := fun b o hb _ => x1 b o hb
  have y1 : ∀ b o, ah1 b = some o → b ≠ gd → ah1 b = some o := fun b o hb _ => hb
  have S1 : zStR G (fun b => b = gd ∨ ah1 b = none) zNo ah1 c pI0 := by
    have ne : ∀ b o, ah1 b = some o → gd ≠ b → ¬ (b = gd ∨ ah1 b = none) := fun b o hb hn z => by
      rcases z with z | z
      · exact hn z.symm
      · rw [hb] at z; cases z
    exact ⟨w, zEm G, 0, 0, fun _ => .null, [], l, fun _ => .int (zi 0), .null, a1, ⟨w1, Or.inl ⟨rfl, rfl⟩, Nat.le_refl _, by decide, fun i x hx => by simp at hx, fun i _ hi => absurd hi (by omega)⟩, rfl, fun i p hp => by simp at hp, l1, fun j hj => by show _ = Value.int (zi (pI0 (48 + (j : Int)))); unfold pI0; rw [if_neg (by omega), if_neg (by omega), if_neg (by omega)], Or.inl ⟨rfl, rfl⟩, ⟨ne _ _ a1 ncg, ne _ _ w1 nwg, ne _ _ l1 nlg, fun z => absurd z (by decide)⟩, ⟨id, id, id, fun _ => id⟩⟩
  refine zr_putf dX1_init_12 nX1 (k := 0) (by decide) q274 (Or.inl rfl) (Or.inl rfl) gd1 (z_ble rfl) rfl rfl ?_
  have gd2 : z_up ah1 gd (.inl (0, [.ref c, .null, .null, .null, .null, .int (zi 0), .int (zi 0), .int (zi 0)])) gd = some (.inl (0, [.ref c, .null, .null, .null, .null, .int (zi 0), .int (zi 0), .int (zi 0)])) := z_up_s
  have S2 : zStR G (fun b => b = gd ∨ ah1 b = none) zNo (z_up ah1 gd (.inl (0, [.ref c, .null, .null, .null, .null, .int (zi 0), .int (zi 0), .int (zi 0)]))) c pI0 := S1.kp (fun b o nf _ hb => (z_up_n (fun z => nf (Or.inl z))).trans hb)
  have g2 : ∀ b o, ah b = some o → b ≠ gd → z_up ah1 gd (.inl (0, [.ref c, .null, .null, .null, .null, .int (zi 0), .int (zi 0), .int (zi 0)])) b = some o := fun b o hb hn => (z_up_n hn).trans (g1 b o hb hn)
  have y2 : ∀ b o, ah1 b = some o → b ≠ gd → z_up ah1 gd (.inl (0, [.ref c, .null, .null, .null, .null, .int (zi 0), .int (zi 0), .int (zi 0)])) b = some o := fun b o hb hn => (z_up_n hn).trans (y1 b o hb hn)
  change zW G mX1_init d _ _ _ _ _ (z_up ah1 gd (.inl (0, [.ref c, .null, .null, .null, .null, .int (zi 0), .int (zi 0), .int (zi 0)]))) Q
  generalize z_up ah1 gd (.inl (0, [.ref c, .null, .null, .null, .null, .int (zi 0), .int (zi 0), .int (zi 0)])) = ah2 at gd2 S2 g2 y2 ⊢
  refine zr_aload_n dX1_init_15 rfl rfl ?_
  refine zr_new (fs := [.null, .int (zi 0), .int (zi 0)]) dX1_init_16 nJ4 q223 q224 q98 (z_ble rfl) dfJ4 (by omega) (by omega) (fun q hq => ?_)
  refine zr_dup dX1_init_19 rfl ?_
  refine zc_i0 rfl rfl rfl dX1_init_20 hJ4_init gJ4_init rfl rfl 2 1 17 (by omega) (by omega) (by omega) q225 q226 ?_
  refine kJ4_init z_up_s (by omega) (by omega) (by omega) (fun ah3 D hD D3 fr3 => zK_v ?_)
  have nqg : gd ≠ q := fun z => by rw [z, hq] at gd2; cases gd2
  have nDg : gd ≠ D := fun z => by rw [← z, z_up_n nqg, gd2] at hD; cases hD
  have x3 : ∀ b o, ah2 b = some o → ah3 b = some o := fun b o hb => fr3 b o (z_upk hq hb) (fun z => by rw [z, hq] at hb; cases hb)
  have gd3 := x3 _ _ gd2
  have g3 : ∀ b o, ah b = some o → b ≠ gd → ah3 b = some o := fun b o hb hn => x3 b o (g2 b o hb hn)
  have y3 : ∀ b o, ah1 b = some o → b ≠ gd → ah3 b = some o := fun b o hb hn => x3 b o (y2 b o hb hn)
  have S3 := S2.gr x3
  refine zr_putf dX1_init_23 nX1 (k := 2) (by decide) q276 (Or.inl rfl) (Or.inr ⟨rfl, rfl, rfl⟩) gd3 (z_ble rfl) rfl rfl ?_
  have gd4 : z_up ah3 gd (.inl (0, [.ref c, .null, .ref q, .null, .null, .int (zi 0), .int (zi 0), .int (zi 0)])) gd = some (.inl (0, [.ref c, .null, .ref q, .null, .null, .int (zi 0), .int (zi 0), .int (zi 0)])) := z_up_s
  have S4 : zStR G (fun b => b = gd ∨ ah1 b = none) zNo (z_up ah3 gd (.inl (0, [.ref c, .null, .ref q, .null, .null, .int (zi 0), .int (zi 0), .int (zi 0)]))) c pI0 := S3.kp (fun b o nf _ hb => (z_up_n (fun z => nf (Or.inl z))).trans hb)
  have g4 : ∀ b o, ah b = some o → b ≠ gd → z_up ah3 gd (.inl (0, [.ref c, .null, .ref q, .null, .null, .int (zi 0), .int (zi 0), .int (zi 0)])) b = some o := fun b o hb hn => (z_up_n hn).trans (g3 b o hb hn)
  have y4 : ∀ b o, ah1 b = some o → b ≠ gd → z_up ah3 gd (.inl (0, [.ref c, .null, .ref q, .null, .null, .int (zi 0), .int (zi 0), .int (zi 0)])) b = some o := fun b o hb hn => (z_up_n hn).trans (y3 b o hb hn)
  have D4 : zDq G (z_up ah3 gd (.inl (0, [.ref c, .null, .ref q, .null, .null, .int (zi 0), .int (zi 0), .int (zi 0)]))) q D 0 (fun _ => .null) [] := D3.fr (fun b u hb hu => (z_up_n (fun z => by rcases hb with hb | hb <;> rw [hb] at z <;> first | exact nqg z.symm | exact nDg z.symm)).trans hu)
  change zW G mX1_init d _ _ _ _ _ (z_up ah3 gd (.inl (0, [.ref c, .null, .ref q, .null, .null, .int (zi 0), .int (zi 0), .int (zi 0)]))) Q
  generalize z_up ah3 gd (.inl (0, [.ref c, .null, .ref q, .null, .null, .int (zi 0), .int (zi 0), .int (zi 0)])) = ah4 at gd4 S4 g4 y4 D4 ⊢
  refine zr_aload_n dX1_init_26 rfl rfl ?_
  refine zr_new (fs := [.null, .int (zi 0), .int (zi 0), .int (zi 0)]) dX1_init_27 nJ6 q241 q242 q100 (z_ble rfl) dfJ6 (by omega) (by omega) (fun lb hlb => ?_)
  refine zr_dup dX1_init_30 rfl ?_
  refine zc_i0 rfl rfl rfl dX1_init_31 hJ6_init gJ6_init rfl rfl 2 1 400 (by omega) (by omega) (by omega) q243 q244 ?_
  refine kJ6_init z_up_s (by omega) (by omega) (by omega) (fun ah5 lv hv B5 fr5 => zK_v ?_)
  have nbg : gd ≠ lb := fun z => by rw [z, hlb] at gd4; cases gd4
  have nvg : gd ≠ lv := fun z => by rw [← z, z_up_n nbg, gd4] at hv; cases hv
  have x5 : ∀ b o, ah4 b = some o → ah5 b = some o := fun b o hb => fr5 b o (z_upk hlb hb) (fun z => by rw [z, hlb] at hb; cases hb)
  have gd5 := x5 _ _ gd4
  have g5 : ∀ b o, ah b = some o → b ≠ gd → ah5 b = some o := fun b o hb hn => x5 b o (g4 b o hb hn)
  have y5 : ∀ b o, ah1 b = some o → b ≠ gd → ah5 b = some o := fun b o hb hn => x5 b o (y4 b o hb hn)
  have S5 := S4.gr x5
  have D5 := D4.fr (ah' := ah5) (fun b u _ hu => x5 b u hu)
  refine zr_putf dX1_init_34 nX1 (k := 3) (by decide) q277 (Or.inl rfl) (Or.inr ⟨rfl, rfl, rfl⟩) gd5 (z_ble rfl) rfl rfl ?_
  have gd6 : z_up ah5 gd (.inl (0, [.ref c, .null, .ref q, .ref lb, .null, .int (zi 0), .int (zi 0), .int (zi 0)])) gd = some (.inl (0, [.ref c, .null, .ref q, .ref lb, .null, .int (zi 0), .int (zi 0), .int (zi 0)])) := z_up_s
  have S6 : zStR G (fun b => b = gd ∨ ah1 b = none) zNo (z_up ah5 gd (.inl (0, [.ref c, .null, .ref q, .ref lb, .null, .int (zi 0), .int (zi 0), .int (zi 0)]))) c pI0 := S5.kp (fun b o nf _ hb => (z_up_n (fun z => nf (Or.inl z))).trans hb)
  have g6 : ∀ b o, ah b = some o → b ≠ gd → z_up ah5 gd (.inl (0, [.ref c, .null, .ref q, .ref lb, .null, .int (zi 0), .int (zi 0), .int (zi 0)])) b = some o := fun b o hb hn => (z_up_n hn).trans (g5 b o hb hn)
  have y6 : ∀ b o, ah1 b = some o → b ≠ gd → z_up ah5 gd (.inl (0, [.ref c, .null, .ref q, .ref lb, .null, .int (zi 0), .int (zi 0), .int (zi 0)])) b = some o := fun b o hb hn => (z_up_n hn).trans (y5 b o hb hn)
  have D6 : zDq G (z_up ah5 gd (.inl (0, [.ref c, .null, .ref q, .ref lb, .null, .int (zi 0), .int (zi 0), .int (zi 0)]))) q D 0 (fun _ => .null) [] := D5.fr (fun b u hb hu => (z_up_n (fun z => by rcases hb with hb | hb <;> rw [hb] at z <;> first | exact nqg z.symm | exact nDg z.symm)).trans hu)
  have B6 : zSb G (z_up ah5 gd (.inl (0, [.ref c, .null, .ref q, .ref lb, .null, .int (zi 0), .int (zi 0), .int (zi 0)]))) lb lv 16 0 (fun _ => .int (zi 0)) [] := B5.fr (fun b u hb hu => (z_up_n (fun z => by rcases hb with hb | hb <;> rw [hb] at z <;> first | exact nbg z.symm | exact nvg z.symm)).trans hu)
  change zW G mX1_init d _ _ _ _ _ (z_up ah5 gd (.inl (0, [.ref c, .null, .ref q, .ref lb, .null, .int (zi 0), .int (zi 0), .int (zi 0)]))) Q
  generalize z_up ah5 gd (.inl (0, [.ref c, .null, .ref q, .ref lb, .null, .int (zi 0), .int (zi 0), .int (zi 0)])) = ah6 at gd6 S6 g6 y6 D6 B6 ⊢
  refine zr_aload_n dX1_init_37 rfl rfl ?_
  refine zr_bipush dX1_init_38 rfl ?_
  refine zr_newarray (ty := .char) dX1_init_40 rfl q301 (fun _ z => by cases z) (by omega) (by omega) (by show (60 : Int).toNat ≤ _; simp; omega) (fun tx htx => ?_)
  have ntg : gd ≠ tx := fun z => by rw [z, htx] at gd6; cases gd6
  have x7 : ∀ b o, ah6 b = some o → z_up ah6 tx (.inr (.char, (60 : Int).toNat, fun _ => defaultValue .char)) b = some o := fun b o hb => z_upk htx hb
  have t7 : z_up ah6 tx (.inr (.char, (60 : Int).toNat, fun _ => defaultValue .char)) tx = some (.inr (.char, 60, fun _ => .int (zi 0))) := z_up_s
  generalize z_up ah6 tx (.inr (.char, (60 : Int).toNat, fun _ => defaultValue .char)) = ah7 at x7 t7 ⊢
  have gd7 := x7 _ _ gd6
  have g7 : ∀ b o, ah b = some o → b ≠ gd → ah7 b = some o := fun b o hb hn => x7 b o (g6 b o hb hn)
  have y7 : ∀ b o, ah1 b = some o → b ≠ gd → ah7 b = some o := fun b o hb hn => x7 b o (y6 b o hb hn)
  have S7 := S6.gr x7
  have D7 := D6.fr (ah' := ah7) (fun b u _ hu => x7 b u hu)
  have B7 := B6.fr (ah' := ah7) (fun b u _ hu => x7 b u hu)
  refine zr_putf dX1_init_42 nX1 (k := 4) (by decide) q279 (Or.inl rfl) (Or.inr ⟨rfl, rfl, rfl⟩) gd7 (z_ble rfl) rfl rfl ?_
  refine zr_aload_n dX1_init_45 rfl rfl ?_
  refine zr_iconst dX1_init_46 ?_
  refine zr_putf dX1_init_47 nX1 (k := 6) (by decide) q282 (Or.inl rfl) (Or.inl rfl) z_up_s (z_ble rfl) rfl rfl ?_
  rw [z_up_o]
  refine zr_aload_n dX1_init_50 rfl rfl ?_
  refine zr_iconst dX1_init_51 ?_
  refine zr_putf dX1_init_52 nX1 (k := 7) (by decide) q283 (Or.inl rfl) (Or.inl rfl) z_up_s (z_ble rfl) rfl rfl ?_
  rw [z_up_o]
  refine zr_return dX1_init_55 rfl ?_
  have nq1 : ah1 q = none := by
    cases e : ah1 q with
    | none => rfl
    | some u => have := y2 q u e nqg.symm; rw [hq] at this; cases this
  have nD1 : ah1 D = none := by
    cases e : ah1 D with
    | none => rfl
    | some u => have := y2 D u e nDg.symm; rw [z_upk hq this] at hD; cases hD
  have nb1 : ah1 lb = none := by
    cases e : ah1 lb with
    | none => rfl
    | some u => have := y4 lb u e nbg.symm; rw [hlb] at this; cases this
  have nt1 : ah1 tx = none := by
    cases e : ah1 tx with
    | none => rfl
    | some u => have := y6 tx u e ntg.symm; rw [htx] at this; cases this
  refine k _ q D lb tx (fun b o hb hn => (z_up_n hn).trans (g7 b o hb hn)) ⟨c, .null, 0, fun _ => .null, [], lv, 16, 0, fun _ => .int (zi 0), fun _ => .int (zi 0), z_up_s, (S7.kp (fun b o nf _ hb => (z_up_n (fun z => nf (Or.inl z))).trans hb)).mono (fun b hb => ?_), Or.inl ⟨rfl, rfl⟩, D7.fr (fun b u hb hu => (z_up_n (fun z => by rcases hb with hb | hb <;> rw [hb] at z <;> first | exact nqg z.symm | exact nDg z.symm)).trans hu), ⟨rfl, fun i b r hr => by simp at hr⟩, ⟨B7.fr (fun b u hb hu => (z_up_n (fun z => by rcases hb with hb | hb <;> rw [hb] at z <;> first | exact nbg z.symm | exact nvg z.symm)).trans hu), by decide⟩, ⟨(z_up_n ntg.symm).trans t7, fun j hj => by omega⟩, fun b hb => absurd hb id⟩
  rcases hb with hb | hb | hb | hb | hb | hb
  · exact Or.inl hb
  · exact Or.inr (by rw [hb]; exact nq1)
  · exact Or.inr (by rw [hb]; exact nD1)
  · exact Or.inr (by rw [hb]; exact nb1)
  · exact Or.inr (by rw [hb]; exact nt1)
  · exact absurd hb id
