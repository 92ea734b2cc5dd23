set_option maxRecDepth 100000
/-! ===== the component: changes of the state, in the heap ===== -/
def zStR (G : State) (F U : Nat → Prop) (ah : zH) (a : Nat) (s : Int → Int) : Prop := ∃ w e n mc f ps l g tv, zSt G F U ah a s w e n mc f ps l g tv
/-- taken in ah0 -/
def zFre (ah0 : zH) : Nat → Prop := fun b => ah0 b ≠ none
theorem zFre.no {ah0 : zH} {b : Nat} (h : ¬ zFre ah0 b) : ah0 b = none := Classical.byContradiction h
theorem zFre.mk {ah0 ah : zH} {b : Nat} (g : zGr ah0 ah) (h : ah b = none) : ¬ zFre ah0 b := fun z => z (g.no h)
/-- how a change ends: told, with the state changed; or thrown -/
def zAns (G : State) (F : Nat → Prop) (ah0 : zH) (a : Nat) (E : Int → String) (X : Int × Int × (Int → Int)) (Q : zRs → zH → Prop) : Prop :=
  (X.1 = 0 → ∀ ah9, zGr ah0 ah9 → zStR G F (zFre ah0) ah9 a X.2.2 → Q (.inl (some (.int (zi X.2.1)))) ah9) ∧ (X.1 ≠ 0 → ∀ ah9 q, zGr ah0 ah9 → Q (.inr (E X.1, q)) ah9)
theorem zAns.thr {G : State} {F : Nat → Prop} {ah0 : zH} {a : Nat} {E : Int → String} {X : Int × Int × (Int → Int)} {Q : zRs → zH → Prop} (h : zAns G F ah0 a E X Q) {c v : Int} {s : Int → Int} (e : X = (c, v, s)) (hc : c ≠ 0) {ah9 : zH} {q : Nat} (hg : zGr ah0 ah9) : Q (.inr (E c, q)) ah9 := by
  subst e
  exact h.2 hc ah9 q hg
theorem zAns.ok {G : State} {F : Nat → Prop} {ah0 : zH} {a : Nat} {E : Int → String} {X : Int × Int × (Int → Int)} {Q : zRs → zH → Prop} (h : zAns G F ah0 a E X Q) {v : Int} {s : Int → Int} (e : X = (0, v, s)) {ah9 : zH} (hg : zGr ah0 ah9) (hS : zStR G F (zFre ah0) ah9 a s) : Q (.inl (some (.int (zi v)))) ah9 := by
  subst e
  exact h.1 rfl ah9 hg hS
section ZMU
variable {G : State} {F U : Nat → Prop} {ah : zH} {a w e n l : Nat} {s : Int → Int} {mc : Int} {f g : Nat → Value} {ps : List Nat} {tv : Value}
theorem zSt.ndA {ah0 : zH} (H : zSt G F (zFre ah0) ah a s w e n mc f ps l g tv) : ah0 a = none := zFre.no H.2.2.2.2.2.2.2.2.1
theorem zSt.ndW {ah0 : zH} (H : zSt G F (zFre ah0) ah a s w e n mc f ps l g tv) : ah0 w = none := zFre.no H.2.2.2.2.2.2.2.2.2.1
theorem zSt.ndL {ah0 : zH} (H : zSt G F (zFre ah0) ah a s w e n mc f ps l g tv) : ah0 l = none := zFre.no H.2.2.2.2.2.2.2.2.2.2.1
/-- the trails are changed -/
theorem zSt.setL {s' : Int → Int} {g' : Nat → Value} (h : zSt G F U ah a s w e n mc f ps l g tv) (hs0 : s 0 ≤ 12) (hs1 : s 1 ≤ 12) (hm : ∀ j, (j < 48 ∨ 192 ≤ j) → s' j = s j) (hg' : ∀ j : Nat, j < 144 → g' j = .int (zi (s' (48 + (j : Int))))) : zSt G F U (z_up ah l (.inr (.int, 144, g'))) a s' w e n mc f ps l g' tv := by
  obtain ⟨h1, h2, h3, h4, h5, h6, h7, h8, h9⟩ := h
  have hx : ∀ b o, ah b = some o → (∀ f, o ≠ .inr (.int, 144, f)) → z_up ah l (.inr (.int, 144, g')) b = some o := fun b o hb ho => by
    rw [z_up_n (fun z => by rw [z, h5] at hb; cases hb; exact ho _ rfl)]; exact hb
  have e0 : s' 0 = s 0 := hm 0 (Or.inl (by omega))
  have e1 : s' 1 = s 1 := hm 1 (Or.inl (by omega))
  refine ⟨?_, ?_, by rw [e0]; exact h3, fun i p hp => ?_, z_up_s, hg', ?_, h8, h9⟩
  · rw [show zSf G w l tv s' = zSf G w l tv s by unfold zSf; rw [hm 5 (Or.inl (by omega)), hm 6 (Or.inl (by omega)), hm 8 (Or.inl (by omega)), hm 7 (Or.inl (by omega)), hm 9 (Or.inl (by omega)), hm 10 (Or.inl (by omega)), hm 11 (Or.inl (by omega))]]
    exact hx _ _ h1 (fun _ z => by cases z)
  · obtain ⟨q1, q2, q3⟩ := h2
    refine ⟨hx _ _ q1 (fun _ z => by cases z), ?_, q3⟩
    rcases q2 with q2 | ⟨q4, q5, q6⟩
    · exact Or.inl q2
    · exact Or.inr ⟨q4, q5, hx _ _ q6 (fun _ z => by cases z)⟩
  · have hl : (i : Int) < s 0 := by
      have := (List.getElem?_eq_some_iff.mp hp).1
      omega
    obtain ⟨w1, p9, w2, w3, w4⟩ := h4 i p hp
    have e0 : ∀ k : Int, 0 ≤ k → k ≤ 2 → pOf s' i k = pOf s i k := fun k k1 k2 => hm _ (Or.inl (by omega))
    rw [e0 0 (by omega) (by omega), e0 1 (by omega) (by omega), e0 2 (by omega) (by omega)]
    exact ⟨w1, p9, w2, hx _ _ w3 (fun _ z => by cases z), hx _ _ w4 (fun _ z => by cases z)⟩
  · rcases h7 with ⟨t1, t2⟩ | ⟨t1, t, rt, hk, f9, t2, t3, t4, t5, t6, t7, t8, t9⟩
    · exact Or.inl ⟨by rw [e1]; exact t1, t2⟩
    · refine Or.inr ⟨by rw [e1]; exact t1, t, rt, hk, f9, t2, t3, t4, t5, ?_, ?_, fun j hj => ?_, ?_⟩
      · rw [hm 2 (Or.inl (by omega))]; exact hx _ _ t6 (fun _ z => by cases z)
      · rw [e1]
        exact hx _ _ t7 (fun f z => by
          have := (Prod.mk.inj (Prod.mk.inj (Sum.inr.inj z)).2).1
          omega)
      · rw [e1] at hj
        rw [hm _ (Or.inr (by omega))]
        exact t8 j hj
      · unfold zPt
        rw [hm 3 (Or.inl (by omega)), hm 4 (Or.inl (by omega))]
        exact hx _ _ t9 (fun _ z => by cases z)
/-- a waypoint is added -/
theorem zSt.add {s' : Int → Int} {ah9 : zH} {e9 n9 p : Nat} {mc9 : Int} {f9 : Nat → Value} {x y r : Int} (h : zSt G F U ah a s w e n mc f ps l g tv) (hs0 : s 0 ≤ 11) (h0 : s' 0 = s 0 + 1) (hm : ∀ j, (1 ≤ j ∧ j < 12 + 3 * s 0 ∨ 12 + 3 * s 0 + 3 ≤ j) → s' j = s j) (hx : s' (12 + 3 * s 0) = x) (hy : s' (12 + 3 * s 0 + 1) = y) (hr : s' (12 + 3 * s 0 + 2) = r)
    (hz : n = 0 → ah e = none) (hL : zLst G ah9 w e9 n9 mc9 f9 (ps ++ [p])) (hfr : ∀ b o, ah b = some o → b ≠ w → b ≠ e → ah9 b = some o) (hp : zWp F ah9 p x y r) (he : 0 < n9 → ¬ F e9 ∧ ¬ U e9) : zSt G F U ah9 a s' w e9 n9 mc9 f9 (ps ++ [p]) l g tv := by
  obtain ⟨h1, h2, h3, h4, h5, h6, h7, ⟨f1, f2, f3, -⟩, u1, u2, u3, -⟩ := h
  have hk : ∀ b o, ah b = some o → (∀ x, o ≠ .inl (13, x)) → (∀ m f, o ≠ .inr (.object "java/lang/Object", m, f)) → ah9 b = some o := fun b o hb ho ho2 => by
    refine hfr b o hb (fun z => ?_) (fun z => ?_)
    · rw [z, h2.1] at hb; cases hb; exact ho _ rfl
    · rcases h2.2.1 with ⟨q1, q2⟩ | ⟨q1, q2, q3⟩
      · rw [z, hz q1] at hb; cases hb
      · rw [z, q3] at hb; cases hb; exact ho2 _ _ rfl
  have hln : ((ps.length : Nat) : Int) = s 0 := h3
  have h0' : 0 ≤ s 0 := by omega
  refine ⟨?_, hL, by simp; omega, fun i q hq => ?_, hk _ _ h5 (fun _ z => by cases z) (fun _ _ z => by cases z), fun j hj => by rw [hm _ (Or.inr (by omega))]; exact h6 j hj, ?_, ⟨f1, f2, f3, fun z => (he z).1⟩, u1, u2, u3, fun z => (he z).2⟩
  · rw [show zSf G w l tv s' = zSf G w l tv s by unfold zSf; rw [hm 5 (Or.inl (by omega)), hm 6 (Or.inl (by omega)), hm 8 (Or.inl (by omega)), hm 7 (Or.inl (by omega)), hm 9 (Or.inl (by omega)), hm 10 (Or.inl (by omega)), hm 11 (Or.inl (by omega))]]
    exact hk _ _ h1 (fun _ z => by cases z) (fun _ _ z => by cases z)
  · by_cases hi : i < ps.length
    · rw [List.getElem?_append_left hi] at hq
      obtain ⟨w1, p9, w2, w3, w4⟩ := h4 i q hq
      have e0 : ∀ k : Int, 0 ≤ k → k ≤ 2 → pOf s' i k = pOf s i k := fun k k1 k2 => hm _ (Or.inl (by omega))
      rw [e0 0 (by omega) (by omega), e0 1 (by omega) (by omega), e0 2 (by omega) (by omega)]
      exact ⟨w1, p9, w2, hk _ _ w3 (fun _ z => by cases z) (fun _ _ z => by cases z), hk _ _ w4 (fun _ z => by cases z) (fun _ _ z => by cases z)⟩
    · have hi2 : i = ps.length := by
        have := (List.getElem?_eq_some_iff.mp hq).1
        simp at this
        omega
      subst hi2
      rw [List.getElem?_append_right (Nat.le_refl _)] at hq
      simp at hq
      subst hq
      unfold pOf
      rw [show (12 + 3 * ((ps.length : Nat) : Int) + 0) = 12 + 3 * s 0 by omega, show (12 + 3 * ((ps.length : Nat) : Int) + 1) = 12 + 3 * s 0 + 1 by omega, show (12 + 3 * ((ps.length : Nat) : Int) + 2) = 12 + 3 * s 0 + 2 by omega, hx, hy, hr]
      exact hp
  · rcases h7 with ⟨t1, t2⟩ | ⟨t1, t, rt, hk', f9', t2, t3, t4, t5, t6, t7, t8, t9⟩
    · exact Or.inl ⟨by rw [hm 1 (Or.inl (by omega))]; exact t1, t2⟩
    · refine Or.inr ⟨by rw [hm 1 (Or.inl (by omega))]; exact t1, t, rt, hk', f9', t2, t3, t4, t5, ?_, ?_, fun j hj => ?_, ?_⟩
      · rw [hm 2 (Or.inl (by omega))]; exact hk _ _ t6 (fun _ z => by cases z) (fun _ _ z => by cases z)
      · rw [hm 1 (Or.inl (by omega))]; exact hk _ _ t7 (fun _ z => by cases z) (fun _ _ z => by cases z)
      · rw [hm 1 (Or.inl (by omega))] at hj
        rw [hm _ (Or.inr (by omega))]
        exact t8 j hj
      · unfold zPt
        rw [hm 3 (Or.inl (by omega)), hm 4 (Or.inl (by omega))]
        exact hk _ _ t9 (fun _ z => by cases z) (fun _ _ z => by cases z)
/-- the empty array lies in no place of the heap -/
theorem zEm_no {ah : zH} (T : zTb G) (hdom : ∀ a o, ah a = some o → G.heap.size ≤ a) : ah (zEm G) = none := by
  cases hx : ah (zEm G) with
  | none => rfl
  | some o =>
    have := hdom _ _ hx
    have := (z_empty T).2.2
    omega
theorem zSt.emp (h : zSt G F U ah a s w e n mc f ps l g tv) (T : zTb G) (hdom : ∀ a o, ah a = some o → G.heap.size ≤ a) (hn : n = 0) : ah e = none := by
  rcases h.2.1.2.1 with ⟨-, z⟩ | ⟨z, -⟩
  · rw [z]; exact zEm_no T hdom
  · omega
end ZMU
