set_option maxRecDepth 100000
/-! ===== the component's state in the heap ===== -/
/-- a heap that has grown only -/
def zGr (ah ah' : zH) : Prop := ∀ b o, ah b = some o → ah' b = some o
theorem zGr.rf {ah : zH} : zGr ah ah := fun _ _ h => h
theorem zGr.tr {a b c : zH} (h : zGr a b) (h' : zGr b c) : zGr a c := fun x o e => h' x o (h x o e)
theorem zGr.up {ah : zH} {q : Nat} {o : zO} (h : ah q = none) : zGr ah (z_up ah q o) := fun b x hb => by
  rw [z_up_n (fun z => by rw [z, h] at hb; cases hb)]; exact hb
theorem zGr.tu {ah0 ah : zH} {q : Nat} {o : zO} (h : zGr ah0 ah) (hq : ah0 q = none) : zGr ah0 (z_up ah q o) := fun b x hb => by
  rw [z_up_n (fun z => by rw [z, hq] at hb; cases hb)]; exact h b x hb
theorem zGr.no {ah ah' : zH} (h : zGr ah ah') {q : Nat} (hq : ah' q = none) : ah q = none := by
  cases e : ah q with
  | none => rfl
  | some o => rw [h q o e] at hq; cases hq
/-- no array of bytes -/
def zNB : zO → Prop
  | .inr (.byte, _, _) => False
  | _ => True
/-- a heap alike, but for the places of F and arrays of bytes -/
def zKp (F : Nat → Prop) (ah ah' : zH) : Prop := ∀ b o, ¬ F b → zNB o → ah b = some o → ah' b = some o
theorem zGr.kp {F : Nat → Prop} {ah ah' : zH} (h : zGr ah ah') : zKp F ah ah' := fun b o _ _ e => h b o e
theorem zKp.tr {F : Nat → Prop} {a b c : zH} (h : zKp F a b) (h' : zKp F b c) : zKp F a c := fun x o f n e => h' x o f n (h x o f n e)
theorem zKp.rf {F : Nat → Prop} {ah : zH} : zKp F ah ah := fun _ _ _ _ h => h
/-- a point p at (x, y) -/
def zPt (ah : zH) (p : Nat) (x y : Int) : Prop := ah p = some (.inl (4, [.int (zi x), .int (zi y)]))
theorem zPt.rc {G : State} {ah : zH} {p : Nat} {x y : Int} (h : zPt ah p x y) : zRc G ah p "TrailGuide$Point" := Or.inl ⟨4, _, TX6, 2, tyX6, nX6, h⟩
theorem zPt.gr {ah ah' : zH} {p : Nat} {x y : Int} (h : zPt ah p x y) (g : zGr ah ah') : zPt ah' p x y := g _ _ h
/-- a waypoint -/
def zWp (F : Nat → Prop) (ah : zH) (w : Nat) (x y r : Int) : Prop := ¬ F w ∧ ∃ p, ¬ F p ∧ ah w = some (.inl (3, [.ref p, .int (zi r)])) ∧ zPt ah p x y
theorem zWp.rc {G : State} {F : Nat → Prop} {ah : zH} {w : Nat} {x y r : Int} (h : zWp F ah w x y r) : zRc G ah w "TrailGuide$Waypoint" := by
  obtain ⟨-, p, -, h, -⟩ := h
  exact Or.inl ⟨3, _, TX5, 2, tyX5, nX5, h⟩
theorem zWp.kp {F : Nat → Prop} {ah ah' : zH} {w : Nat} {x y r : Int} (h : zWp F ah w x y r) (g : zKp F ah ah') : zWp F ah' w x y r := by
  obtain ⟨h1, p, h2, h3, h4⟩ := h
  exact ⟨h1, p, h2, g _ _ h1 trivial h3, g _ _ h2 trivial h4⟩
/-- a tour -/
def zTo (F : Nat → Prop) (ah : zH) (t rt hk : Nat) (f : Nat → Value) (s : Int → Int) : Prop := ¬ F t ∧ ¬ F rt ∧ ¬ F hk ∧ ah t = some (.inl (5, [.ref rt, .int (zi (s 2)), .ref hk])) ∧ ah rt = some (.inr (.int, (s 1).toNat, f)) ∧ (∀ j : Nat, j < (s 1).toNat → f j = .int (zi (s (192 + (j : Int))))) ∧ zPt ah hk (s 3) (s 4)
theorem zTo.rc {G : State} {F : Nat → Prop} {ah : zH} {t rt hk : Nat} {f : Nat → Value} {s : Int → Int} (h : zTo F ah t rt hk f s) : zRc G ah t "TrailGuide$Tour" := Or.inl ⟨5, _, TX7, 3, tyX7, nX7, h.2.2.2.1⟩
theorem zTo.kp {F : Nat → Prop} {ah ah' : zH} {t rt hk : Nat} {f : Nat → Value} {s : Int → Int} (h : zTo F ah t rt hk f s) (g : zKp F ah ah') : zTo F ah' t rt hk f s := by
  obtain ⟨h1, h2, h3, h4, h5, h6, h7⟩ := h
  exact ⟨h1, h2, h3, g _ _ h1 trivial h4, g _ _ h2 trivial h5, h6, g _ _ h3 trivial h7⟩
/-- the tour's field -/
def zTv (F : Nat → Prop) (ah : zH) (tv : Value) (s : Int → Int) : Prop := (s 1 = 0 ∧ tv = .null) ∨ (0 < s 1 ∧ ∃ t rt hk f, tv = .ref t ∧ zTo F ah t rt hk f s)
theorem zTv.kp {F : Nat → Prop} {ah ah' : zH} {tv : Value} {s : Int → Int} (h : zTv F ah tv s) (g : zKp F ah ah') : zTv F ah' tv s := by
  rcases h with h | ⟨h, t, rt, hk, f, h1, h2⟩
  · exact Or.inl h
  · exact Or.inr ⟨h, t, rt, hk, f, h1, h2.kp g⟩
theorem zTv.ref {F : Nat → Prop} {ah : zH} {tv : Value} {s : Int → Int} (h : zTv F ah tv s) : z_ref tv = true := by
  rcases h with ⟨-, h⟩ | ⟨-, t, rt, hk, f, h, -⟩ <;> rw [h] <;> rfl
def zSf (G : State) (w l : Nat) (tv : Value) (s : Int → Int) : List Value := [.ref w, .ref l, tv, .int (zi (s 5)), .int (zi (s 6)), .int (zi (s 8)), .ref (zMo G (s 7).toNat), .int (zi (s 9)), .int (zi (s 10)), .int (zi (s 11))]
/-- the State a tells the row s; F are places it has nothing of, U places it changes nothing of -/
def zSt (G : State) (F U : Nat → Prop) (ah : zH) (a : Nat) (s : Int → Int) (w e n : Nat) (mc : Int) (f : Nat → Value) (ps : List Nat) (l : Nat) (g : Nat → Value) (tv : Value) : Prop :=
  ah a = some (.inl (1, zSf G w l tv s)) ∧ zLst G ah w e n mc f ps ∧ ((ps.length : Nat) : Int) = s 0 ∧ (∀ (i p : Nat), ps[i]? = some p → zWp F ah p (pOf s i 0) (pOf s i 1) (pOf s i 2)) ∧
  ah l = some (.inr (.int, 144, g)) ∧ (∀ j : Nat, j < 144 → g j = .int (zi (s (48 + (j : Int))))) ∧ zTv F ah tv s ∧ (¬ F a ∧ ¬ F w ∧ ¬ F l ∧ (0 < n → ¬ F e)) ∧ (¬ U a ∧ ¬ U w ∧ ¬ U l ∧ (0 < n → ¬ U e))
theorem zLst.kp {G : State} {F : Nat → Prop} {ah ah' : zH} {a e n : Nat} {mc : Int} {f : Nat → Value} {l : List Nat} (h : zLst G ah a e n mc f l) (hk : zKp F ah ah') (ha : ¬ F a) (he : 0 < n → ¬ F e) : zLst G ah' a e n mc f l := by
  obtain ⟨h1, h2, h3⟩ := h
  refine ⟨hk _ _ ha trivial h1, ?_, h3⟩
  rcases h2 with h2 | ⟨h4, h5, h6⟩
  · exact Or.inl h2
  · exact Or.inr ⟨h4, h5, hk _ _ (he h4) trivial h6⟩
theorem zSt.kp {G : State} {F U : Nat → Prop} {ah ah' : zH} {a : Nat} {s : Int → Int} {w e n : Nat} {mc : Int} {f : Nat → Value} {ps : List Nat} {l : Nat} {g : Nat → Value} {tv : Value} (h : zSt G F U ah a s w e n mc f ps l g tv) (hk : zKp F ah ah') : zSt G F U ah' a s w e n mc f ps l g tv := by
  obtain ⟨h1, h2, h3, h4, h5, h6, h7, ⟨n1, n2, n3, n4⟩, h9⟩ := h
  exact ⟨hk _ _ n1 trivial h1, h2.kp hk n2 n4, h3, fun i p hp => (h4 i p hp).kp hk, hk _ _ n3 trivial h5, h6, h7.kp hk, ⟨n1, n2, n3, n4⟩, h9⟩
theorem zSt.gr {G : State} {F U : Nat → Prop} {ah ah' : zH} {a : Nat} {s : Int → Int} {w e n : Nat} {mc : Int} {f : Nat → Value} {ps : List Nat} {l : Nat} {g : Nat → Value} {tv : Value} (h : zSt G F U ah a s w e n mc f ps l g tv) (hg : zGr ah ah') : zSt G F U ah' a s w e n mc f ps l g tv := h.kp hg.kp
theorem zSt.rc {G : State} {F U : Nat → Prop} {ah : zH} {a : Nat} {s : Int → Int} {w e n : Nat} {mc : Int} {f : Nat → Value} {ps : List Nat} {l : Nat} {g : Nat → Value} {tv : Value} (h : zSt G F U ah a s w e n mc f ps l g tv) : zRc G ah a "TrailGuide$State" := Or.inl ⟨1, _, TX2, 10, tyX2, nX2, h.1⟩
theorem zSt.el {G : State} {F U : Nat → Prop} {ah : zH} {a : Nat} {s : Int → Int} {w e n : Nat} {mc : Int} {f : Nat → Value} {ps : List Nat} {l : Nat} {g : Nat → Value} {tv : Value} (h : zSt G F U ah a s w e n mc f ps l g tv) : ∀ x ∈ ps, zRc G ah x "TrailGuide$Waypoint" := fun x hx => by
  obtain ⟨i, hi⟩ := List.getElem?_of_mem hx
  exact (h.2.2.2.1 i x hi).rc
/-- the State's places differ by what they hold -/
theorem zSt.ne {G : State} {F U : Nat → Prop} {ah : zH} {a : Nat} {s : Int → Int} {w e n : Nat} {mc : Int} {f : Nat → Value} {ps : List Nat} {l : Nat} {g : Nat → Value} {tv : Value} (h : zSt G F U ah a s w e n mc f ps l g tv) : a ≠ w ∧ a ≠ l ∧ w ≠ l ∧ (0 < n → a ≠ e ∧ w ≠ e ∧ l ≠ e) := by
  obtain ⟨h1, ⟨h2, h3, -⟩, -, -, h5, -⟩ := h
  refine ⟨fun z => ?_, fun z => ?_, fun z => ?_, fun hn => ?_⟩
  · rw [z, h2] at h1; cases h1
  · rw [z, h5] at h1; cases h1
  · rw [z, h5] at h2; cases h2
  · rcases h3 with h3 | ⟨-, -, h3⟩
    · omega
    · refine ⟨fun z => ?_, fun z => ?_, fun z => ?_⟩
      · rw [z, h3] at h1; cases h1
      · rw [z, h3] at h2; cases h2
      · rw [z, h3] at h5; cases h5
/-- the State alone is changed: fields -/
theorem zSt.setA {G : State} {F U : Nat → Prop} {ah : zH} {a : Nat} {s s' : Int → Int} {w e n : Nat} {mc : Int} {f : Nat → Value} {ps : List Nat} {l : Nat} {g : Nat → Value} {tv tv' : Value} (h : zSt G F U ah a s w e n mc f ps l g tv) (hs0 : s 0 ≤ 12) (h0 : s' 0 = s 0) (hm : ∀ j, 12 ≤ j → j < 192 → s' j = s j) (ht : zTv F ah tv' s') : zSt G F U (z_up ah a (.inl (1, zSf G w l tv' s'))) a s' w e n mc f ps l g tv' := by
  obtain ⟨n1, n2, n3, n4⟩ := h.ne
  obtain ⟨h1, h2, h3, h4, h5, h6, h7, h8, h9⟩ := h
  have hx : ∀ b o, ah b = some o → (∀ fs, o ≠ .inl (1, fs)) → z_up ah a (.inl (1, zSf G w l tv' s')) b = some o := fun b o hb ho => by
    rw [z_up_n (fun z => by rw [z, h1] at hb; cases hb; exact ho _ rfl)]; exact hb
  refine ⟨z_up_s, ?_, by rw [h0]; exact h3, fun i p hp => ?_, hx _ _ h5 (fun _ z => by cases z), fun j hj => by rw [hm _ (by omega) (by omega)]; exact h6 j hj, ?_, h8, h9⟩
  · obtain ⟨q1, q2, q3⟩ := h2
    refine ⟨hx _ _ q1 (fun _ z => by cases z), ?_, q3⟩
    rcases q2 with q2 | ⟨q4, q5, q6⟩
    · exact Or.inl q2
    · exact Or.inr ⟨q4, q5, hx _ _ q6 (fun _ z => by cases z)⟩
  · have hl : (i : Int) < s 0 := by
      have := (List.getElem?_eq_some_iff.mp hp).1
      omega
    obtain ⟨w1, p9, w2, w3, w4⟩ := h4 i p hp
    have e0 : ∀ k : Int, 0 ≤ k → k ≤ 2 → pOf s' i k = pOf s i k := fun k k1 k2 => hm _ (by omega) (by omega)
    rw [e0 0 (by omega) (by omega), e0 1 (by omega) (by omega), e0 2 (by omega) (by omega)]
    exact ⟨w1, p9, w2, hx _ _ w3 (fun _ z => by cases z), hx _ _ w4 (fun _ z => by cases z)⟩
  · rcases ht with ht | ⟨t1, t, rt, hk, f9, t2, t3, t4, t5, t6, t7, t8, t9⟩
    · exact Or.inl ht
    · exact Or.inr ⟨t1, t, rt, hk, f9, t2, t3, t4, t5, hx _ _ t6 (fun _ z => by cases z), hx _ _ t7 (fun _ z => by cases z), t8, hx _ _ t9 (fun _ z => by cases z)⟩
