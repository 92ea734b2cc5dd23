set_option maxRecDepth 100000
/-! ===== the component's object in the heap ===== -/
def zNo : Nat → Prop := fun _ => False
theorem zStR.kp {G : State} {F U : Nat → Prop} {ah ah' : zH} {a : Nat} {s : Int → Int} (h : zStR G F U ah a s) (hk : zKp F ah ah') : zStR G F U ah' a s := by
  obtain ⟨w, e, n, mc, f, ps, l, g, tv, H⟩ := h
  exact ⟨w, e, n, mc, f, ps, l, g, tv, H.kp hk⟩
theorem zStR.gr {G : State} {F U : Nat → Prop} {ah ah' : zH} {a : Nat} {s : Int → Int} (h : zStR G F U ah a s) (hk : zGr ah ah') : zStR G F U ah' a s := h.kp hk.kp
theorem zStR.fr {G : State} {F U : Nat → Prop} {ah : zH} {a : Nat} {s : Int → Int} (h : zStR G F U ah a s) : zStR G F zNo ah a s := by
  obtain ⟨w, e, n, mc, f, ps, l, g, tv, h1, h2, h3, h4, h5, h6, h7, h8, h9⟩ := h
  exact ⟨w, e, n, mc, f, ps, l, g, tv, h1, h2, h3, h4, h5, h6, h7, h8, id, id, id, fun _ => id⟩
theorem zStR.rc {G : State} {F U : Nat → Prop} {ah : zH} {a : Nat} {s : Int → Int} (h : zStR G F U ah a s) : zRc G ah a "TrailGuide$State" := by
  obtain ⟨w, e, n, mc, f, ps, l, g, tv, H⟩ := h
  exact H.rc
theorem zStR.obj {G : State} {F U : Nat → Prop} {ah : zH} {a : Nat} {s : Int → Int} (h : zStR G F U ah a s) : ∃ fs, ah a = some (.inl (1, fs)) := by
  obtain ⟨w, e, n, mc, f, ps, l, g, tv, H⟩ := h
  exact ⟨_, H.1⟩
/-- the places that the law looks at: arrays of numbers, the reference -/
def zTy : zO → Prop
  | .inl (2, _) => True
  | .inr (.int, _, _) => True
  | .inr (.long, _, _) => True
  | .inr (.double, _, _) => True
  | _ => False
def zKt (ah ah' : zH) : Prop := ∀ b o, ah b = some o → zTy o → ah' b = some o
theorem zKt.rf {ah : zH} : zKt ah ah := fun _ _ h _ => h
theorem zKt.tr {a b c : zH} (h : zKt a b) (h' : zKt b c) : zKt a c := fun x o e t => h' x o (h x o e t) t
theorem zGr.kt {ah ah' : zH} (h : zGr ah ah') : zKt ah ah' := fun b o e _ => h b o e
theorem zKt.up {ah : zH} {q : Nat} {x y : zO} (hq : ah q = some x) (hx : ¬ zTy x) : zKt ah (z_up ah q y) := fun b o hb ht => by
  rw [z_up_n (fun z => by rw [z, hq] at hb; cases hb; exact hx ht)]; exact hb
theorem zKt.two {ah ah9 : zH} {p q : Nat} {x y : zO} (h : ∀ b o, ah b = some o → b ≠ p → b ≠ q → ah9 b = some o) (hp : ah p = some x) (hx : ¬ zTy x) (hq : ah q = some y) (hy : ¬ zTy y) : zKt ah ah9 := fun b o hb ht => h b o hb (fun z => by rw [z, hp] at hb; cases hb; exact hx ht) (fun z => by rw [z, hq] at hb; cases hb; exact hy ht)
/-- the places of the component's own that change, and those of the law -/
def zFg (gd q D lb tx : Nat) (F0 : Nat → Prop) : Nat → Prop := fun b => b = gd ∨ b = q ∨ b = D ∨ b = lb ∨ b = tx ∨ F0 b
def zGo (a : Nat) (v : Value) (q lb tx : Nat) (tn er fl : Int) : List Value := [.ref a, v, .ref q, .ref lb, .ref tx, .int (zi tn), .int (zi er), .int (zi fl)]
def zSvd (G : State) (F : Nat → Prop) (ah : zH) (v : Value) (sv : Option (Int → Int)) : Prop := (v = .null ∧ sv = none) ∨ ∃ b r, v = .ref b ∧ sv = some r ∧ zStR G F zNo ah b r
def zHs (G : State) (F : Nat → Prop) (ah : zH) (hl : List Nat) (hs : List (Int → Int)) : Prop := hl.length = hs.length ∧ ∀ (i b : Nat) (r : Int → Int), hl[i]? = some b → hs[i]? = some r → zStR G F zNo ah b r
theorem zSvd.kp {G : State} {F : Nat → Prop} {ah ah' : zH} {v : Value} {sv : Option (Int → Int)} (h : zSvd G F ah v sv) (hk : zKp F ah ah') : zSvd G F ah' v sv := by
  rcases h with h | ⟨b, r, h1, h2, h3⟩
  · exact Or.inl h
  · exact Or.inr ⟨b, r, h1, h2, h3.kp hk⟩
theorem zSvd.fit {G : State} {F : Nat → Prop} {ah : zH} {v : Value} {sv : Option (Int → Int)} (h : zSvd G F ah v sv) : z_ref v = true := by
  rcases h with ⟨h, -⟩ | ⟨b, r, h, -⟩ <;> rw [h] <;> rfl
theorem zHs.kp {G : State} {F : Nat → Prop} {ah ah' : zH} {hl : List Nat} {hs : List (Int → Int)} (h : zHs G F ah hl hs) (hk : zKp F ah ah') : zHs G F ah' hl hs := ⟨h.1, fun i b r h1 h2 => (h.2 i b r h1 h2).kp hk⟩
/-- the component: fixed places gd (itself), q (history) over D, lb (line), tx (text); what it tells: row s, saved sv, history hs, line ln, text tp of tn, er, fl -/
def zGc (G : State) (F0 : Nat → Prop) (gd q D lb tx : Nat) (ah : zH) (s : Int → Int) (sv : Option (Int → Int)) (hs : List (Int → Int)) (ln : List Int) (tp : Int → Int) (tn er fl : Int) (a : Nat) (v : Value) (h : Nat) (f : Nat → Value) (hl : List Nat) (lv n : Nat) (ml : Int) (gl ft : Nat → Value) : Prop :=
  ah gd = some (.inl (0, zGo a v q lb tx tn er fl)) ∧ zStR G (zFg gd q D lb tx F0) zNo ah a s ∧ zSvd G (zFg gd q D lb tx F0) ah v sv ∧ zDq G ah q D h f hl ∧ zHs G (zFg gd q D lb tx F0) ah hl hs ∧ (zSb G ah lb lv n ml gl ln ∧ n ≤ 400) ∧
  (ah tx = some (.inr (.char, 60, ft)) ∧ ∀ j : Nat, (j : Int) < tn → ft j = .int (zi (tp j))) ∧ ∀ b, F0 b → ∃ o, ah b = some o ∧ zTy o
def zGd (G : State) (F0 : Nat → Prop) (gd q D lb tx : Nat) (ah : zH) (s : Int → Int) (sv : Option (Int → Int)) (hs : List (Int → Int)) (ln : List Int) (tp : Int → Int) (tn er fl : Int) : Prop := ∃ a v h f hl lv n ml gl ft, zGc G F0 gd q D lb tx ah s sv hs ln tp tn er fl a v h f hl lv n ml gl ft
section ZGD
variable {G : State} {F0 : Nat → Prop} {gd q D lb tx : Nat} {ah : zH} {s : Int → Int} {sv : Option (Int → Int)} {hs : List (Int → Int)} {ln : List Int} {tp : Int → Int} {tn er fl : Int} {a : Nat} {v : Value} {h : Nat} {f : Nat → Value} {hl : List Nat} {lv n : Nat} {ml : Int} {gl ft : Nat → Value}
theorem zGc.rc (H : zGc G F0 gd q D lb tx ah s sv hs ln tp tn er fl a v h f hl lv n ml gl ft) : zRc G ah gd "TrailGuide" := Or.inl ⟨0, _, TX1, 8, tyX1, nX1, H.1⟩
/-- the fixed places are taken -/
theorem zGc.hF (H : zGc G F0 gd q D lb tx ah s sv hs ln tp tn er fl a v h f hl lv n ml gl ft) : ∀ b, zFg gd q D lb tx F0 b → zFre ah b := by
  obtain ⟨h1, h2, h3, h4, h5, h6, h7, h8⟩ := H
  intro b hb z
  rcases hb with rfl | rfl | rfl | rfl | rfl | hb
  · rw [h1] at z; cases z
  · rw [h4.1] at z; cases z
  · rw [h4.2.2.1] at z; cases z
  · rw [h6.1.1] at z; cases z
  · rw [h7.1] at z; cases z
  · obtain ⟨o, ho, -⟩ := h8 b hb
    rw [ho] at z; cases z
/-- a heap that keeps what the component knows -/
theorem zGc.kp {ah' : zH} (H : zGc G F0 gd q D lb tx ah s sv hs ln tp tn er fl a v h f hl lv n ml gl ft) (hk : ∀ b o, ah b = some o → b ≠ gd → b ≠ tx → ah' b = some o) {a' : Nat} {v' : Value} {s' : Int → Int} {sv' : Option (Int → Int)} {tp' : Int → Int} {tn' er' fl' : Int} {ft' : Nat → Value} (h1 : ah' gd = some (.inl (0, zGo a' v' q lb tx tn' er' fl'))) (h2 : zStR G (zFg gd q D lb tx F0) zNo ah' a' s') (h3 : zSvd G (zFg gd q D lb tx F0) ah' v' sv') (h7 : ah' tx = some (.inr (.char, 60, ft'))) (h8 : ∀ j : Nat, (j : Int) < tn' → ft' j = .int (zi (tp' j))) : zGc G F0 gd q D lb tx ah' s' sv' hs ln tp' tn' er' fl' a' v' h f hl lv n ml gl ft' := by
  obtain ⟨g1, g2, g3, g4, g5, g6, g7, g8⟩ := H
  have hx : ∀ b o, ah b = some o → (∀ fs, o ≠ .inl (0, fs)) → (∀ m z, o ≠ .inr (.char, m, z)) → ah' b = some o := fun b o hb n1 n2 => hk b o hb (fun z => by rw [z, g1] at hb; cases hb; exact n1 _ rfl) (fun z => by rw [z, g7.1] at hb; cases hb; exact n2 _ _ rfl)
  refine ⟨h1, h2, h3, ?_, ?_, ⟨?_, g6.2⟩, ⟨h7, h8⟩, fun b hb => ?_⟩
  · refine g4.fr (fun b o hb ho => ?_)
    rcases hb with hb | hb
    · rw [hb, g4.1] at ho; cases ho; rw [hb]; exact hx _ _ g4.1 (fun _ z => by cases z) (fun _ _ z => by cases z)
    · rw [hb, g4.2.2.1] at ho; cases ho; rw [hb]; exact hx _ _ g4.2.2.1 (fun _ z => by cases z) (fun _ _ z => by cases z)
  · exact g5.kp (fun b o nf _ hb => hk b o hb (fun z => nf (Or.inl z)) (fun z => nf (Or.inr (Or.inr (Or.inr (Or.inr (Or.inl z)))))))
  · refine g6.1.fr (fun b o hb ho => ?_)
    rcases hb with hb | hb
    · rw [hb, g6.1.1] at ho; cases ho; rw [hb]; exact hx _ _ g6.1.1 (fun _ z => by cases z) (fun _ _ z => by cases z)
    · rw [hb, g6.1.2.2.1] at ho; cases ho; rw [hb]; exact hx _ _ g6.1.2.2.1 (fun _ z => by cases z) (fun _ _ z => by cases z)
  · obtain ⟨o, ho, ht⟩ := g8 b hb
    refine ⟨o, hx b o ho (fun fs z => ?_) (fun m y z => ?_), ht⟩
    · rw [z] at ht; exact ht
    · rw [z] at ht; exact ht
theorem zGc.gr {ah' : zH} (H : zGc G F0 gd q D lb tx ah s sv hs ln tp tn er fl a v h f hl lv n ml gl ft) (g : zGr ah ah') : zGc G F0 gd q D lb tx ah' s sv hs ln tp tn er fl a v h f hl lv n ml gl ft :=
  H.kp (fun b o hb _ _ => g b o hb) (g _ _ H.1) (H.2.1.gr g) (H.2.2.1.kp g.kp) (g _ _ H.2.2.2.2.2.2.1.1) H.2.2.2.2.2.2.1.2
end ZGD
/-- no tour, no alarm -/
def pAl (s : Int → Int) : Prop := s 1 = 0 → s 5 = 0
/-- what a change leaves in the history -/
def pHp (hs : List (Int → Int)) (s : Int → Int) : List (Int → Int) := (if hs.length = 8 then hs.drop 1 else hs) ++ [s]
