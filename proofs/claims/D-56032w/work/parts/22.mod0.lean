set_option maxRecDepth 100000
/-! ===== the reference's object and its arrays ===== -/
/-- arrays by field number, whole-number-indexed; ints by field number -/
abbrev zMS : Type := (Nat → Int → Int) × (Nat → Int)
def z_upF (f : Int → Int) (i v : Int) : Int → Int := fun j => if j = i then v else f j
def zua (S : zMS) (k : Nat) (f : Int → Int) : zMS := (fun i => if i = k then f else S.1 i, S.2)
def zuf (S : zMS) (k : Nat) (v : Int) : zMS := (S.1, fun i => if i = k then v else S.2 i)
theorem z_upF_s {f : Int → Int} {i v : Int} : z_upF f i v i = v := by simp [z_upF]
theorem z_upF_n {f : Int → Int} {i j v : Int} (h : j ≠ i) : z_upF f i v j = f j := by simp [z_upF, h]
theorem zua_s {S : zMS} {k : Nat} {f : Int → Int} : (zua S k f).1 k = f := by simp [zua]
theorem zua_n {S : zMS} {k j : Nat} {f : Int → Int} (h : j ≠ k) : (zua S k f).1 j = S.1 j := by simp [zua, h]
theorem zua_2 {S : zMS} {k : Nat} {f : Int → Int} : (zua S k f).2 = S.2 := rfl
theorem zuf_1 {S : zMS} {k : Nat} {v : Int} : (zuf S k v).1 = S.1 := rfl
theorem zuf_s {S : zMS} {k : Nat} {v : Int} : (zuf S k v).2 k = v := by simp [zuf]
theorem zuf_n {S : zMS} {k j : Nat} {v : Int} (h : j ≠ k) : (zuf S k v).2 j = S.2 j := by simp [zuf, h]
/-- the cells of an int array -/
def zIa (f : Int → Int) : Nat → Value := fun j => .int (zi (f (j : Int)))
theorem zIa_up (f : Int → Int) {i : Int} (hi : 0 ≤ i) (v : Int) : z_upV (zIa f) i.toNat (.int (zi v)) = zIa (z_upF f i v) := by
  funext k
  unfold z_upV zIa z_upF
  by_cases h : k = i.toNat
  · rw [if_pos h, if_pos (by omega)]
  · rw [if_neg h, if_neg (by omega)]
theorem zIa_at (f : Int → Int) {i : Int} (hi : 0 ≤ i) : zIa f i.toNat = .int (zi (f i)) := by unfold zIa; rw [show ((i.toNat : Nat) : Int) = i by omega]
/-- the array fields, their lengths -/
def zMn (k : Nat) : Nat := match k with
  | 0 => 204
  | 1 => 204
  | 2 => 204
  | 3 => 1632
  | 4 => 12
  | 11 => 120
  | 13 => 60
  | 14 => 124
  | _ => 0
def zMl : List Nat := [0, 1, 2, 3, 4, 11, 13, 14]
def zMf (A : Nat → Nat) (S : zMS) : List Value := [.ref (A 0), .ref (A 1), .ref (A 2), .ref (A 3), .ref (A 4), .int (zi (S.2 5)), .int (zi (S.2 6)), .int (zi (S.2 7)), .int (zi (S.2 8)), .int (zi (S.2 9)), .int (zi (S.2 10)), .ref (A 11), .int (zi (S.2 12)), .ref (A 13), .ref (A 14), .int (zi (S.2 15)), .int (zi (S.2 16)), .int (zi (S.2 17))]
/-- the places are apart -/
def zMi (A : Nat → Nat) : Prop := ∀ i ∈ (18 :: zMl), ∀ j ∈ (18 :: zMl), A i = A j → i = j
def zMh (ah : zH) (A : Nat → Nat) (S : zMS) : zH := fun b => if b = A 18 then some (.inl (2, zMf A S)) else match zMl.find? (fun k => b == A k) with
  | some k => some (.inr (.int, zMn k, zIa (S.1 k)))
  | none => ah b
section ZM
variable {ah : zH} {A : Nat → Nat} {S : zMS}
theorem zMh_o : zMh ah A S (A 18) = some (.inl (2, zMf A S)) := by unfold zMh; rw [if_pos rfl]
theorem zM_find (hA : zMi A) {k : Nat} (hk : k ∈ zMl) : zMl.find? (fun j => A k == A j) = some k := by
  have h2 : ∀ j ∈ zMl, (A k == A j) = (k == j) := fun j hj => by
    by_cases e : k = j
    · subst e; simp
    · rw [beq_eq_false_iff_ne.mpr e]
      exact beq_eq_false_iff_ne.mpr (fun z => e (hA k (List.mem_cons_of_mem _ hk) j (List.mem_cons_of_mem _ hj) z))
  have h3 : ∀ l : List Nat, (∀ j ∈ l, (A k == A j) = (k == j)) → k ∈ l → l.find? (fun j => A k == A j) = some k := by
    intro l
    induction l with
    | nil => intro _ h; cases h
    | cons x r ih =>
      intro h hm
      rw [List.find?_cons, h x List.mem_cons_self]
      by_cases e : k = x
      · subst e; simp
      · rw [beq_eq_false_iff_ne.mpr e]
        exact ih (fun j hj => h j (List.mem_cons_of_mem _ hj)) ((List.mem_cons.mp hm).resolve_left e)
  exact h3 _ h2 hk
theorem zM_ne (hA : zMi A) {k : Nat} (hk : k ∈ zMl) : A k ≠ A 18 := fun z => by
  have := hA k (List.mem_cons_of_mem _ hk) 18 List.mem_cons_self z
  subst this
  revert hk
  decide
theorem zMh_k (hA : zMi A) {k : Nat} (hk : k ∈ zMl) : zMh ah A S (A k) = some (.inr (.int, zMn k, zIa (S.1 k))) := by
  unfold zMh
  rw [if_neg (zM_ne hA hk), zM_find hA hk]
theorem zMh_uk (hA : zMi A) {k : Nat} (hk : k ∈ zMl) (f : Int → Int) : z_up (zMh ah A S) (A k) (.inr (.int, zMn k, zIa f)) = zMh ah A (zua S k f) := by
  funext b
  by_cases e : b = A k
  · subst e
    rw [z_up_s, zMh_k hA hk, zua_s]
  · rw [z_up_n e]
    unfold zMh
    by_cases e2 : b = A 18
    · rw [if_pos e2, if_pos e2]; rfl
    · rw [if_neg e2, if_neg e2]
      cases hf : zMl.find? (fun j => b == A j) with
      | none => rfl
      | some j =>
        have hj : b = A j := by have := List.find?_some hf; simpa using this
        have : j ≠ k := fun z => e (by rw [hj, z])
        show some _ = some _
        rw [zua_n this]
theorem zMf_set {k : Nat} (hk : k ∈ [5, 6, 7, 8, 9, 10, 12, 15, 16, 17]) (v : Int) : (zMf A S).set k (.int (zi v)) = zMf A (zuf S k v) := by
  simp only [List.mem_cons, List.not_mem_nil, or_false] at hk
  rcases hk with e | e | e | e | e | e | e | e | e | e <;> subst e <;> rfl
theorem zMh_uo {k : Nat} (hk : k ∈ [5, 6, 7, 8, 9, 10, 12, 15, 16, 17]) (v : Int) : z_up (zMh ah A S) (A 18) (.inl (2, (zMf A S).set k (.int (zi v)))) = zMh ah A (zuf S k v) := by
  funext b
  rw [zMf_set hk]
  by_cases e : b = A 18
  · subst e; rw [z_up_s, zMh_o]
  · rw [z_up_n e]
    unfold zMh
    rw [if_neg e, if_neg e]
    rfl
theorem zM_rc {G : State} : zRc G (zMh ah A S) (A 18) "TrailGuideModel" := Or.inl ⟨2, zMf A S, TX4, 18, tyX4, nX4, zMh_o⟩
end ZM
section ZMR
variable {G : State} {M : zMd} {d rc rs pc : Nat} {ls : List (Option Value)} {st : List Value} {ah : zH} {Q : zRs → zH → Prop} {A : Nat → Nat} {S : zMS} {idx : Nat}
theorem zm_geta (k : Nat) (hd : decode M.2.1 pc = .ok (.getfield idx, 3)) (hl : Cond.fieldLink M.1.cls idx "TrailGuideModel" (TX4 k).2.1 (TX4 k).2.2.1 ∈ lw_all) (hk : (zMf A S)[k]? = some (.ref (A k))) (kk : zW G M d rc rs (pc + 3) ls (.ref (A k) :: st) (zMh ah A S) Q) : zW G M d rc rs pc ls (.ref (A 18) :: st) (zMh ah A S) Q := by
  have h18 : k < 18 := (List.getElem?_eq_some_iff.mp hk).1
  exact zr_getf hd nX4 h18 hl (Or.inl (by unfold TX4; split <;> rfl)) zMh_o hk kk
theorem zm_geti (k : Nat) (hd : decode M.2.1 pc = .ok (.getfield idx, 3)) (hl : Cond.fieldLink M.1.cls idx "TrailGuideModel" (TX4 k).2.1 (TX4 k).2.2.1 ∈ lw_all) (hk : (zMf A S)[k]? = some (.int (zi (S.2 k)))) (kk : zW G M d rc rs (pc + 3) ls (.int (zi (S.2 k)) :: st) (zMh ah A S) Q) : zW G M d rc rs pc ls (.ref (A 18) :: st) (zMh ah A S) Q := by
  have h18 : k < 18 := (List.getElem?_eq_some_iff.mp hk).1
  exact zr_getf hd nX4 h18 hl (Or.inl (by unfold TX4; split <;> rfl)) zMh_o hk kk
theorem zm_put (k : Nat) {v : Int} (hd : decode M.2.1 pc = .ok (.putfield idx, 3)) (hl : Cond.fieldLink M.1.cls idx "TrailGuideModel" (TX4 k).2.1 (TX4 k).2.2.1 ∈ lw_all) (hk : k ∈ [5, 6, 7, 8, 9, 12, 15, 16, 17])
    (kk : zW G M d rc rs (pc + 3) ls st (zMh ah A (zuf S k v)) Q) : zW G M d rc rs pc ls (.int (zi v) :: .ref (A 18) :: st) (zMh ah A S) Q := by
  have h18 : k < 18 ∧ (TX4 k).2.2.2 = false ∧ tyX4 k = .int ∧ (TX4 k).1 = "TrailGuideModel" ∧ k ∈ [5, 6, 7, 8, 9, 10, 12, 15, 16, 17] := by
    simp only [List.mem_cons, List.not_mem_nil, or_false] at hk
    rcases hk with e | e | e | e | e | e | e | e | e <;> subst e <;> decide
  refine zr_putf hd nX4 h18.1 hl (Or.inl h18.2.2.2.1.symm) (Or.inl h18.2.1) zMh_o h18.1 (by rw [h18.2.2.1]; rfl) (by rw [h18.2.2.1]; rfl) ?_
  rw [zMh_uo h18.2.2.2.2]
  exact kk
theorem zm_putB {b : Bool} (hd : decode M.2.1 pc = .ok (.putfield idx, 3)) (hl : Cond.fieldLink M.1.cls idx "TrailGuideModel" (TX4 10).2.1 (TX4 10).2.2.1 ∈ lw_all)
    (kk : zW G M d rc rs (pc + 3) ls st (zMh ah A (zuf S 10 (zB b))) Q) : zW G M d rc rs pc ls (.int (zi (zB b)) :: .ref (A 18) :: st) (zMh ah A S) Q := by
  refine zr_putf (k := 10) hd nX4 (by decide) hl (Or.inl rfl) (Or.inl rfl) zMh_o (by show 10 < 18; decide) (by cases b <;> rfl) (by cases b <;> rfl) ?_
  rw [zMh_uo (by decide)]
  exact kk
theorem zm_load {k : Nat} {i : Int} (hA : zMi A) (hk : k ∈ zMl) (hd : decode M.2.1 pc = .ok (.iaload, 1)) (hi : 0 ≤ i ∧ i < zMn k) (kk : zW G M d rc rs (pc + 1) ls (.int (zi (S.1 k i)) :: st) (zMh ah A S) Q) : zW G M d rc rs pc ls (.int (zi i) :: .ref (A k) :: st) (zMh ah A S) Q :=
  zr_iaload hd (Or.inl (zMh_k hA hk)) (by unfold zMn; split <;> decide) hi (zIa_at _ hi.1) kk
theorem zm_store {k : Nat} {i v : Int} (hA : zMi A) (hk : k ∈ zMl) (hd : decode M.2.1 pc = .ok (.iastore, 1)) (hi : 0 ≤ i ∧ i < zMn k) (kk : zW G M d rc rs (pc + 1) ls st (zMh ah A (zua S k (z_upF (S.1 k) i v))) Q) : zW G M d rc rs pc ls (.int (zi v) :: .int (zi i) :: .ref (A k) :: st) (zMh ah A S) Q := by
  refine zr_iastore hd (zMh_k hA hk) (by unfold zMn; split <;> decide) hi ?_
  rw [zIa_up _ hi.1, zMh_uk hA hk]
  exact kk
end ZMR
/-- the same answer, the same heap -/
theorem zQe {Q : zRs → zH → Prop} {r r' : zRs} {h h' : zH} (k : Q r h) (e1 : r = r') (e2 : h = h') : Q r' h' := e1 ▸ e2 ▸ k
theorem zQi {Q : zRs → zH → Prop} {x y : Int} {h : zH} (k : Q (.inl (some (.int (zi x)))) h) (e : x = y) : Q (.inl (some (.int (zi y)))) h := e ▸ k
theorem zQm {Q : zRs → zH → Prop} {x y : Int} {ah : zH} {A : Nat → Nat} {S S' : zMS} (k : Q (.inl (some (.int (zi x)))) (zMh ah A S)) (e : x = y) (e2 : S = S') : Q (.inl (some (.int (zi y)))) (zMh ah A S') := e ▸ e2 ▸ k
theorem zQv {Q : zRs → zH → Prop} {ah : zH} {A : Nat → Nat} {S S' : zMS} (k : Q (.inl none) (zMh ah A S)) (e2 : S = S') : Q (.inl none) (zMh ah A S') := e2 ▸ k
