set_option maxRecDepth 100000
/-! ===== what the premises say of static things ===== -/
def zfl : Nat → Cond → List Cond
  | 0, c => [c]
  | n + 1, .and a b => zfl n a ++ zfl n b
  | _ + 1, c => [c]
theorem zfl_ok {A : Array Value} {G : State} : ∀ (n : Nat) (c : Cond), c.before A G = true → ∀ w ∈ zfl n c, w.before A G = true := by
  intro n
  induction n with
  | zero => intro c h w hw; rw [zfl, List.mem_singleton] at hw; rw [hw]; exact h
  | succ n ih =>
    intro c h w hw
    cases c with
    | and a b =>
      simp only [Cond.before_and, Bool.and_eq_true] at h
      rcases List.mem_append.mp hw with h1 | h1
      · exact ih _ h.1 w h1
      · exact ih _ h.2 w h1
    | _ => rw [List.mem_singleton.mp hw]; exact h

def zf1 : List Cond := zfl 40 narrow_1_1
def zf2 : List Cond := zfl 40 narrow_1_2
def zf3 : List Cond := zfl 40 narrow_1_3
def zf29 : List Cond := zfl 40 narrow_1_29
section ZST
variable {G : State} {A0 : Array Value}
/-- the words of a table, and a narrow one -/
def zT0 (G : State) (A0 : Array Value) : Prop := (∀ w ∈ lw_tbl, w.before A0 G = true) ∧ (Jvm.Cond.and given_1 narrow_1).before A0 G = true
theorem z_and {c e : Cond} (h : (Cond.and c e).before A0 G = true) : c.before A0 G = true ∧ e.before A0 G = true := by simpa only [Cond.before_and, Bool.and_eq_true] using h
theorem zn1 (h : zT0 G A0) : narrow_1_1.before A0 G = true := (z_and (z_and (z_and (z_and (z_and h.2).2).1).1).1).1
theorem zn2 (h : zT0 G A0) : narrow_1_2.before A0 G = true := (z_and (z_and (z_and (z_and (z_and (z_and h.2).2).1).1).1).2).1
theorem zn3 (h : zT0 G A0) : narrow_1_3.before A0 G = true := (z_and (z_and (z_and (z_and (z_and (z_and h.2).2).1).1).1).2).2
theorem zn4 (h : zT0 G A0) : narrow_1_4.before A0 G = true := (z_and (z_and (z_and (z_and (z_and (z_and h.2).2).1).1).2).1).1
theorem zn5 (h : zT0 G A0) : narrow_1_5.before A0 G = true := (z_and (z_and (z_and (z_and (z_and (z_and h.2).2).1).1).2).1).2
theorem zn6 (h : zT0 G A0) : narrow_1_6.before A0 G = true := (z_and (z_and (z_and (z_and (z_and (z_and h.2).2).1).1).2).2).1
theorem zn7 (h : zT0 G A0) : narrow_1_7.before A0 G = true := (z_and (z_and (z_and (z_and (z_and (z_and h.2).2).1).1).2).2).2
theorem zn8 (h : zT0 G A0) : narrow_1_8.before A0 G = true := (z_and (z_and (z_and (z_and (z_and h.2).2).1).2).1).1
theorem zn9 (h : zT0 G A0) : narrow_1_9.before A0 G = true := (z_and (z_and (z_and (z_and (z_and (z_and h.2).2).1).2).1).2).1
theorem zn10 (h : zT0 G A0) : narrow_1_10.before A0 G = true := (z_and (z_and (z_and (z_and (z_and (z_and h.2).2).1).2).1).2).2
theorem zn11 (h : zT0 G A0) : narrow_1_11.before A0 G = true := (z_and (z_and (z_and (z_and (z_and (z_and h.2).2).1).2).2).1).1
theorem zn12 (h : zT0 G A0) : narrow_1_12.before A0 G = true := (z_and (z_and (z_and (z_and (z_and (z_and h.2).2).1).2).2).1).2
theorem zn13 (h : zT0 G A0) : narrow_1_13.before A0 G = true := (z_and (z_and (z_and (z_and (z_and (z_and h.2).2).1).2).2).2).1
theorem zn14 (h : zT0 G A0) : narrow_1_14.before A0 G = true := (z_and (z_and (z_and (z_and (z_and (z_and h.2).2).1).2).2).2).2
theorem zn15 (h : zT0 G A0) : narrow_1_15.before A0 G = true := (z_and (z_and (z_and (z_and (z_and h.2).2).2).1).1).1
theorem zn16 (h : zT0 G A0) : narrow_1_16.before A0 G = true := (z_and (z_and (z_and (z_and (z_and (z_and h.2).2).2).1).1).2).1
theorem zn17 (h : zT0 G A0) : narrow_1_17.before A0 G = true := (z_and (z_and (z_and (z_and (z_and (z_and h.2).2).2).1).1).2).2
theorem zn18 (h : zT0 G A0) : narrow_1_18.before A0 G = true := (z_and (z_and (z_and (z_and (z_and (z_and h.2).2).2).1).2).1).1
theorem zn19 (h : zT0 G A0) : narrow_1_19.before A0 G = true := (z_and (z_and (z_and (z_and (z_and (z_and h.2).2).2).1).2).1).2
theorem zn20 (h : zT0 G A0) : narrow_1_20.before A0 G = true := (z_and (z_and (z_and (z_and (z_and (z_and h.2).2).2).1).2).2).1
theorem zn21 (h : zT0 G A0) : narrow_1_21.before A0 G = true := (z_and (z_and (z_and (z_and (z_and (z_and h.2).2).2).1).2).2).2
theorem zn22 (h : zT0 G A0) : narrow_1_22.before A0 G = true := (z_and (z_and (z_and (z_and (z_and (z_and h.2).2).2).2).1).1).1
theorem zn23 (h : zT0 G A0) : narrow_1_23.before A0 G = true := (z_and (z_and (z_and (z_and (z_and (z_and h.2).2).2).2).1).1).2
theorem zn24 (h : zT0 G A0) : narrow_1_24.before A0 G = true := (z_and (z_and (z_and (z_and (z_and (z_and h.2).2).2).2).1).2).1
theorem zn25 (h : zT0 G A0) : narrow_1_25.before A0 G = true := (z_and (z_and (z_and (z_and (z_and (z_and h.2).2).2).2).1).2).2
theorem zn26 (h : zT0 G A0) : narrow_1_26.before A0 G = true := (z_and (z_and (z_and (z_and (z_and (z_and h.2).2).2).2).2).1).1
theorem zn27 (h : zT0 G A0) : narrow_1_27.before A0 G = true := (z_and (z_and (z_and (z_and (z_and (z_and h.2).2).2).2).2).1).2
theorem zn28 (h : zT0 G A0) : narrow_1_28.before A0 G = true := (z_and (z_and (z_and (z_and (z_and (z_and h.2).2).2).2).2).2).1
theorem zn29 (h : zT0 G A0) : narrow_1_29.before A0 G = true := (z_and (z_and (z_and (z_and (z_and (z_and h.2).2).2).2).2).2).2
theorem zm1 (h : zT0 G A0) {i : Nat} {w : Cond} (hw : zf1[i]? = some w) : w.before A0 G = true := zfl_ok 40 _ (zn1 h) w (List.mem_of_getElem? hw)
theorem zs1 (h : zT0 G A0) {i n : Nat} {f : Nat → Cond} (hw : (zf1.drop i).take n = (List.range n).map f) {j : Nat} (hj : j < n) : (f j).before A0 G = true := zfl_ok 40 _ (zn1 h) _ (List.mem_of_mem_drop (List.mem_of_mem_take (i := n) (l := zf1.drop i) (by rw [hw]; exact List.mem_map.mpr ⟨j, List.mem_range.mpr hj, rfl⟩)))
theorem zm2 (h : zT0 G A0) {i : Nat} {w : Cond} (hw : zf2[i]? = some w) : w.before A0 G = true := zfl_ok 40 _ (zn2 h) w (List.mem_of_getElem? hw)
theorem zs2 (h : zT0 G A0) {i n : Nat} {f : Nat → Cond} (hw : (zf2.drop i).take n = (List.range n).map f) {j : Nat} (hj : j < n) : (f j).before A0 G = true := zfl_ok 40 _ (zn2 h) _ (List.mem_of_mem_drop (List.mem_of_mem_take (i := n) (l := zf2.drop i) (by rw [hw]; exact List.mem_map.mpr ⟨j, List.mem_range.mpr hj, rfl⟩)))
theorem zm3 (h : zT0 G A0) {i : Nat} {w : Cond} (hw : zf3[i]? = some w) : w.before A0 G = true := zfl_ok 40 _ (zn3 h) w (List.mem_of_getElem? hw)
theorem zs3 (h : zT0 G A0) {i n : Nat} {f : Nat → Cond} (hw : (zf3.drop i).take n = (List.range n).map f) {j : Nat} (hj : j < n) : (f j).before A0 G = true := zfl_ok 40 _ (zn3 h) _ (List.mem_of_mem_drop (List.mem_of_mem_take (i := n) (l := zf3.drop i) (by rw [hw]; exact List.mem_map.mpr ⟨j, List.mem_range.mpr hj, rfl⟩)))
theorem zm29 (h : zT0 G A0) {i : Nat} {w : Cond} (hw : zf29[i]? = some w) : w.before A0 G = true := zfl_ok 40 _ (zn29 h) w (List.mem_of_getElem? hw)
theorem zs29 (h : zT0 G A0) {i n : Nat} {f : Nat → Cond} (hw : (zf29.drop i).take n = (List.range n).map f) {j : Nat} (hj : j < n) : (f j).before A0 G = true := zfl_ok 40 _ (zn29 h) _ (List.mem_of_mem_drop (List.mem_of_mem_take (i := n) (l := zf29.drop i) (by rw [hw]; exact List.mem_map.mpr ⟨j, List.mem_range.mpr hj, rfl⟩)))
theorem zA_out {a : Nat} (h : a < G.heap.size) : ¬ zA G a := Nat.not_le.mpr h
/-- where a term's object lies -/
def zad (G : State) (t : Term) : Nat := match t.eval #[] G none [] G with
  | some (.ref a) => a
  | _ => 0
theorem zad_s {C n d : String} {a : Nat} (h : (Term.static C n d).eval A0 G none [] G = some (.ref a)) : zad G (.static C n d) = a := by
  have e : (Term.static C n d).eval #[] G none [] G = (Term.static C n d).eval A0 G none [] G := rfl
  unfold zad
  rw [e, h]
theorem zad_t {own : String} {k : Nat} {a : Nat} (h : (Term.string own k).eval A0 G none [] G = some (.ref a)) : zad G (.string own k) = a := by
  have e : (Term.string own k).eval #[] G none [] G = (Term.string own k).eval A0 G none [] G := rfl
  unfold zad
  rw [e, h]
theorem z_exR {t : Term} {nm : String} (h : (Cond.exactly t nm).before A0 G = true) : ∃ a, t.eval A0 G none [] G = some (.ref a) ∧ zSO G nm a := by
  obtain ⟨a, c, cA, kA, q1, -⟩ := Cond.exactly_spec (args := A0) (first := G) (o := none) (s := G) (idx := []) (t := t) (cls := nm) h
  exact ⟨a, q1, va_Oof h q1 (fun a h => zA_out h)⟩
theorem z_fld {t : Term} {a : Nat} {o n d : String} {z : Int32} (ht : t.eval A0 G none [] G = some (.ref a)) (h : (Cond.eq (.field t o n d) (.int z)).before A0 G = true) : zSF G o n d (.int z) a := vk_OFof ht (va_eqt h) (fun a h => zA_out h)
theorem z_sv {C n d : String} {v : Value} (hT : zT0 G A0) (hl : Cond.laysStatic C n d ∈ lw_tbl) (hi : Cond.initialized C ∈ lw_all) (h : (Term.static C n d).eval A0 G none [] G = some v) : zSV G C n d v := va_Zof (hT.1 _ hl) (hT.1 _ (lw_all_tbl hi)) h (fun a h => zA_out h)
/-- a constant text of one byte a char -/
def zStr (G : State) (a : Nat) (l : List Int) : Prop := zSO G "java/lang/String" a ∧ zSF G "java/lang/String" "coder" "B" (.int 0) a ∧ ∃ v, zSF G "java/lang/String" "value" "[B" (.ref v) a ∧ zSA G .byte v l.length (fun j => .int (zi (l.getD j 0)))
theorem z_str {t : Term} {l : List Int} (hn : l.length < 2147483648) (hex : (Cond.exactly t "java/lang/String").before A0 G = true) (hco : (Cond.eq (.field t "java/lang/String" "coder" "B") (.int 0)).before A0 G = true) (har : (Cond.arrayOf (.field t "java/lang/String" "value" "[B") .byte).before A0 G = true)
    (hle : (Cond.eq (.length (.field t "java/lang/String" "value" "[B")) (.int (Int32.ofNat l.length))).before A0 G = true) (hel : ∀ j, j < l.length → (Cond.eq (.elem (.field t "java/lang/String" "value" "[B") (.int (Int32.ofNat j))) (.int (zi (l.getD j 0)))).before A0 G = true) :
    ∃ a, t.eval A0 G none [] G = some (.ref a) ∧ zStr G a l := by
  obtain ⟨a, h1, h2⟩ := z_exR hex
  obtain ⟨v, h3, h4⟩ := va_Tof (A := zA G) (f := fun j => .int (zi (l.getD j 0))) hn har (va_eqt hle) (fun j hj => va_eqt (hel j hj)) (fun a h => zA_out h)
  exact ⟨a, h1, h2, z_fld h1 hco, v, vk_OFof h1 h3 (fun a h => zA_out h), h4⟩
theorem z_lit {own tx : String} {k : Nat} {l : List Int} (hT : zT0 G A0) (hr : Cond.stringRef own k tx ∈ lw_tbl) (h : ∃ a, (Term.string own k).eval A0 G none [] G = some (.ref a) ∧ zStr G a l) : vk_R own k tx (zad G (.string own k)) G ∧ zStr G (zad G (.string own k)) l := by
  obtain ⟨a, h1, h2⟩ := h
  rw [zad_t h1]
  exact ⟨vk_R.of (A := #[]) (hT.1 _ hr) h1, h2⟩
theorem z_eqT {t u : Term} {a : Nat} (h : (Cond.eq t u).before A0 G = true) (hu : u.eval A0 G none [] G = some (.ref a)) : t.eval A0 G none [] G = some (.ref a) := by
  cases hv : t.eval A0 G none [] G with
  | none => simp [Cond.before, Cond.holds, Cond.value, hv] at h
  | some w =>
    simp only [Cond.before, Cond.holds, Cond.value, hv, hu] at h
    cases w <;> simp_all

def zMdN (k : Nat) : String := match k with
  | 0 => "ECO"
  | 1 => "NORMAL"
  | _ => "FULL"
def zTuN (k : Nat) : String := match k with
  | 0 => "LEFT"
  | 1 => "RIGHT"
  | 2 => "STRAIGHT"
  | _ => "BACK"
def zMo (G : State) (k : Nat) : Nat := zad G (.static "TrailGuide$Mode" (zMdN k) "LTrailGuide$Mode;")
def zTu (G : State) (k : Nat) : Nat := zad G (.static "TrailGuide$Turn" (zTuN k) "LTrailGuide$Turn;")
def zMoL (k : Nat) : Int := match k with
  | 0 => 101
  | 1 => 110
  | _ => 102
def zMoC (k : Nat) : Int := match k with
  | 0 => 1
  | 1 => 2
  | _ => 4
theorem z_mode0 (h : zT0 G A0) : (Term.static "TrailGuide$Mode" "ECO" "LTrailGuide$Mode;").eval A0 G none [] G = some (.ref (zMo G 0)) ∧ zSV G "TrailGuide$Mode" "ECO" "LTrailGuide$Mode;" (.ref (zMo G 0)) ∧ zSO G "TrailGuide$Mode" (zMo G 0) ∧ zSF G "java/lang/Enum" "ordinal" "I" (.int (zi 0)) (zMo G 0) ∧ zSF G "TrailGuide$Mode" "letter" "C" (.int (zi 101)) (zMo G 0) ∧ zSF G "TrailGuide$Mode" "cost" "I" (.int (zi 1)) (zMo G 0) := by
  obtain ⟨a, h1, h2⟩ := z_exR (zm1 h (i := 241) rfl)
  have e : zMo G 0 = a := zad_s h1
  rw [e]
  exact ⟨h1, z_sv h q1494 q97 h1, h2, z_fld h1 (zm1 h (i := 242) rfl), z_fld h1 (zm1 h (i := 243) rfl), z_fld h1 (zm1 h (i := 244) rfl)⟩
theorem z_mode1 (h : zT0 G A0) : (Term.static "TrailGuide$Mode" "NORMAL" "LTrailGuide$Mode;").eval A0 G none [] G = some (.ref (zMo G 1)) ∧ zSV G "TrailGuide$Mode" "NORMAL" "LTrailGuide$Mode;" (.ref (zMo G 1)) ∧ zSO G "TrailGuide$Mode" (zMo G 1) ∧ zSF G "java/lang/Enum" "ordinal" "I" (.int (zi 1)) (zMo G 1) ∧ zSF G "TrailGuide$Mode" "letter" "C" (.int (zi 110)) (zMo G 1) ∧ zSF G "TrailGuide$Mode" "cost" "I" (.int (zi 2)) (zMo G 1) := by
  obtain ⟨a, h1, h2⟩ := z_exR (zm1 h (i := 6) rfl)
  have e : zMo G 1 = a := zad_s h1
  rw [e]
  exact ⟨h1, z_sv h q182 q97 h1, h2, z_fld h1 (zm1 h (i := 7) rfl), z_fld h1 (zm1 h (i := 8) rfl), z_fld h1 (zm1 h (i := 9) rfl)⟩
theorem z_mode2 (h : zT0 G A0) : (Term.static "TrailGuide$Mode" "FULL" "LTrailGuide$Mode;").eval A0 G none [] G = some (.ref (zMo G 2)) ∧ zSV G "TrailGuide$Mode" "FULL" "LTrailGuide$Mode;" (.ref (zMo G 2)) ∧ zSO G "TrailGuide$Mode" (zMo G 2) ∧ zSF G "java/lang/Enum" "ordinal" "I" (.int (zi 2)) (zMo G 2) ∧ zSF G "TrailGuide$Mode" "letter" "C" (.int (zi 102)) (zMo G 2) ∧ zSF G "TrailGuide$Mode" "cost" "I" (.int (zi 4)) (zMo G 2) := by
  obtain ⟨a, h1, h2⟩ := z_exR (zm1 h (i := 250) rfl)
  have e : zMo G 2 = a := zad_s h1
  rw [e]
  exact ⟨h1, z_sv h q1497 q97 h1, h2, z_fld h1 (zm1 h (i := 251) rfl), z_fld h1 (zm1 h (i := 252) rfl), z_fld h1 (zm1 h (i := 253) rfl)⟩
theorem z_turn0 (h : zT0 G A0) : zSV G "TrailGuide$Turn" "LEFT" "LTrailGuide$Turn;" (.ref (zTu G 0)) ∧ zSO G "TrailGuide$Turn$1" (zTu G 0) := by
  obtain ⟨a, h1, h2⟩ := z_exR (zm1 h (i := 223) rfl)
  have e : zTu G 0 = a := zad_s h1
  rw [e]
  exact ⟨z_sv h q887 q130 h1, h2⟩
theorem z_turn1 (h : zT0 G A0) : zSV G "TrailGuide$Turn" "RIGHT" "LTrailGuide$Turn;" (.ref (zTu G 1)) ∧ zSO G "TrailGuide$Turn$2" (zTu G 1) := by
  obtain ⟨a, h1, h2⟩ := z_exR (zm1 h (i := 226) rfl)
  have e : zTu G 1 = a := zad_s h1
  rw [e]
  exact ⟨z_sv h q889 q130 h1, h2⟩
theorem z_turn2 (h : zT0 G A0) : zSV G "TrailGuide$Turn" "STRAIGHT" "LTrailGuide$Turn;" (.ref (zTu G 2)) ∧ zSO G "TrailGuide$Turn$3" (zTu G 2) := by
  obtain ⟨a, h1, h2⟩ := z_exR (zm1 h (i := 230) rfl)
  have e : zTu G 2 = a := zad_s h1
  rw [e]
  exact ⟨z_sv h q895 q130 h1, h2⟩
theorem z_turn3 (h : zT0 G A0) : zSV G "TrailGuide$Turn" "BACK" "LTrailGuide$Turn;" (.ref (zTu G 3)) ∧ zSO G "TrailGuide$Turn$4" (zTu G 3) := by
  obtain ⟨a, h1, h2⟩ := z_exR (zm1 h (i := 235) rfl)
  have e : zTu G 3 = a := zad_s h1
  rw [e]
  exact ⟨z_sv h q897 q130 h1, h2⟩
theorem z_litT306 (h : zTb G) : vk_R "TrailGuide" 306 " " (zad G (.string "TrailGuide" 306)) G ∧ zStr G (zad G (.string "TrailGuide" 306)) [32] := by
  obtain ⟨A0, h⟩ := h
  exact z_lit h q815 (z_str (l := [32]) (by decide) (zm2 h (i := 289) rfl) (zm2 h (i := 290) rfl) (zm2 h (i := 291) rfl) (zm2 h (i := 292) rfl) (fun j hj => zs2 h (i := 293) (n := 1) (f := fun j => .eq (.elem (.field (.string "TrailGuide" 306) "java/lang/String" "value" "[B") (.int (Int32.ofNat j))) (.int (zi (([32] : List Int).getD j 0)))) rfl hj))
theorem z_litT308 (h : zTb G) : vk_R "TrailGuide" 308 "" (zad G (.string "TrailGuide" 308)) G ∧ zStr G (zad G (.string "TrailGuide" 308)) [] := by
  obtain ⟨A0, h⟩ := h
  exact z_lit h q816 (z_str (l := []) (by decide) (zm2 h (i := 294) rfl) (zm2 h (i := 295) rfl) (zm2 h (i := 296) rfl) (zm2 h (i := 297) rfl) (fun j hj => absurd hj (Nat.not_lt_zero j)))
theorem z_litT317 (h : zTb G) : vk_R "TrailGuide" 317 "*" (zad G (.string "TrailGuide" 317)) G ∧ zStr G (zad G (.string "TrailGuide" 317)) [42] := by
  obtain ⟨A0, h⟩ := h
  exact z_lit h q822 (z_str (l := [42]) (by decide) (zm2 h (i := 298) rfl) (zm2 h (i := 299) rfl) (zm2 h (i := 300) rfl) (zm2 h (i := 301) rfl) (fun j hj => zs2 h (i := 302) (n := 1) (f := fun j => .eq (.elem (.field (.string "TrailGuide" 317) "java/lang/String" "value" "[B") (.int (Int32.ofNat j))) (.int (zi (([42] : List Int).getD j 0)))) rfl hj))
theorem z_litP142 (h : zTb G) : vk_R "TrailGuide$Parser" 142 "ptcmls" (zad G (.string "TrailGuide$Parser" 142)) G ∧ zStr G (zad G (.string "TrailGuide$Parser" 142)) [112, 116, 99, 109, 108, 115] := by
  obtain ⟨A0, h⟩ := h
  exact z_lit h q1801 (z_str (l := [112, 116, 99, 109, 108, 115]) (by decide) (zm2 h (i := 327) rfl) (zm2 h (i := 328) rfl) (zm2 h (i := 329) rfl) (zm2 h (i := 330) rfl) (fun j hj => zs2 h (i := 331) (n := 6) (f := fun j => .eq (.elem (.field (.string "TrailGuide$Parser" 142) "java/lang/String" "value" "[B") (.int (Int32.ofNat j))) (.int (zi (([112, 116, 99, 109, 108, 115] : List Int).getD j 0)))) rfl hj))
theorem z_litP84 (h : zTb G) : vk_R "TrailGuide$Parser" 84 "oint " (zad G (.string "TrailGuide$Parser" 84)) G ∧ zStr G (zad G (.string "TrailGuide$Parser" 84)) [111, 105, 110, 116, 32] := by
  obtain ⟨A0, h⟩ := h
  exact z_lit h q1884 (z_str (l := [111, 105, 110, 116, 32]) (by decide) (zm2 h (i := 337) rfl) (zm2 h (i := 338) rfl) (zm2 h (i := 339) rfl) (zm2 h (i := 340) rfl) (fun j hj => zs2 h (i := 341) (n := 5) (f := fun j => .eq (.elem (.field (.string "TrailGuide$Parser" 84) "java/lang/String" "value" "[B") (.int (Int32.ofNat j))) (.int (zi (([111, 105, 110, 116, 32] : List Int).getD j 0)))) rfl hj))
theorem z_litP90 (h : zTb G) : vk_R "TrailGuide$Parser" 90 "," (zad G (.string "TrailGuide$Parser" 90)) G ∧ zStr G (zad G (.string "TrailGuide$Parser" 90)) [44] := by
  obtain ⟨A0, h⟩ := h
  exact z_lit h q1922 (z_str (l := [44]) (by decide) (zm2 h (i := 346) rfl) (zm2 h (i := 347) rfl) (zm2 h (i := 348) rfl) (zm2 h (i := 349) rfl) (fun j hj => zs2 h (i := 350) (n := 1) (f := fun j => .eq (.elem (.field (.string "TrailGuide$Parser" 90) "java/lang/String" "value" "[B") (.int (Int32.ofNat j))) (.int (zi (([44] : List Int).getD j 0)))) rfl hj))
theorem z_litP101 (h : zTb G) : vk_R "TrailGuide$Parser" 101 "ail " (zad G (.string "TrailGuide$Parser" 101)) G ∧ zStr G (zad G (.string "TrailGuide$Parser" 101)) [97, 105, 108, 32] := by
  obtain ⟨A0, h⟩ := h
  exact z_lit h q1941 (z_str (l := [97, 105, 108, 32]) (by decide) (zm2 h (i := 351) rfl) (zm2 h (i := 352) rfl) (zm2 h (i := 353) rfl) (zm2 h (i := 354) rfl) (fun j hj => zs2 h (i := 355) (n := 4) (f := fun j => .eq (.elem (.field (.string "TrailGuide$Parser" 101) "java/lang/String" "value" "[B") (.int (Int32.ofNat j))) (.int (zi (([97, 105, 108, 32] : List Int).getD j 0)))) rfl hj))
theorem z_litP103 (h : zTb G) : vk_R "TrailGuide$Parser" 103 "-" (zad G (.string "TrailGuide$Parser" 103)) G ∧ zStr G (zad G (.string "TrailGuide$Parser" 103)) [45] := by
  obtain ⟨A0, h⟩ := h
  exact z_lit h q1942 (z_str (l := [45]) (by decide) (zm2 h (i := 359) rfl) (zm2 h (i := 360) rfl) (zm2 h (i := 361) rfl) (zm2 h (i := 362) rfl) (fun j hj => zs2 h (i := 363) (n := 1) (f := fun j => .eq (.elem (.field (.string "TrailGuide$Parser" 103) "java/lang/String" "value" "[B") (.int (Int32.ofNat j))) (.int (zi (([45] : List Int).getD j 0)))) rfl hj))
theorem z_litP105 (h : zTb G) : vk_R "TrailGuide$Parser" 105 "=" (zad G (.string "TrailGuide$Parser" 105)) G ∧ zStr G (zad G (.string "TrailGuide$Parser" 105)) [61] := by
  obtain ⟨A0, h⟩ := h
  exact z_lit h q1943 (z_str (l := [61]) (by decide) (zm2 h (i := 364) rfl) (zm2 h (i := 365) rfl) (zm2 h (i := 366) rfl) (zm2 h (i := 367) rfl) (fun j hj => zs2 h (i := 368) (n := 1) (f := fun j => .eq (.elem (.field (.string "TrailGuide$Parser" 105) "java/lang/String" "value" "[B") (.int (Int32.ofNat j))) (.int (zi (([61] : List Int).getD j 0)))) rfl hj))
theorem z_litP108 (h : zTb G) : vk_R "TrailGuide$Parser" 108 "our " (zad G (.string "TrailGuide$Parser" 108)) G ∧ zStr G (zad G (.string "TrailGuide$Parser" 108)) [111, 117, 114, 32] := by
  obtain ⟨A0, h⟩ := h
  exact z_lit h q1947 (z_str (l := [111, 117, 114, 32]) (by decide) (zm2 h (i := 369) rfl) (zm2 h (i := 370) rfl) (zm2 h (i := 371) rfl) (zm2 h (i := 372) rfl) (fun j hj => zs2 h (i := 373) (n := 4) (f := fun j => .eq (.elem (.field (.string "TrailGuide$Parser" 108) "java/lang/String" "value" "[B") (.int (Int32.ofNat j))) (.int (zi (([111, 117, 114, 32] : List Int).getD j 0)))) rfl hj))
theorem z_litP110 (h : zTb G) : vk_R "TrailGuide$Parser" 110 ">" (zad G (.string "TrailGuide$Parser" 110)) G ∧ zStr G (zad G (.string "TrailGuide$Parser" 110)) [62] := by
  obtain ⟨A0, h⟩ := h
  exact z_lit h q1948 (z_str (l := [62]) (by decide) (zm2 h (i := 377) rfl) (zm2 h (i := 378) rfl) (zm2 h (i := 379) rfl) (zm2 h (i := 380) rfl) (fun j hj => zs2 h (i := 381) (n := 1) (f := fun j => .eq (.elem (.field (.string "TrailGuide$Parser" 110) "java/lang/String" "value" "[B") (.int (Int32.ofNat j))) (.int (zi (([62] : List Int).getD j 0)))) rfl hj))
theorem z_litP115 (h : zTb G) : vk_R "TrailGuide$Parser" 115 "t " (zad G (.string "TrailGuide$Parser" 115)) G ∧ zStr G (zad G (.string "TrailGuide$Parser" 115)) [116, 32] := by
  obtain ⟨A0, h⟩ := h
  exact z_lit h q1956 (z_str (l := [116, 32]) (by decide) (zm2 h (i := 382) rfl) (zm2 h (i := 383) rfl) (zm2 h (i := 384) rfl) (zm2 h (i := 385) rfl) (fun j hj => zs2 h (i := 386) (n := 2) (f := fun j => .eq (.elem (.field (.string "TrailGuide$Parser" 115) "java/lang/String" "value" "[B") (.int (Int32.ofNat j))) (.int (zi (([116, 32] : List Int).getD j 0)))) rfl hj))
theorem z_litP118 (h : zTb G) : vk_R "TrailGuide$Parser" 118 "harge " (zad G (.string "TrailGuide$Parser" 118)) G ∧ zStr G (zad G (.string "TrailGuide$Parser" 118)) [104, 97, 114, 103, 101, 32] := by
  obtain ⟨A0, h⟩ := h
  exact z_lit h q1960 (z_str (l := [104, 97, 114, 103, 101, 32]) (by decide) (zm2 h (i := 388) rfl) (zm2 h (i := 389) rfl) (zm2 h (i := 390) rfl) (zm2 h (i := 391) rfl) (fun j hj => zs2 h (i := 392) (n := 6) (f := fun j => .eq (.elem (.field (.string "TrailGuide$Parser" 118) "java/lang/String" "value" "[B") (.int (Int32.ofNat j))) (.int (zi (([104, 97, 114, 103, 101, 32] : List Int).getD j 0)))) rfl hj))
theorem z_litP123 (h : zTb G) : vk_R "TrailGuide$Parser" 123 "o" (zad G (.string "TrailGuide$Parser" 123)) G ∧ zStr G (zad G (.string "TrailGuide$Parser" 123)) [111] := by
  obtain ⟨A0, h⟩ := h
  exact z_lit h q1968 (z_str (l := [111]) (by decide) (zm2 h (i := 398) rfl) (zm2 h (i := 399) rfl) (zm3 h (i := 0) rfl) (zm3 h (i := 1) rfl) (fun j hj => zs3 h (i := 2) (n := 1) (f := fun j => .eq (.elem (.field (.string "TrailGuide$Parser" 123) "java/lang/String" "value" "[B") (.int (Int32.ofNat j))) (.int (zi (([111] : List Int).getD j 0)))) rfl hj))
theorem z_litP125 (h : zTb G) : vk_R "TrailGuide$Parser" 125 "e " (zad G (.string "TrailGuide$Parser" 125)) G ∧ zStr G (zad G (.string "TrailGuide$Parser" 125)) [101, 32] := by
  obtain ⟨A0, h⟩ := h
  exact z_lit h q1969 (z_str (l := [101, 32]) (by decide) (zm3 h (i := 3) rfl) (zm3 h (i := 4) rfl) (zm3 h (i := 5) rfl) (zm3 h (i := 6) rfl) (fun j hj => zs3 h (i := 7) (n := 2) (f := fun j => .eq (.elem (.field (.string "TrailGuide$Parser" 125) "java/lang/String" "value" "[B") (.int (Int32.ofNat j))) (.int (zi (([101, 32] : List Int).getD j 0)))) rfl hj))
theorem z_litP131 (h : zTb G) : vk_R "TrailGuide$Parser" 131 "ve " (zad G (.string "TrailGuide$Parser" 131)) G ∧ zStr G (zad G (.string "TrailGuide$Parser" 131)) [118, 101, 32] := by
  obtain ⟨A0, h⟩ := h
  exact z_lit h q1989 (z_str (l := [118, 101, 32]) (by decide) (zm3 h (i := 9) rfl) (zm3 h (i := 10) rfl) (zm3 h (i := 11) rfl) (zm3 h (i := 12) rfl) (fun j hj => zs3 h (i := 13) (n := 3) (f := fun j => .eq (.elem (.field (.string "TrailGuide$Parser" 131) "java/lang/String" "value" "[B") (.int (Int32.ofNat j))) (.int (zi (([118, 101, 32] : List Int).getD j 0)))) rfl hj))
theorem z_litP134 (h : zTb G) : vk_R "TrailGuide$Parser" 134 "imit " (zad G (.string "TrailGuide$Parser" 134)) G ∧ zStr G (zad G (.string "TrailGuide$Parser" 134)) [105, 109, 105, 116, 32] := by
  obtain ⟨A0, h⟩ := h
  exact z_lit h q1997 (z_str (l := [105, 109, 105, 116, 32]) (by decide) (zm3 h (i := 16) rfl) (zm3 h (i := 17) rfl) (zm3 h (i := 18) rfl) (zm3 h (i := 19) rfl) (fun j hj => zs3 h (i := 20) (n := 5) (f := fun j => .eq (.elem (.field (.string "TrailGuide$Parser" 134) "java/lang/String" "value" "[B") (.int (Int32.ofNat j))) (.int (zi (([105, 109, 105, 116, 32] : List Int).getD j 0)))) rfl hj))
theorem z_litP137 (h : zTb G) : vk_R "TrailGuide$Parser" 137 "top" (zad G (.string "TrailGuide$Parser" 137)) G ∧ zStr G (zad G (.string "TrailGuide$Parser" 137)) [116, 111, 112] := by
  obtain ⟨A0, h⟩ := h
  exact z_lit h q2005 (z_str (l := [116, 111, 112]) (by decide) (zm3 h (i := 25) rfl) (zm3 h (i := 26) rfl) (zm3 h (i := 27) rfl) (zm3 h (i := 28) rfl) (fun j hj => zs3 h (i := 29) (n := 3) (f := fun j => .eq (.elem (.field (.string "TrailGuide$Parser" 137) "java/lang/String" "value" "[B") (.int (Int32.ofNat j))) (.int (zi (([116, 111, 112] : List Int).getD j 0)))) rfl hj))
theorem z_litM238 (h : zTb G) : vk_R "TrailGuideModel" 238 "oint " (zad G (.string "TrailGuideModel" 238)) G ∧ zStr G (zad G (.string "TrailGuideModel" 238)) [111, 105, 110, 116, 32] := by
  obtain ⟨A0, h⟩ := h
  exact z_lit h q2540 (z_str (l := [111, 105, 110, 116, 32]) (by decide) (zm3 h (i := 32) rfl) (zm3 h (i := 33) rfl) (zm3 h (i := 34) rfl) (zm3 h (i := 35) rfl) (fun j hj => zs3 h (i := 36) (n := 5) (f := fun j => .eq (.elem (.field (.string "TrailGuideModel" 238) "java/lang/String" "value" "[B") (.int (Int32.ofNat j))) (.int (zi (([111, 105, 110, 116, 32] : List Int).getD j 0)))) rfl hj))
theorem z_litM216 (h : zTb G) : vk_R "TrailGuideModel" 216 "ail " (zad G (.string "TrailGuideModel" 216)) G ∧ zStr G (zad G (.string "TrailGuideModel" 216)) [97, 105, 108, 32] := by
  obtain ⟨A0, h⟩ := h
  exact z_lit h q2563 (z_str (l := [97, 105, 108, 32]) (by decide) (zm3 h (i := 42) rfl) (zm3 h (i := 43) rfl) (zm3 h (i := 44) rfl) (zm3 h (i := 45) rfl) (fun j hj => zs3 h (i := 46) (n := 4) (f := fun j => .eq (.elem (.field (.string "TrailGuideModel" 216) "java/lang/String" "value" "[B") (.int (Int32.ofNat j))) (.int (zi (([97, 105, 108, 32] : List Int).getD j 0)))) rfl hj))
theorem z_litM225 (h : zTb G) : vk_R "TrailGuideModel" 225 "our " (zad G (.string "TrailGuideModel" 225)) G ∧ zStr G (zad G (.string "TrailGuideModel" 225)) [111, 117, 114, 32] := by
  obtain ⟨A0, h⟩ := h
  exact z_lit h q2564 (z_str (l := [111, 117, 114, 32]) (by decide) (zm3 h (i := 51) rfl) (zm3 h (i := 52) rfl) (zm3 h (i := 53) rfl) (zm3 h (i := 54) rfl) (fun j hj => zs3 h (i := 55) (n := 4) (f := fun j => .eq (.elem (.field (.string "TrailGuideModel" 225) "java/lang/String" "value" "[B") (.int (Int32.ofNat j))) (.int (zi (([111, 117, 114, 32] : List Int).getD j 0)))) rfl hj))
theorem z_litM227 (h : zTb G) : vk_R "TrailGuideModel" 227 "t " (zad G (.string "TrailGuideModel" 227)) G ∧ zStr G (zad G (.string "TrailGuideModel" 227)) [116, 32] := by
  obtain ⟨A0, h⟩ := h
  exact z_lit h q2569 (z_str (l := [116, 32]) (by decide) (zm3 h (i := 60) rfl) (zm3 h (i := 61) rfl) (zm3 h (i := 62) rfl) (zm3 h (i := 63) rfl) (fun j hj => zs3 h (i := 64) (n := 2) (f := fun j => .eq (.elem (.field (.string "TrailGuideModel" 227) "java/lang/String" "value" "[B") (.int (Int32.ofNat j))) (.int (zi (([116, 32] : List Int).getD j 0)))) rfl hj))
theorem z_litM229 (h : zTb G) : vk_R "TrailGuideModel" 229 "harge " (zad G (.string "TrailGuideModel" 229)) G ∧ zStr G (zad G (.string "TrailGuideModel" 229)) [104, 97, 114, 103, 101, 32] := by
  obtain ⟨A0, h⟩ := h
  exact z_lit h q2570 (z_str (l := [104, 97, 114, 103, 101, 32]) (by decide) (zm3 h (i := 67) rfl) (zm3 h (i := 68) rfl) (zm3 h (i := 69) rfl) (zm3 h (i := 70) rfl) (fun j hj => zs3 h (i := 71) (n := 6) (f := fun j => .eq (.elem (.field (.string "TrailGuideModel" 229) "java/lang/String" "value" "[B") (.int (Int32.ofNat j))) (.int (zi (([104, 97, 114, 103, 101, 32] : List Int).getD j 0)))) rfl hj))
theorem z_litM231 (h : zTb G) : vk_R "TrailGuideModel" 231 "e " (zad G (.string "TrailGuideModel" 231)) G ∧ zStr G (zad G (.string "TrailGuideModel" 231)) [101, 32] := by
  obtain ⟨A0, h⟩ := h
  exact z_lit h q2575 (z_str (l := [101, 32]) (by decide) (zm3 h (i := 78) rfl) (zm3 h (i := 79) rfl) (zm3 h (i := 80) rfl) (zm3 h (i := 81) rfl) (fun j hj => zs3 h (i := 82) (n := 2) (f := fun j => .eq (.elem (.field (.string "TrailGuideModel" 231) "java/lang/String" "value" "[B") (.int (Int32.ofNat j))) (.int (zi (([101, 32] : List Int).getD j 0)))) rfl hj))
theorem z_litM211 (h : zTb G) : vk_R "TrailGuideModel" 211 "enf" (zad G (.string "TrailGuideModel" 211)) G ∧ zStr G (zad G (.string "TrailGuideModel" 211)) [101, 110, 102] := by
  obtain ⟨A0, h⟩ := h
  exact z_lit h q2580 (z_str (l := [101, 110, 102]) (by decide) (zm3 h (i := 85) rfl) (zm3 h (i := 86) rfl) (zm3 h (i := 87) rfl) (zm3 h (i := 88) rfl) (fun j hj => zs3 h (i := 89) (n := 3) (f := fun j => .eq (.elem (.field (.string "TrailGuideModel" 211) "java/lang/String" "value" "[B") (.int (Int32.ofNat j))) (.int (zi (([101, 110, 102] : List Int).getD j 0)))) rfl hj))
theorem z_litM236 (h : zTb G) : vk_R "TrailGuideModel" 236 "ve " (zad G (.string "TrailGuideModel" 236)) G ∧ zStr G (zad G (.string "TrailGuideModel" 236)) [118, 101, 32] := by
  obtain ⟨A0, h⟩ := h
  exact z_lit h q2581 (z_str (l := [118, 101, 32]) (by decide) (zm3 h (i := 92) rfl) (zm3 h (i := 93) rfl) (zm3 h (i := 94) rfl) (zm3 h (i := 95) rfl) (fun j hj => zs3 h (i := 96) (n := 3) (f := fun j => .eq (.elem (.field (.string "TrailGuideModel" 236) "java/lang/String" "value" "[B") (.int (Int32.ofNat j))) (.int (zi (([118, 101, 32] : List Int).getD j 0)))) rfl hj))
theorem z_litM249 (h : zTb G) : vk_R "TrailGuideModel" 249 "imit " (zad G (.string "TrailGuideModel" 249)) G ∧ zStr G (zad G (.string "TrailGuideModel" 249)) [105, 109, 105, 116, 32] := by
  obtain ⟨A0, h⟩ := h
  exact z_lit h q2582 (z_str (l := [105, 109, 105, 116, 32]) (by decide) (zm3 h (i := 100) rfl) (zm3 h (i := 101) rfl) (zm3 h (i := 102) rfl) (zm3 h (i := 103) rfl) (fun j hj => zs3 h (i := 104) (n := 5) (f := fun j => .eq (.elem (.field (.string "TrailGuideModel" 249) "java/lang/String" "value" "[B") (.int (Int32.ofNat j))) (.int (zi (([105, 109, 105, 116, 32] : List Int).getD j 0)))) rfl hj))
theorem z_litM251 (h : zTb G) : vk_R "TrailGuideModel" 251 "top" (zad G (.string "TrailGuideModel" 251)) G ∧ zStr G (zad G (.string "TrailGuideModel" 251)) [116, 111, 112] := by
  obtain ⟨A0, h⟩ := h
  exact z_lit h q2583 (z_str (l := [116, 111, 112]) (by decide) (zm3 h (i := 110) rfl) (zm3 h (i := 111) rfl) (zm3 h (i := 112) rfl) (zm3 h (i := 113) rfl) (fun j hj => zs3 h (i := 114) (n := 3) (f := fun j => .eq (.elem (.field (.string "TrailGuideModel" 251) "java/lang/String" "value" "[B") (.int (Int32.ofNat j))) (.int (zi (([116, 111, 112] : List Int).getD j 0)))) rfl hj))
theorem z_DigitOnes (h : zTb G) : ∃ a, zSV G "java/lang/Integer" "DigitOnes" "[B" (.ref a) ∧ zSA G .byte a 100 (fun j => .int (zi (48 + ((j % 10 : Nat) : Int)))) := by
  obtain ⟨A0, h⟩ := h
  obtain ⟨a, h3, h4⟩ := va_Tof (N := 100) (A := zA G) (tm := .static "java/lang/Integer" "DigitOnes" "[B") (f := fun j => .int (zi (48 + ((j % 10 : Nat) : Int)))) (by decide) (zm1 h (i := 16) rfl) (va_eqt (zm1 h (i := 17) rfl)) (fun j hj => va_eqt (zs1 h (i := 18) (n := 100) (f := fun j => .eq (.elem (.static "java/lang/Integer" "DigitOnes" "[B") (.int (Int32.ofNat j))) (.int (zi (48 + ((j % 10 : Nat) : Int))))) rfl hj)) (fun a h => zA_out h)
  exact ⟨a, z_sv h q612 q117 h3, h4⟩
theorem z_DigitTens (h : zTb G) : ∃ a, zSV G "java/lang/Integer" "DigitTens" "[B" (.ref a) ∧ zSA G .byte a 100 (fun j => .int (zi (48 + ((j / 10 : Nat) : Int)))) := by
  obtain ⟨A0, h⟩ := h
  obtain ⟨a, h3, h4⟩ := va_Tof (N := 100) (A := zA G) (tm := .static "java/lang/Integer" "DigitTens" "[B") (f := fun j => .int (zi (48 + ((j / 10 : Nat) : Int)))) (by decide) (zm1 h (i := 119) rfl) (va_eqt (zm1 h (i := 120) rfl)) (fun j hj => va_eqt (zs1 h (i := 121) (n := 100) (f := fun j => .eq (.elem (.static "java/lang/Integer" "DigitTens" "[B") (.int (Int32.ofNat j))) (.int (zi (48 + ((j / 10 : Nat) : Int))))) rfl hj)) (fun a h => zA_out h)
  exact ⟨a, z_sv h q614 q117 h3, h4⟩
/-- the empty array of lists not yet grown -/
def zEm (G : State) : Nat := zad G (.static "java/util/ArrayList" "DEFAULTCAPACITY_EMPTY_ELEMENTDATA" "[Ljava/lang/Object;")
theorem z_empty (h : zTb G) : zSV G "java/util/ArrayList" "DEFAULTCAPACITY_EMPTY_ELEMENTDATA" "[Ljava/lang/Object;" (.ref (zEm G)) ∧ zSA G (.object "java/lang/Object") (zEm G) 0 (fun _ => .null) ∧ zEm G < G.heap.size := by
  obtain ⟨A0, h⟩ := h
  obtain ⟨a, h3, h4⟩ := va_Tof (N := 0) (A := zA G) (tm := .static "java/util/ArrayList" "DEFAULTCAPACITY_EMPTY_ELEMENTDATA" "[Ljava/lang/Object;") (f := fun _ => .null) (by decide) (zm1 h (i := 3) rfl) (va_eqt (zm1 h (i := 5) rfl)) (fun j hj => absurd hj (Nat.not_lt_zero j)) (fun a h => zA_out h)
  have e : zEm G = a := zad_s h3
  rw [e]
  exact ⟨z_sv h q165 q95 h3, h4, Nat.not_le.mp h4.out⟩
theorem z_compact (h : zTb G) : zSV G "java/lang/String" "COMPACT_STRINGS" "Z" (.int (zi 1)) := by
  obtain ⟨A0, h⟩ := h
  exact z_sv h q251 q101 (va_eqi (zm1 h (i := 10) rfl))
theorem z_thr (h : zTb G) : zThr G := by
  obtain ⟨A0, h⟩ := h
  have i := h.1 _ (lw_all_tbl q104)
  exact ⟨vx_Zqof (h.1 _ q686) i (zm1 h (i := 221) rfl) (fun a h => zA_out h), vx_Zqof (h.1 _ q688) i (zm1 h (i := 222) rfl) (fun a h => zA_out h)⟩
theorem z_siob (h : zTb G) : ∃ v, z_ref v = true ∧ zSV G "jdk/internal/util/Preconditions" "SIOOBE_FORMATTER" "Ljava/util/function/BiFunction;" v := by
  obtain ⟨A0, h⟩ := h
  rcases va_Zqof (A := zA G) (h.1 _ q542) (h.1 _ (lw_all_tbl q118)) (zm1 h (i := 11) rfl) (fun a h => zA_out h) with h1 | ⟨t, h1⟩
  · exact ⟨_, rfl, h1⟩
  · exact ⟨_, rfl, h1⟩
theorem z_site1 : zSite 0 ⟨"TrailGuide$State", "components", "()I"⟩ 9 125 zSg1 := ⟨rfl, fun G h => by
  obtain ⟨A0, h⟩ := h
  exact Cond.lambdaSite_spec (zn4 h)⟩
theorem z_site2 : zSite 1 ⟨"TrailGuide$State", "components", "()I"⟩ 34 132 zSg2 := ⟨rfl, fun G h => by
  obtain ⟨A0, h⟩ := h
  exact Cond.lambdaSite_spec (zn5 h)⟩
theorem z_site3 : zSite 2 ⟨"TrailGuide$State", "distancesFrom", "(I)[I"⟩ 37 105 zSg3 := ⟨rfl, fun G h => by
  obtain ⟨A0, h⟩ := h
  exact Cond.lambdaSite_spec (zn6 h)⟩
theorem z_site4 : zSite 3 ⟨"TrailGuide$State", "distancesByRelaxation", "(I)[I"⟩ 47 120 zSg4 := ⟨rfl, fun G h => by
  obtain ⟨A0, h⟩ := h
  exact Cond.lambdaSite_spec (zn7 h)⟩
theorem z_site5 : zSite 4 ⟨"TrailGuide", "haveEqualDistances", "(I)Z"⟩ 24 285 zSg5 := ⟨rfl, fun G h => by
  obtain ⟨A0, h⟩ := h
  exact Cond.lambdaSite_spec (zn8 h)⟩
theorem z_site6 : zSite 5 ⟨"TrailGuide", "addWaypoint", "(III)I"⟩ 4 113 zSg6 := ⟨rfl, fun G h => by
  obtain ⟨A0, h⟩ := h
  exact Cond.lambdaSite_spec (zn9 h)⟩
theorem z_site7 : zSite 6 ⟨"TrailGuide", "addTrail", "(III)I"⟩ 4 120 zSg7 := ⟨rfl, fun G h => by
  obtain ⟨A0, h⟩ := h
  exact Cond.lambdaSite_spec (zn10 h)⟩
theorem z_site8 : zSite 7 ⟨"TrailGuide", "removeTrail", "(II)I"⟩ 3 121 zSg8 := ⟨rfl, fun G h => by
  obtain ⟨A0, h⟩ := h
  exact Cond.lambdaSite_spec (zn11 h)⟩
theorem z_site9 : zSite 8 ⟨"TrailGuide", "startTour", "(II)I"⟩ 3 124 zSg9 := ⟨rfl, fun G h => by
  obtain ⟨A0, h⟩ := h
  exact Cond.lambdaSite_spec (zn12 h)⟩
theorem z_site10 : zSite 9 ⟨"TrailGuide$State", "successor", "(I[I)I"⟩ 4 179 zSg10 := ⟨rfl, fun G h => by
  obtain ⟨A0, h⟩ := h
  exact Cond.lambdaSite_spec (zn13 h)⟩
theorem z_site11 : zSite 10 ⟨"TrailGuide", "stopTour", "()I"⟩ 1 125 zSg11 := ⟨rfl, fun G h => by
  obtain ⟨A0, h⟩ := h
  exact Cond.lambdaSite_spec (zn14 h)⟩
theorem z_site12 : zSite 11 ⟨"TrailGuide", "update", "(II)Z"⟩ 3 128 zSg12 := ⟨rfl, fun G h => by
  obtain ⟨A0, h⟩ := h
  exact Cond.lambdaSite_spec (zn15 h)⟩
theorem z_site13 : zSite 12 ⟨"TrailGuide", "setTolerance", "(I)I"⟩ 2 129 zSg13 := ⟨rfl, fun G h => by
  obtain ⟨A0, h⟩ := h
  exact Cond.lambdaSite_spec (zn16 h)⟩
theorem z_site14 : zSite 13 ⟨"TrailGuide", "setMode", "(I)I"⟩ 2 132 zSg14 := ⟨rfl, fun G h => by
  obtain ⟨A0, h⟩ := h
  exact Cond.lambdaSite_spec (zn17 h)⟩
theorem z_site15 : zSite 14 ⟨"TrailGuide", "charge", "(I)I"⟩ 2 133 zSg15 := ⟨rfl, fun G h => by
  obtain ⟨A0, h⟩ := h
  exact Cond.lambdaSite_spec (zn18 h)⟩
theorem z_site16 : zSite 15 ⟨"TrailGuide", "writeTrails", "(I)I"⟩ 25 332 zSg16 := ⟨rfl, fun G h => by
  obtain ⟨A0, h⟩ := h
  exact Cond.lambdaSite_spec (zn19 h)⟩
theorem z_site17 : zSite 16 ⟨"TrailGuide$Parser", "pointed", "()LTrailGuide$Command;"⟩ 32 94 zSg17 := ⟨rfl, fun G h => by
  obtain ⟨A0, h⟩ := h
  exact Cond.lambdaSite_spec (zn20 h)⟩
theorem z_site18 : zSite 17 ⟨"TrailGuide$Parser", "trailOrTour", "()LTrailGuide$Command;"⟩ 37 107 zSg18 := ⟨rfl, fun G h => by
  obtain ⟨A0, h⟩ := h
  exact Cond.lambdaSite_spec (zn21 h)⟩
theorem z_site19 : zSite 18 ⟨"TrailGuide$Parser", "trailOrTour", "()LTrailGuide$Command;"⟩ 66 112 zSg19 := ⟨rfl, fun G h => by
  obtain ⟨A0, h⟩ := h
  exact Cond.lambdaSite_spec (zn22 h)⟩
theorem z_site20 : zSite 19 ⟨"TrailGuide$Parser", "cutOrCharge", "()LTrailGuide$Command;"⟩ 29 117 zSg20 := ⟨rfl, fun G h => by
  obtain ⟨A0, h⟩ := h
  exact Cond.lambdaSite_spec (zn23 h)⟩
theorem z_site21 : zSite 20 ⟨"TrailGuide$Parser", "cutOrCharge", "()LTrailGuide$Command;"⟩ 50 120 zSg21 := ⟨rfl, fun G h => by
  obtain ⟨A0, h⟩ := h
  exact Cond.lambdaSite_spec (zn24 h)⟩
theorem z_site22 : zSite 21 ⟨"TrailGuide$Parser", "modeOrMove", "()LTrailGuide$Command;"⟩ 31 130 zSg22 := ⟨rfl, fun G h => by
  obtain ⟨A0, h⟩ := h
  exact Cond.lambdaSite_spec (zn25 h)⟩
theorem z_site23 : zSite 22 ⟨"TrailGuide$Parser", "modeOrMove", "()LTrailGuide$Command;"⟩ 60 133 zSg23 := ⟨rfl, fun G h => by
  obtain ⟨A0, h⟩ := h
  exact Cond.lambdaSite_spec (zn26 h)⟩
theorem z_site24 : zSite 23 ⟨"TrailGuide$Parser", "limited", "()LTrailGuide$Command;"⟩ 12 136 zSg24 := ⟨rfl, fun G h => by
  obtain ⟨A0, h⟩ := h
  exact Cond.lambdaSite_spec (zn27 h)⟩
theorem z_site25 : zSite 24 ⟨"TrailGuide$Parser", "stopped", "()LTrailGuide$Command;"⟩ 10 139 zSg25 := ⟨rfl, fun G h => by
  obtain ⟨A0, h⟩ := h
  exact Cond.lambdaSite_spec (zn28 h)⟩
theorem z_ncIAE_ISE : zNc "java/lang/IllegalArgumentException" "java/lang/IllegalStateException" := fun G h => by
  obtain ⟨A0, h⟩ := h
  exact va_Nc.of (zm1 h (i := 305) rfl)
theorem z_ncIAE_NSE : zNc "java/lang/IllegalArgumentException" "java/util/NoSuchElementException" := fun G h => by
  obtain ⟨A0, h⟩ := h
  exact va_Nc.of (zm1 h (i := 363) rfl)
theorem z_ncIAE_IOE : zNc "java/lang/IllegalArgumentException" "java/lang/IndexOutOfBoundsException" := fun G h => by
  obtain ⟨A0, h⟩ := h
  exact va_Nc.of (zm1 h (i := 335) rfl)
theorem z_ncIAE_UOE : zNc "java/lang/IllegalArgumentException" "java/lang/UnsupportedOperationException" := fun G h => by
  obtain ⟨A0, h⟩ := h
  exact va_Nc.of (zm1 h (i := 393) rfl)
theorem z_ncIAE_AE : zNc "java/lang/IllegalArgumentException" "java/lang/ArithmeticException" := fun G h => by
  obtain ⟨A0, h⟩ := h
  exact va_Nc.of (zm2 h (i := 83) rfl)
theorem z_ncIAE_SX : zNc "java/lang/IllegalArgumentException" "TrailGuide$SyntaxException" := fun G h => by
  obtain ⟨A0, h⟩ := h
  exact va_Nc.of (zm2 h (i := 113) rfl)
theorem z_ncIAE_Re : zNc "java/lang/IllegalArgumentException" "TrailGuide$Reached" := fun G h => by
  obtain ⟨A0, h⟩ := h
  exact va_Nc.of (zm2 h (i := 23) rfl)
theorem z_ncIAE_Dr : zNc "java/lang/IllegalArgumentException" "TrailGuide$Drifted" := fun G h => by
  obtain ⟨A0, h⟩ := h
  exact va_Nc.of (zm2 h (i := 53) rfl)
theorem z_ncISE_IAE : zNc "java/lang/IllegalStateException" "java/lang/IllegalArgumentException" := fun G h => by
  obtain ⟨A0, h⟩ := h
  exact va_Nc.of (zm1 h (i := 275) rfl)
theorem z_ncISE_NSE : zNc "java/lang/IllegalStateException" "java/util/NoSuchElementException" := fun G h => by
  obtain ⟨A0, h⟩ := h
  exact va_Nc.of (zm1 h (i := 364) rfl)
theorem z_ncISE_IOE : zNc "java/lang/IllegalStateException" "java/lang/IndexOutOfBoundsException" := fun G h => by
  obtain ⟨A0, h⟩ := h
  exact va_Nc.of (zm1 h (i := 336) rfl)
theorem z_ncISE_UOE : zNc "java/lang/IllegalStateException" "java/lang/UnsupportedOperationException" := fun G h => by
  obtain ⟨A0, h⟩ := h
  exact va_Nc.of (zm1 h (i := 394) rfl)
theorem z_ncISE_AE : zNc "java/lang/IllegalStateException" "java/lang/ArithmeticException" := fun G h => by
  obtain ⟨A0, h⟩ := h
  exact va_Nc.of (zm2 h (i := 84) rfl)
theorem z_ncISE_SX : zNc "java/lang/IllegalStateException" "TrailGuide$SyntaxException" := fun G h => by
  obtain ⟨A0, h⟩ := h
  exact va_Nc.of (zm2 h (i := 114) rfl)
theorem z_ncISE_Re : zNc "java/lang/IllegalStateException" "TrailGuide$Reached" := fun G h => by
  obtain ⟨A0, h⟩ := h
  exact va_Nc.of (zm2 h (i := 24) rfl)
theorem z_ncISE_Dr : zNc "java/lang/IllegalStateException" "TrailGuide$Drifted" := fun G h => by
  obtain ⟨A0, h⟩ := h
  exact va_Nc.of (zm2 h (i := 54) rfl)
theorem z_ncNSE_IAE : zNc "java/util/NoSuchElementException" "java/lang/IllegalArgumentException" := fun G h => by
  obtain ⟨A0, h⟩ := h
  exact va_Nc.of (zm1 h (i := 279) rfl)
theorem z_ncNSE_ISE : zNc "java/util/NoSuchElementException" "java/lang/IllegalStateException" := fun G h => by
  obtain ⟨A0, h⟩ := h
  exact va_Nc.of (zm1 h (i := 309) rfl)
theorem z_ncNSE_IOE : zNc "java/util/NoSuchElementException" "java/lang/IndexOutOfBoundsException" := fun G h => by
  obtain ⟨A0, h⟩ := h
  exact va_Nc.of (zm1 h (i := 340) rfl)
theorem z_ncNSE_UOE : zNc "java/util/NoSuchElementException" "java/lang/UnsupportedOperationException" := fun G h => by
  obtain ⟨A0, h⟩ := h
  exact va_Nc.of (zm1 h (i := 398) rfl)
theorem z_ncNSE_AE : zNc "java/util/NoSuchElementException" "java/lang/ArithmeticException" := fun G h => by
  obtain ⟨A0, h⟩ := h
  exact va_Nc.of (zm2 h (i := 88) rfl)
theorem z_ncNSE_SX : zNc "java/util/NoSuchElementException" "TrailGuide$SyntaxException" := fun G h => by
  obtain ⟨A0, h⟩ := h
  exact va_Nc.of (zm2 h (i := 118) rfl)
theorem z_ncNSE_Re : zNc "java/util/NoSuchElementException" "TrailGuide$Reached" := fun G h => by
  obtain ⟨A0, h⟩ := h
  exact va_Nc.of (zm2 h (i := 28) rfl)
theorem z_ncNSE_Dr : zNc "java/util/NoSuchElementException" "TrailGuide$Drifted" := fun G h => by
  obtain ⟨A0, h⟩ := h
  exact va_Nc.of (zm2 h (i := 58) rfl)
theorem z_ncIOE_IAE : zNc "java/lang/IndexOutOfBoundsException" "java/lang/IllegalArgumentException" := fun G h => by
  obtain ⟨A0, h⟩ := h
  exact va_Nc.of (zm1 h (i := 281) rfl)
theorem z_ncIOE_ISE : zNc "java/lang/IndexOutOfBoundsException" "java/lang/IllegalStateException" := fun G h => by
  obtain ⟨A0, h⟩ := h
  exact va_Nc.of (zm1 h (i := 311) rfl)
theorem z_ncIOE_NSE : zNc "java/lang/IndexOutOfBoundsException" "java/util/NoSuchElementException" := fun G h => by
  obtain ⟨A0, h⟩ := h
  exact va_Nc.of (zm1 h (i := 369) rfl)
theorem z_ncIOE_UOE : zNc "java/lang/IndexOutOfBoundsException" "java/lang/UnsupportedOperationException" := fun G h => by
  obtain ⟨A0, h⟩ := h
  exact va_Nc.of (zm2 h (i := 0) rfl)
theorem z_ncIOE_AE : zNc "java/lang/IndexOutOfBoundsException" "java/lang/ArithmeticException" := fun G h => by
  obtain ⟨A0, h⟩ := h
  exact va_Nc.of (zm2 h (i := 90) rfl)
theorem z_ncIOE_SX : zNc "java/lang/IndexOutOfBoundsException" "TrailGuide$SyntaxException" := fun G h => by
  obtain ⟨A0, h⟩ := h
  exact va_Nc.of (zm2 h (i := 120) rfl)
theorem z_ncIOE_Re : zNc "java/lang/IndexOutOfBoundsException" "TrailGuide$Reached" := fun G h => by
  obtain ⟨A0, h⟩ := h
  exact va_Nc.of (zm2 h (i := 30) rfl)
theorem z_ncIOE_Dr : zNc "java/lang/IndexOutOfBoundsException" "TrailGuide$Drifted" := fun G h => by
  obtain ⟨A0, h⟩ := h
  exact va_Nc.of (zm2 h (i := 60) rfl)
theorem z_ncUOE_IAE : zNc "java/lang/UnsupportedOperationException" "java/lang/IllegalArgumentException" := fun G h => by
  obtain ⟨A0, h⟩ := h
  exact va_Nc.of (zm1 h (i := 283) rfl)
theorem z_ncUOE_ISE : zNc "java/lang/UnsupportedOperationException" "java/lang/IllegalStateException" := fun G h => by
  obtain ⟨A0, h⟩ := h
  exact va_Nc.of (zm1 h (i := 313) rfl)
theorem z_ncUOE_NSE : zNc "java/lang/UnsupportedOperationException" "java/util/NoSuchElementException" := fun G h => by
  obtain ⟨A0, h⟩ := h
  exact va_Nc.of (zm1 h (i := 371) rfl)
theorem z_ncUOE_IOE : zNc "java/lang/UnsupportedOperationException" "java/lang/IndexOutOfBoundsException" := fun G h => by
  obtain ⟨A0, h⟩ := h
  exact va_Nc.of (zm1 h (i := 342) rfl)
theorem z_ncUOE_AE : zNc "java/lang/UnsupportedOperationException" "java/lang/ArithmeticException" := fun G h => by
  obtain ⟨A0, h⟩ := h
  exact va_Nc.of (zm2 h (i := 92) rfl)
theorem z_ncUOE_SX : zNc "java/lang/UnsupportedOperationException" "TrailGuide$SyntaxException" := fun G h => by
  obtain ⟨A0, h⟩ := h
  exact va_Nc.of (zm2 h (i := 122) rfl)
theorem z_ncUOE_Re : zNc "java/lang/UnsupportedOperationException" "TrailGuide$Reached" := fun G h => by
  obtain ⟨A0, h⟩ := h
  exact va_Nc.of (zm2 h (i := 32) rfl)
theorem z_ncUOE_Dr : zNc "java/lang/UnsupportedOperationException" "TrailGuide$Drifted" := fun G h => by
  obtain ⟨A0, h⟩ := h
  exact va_Nc.of (zm2 h (i := 62) rfl)
theorem z_ncAE_IAE : zNc "java/lang/ArithmeticException" "java/lang/IllegalArgumentException" := fun G h => by
  obtain ⟨A0, h⟩ := h
  exact va_Nc.of (zm1 h (i := 292) rfl)
theorem z_ncAE_ISE : zNc "java/lang/ArithmeticException" "java/lang/IllegalStateException" := fun G h => by
  obtain ⟨A0, h⟩ := h
  exact va_Nc.of (zm1 h (i := 322) rfl)
theorem z_ncAE_NSE : zNc "java/lang/ArithmeticException" "java/util/NoSuchElementException" := fun G h => by
  obtain ⟨A0, h⟩ := h
  exact va_Nc.of (zm1 h (i := 380) rfl)
theorem z_ncAE_IOE : zNc "java/lang/ArithmeticException" "java/lang/IndexOutOfBoundsException" := fun G h => by
  obtain ⟨A0, h⟩ := h
  exact va_Nc.of (zm1 h (i := 351) rfl)
theorem z_ncAE_UOE : zNc "java/lang/ArithmeticException" "java/lang/UnsupportedOperationException" := fun G h => by
  obtain ⟨A0, h⟩ := h
  exact va_Nc.of (zm2 h (i := 10) rfl)
theorem z_ncAE_SX : zNc "java/lang/ArithmeticException" "TrailGuide$SyntaxException" := fun G h => by
  obtain ⟨A0, h⟩ := h
  exact va_Nc.of (zm2 h (i := 131) rfl)
theorem z_ncAE_Re : zNc "java/lang/ArithmeticException" "TrailGuide$Reached" := fun G h => by
  obtain ⟨A0, h⟩ := h
  exact va_Nc.of (zm2 h (i := 40) rfl)
theorem z_ncAE_Dr : zNc "java/lang/ArithmeticException" "TrailGuide$Drifted" := fun G h => by
  obtain ⟨A0, h⟩ := h
  exact va_Nc.of (zm2 h (i := 70) rfl)
theorem z_ncSX_IAE : zNc "TrailGuide$SyntaxException" "java/lang/IllegalArgumentException" := fun G h => by
  obtain ⟨A0, h⟩ := h
  exact va_Nc.of (zm1 h (i := 295) rfl)
theorem z_ncSX_ISE : zNc "TrailGuide$SyntaxException" "java/lang/IllegalStateException" := fun G h => by
  obtain ⟨A0, h⟩ := h
  exact va_Nc.of (zm1 h (i := 325) rfl)
theorem z_ncSX_NSE : zNc "TrailGuide$SyntaxException" "java/util/NoSuchElementException" := fun G h => by
  obtain ⟨A0, h⟩ := h
  exact va_Nc.of (zm1 h (i := 383) rfl)
theorem z_ncSX_IOE : zNc "TrailGuide$SyntaxException" "java/lang/IndexOutOfBoundsException" := fun G h => by
  obtain ⟨A0, h⟩ := h
  exact va_Nc.of (zm1 h (i := 353) rfl)
theorem z_ncSX_UOE : zNc "TrailGuide$SyntaxException" "java/lang/UnsupportedOperationException" := fun G h => by
  obtain ⟨A0, h⟩ := h
  exact va_Nc.of (zm2 h (i := 13) rfl)
theorem z_ncSX_AE : zNc "TrailGuide$SyntaxException" "java/lang/ArithmeticException" := fun G h => by
  obtain ⟨A0, h⟩ := h
  exact va_Nc.of (zm2 h (i := 103) rfl)
theorem z_ncSX_Re : zNc "TrailGuide$SyntaxException" "TrailGuide$Reached" := fun G h => by
  obtain ⟨A0, h⟩ := h
  exact va_Nc.of (zm2 h (i := 43) rfl)
theorem z_ncSX_Dr : zNc "TrailGuide$SyntaxException" "TrailGuide$Drifted" := fun G h => by
  obtain ⟨A0, h⟩ := h
  exact va_Nc.of (zm2 h (i := 73) rfl)
theorem z_ncRe_IAE : zNc "TrailGuide$Reached" "java/lang/IllegalArgumentException" := fun G h => by
  obtain ⟨A0, h⟩ := h
  exact va_Nc.of (zm1 h (i := 284) rfl)
theorem z_ncRe_ISE : zNc "TrailGuide$Reached" "java/lang/IllegalStateException" := fun G h => by
  obtain ⟨A0, h⟩ := h
  exact va_Nc.of (zm1 h (i := 314) rfl)
theorem z_ncRe_NSE : zNc "TrailGuide$Reached" "java/util/NoSuchElementException" := fun G h => by
  obtain ⟨A0, h⟩ := h
  exact va_Nc.of (zm1 h (i := 372) rfl)
theorem z_ncRe_IOE : zNc "TrailGuide$Reached" "java/lang/IndexOutOfBoundsException" := fun G h => by
  obtain ⟨A0, h⟩ := h
  exact va_Nc.of (zm1 h (i := 343) rfl)
theorem z_ncRe_UOE : zNc "TrailGuide$Reached" "java/lang/UnsupportedOperationException" := fun G h => by
  obtain ⟨A0, h⟩ := h
  exact va_Nc.of (zm2 h (i := 2) rfl)
theorem z_ncRe_AE : zNc "TrailGuide$Reached" "java/lang/ArithmeticException" := fun G h => by
  obtain ⟨A0, h⟩ := h
  exact va_Nc.of (zm2 h (i := 93) rfl)
theorem z_ncRe_SX : zNc "TrailGuide$Reached" "TrailGuide$SyntaxException" := fun G h => by
  obtain ⟨A0, h⟩ := h
  exact va_Nc.of (zm2 h (i := 123) rfl)
theorem z_ncRe_Dr : zNc "TrailGuide$Reached" "TrailGuide$Drifted" := fun G h => by
  obtain ⟨A0, h⟩ := h
  exact va_Nc.of (zm2 h (i := 63) rfl)
theorem z_ncDr_IAE : zNc "TrailGuide$Drifted" "java/lang/IllegalArgumentException" := fun G h => by
  obtain ⟨A0, h⟩ := h
  exact va_Nc.of (zm1 h (i := 286) rfl)
theorem z_ncDr_ISE : zNc "TrailGuide$Drifted" "java/lang/IllegalStateException" := fun G h => by
  obtain ⟨A0, h⟩ := h
  exact va_Nc.of (zm1 h (i := 316) rfl)
theorem z_ncDr_NSE : zNc "TrailGuide$Drifted" "java/util/NoSuchElementException" := fun G h => by
  obtain ⟨A0, h⟩ := h
  exact va_Nc.of (zm1 h (i := 374) rfl)
theorem z_ncDr_IOE : zNc "TrailGuide$Drifted" "java/lang/IndexOutOfBoundsException" := fun G h => by
  obtain ⟨A0, h⟩ := h
  exact va_Nc.of (zm1 h (i := 345) rfl)
theorem z_ncDr_UOE : zNc "TrailGuide$Drifted" "java/lang/UnsupportedOperationException" := fun G h => by
  obtain ⟨A0, h⟩ := h
  exact va_Nc.of (zm2 h (i := 4) rfl)
theorem z_ncDr_AE : zNc "TrailGuide$Drifted" "java/lang/ArithmeticException" := fun G h => by
  obtain ⟨A0, h⟩ := h
  exact va_Nc.of (zm2 h (i := 95) rfl)
theorem z_ncDr_SX : zNc "TrailGuide$Drifted" "TrailGuide$SyntaxException" := fun G h => by
  obtain ⟨A0, h⟩ := h
  exact va_Nc.of (zm2 h (i := 125) rfl)
theorem z_ncDr_Re : zNc "TrailGuide$Drifted" "TrailGuide$Reached" := fun G h => by
  obtain ⟨A0, h⟩ := h
  exact va_Nc.of (zm2 h (i := 34) rfl)
theorem z_ncQu_IAE : zNc "TrailGuide$Quiet" "java/lang/IllegalArgumentException" := fun G h => by
  obtain ⟨A0, h⟩ := h
  exact va_Nc.of (zm1 h (i := 287) rfl)
theorem z_ncQu_ISE : zNc "TrailGuide$Quiet" "java/lang/IllegalStateException" := fun G h => by
  obtain ⟨A0, h⟩ := h
  exact va_Nc.of (zm1 h (i := 317) rfl)
theorem z_ncQu_NSE : zNc "TrailGuide$Quiet" "java/util/NoSuchElementException" := fun G h => by
  obtain ⟨A0, h⟩ := h
  exact va_Nc.of (zm1 h (i := 375) rfl)
theorem z_ncQu_IOE : zNc "TrailGuide$Quiet" "java/lang/IndexOutOfBoundsException" := fun G h => by
  obtain ⟨A0, h⟩ := h
  exact va_Nc.of (zm1 h (i := 346) rfl)
theorem z_ncQu_UOE : zNc "TrailGuide$Quiet" "java/lang/UnsupportedOperationException" := fun G h => by
  obtain ⟨A0, h⟩ := h
  exact va_Nc.of (zm2 h (i := 5) rfl)
theorem z_ncQu_AE : zNc "TrailGuide$Quiet" "java/lang/ArithmeticException" := fun G h => by
  obtain ⟨A0, h⟩ := h
  exact va_Nc.of (zm2 h (i := 96) rfl)
theorem z_ncQu_SX : zNc "TrailGuide$Quiet" "TrailGuide$SyntaxException" := fun G h => by
  obtain ⟨A0, h⟩ := h
  exact va_Nc.of (zm2 h (i := 126) rfl)
theorem z_ncQu_Re : zNc "TrailGuide$Quiet" "TrailGuide$Reached" := fun G h => by
  obtain ⟨A0, h⟩ := h
  exact va_Nc.of (zm2 h (i := 35) rfl)
theorem z_ncQu_Dr : zNc "TrailGuide$Quiet" "TrailGuide$Drifted" := fun G h => by
  obtain ⟨A0, h⟩ := h
  exact va_Nc.of (zm2 h (i := 65) rfl)
end ZST
