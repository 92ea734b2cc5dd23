set_option maxRecDepth 100000
/-! ===== quotients that are numbers ===== -/
def zDf64 (d : FP.Core.Datum) : Prop := (∃ s, d = .inf s) ∨ ∃ s c q, d = .fin s c q ∧ c < 9007199254740992 ∧ q ≤ 971
theorem z_enc64 {d : FP.Core.Datum} (h : zDf64 d) : FP.Core.encode FP.Core.b64 d < 18446744073709551616 ∧ FP.Core.encode FP.Core.b64 d % 9223372036854775808 ≤ 9218868437227405312 := by
  rcases h with ⟨s, rfl⟩ | ⟨s, c, q, rfl, hc, hq⟩
  · cases s <;> decide
  · have e1 : FP.Core.b64.tails = 4503599627370496 := by decide
    have e2 : FP.Core.b64.exps = 2048 := by decide
    have e3 : FP.Core.b64.qmin = -1074 := by decide
    unfold FP.Core.encode
    (try dsimp only)
    split
    · unfold FP.Core.assemble
      rw [e1, e2]
      rename_i hlt
      rw [e1] at hlt
      cases s
      · show (0 * _ + 0) * _ + _ < _ ∧ ((0 * _ + 0) * _ + _) % _ ≤ _
        omega
      · show (1 * _ + 0) * _ + _ < _ ∧ ((1 * _ + 0) * _ + _) % _ ≤ _
        omega
    · unfold FP.Core.assemble
      rw [e1, e2, e3]
      rename_i hlt
      rw [e1] at hlt
      cases s
      · show (0 * _ + _) * _ + _ < _ ∧ ((0 * _ + _) * _ + _) % _ ≤ _
        omega
      · show (1 * _ + _) * _ + _ < _ ∧ ((1 * _ + _) * _ + _) % _ ≤ _
        omega
theorem z_bound64 {s : Bool} {c : Nat} {q : Int} (hc : c < 9007199254740992) : zDf64 (FP.Core.bound FP.Core.b64 s c q) := by
  have e4 : FP.Core.b64.qmax = 971 := by decide
  unfold FP.Core.bound
  rw [e4]
  split
  · exact Or.inr ⟨s, c, q, rfl, hc, by assumption⟩
  · exact Or.inl ⟨s, rfl⟩
theorem z_rr64 {s : Bool} {n m : Nat} {e : Int} : zDf64 (FP.Core.roundRatio FP.Core.b64 s n m e) := by
  have e1 : FP.Core.b64.tails = 4503599627370496 := by decide
  have e3 : FP.Core.b64.qmin = -1074 := by decide
  have e5 : 2 ^ FP.Core.b64.p = 9007199254740992 := by decide
  unfold FP.Core.roundRatio
  split
  · exact Or.inr ⟨s, 0, _, rfl, by decide, by rw [e3]; decide⟩
  · unfold FP.Core.roundAt FP.Core.settle
    split
    · rename_i h
      rw [e5] at h
      exact z_bound64 h
    · exact z_bound64 (by rw [e1]; decide)
theorem z_n64 {n : Nat} (h : n < 18446744073709551616 ∧ n % 9223372036854775808 ≤ 9218868437227405312) : vf_n64 (.ofNat n) := by
  have e : (UInt64.ofNat n).toNat = n := by
    rw [UInt64.toNat_ofNat']
    exact Nat.mod_eq_of_lt h.1
  unfold vf_n64
  rw [UInt64.le_iff_toNat_le, UInt64.toNat_and]
  rw [show (0x7fffffffffffffff : UInt64).toNat = 2 ^ 63 - 1 from by decide, Nat.and_two_pow_sub_one_eq_mod, e]
  exact h.2
def zFb64 (n : Nat) (z : Bool) : Bool := match FP.Core.decode FP.Core.b64 n with
  | .fin _ c _ => z || decide (c ≠ 0)
  | _ => false
theorem z_quo64 {a b : Nat} (ha : zFb64 a true = true) (hb : zFb64 b false = true) : zDf64 (FP.Core.quotient FP.Core.b64 (FP.Core.decode FP.Core.b64 a) (FP.Core.decode FP.Core.b64 b)) := by
  unfold zFb64 at ha hb
  cases e1 : FP.Core.decode FP.Core.b64 a with
  | nan => rw [e1] at ha; cases ha
  | inf s => rw [e1] at ha; cases ha
  | fin s c q =>
    cases e2 : FP.Core.decode FP.Core.b64 b with
    | nan => rw [e2] at hb; cases hb
    | inf s => rw [e2] at hb; cases hb
    | fin t d r =>
      rw [e2] at hb
      have hd : d ≠ 0 := by simpa using hb
      show zDf64 (if d = 0 then _ else _)
      rw [if_neg hd]
      exact z_rr64
def zDf32 (d : FP.Core.Datum) : Prop := (∃ s, d = .inf s) ∨ ∃ s c q, d = .fin s c q ∧ c < 16777216 ∧ q ≤ 104
theorem z_enc32 {d : FP.Core.Datum} (h : zDf32 d) : FP.Core.encode FP.Core.b32 d < 4294967296 ∧ FP.Core.encode FP.Core.b32 d % 2147483648 ≤ 2139095040 := by
  rcases h with ⟨s, rfl⟩ | ⟨s, c, q, rfl, hc, hq⟩
  · cases s <;> decide
  · have e1 : FP.Core.b32.tails = 8388608 := by decide
    have e2 : FP.Core.b32.exps = 256 := by decide
    have e3 : FP.Core.b32.qmin = -149 := by decide
    unfold FP.Core.encode
    (try dsimp only)
    split
    · unfold FP.Core.assemble
      rw [e1, e2]
      rename_i hlt
      rw [e1] at hlt
      cases s
      · show (0 * _ + 0) * _ + _ < _ ∧ ((0 * _ + 0) * _ + _) % _ ≤ _
        omega
      · show (1 * _ + 0) * _ + _ < _ ∧ ((1 * _ + 0) * _ + _) % _ ≤ _
        omega
    · unfold FP.Core.assemble
      rw [e1, e2, e3]
      rename_i hlt
      rw [e1] at hlt
      cases s
      · show (0 * _ + _) * _ + _ < _ ∧ ((0 * _ + _) * _ + _) % _ ≤ _
        omega
      · show (1 * _ + _) * _ + _ < _ ∧ ((1 * _ + _) * _ + _) % _ ≤ _
        omega
theorem z_bound32 {s : Bool} {c : Nat} {q : Int} (hc : c < 16777216) : zDf32 (FP.Core.bound FP.Core.b32 s c q) := by
  have e4 : FP.Core.b32.qmax = 104 := by decide
  unfold FP.Core.bound
  rw [e4]
  split
  · exact Or.inr ⟨s, c, q, rfl, hc, by assumption⟩
  · exact Or.inl ⟨s, rfl⟩
theorem z_rr32 {s : Bool} {n m : Nat} {e : Int} : zDf32 (FP.Core.roundRatio FP.Core.b32 s n m e) := by
  have e1 : FP.Core.b32.tails = 8388608 := by decide
  have e3 : FP.Core.b32.qmin = -149 := by decide
  have e5 : 2 ^ FP.Core.b32.p = 16777216 := by decide
  unfold FP.Core.roundRatio
  split
  · exact Or.inr ⟨s, 0, _, rfl, by decide, by rw [e3]; decide⟩
  · unfold FP.Core.roundAt FP.Core.settle
    split
    · rename_i h
      rw [e5] at h
      exact z_bound32 h
    · exact z_bound32 (by rw [e1]; decide)
theorem z_n32 {n : Nat} (h : n < 4294967296 ∧ n % 2147483648 ≤ 2139095040) : vf_n32 (.ofNat n) := by
  have e : (UInt32.ofNat n).toNat = n := by
    rw [UInt32.toNat_ofNat']
    exact Nat.mod_eq_of_lt h.1
  unfold vf_n32
  rw [UInt32.le_iff_toNat_le, UInt32.toNat_and]
  rw [show (0x7fffffff : UInt32).toNat = 2 ^ 31 - 1 from by decide, Nat.and_two_pow_sub_one_eq_mod, e]
  exact h.2
def zFb32 (n : Nat) (z : Bool) : Bool := match FP.Core.decode FP.Core.b32 n with
  | .fin _ c _ => z || decide (c ≠ 0)
  | _ => false
theorem z_quo32 {a b : Nat} (ha : zFb32 a true = true) (hb : zFb32 b false = true) : zDf32 (FP.Core.quotient FP.Core.b32 (FP.Core.decode FP.Core.b32 a) (FP.Core.decode FP.Core.b32 b)) := by
  unfold zFb32 at ha hb
  cases e1 : FP.Core.decode FP.Core.b32 a with
  | nan => rw [e1] at ha; cases ha
  | inf s => rw [e1] at ha; cases ha
  | fin s c q =>
    cases e2 : FP.Core.decode FP.Core.b32 b with
    | nan => rw [e2] at hb; cases hb
    | inf s => rw [e2] at hb; cases hb
    | fin t d r =>
      rw [e2] at hb
      have hd : d ≠ 0 := by simpa using hb
      show zDf32 (if d = 0 then _ else _)
      rw [if_neg hd]
      exact z_rr32
theorem z_i2d_f0 : ∀ x : Fin 500, zFb64 (FP.i2d (zi (((x : Nat) : Int) + 0))).toNat true = true := by decide +kernel
theorem z_i2d_f1 : ∀ x : Fin 500, zFb64 (FP.i2d (zi (((x : Nat) : Int) + 500))).toNat true = true := by decide +kernel
theorem z_i2d_f2 : ∀ x : Fin 500, zFb64 (FP.i2d (zi (((x : Nat) : Int) + 1000))).toNat true = true := by decide +kernel
theorem z_i2d_f3 : ∀ x : Fin 500, zFb64 (FP.i2d (zi (((x : Nat) : Int) + 1500))).toNat true = true := by decide +kernel
theorem z_i2d_f4 : ∀ x : Fin 500, zFb64 (FP.i2d (zi (((x : Nat) : Int) + 2000))).toNat true = true := by decide +kernel
theorem z_i2d_f5 : ∀ x : Fin 500, zFb64 (FP.i2d (zi (((x : Nat) : Int) + 2500))).toNat true = true := by decide +kernel
theorem z_i2d_f6 : ∀ x : Fin 500, zFb64 (FP.i2d (zi (((x : Nat) : Int) + 3000))).toNat true = true := by decide +kernel
theorem z_i2d_f7 : ∀ x : Fin 500, zFb64 (FP.i2d (zi (((x : Nat) : Int) + 3500))).toNat true = true := by decide +kernel
theorem z_i2d_f8 : ∀ x : Fin 500, zFb64 (FP.i2d (zi (((x : Nat) : Int) + 4000))).toNat true = true := by decide +kernel
theorem z_i2d_f9 : ∀ x : Fin 500, zFb64 (FP.i2d (zi (((x : Nat) : Int) + 4500))).toNat true = true := by decide +kernel
theorem z_i2d_f10 : ∀ x : Fin 500, zFb64 (FP.i2d (zi (((x : Nat) : Int) + 5000))).toNat true = true := by decide +kernel
theorem z_i2d_f11 : ∀ x : Fin 500, zFb64 (FP.i2d (zi (((x : Nat) : Int) + 5500))).toNat true = true := by decide +kernel
theorem z_i2d_f12 : ∀ x : Fin 500, zFb64 (FP.i2d (zi (((x : Nat) : Int) + 6000))).toNat true = true := by decide +kernel
theorem z_i2d_f13 : ∀ x : Fin 500, zFb64 (FP.i2d (zi (((x : Nat) : Int) + 6500))).toNat true = true := by decide +kernel
theorem z_i2d_f14 : ∀ x : Fin 500, zFb64 (FP.i2d (zi (((x : Nat) : Int) + 7000))).toNat true = true := by decide +kernel
theorem z_i2d_f {x : Int} (hx : 0 ≤ x ∧ x < 7500) : zFb64 (FP.i2d (zi x)).toNat true = true := by
  by_cases h0 : x < 500
  · have h := z_i2d_f0 ⟨(x - 0).toNat, by omega⟩
    dsimp only at h
    rw [show (((x - 0).toNat : Nat) : Int) + 0 = x by omega] at h
    exact h
  by_cases h1 : x < 1000
  · have h := z_i2d_f1 ⟨(x - 500).toNat, by omega⟩
    dsimp only at h
    rw [show (((x - 500).toNat : Nat) : Int) + 500 = x by omega] at h
    exact h
  by_cases h2 : x < 1500
  · have h := z_i2d_f2 ⟨(x - 1000).toNat, by omega⟩
    dsimp only at h
    rw [show (((x - 1000).toNat : Nat) : Int) + 1000 = x by omega] at h
    exact h
  by_cases h3 : x < 2000
  · have h := z_i2d_f3 ⟨(x - 1500).toNat, by omega⟩
    dsimp only at h
    rw [show (((x - 1500).toNat : Nat) : Int) + 1500 = x by omega] at h
    exact h
  by_cases h4 : x < 2500
  · have h := z_i2d_f4 ⟨(x - 2000).toNat, by omega⟩
    dsimp only at h
    rw [show (((x - 2000).toNat : Nat) : Int) + 2000 = x by omega] at h
    exact h
  by_cases h5 : x < 3000
  · have h := z_i2d_f5 ⟨(x - 2500).toNat, by omega⟩
    dsimp only at h
    rw [show (((x - 2500).toNat : Nat) : Int) + 2500 = x by omega] at h
    exact h
  by_cases h6 : x < 3500
  · have h := z_i2d_f6 ⟨(x - 3000).toNat, by omega⟩
    dsimp only at h
    rw [show (((x - 3000).toNat : Nat) : Int) + 3000 = x by omega] at h
    exact h
  by_cases h7 : x < 4000
  · have h := z_i2d_f7 ⟨(x - 3500).toNat, by omega⟩
    dsimp only at h
    rw [show (((x - 3500).toNat : Nat) : Int) + 3500 = x by omega] at h
    exact h
  by_cases h8 : x < 4500
  · have h := z_i2d_f8 ⟨(x - 4000).toNat, by omega⟩
    dsimp only at h
    rw [show (((x - 4000).toNat : Nat) : Int) + 4000 = x by omega] at h
    exact h
  by_cases h9 : x < 5000
  · have h := z_i2d_f9 ⟨(x - 4500).toNat, by omega⟩
    dsimp only at h
    rw [show (((x - 4500).toNat : Nat) : Int) + 4500 = x by omega] at h
    exact h
  by_cases h10 : x < 5500
  · have h := z_i2d_f10 ⟨(x - 5000).toNat, by omega⟩
    dsimp only at h
    rw [show (((x - 5000).toNat : Nat) : Int) + 5000 = x by omega] at h
    exact h
  by_cases h11 : x < 6000
  · have h := z_i2d_f11 ⟨(x - 5500).toNat, by omega⟩
    dsimp only at h
    rw [show (((x - 5500).toNat : Nat) : Int) + 5500 = x by omega] at h
    exact h
  by_cases h12 : x < 6500
  · have h := z_i2d_f12 ⟨(x - 6000).toNat, by omega⟩
    dsimp only at h
    rw [show (((x - 6000).toNat : Nat) : Int) + 6000 = x by omega] at h
    exact h
  by_cases h13 : x < 7000
  · have h := z_i2d_f13 ⟨(x - 6500).toNat, by omega⟩
    dsimp only at h
    rw [show (((x - 6500).toNat : Nat) : Int) + 6500 = x by omega] at h
    exact h
  by_cases h14 : x < 7500
  · have h := z_i2d_f14 ⟨(x - 7000).toNat, by omega⟩
    dsimp only at h
    rw [show (((x - 7000).toNat : Nat) : Int) + 7000 = x by omega] at h
    exact h
  exact absurd hx.2 (by omega)
theorem z_i2d_z : ∀ x : Fin 100, zFb64 (FP.i2d (zi (((x : Nat) : Int) + 1))).toNat false = true := by decide +kernel
theorem z_i2f_f : ∀ x : Fin 100, zFb32 (FP.i2f (zi ((x : Nat) : Int))).toNat true = true := by decide +kernel
theorem z_i2f_z : ∀ x : Fin 100, zFb32 (FP.i2f (zi (((x : Nat) : Int) + 1))).toNat false = true := by decide +kernel
theorem z_dq {x y : Int} (hx : 0 ≤ x ∧ x < 7500) (hy : 0 < y ∧ y ≤ 100) : vf_n64 (FP.ddiv (FP.i2d (zi x)) (FP.i2d (zi y))) := by
  have h1 := z_i2d_f hx
  have h2 := z_i2d_z ⟨(y - 1).toNat, by omega⟩
  dsimp only at h2
  rw [show (((y - 1).toNat : Nat) : Int) + 1 = y by omega] at h2
  exact z_n64 (z_enc64 (z_quo64 h1 h2))
theorem z_fq {x y : Int} (hx : 0 ≤ x ∧ x < 100) (hy : 0 < y ∧ y ≤ 100) : vf_n32 (FP.fdiv (FP.i2f (zi x)) (FP.i2f (zi y))) := by
  have h1 := z_i2f_f ⟨x.toNat, by omega⟩
  have h2 := z_i2f_z ⟨(y - 1).toNat, by omega⟩
  dsimp only at h1 h2
  rw [show ((x.toNat : Nat) : Int) = x by omega] at h1
  rw [show (((y - 1).toNat : Nat) : Int) + 1 = y by omega] at h2
  exact z_n32 (z_enc32 (z_quo32 h1 h2))
