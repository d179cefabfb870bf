/-! quotients of floats that are numbers -/
def gd (d : FP.Core.Datum) : Prop := match d with
  | .nan => False
  | .inf _ => True
  | .fin _ c q => c < 16777216 ∧ (c < 8388608 ∨ q ≤ 104)
theorem b32_t : FP.Core.Fmt.tails FP.Core.b32 = 8388608 := by decide
theorem b32_e : FP.Core.Fmt.exps FP.Core.b32 = 256 := by decide
theorem b32_q : FP.Core.Fmt.qmin FP.Core.b32 = -149 := by decide
theorem b32_x : FP.Core.Fmt.qmax FP.Core.b32 = 104 := by decide
theorem b32_p : 2 ^ FP.Core.b32.p = 16777216 := by decide
theorem tn_r (s : Bool) : s.toNat ≤ 1 := by cases s <;> decide
theorem enc_mag {d : FP.Core.Datum} (h : gd d) : FP.Core.encode FP.Core.b32 d % 2147483648 ≤ 2139095040 ∧ FP.Core.encode FP.Core.b32 d < 4294967296 := by
  cases d with
  | nan => exact h.elim
  | inf s =>
    have := tn_r s
    unfold FP.Core.encode FP.Core.assemble
    dsimp only
    rw [b32_t, b32_e]
    omega
  | fin s c q =>
    have := tn_r s
    obtain ⟨h1, h2⟩ := h
    unfold FP.Core.encode FP.Core.assemble
    dsimp only
    rw [b32_t, b32_e, b32_q]
    split <;> omega
theorem bd_gd {s : Bool} {c : Nat} {q : Int} (h : c < 16777216) : gd (FP.Core.bound FP.Core.b32 s c q) := by
  unfold FP.Core.bound
  rw [b32_x]
  split
  · exact ⟨h, Or.inr (by assumption)⟩
  · trivial
theorem rr_gd (s : Bool) (num den : Nat) (e : Int) : gd (FP.Core.roundRatio FP.Core.b32 s num den e) := by
  unfold FP.Core.roundRatio
  split
  · exact ⟨by decide, Or.inl (by decide)⟩
  · unfold FP.Core.roundAt FP.Core.settle
    rw [b32_p, b32_t]
    split
    · exact bd_gd (by assumption)
    · exact bd_gd (by decide)
theorem dec_nn {n : Nat} (h : n % 2147483648 ≤ 2139095040) : FP.Core.decode FP.Core.b32 n ≠ .nan := by
  unfold FP.Core.decode FP.Core.fieldE FP.Core.fieldT
  rw [b32_t, b32_e]
  intro q
  split at q
  · split at q
    · cases q
    · rename_i h1 h2
      omega
  · split at q
    · cases q
    · cases q
theorem of_nat {n : Nat} (h : n < 4294967296) : (UInt32.ofNat n).toNat = n := by
  rw [UInt32.toNat_ofNat_of_lt' h]
theorem n32_q {a c : UInt32} (ha : FP.Core.decode FP.Core.b32 a.toNat ≠ .nan) (hc : ∃ t d r, FP.Core.decode FP.Core.b32 c.toNat = .fin t d r ∧ d ≠ 0) : fn_n32 (FP.fdiv a c) = true := by
  obtain ⟨t, d, r, h1, h2⟩ := hc
  have hg : gd (FP.Core.quotient FP.Core.b32 (FP.Core.decode FP.Core.b32 a.toNat) (FP.Core.decode FP.Core.b32 c.toNat)) := by
    rw [h1]
    cases h : FP.Core.decode FP.Core.b32 a.toNat with
    | nan => exact absurd h ha
    | inf s => trivial
    | fin s x y =>
      unfold FP.Core.quotient
      dsimp only
      rw [if_neg h2]
      exact rr_gd _ _ _ _
  have hm := enc_mag hg
  unfold fn_n32
  rw [decide_eq_true_eq]
  show UInt32.ofNat (FP.Core.encode FP.Core.b32 (FP.Core.quotient FP.Core.b32 (FP.Core.decode FP.Core.b32 a.toNat) (FP.Core.decode FP.Core.b32 c.toNat))) &&& 0x7fffffff ≤ 0x7f800000
  generalize FP.Core.encode FP.Core.b32 (FP.Core.quotient FP.Core.b32 (FP.Core.decode FP.Core.b32 a.toNat) (FP.Core.decode FP.Core.b32 c.toNat)) = n at *
  rw [UInt32.le_iff_toNat_le, UInt32.toNat_and, of_nat hm.2]
  show n &&& 2147483647 ≤ 2139095040
  rw [show n &&& 2147483647 = n % 2147483648 from Nat.and_two_pow_sub_one_eq_mod n 31]
  exact hm.1
theorem fi_nn (i : Int) : FP.Core.decode FP.Core.b32 (UInt32.ofNat (FP.Core.fromInt FP.Core.b32 i)).toNat ≠ .nan := by
  have hm := enc_mag (rr_gd (decide (i < 0)) i.natAbs 1 0)
  have e : FP.Core.fromInt FP.Core.b32 i = FP.Core.encode FP.Core.b32 (FP.Core.roundRatio FP.Core.b32 (decide (i < 0)) i.natAbs 1 0) := rfl
  rw [e, of_nat hm.2]
  exact dec_nn hm.1
theorem n32_100 (x : Int32) : fn_n32 (FP.fdiv (FP.i2f x) (1120403456 : UInt32)) = true :=
  n32_q (fi_nn x.toInt) ⟨false, 13107200, -17, by decide +kernel, by decide⟩
theorem near_ge (a c : Nat) : a / c ≤ FP.Core.nearest a c := by
  unfold FP.Core.nearest
  split
  · exact Nat.le_refl _
  · split <;> omega
theorem fi_fin {i : Int} (hi : i ≠ 0) (hb : i.natAbs < 9223372036854775808) : ∃ t d r, FP.Core.decode FP.Core.b32 (UInt32.ofNat (FP.Core.fromInt FP.Core.b32 i)).toNat = .fin t d r ∧ d ≠ 0 := by
  have hm := enc_mag (rr_gd (decide (i < 0)) i.natAbs 1 0)
  have e : FP.Core.fromInt FP.Core.b32 i = FP.Core.encode FP.Core.b32 (FP.Core.roundRatio FP.Core.b32 (decide (i < 0)) i.natAbs 1 0) := rfl
  rw [e, of_nat hm.2]
  have h0 : i.natAbs ≠ 0 := by omega
  have hl : i.natAbs.log2 < 63 := (Nat.log2_lt h0).mpr (by omega)
  have hk : 2 ^ i.natAbs.log2 ≤ i.natAbs := Nat.log2_self_le h0
  have hq : FP.Core.quantum FP.Core.b32 i.natAbs 1 0 = (i.natAbs.log2 : Int) - 23 := by
    unfold FP.Core.quantum FP.Core.leading
    rw [b32_q]
    have e1 : Nat.log2 1 = 0 := by decide
    have e2 : (((i.natAbs.log2 : Int) - ((0 : Nat) : Int)).toNat) = i.natAbs.log2 := by omega
    have e3 : ((-((i.natAbs.log2 : Int) - ((0 : Nat) : Int))).toNat) = 0 := by omega
    dsimp only
    rw [e1, e2, e3, if_pos (by rw [Nat.one_mul, Nat.pow_zero, Nat.mul_one]; exact hk)]
    have e4 : ((FP.Core.b32.p : Nat) : Int) = 24 := rfl
    rw [e4]
    omega
  have hc : 8388608 ≤ FP.Core.nearest (FP.Core.unitsNum i.natAbs 0 ((i.natAbs.log2 : Int) - 23)) (FP.Core.unitsDen 1 0 ((i.natAbs.log2 : Int) - 23)) := by
    refine Nat.le_trans ?_ (near_ge _ _)
    unfold FP.Core.unitsNum FP.Core.unitsDen
    rw [Nat.one_mul, Nat.le_div_iff_mul_le (Nat.two_pow_pos _)]
    refine Nat.le_trans ?_ (Nat.mul_le_mul_right _ hk)
    rw [show (8388608 : Nat) = 2 ^ 23 from rfl, ← Nat.pow_add, ← Nat.pow_add]
    exact Nat.pow_le_pow_right (by decide) (by omega)
  unfold FP.Core.roundRatio
  rw [if_neg h0, hq]
  unfold FP.Core.roundAt
  generalize FP.Core.nearest (FP.Core.unitsNum i.natAbs 0 ((i.natAbs.log2 : Int) - 23)) (FP.Core.unitsDen 1 0 ((i.natAbs.log2 : Int) - 23)) = c at *
  generalize hQ : (i.natAbs.log2 : Int) - 23 = q at *
  have key : ∀ (c : Nat) (q : Int) (s : Bool), 8388608 ≤ c → c < 16777216 → -23 ≤ q → q ≤ 40 → ∃ t d r, FP.Core.decode FP.Core.b32 (FP.Core.encode FP.Core.b32 (FP.Core.bound FP.Core.b32 s c q)) = .fin t d r ∧ d ≠ 0 := by
    intro c q s c1 c2 q1 q2
    have := tn_r s
    unfold FP.Core.bound
    rw [b32_x, if_pos (by omega)]
    unfold FP.Core.encode FP.Core.assemble
    dsimp only
    rw [b32_t, b32_e, b32_q, if_neg (by omega)]
    unfold FP.Core.decode FP.Core.fieldE FP.Core.fieldT
    rw [b32_t, b32_e, if_neg (by omega), if_neg (by omega)]
    exact ⟨_, _, _, rfl, by omega⟩
  unfold FP.Core.settle
  rw [b32_p, b32_t]
  split
  · exact key c q _ hc (by assumption) (by omega) (by omega)
  · exact key 8388608 (q + 1) _ (by decide) (by decide) (by omega) (by omega)
theorem n32_l {x z : Int} (hz : z ≠ 0) (h64 : r64 z ∧ z ≠ -9223372036854775808) : fn_n32 (FP.fdiv (FP.l2f (lI x)) (FP.l2f (lI z))) = true := by
  refine n32_q (fi_nn (lI x).toInt) ?_
  have h := fi_fin (i := z) hz (by omega)
  show ∃ t d r, FP.Core.decode FP.Core.b32 (UInt32.ofNat (FP.Core.fromInt FP.Core.b32 (lI z).toInt)).toNat = .fin t d r ∧ d ≠ 0
  rw [lI_int h64.1]
  exact h
