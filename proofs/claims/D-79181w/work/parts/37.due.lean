/-! what is due, paid, deposited -/
def sUn (v : Int → Int) (l : Int) (pl : Bool) (d : Int) : Int := rentAt v l (d / 30) * (if pl = true then 100 else 100 - sRed v l d)
def sUnits (v : Int → Int) (l fr to : Int) (pl : Bool) : Int :=
  sm (sUn v l pl) (if fr ≤ v (1 + 8 * l + 1) then v (1 + 8 * l + 1) else fr) ((if endOf v l ≤ to then endOf v l else to) + 1 - (if fr ≤ v (1 + 8 * l + 1) then v (1 + 8 * l + 1) else fr)).toNat
def sDue (v : Int → Int) (l day : Int) : Int := sUnits v l 0 day false / 3000
def sPaid (v : Int → Int) (l day : Int) : Int := sm (fun p => if v (131 + 3 * p) = l ∧ v (131 + 3 * p + 1) ≤ day then v (131 + 3 * p + 2) else 0) 0 (v 130).toNat
theorem rentAt_r {v : Int → Int} (hv : okD v) {l : Int} (hl : 0 ≤ l ∧ l < v 0) {m : Int} (hm : bgn v l ≤ m ∧ m < 120) : 1 ≤ rentAt v l m ∧ rentAt v l m ≤ 9999999 := by
  have := bgn_r hv hl
  exact (sRent_r hv hl (m.toNat - bgn v l) (by omega)).1
theorem sUn_r {v : Int → Int} (hv : okD v) {l : Int} (hl : 0 ≤ l ∧ l < v 0) (pl : Bool) {d : Int} (hd : v (1 + 8 * l + 1) ≤ d ∧ d < 3600) : 0 ≤ sUn v l pl d ∧ sUn v l pl d ≤ 999999900 := by
  have h1 := bgn_r hv hl
  have h2 := rentAt_r hv hl (m := d / 30) (by omega)
  have h3 := sRed_r hv l d
  unfold sUn
  have h4 : 0 ≤ (if pl = true then 100 else 100 - sRed v l d) ∧ (if pl = true then 100 else 100 - sRed v l d) ≤ 100 := by split <;> omega
  generalize (if pl = true then 100 else 100 - sRed v l d) = z at *
  have k1 : 0 ≤ rentAt v l (d / 30) * z := Int.mul_nonneg (by omega) h4.1
  have k2 : rentAt v l (d / 30) * z ≤ 9999999 * 100 := Int.mul_le_mul h2.2 h4.2 h4.1 (by decide)
  omega
section Due
variable {ρ : Nat → Nat} {σ : mS} {b : Nat} {μ : MM}
theorem X3_units_l (hv : okD (μ.1 0)) {l : Int} (hl : 0 ≤ l ∧ l < μ.1 0 0) (pl : Bool) {last : Int} (hlast : last < 3600) (hr : ∀ m : Int, (bgn (μ.1 0) l : Int) ≤ m → m < 120 → μ.1 17 m = rentAt (μ.1 0) l m) (ht : ∀ d, 0 ≤ d → d < μ.1 0 81 → μ.2.2.2.1 d = sUnder (μ.1 0) (μ.1 0 (82 + 4 * d)) 11 l) :
    ∀ (n : Nat) (d acc : Int) (gas : Nat), (last + 1 - d).toNat = n → n < gas → μ.1 0 (1 + 8 * l + 1) ≤ d → d ≤ 3600 → -2147483648 ≤ last → fnFix (fun _ _ _ _ _ => none) (gX3_units_b59 ρ b) gas (iI (b2 pl)) (iI last) (lI acc) (iI d) (St σ b μ) = some (lI (acc + sm (sUn (μ.1 0) l pl) d n), St σ b μ) := by
  obtain ⟨-, j1, -⟩ := hv.2.2.2.2.1 l hl.1 hl.2
  intro n
  induction n with
  | zero =>
    intro d acc gas h1 h2 h3 h4 h5
    obtain ⟨g, rfl⟩ := gas_s h2
    rw [fnFix_s, gX3_units_b59, sm, Int.add_zero]
    simp (disch := omega) only [decide_true, decide_false, reduceIte, and_self, and_true, true_and, and_false, false_and, or_true, true_or, or_false, false_or, not_true_eq_false, not_false_eq_true, reduceCtorEq, mA_ss, mI_ss, ↓St_rc, ↓fn_B, ↓fn_nn_none, ↓fn_nn_some, rZ_0, rZ_1, rZ_b, b2_z, b2_1, b2_or, b2_or0, b2_or1, iI_add, iI_sub, iI_mul, iI_neg, lI_add, lI_sub, lI_mul, iI_lt, iI_le, iI_eq, iI_to64, lI_cmp_lt, lI_cmp_gt, lI_cmp_ge, lI_cmp_le, lI_cmp_eq, mA_s, mA_o, mI_s, mI_o, mB_s, mB_o, mA_I, mA_B, mA_T, mA_F, mI_A, mI_B, mI_T, mI_F, mB_A, mB_I, mB_T, mB_F, mT_A, mT_I, mT_B, mT_F, mF_A, mF_I, mF_B, mF_T, ↓md_gA0, md_a0, md_s0, ↓md_gA1, md_a1, md_s1, ↓md_gA2, md_a2, md_s2, ↓md_gA3, md_a3, md_s3, ↓md_gA4, md_a4, md_s4, ↓md_g5, ↓md_p5, ↓md_g6, ↓md_p6, ↓md_g7, ↓md_p7, ↓md_g8, ↓md_p8, ↓md_gA9, md_a9, md_s9, ↓md_gA10, md_a10, md_s10, ↓md_gA11, md_a11, md_s11, ↓md_gA12, md_a12, md_s12, ↓md_gA13, md_a13, md_s13, ↓md_g14, ↓md_p14, ↓md_g15, ↓md_p15, ↓md_g16, ↓md_p16, ↓md_gA17, md_a17, md_s17, ↓md_gA18, md_a18, md_s18, ↓md_g19, ↓md_p19, ↓md_gA20, md_a20, md_s20, ↓md_g21, ↓md_p21, ↓md_gA22, md_a22, md_s22, ↓md_gA23, md_a23, md_s23, ↓md_gA24, md_a24, md_s24]
    rw [if_pos (by omega)]
  | succ n ih =>
    intro d acc gas h1 h2 h3 h4 h5
    obtain ⟨g, rfl⟩ := gas_s h2
    have k1 := bgn_r hv hl
    have k2 := hr (d / 30) (by omega) (by omega)
    have k3 := rentAt_r hv hl (m := d / 30) (by omega)
    have k4 := sRed_r hv l d
    have q30 : (iI 30 = iI 0) = False := eq_false (by decide)
    rw [fnFix_s, gX3_units_b59, sm]
    simp (disch := omega) only [q30, iI_div30, decide_true, decide_false, reduceIte, and_self, and_true, true_and, and_false, false_and, or_true, true_or, or_false, false_or, not_true_eq_false, not_false_eq_true, reduceCtorEq, mA_ss, mI_ss, ↓St_rc, ↓fn_B, ↓fn_nn_none, ↓fn_nn_some, rZ_0, rZ_1, rZ_b, b2_z, b2_1, b2_or, b2_or0, b2_or1, iI_add, iI_sub, iI_mul, iI_neg, lI_add, lI_sub, lI_mul, iI_lt, iI_le, iI_eq, iI_to64, lI_cmp_lt, lI_cmp_gt, lI_cmp_ge, lI_cmp_le, lI_cmp_eq, mA_s, mA_o, mI_s, mI_o, mB_s, mB_o, mA_I, mA_B, mA_T, mA_F, mI_A, mI_B, mI_T, mI_F, mB_A, mB_I, mB_T, mB_F, mT_A, mT_I, mT_B, mT_F, mF_A, mF_I, mF_B, mF_T, ↓md_gA0, md_a0, md_s0, ↓md_gA1, md_a1, md_s1, ↓md_gA2, md_a2, md_s2, ↓md_gA3, md_a3, md_s3, ↓md_gA4, md_a4, md_s4, ↓md_g5, ↓md_p5, ↓md_g6, ↓md_p6, ↓md_g7, ↓md_p7, ↓md_g8, ↓md_p8, ↓md_gA9, md_a9, md_s9, ↓md_gA10, md_a10, md_s10, ↓md_gA11, md_a11, md_s11, ↓md_gA12, md_a12, md_s12, ↓md_gA13, md_a13, md_s13, ↓md_g14, ↓md_p14, ↓md_g15, ↓md_p15, ↓md_g16, ↓md_p16, ↓md_gA17, md_a17, md_s17, ↓md_gA18, md_a18, md_s18, ↓md_g19, ↓md_p19, ↓md_gA20, md_a20, md_s20, ↓md_g21, ↓md_p21, ↓md_gA22, md_a22, md_s22, ↓md_gA23, md_a23, md_s23, ↓md_gA24, md_a24, md_s24]
    rw [if_neg (by omega), k2]
    unfold sUn
    cases pl with
    | true =>
      simp (disch := omega) only [gX3_units_b98, decide_true, decide_false, reduceIte, and_self, and_true, true_and, and_false, false_and, or_true, true_or, or_false, false_or, not_true_eq_false, not_false_eq_true, reduceCtorEq, mA_ss, mI_ss, ↓St_rc, ↓fn_B, ↓fn_nn_none, ↓fn_nn_some, rZ_0, rZ_1, rZ_b, b2_z, b2_1, b2_or, b2_or0, b2_or1, iI_add, iI_sub, iI_mul, iI_neg, lI_add, lI_sub, lI_mul, iI_lt, iI_le, iI_eq, iI_to64, lI_cmp_lt, lI_cmp_gt, lI_cmp_ge, lI_cmp_le, lI_cmp_eq, mA_s, mA_o, mI_s, mI_o, mB_s, mB_o, mA_I, mA_B, mA_T, mA_F, mI_A, mI_B, mI_T, mI_F, mB_A, mB_I, mB_T, mB_F, mT_A, mT_I, mT_B, mT_F, mF_A, mF_I, mF_B, mF_T, ↓md_gA0, md_a0, md_s0, ↓md_gA1, md_a1, md_s1, ↓md_gA2, md_a2, md_s2, ↓md_gA3, md_a3, md_s3, ↓md_gA4, md_a4, md_s4, ↓md_g5, ↓md_p5, ↓md_g6, ↓md_p6, ↓md_g7, ↓md_p7, ↓md_g8, ↓md_p8, ↓md_gA9, md_a9, md_s9, ↓md_gA10, md_a10, md_s10, ↓md_gA11, md_a11, md_s11, ↓md_gA12, md_a12, md_s12, ↓md_gA13, md_a13, md_s13, ↓md_g14, ↓md_p14, ↓md_g15, ↓md_p15, ↓md_g16, ↓md_p16, ↓md_gA17, md_a17, md_s17, ↓md_gA18, md_a18, md_s18, ↓md_g19, ↓md_p19, ↓md_gA20, md_a20, md_s20, ↓md_g21, ↓md_p21, ↓md_gA22, md_a22, md_s22, ↓md_gA23, md_a23, md_s23, ↓md_gA24, md_a24, md_s24]
      rw [ih (d + 1) _ g (by omega) (by omega) (by omega) (by omega) h5, Int.add_assoc]
      rfl
    | false =>
      simp (disch := omega) only [decide_true, decide_false, reduceIte, and_self, and_true, true_and, and_false, false_and, or_true, true_or, or_false, false_or, not_true_eq_false, not_false_eq_true, reduceCtorEq, mA_ss, mI_ss, ↓St_rc, ↓fn_B, ↓fn_nn_none, ↓fn_nn_some, rZ_0, rZ_1, rZ_b, b2_z, b2_1, b2_or, b2_or0, b2_or1, iI_add, iI_sub, iI_mul, iI_neg, lI_add, lI_sub, lI_mul, iI_lt, iI_le, iI_eq, iI_to64, lI_cmp_lt, lI_cmp_gt, lI_cmp_ge, lI_cmp_le, lI_cmp_eq, mA_s, mA_o, mI_s, mI_o, mB_s, mB_o, mA_I, mA_B, mA_T, mA_F, mI_A, mI_B, mI_T, mI_F, mB_A, mB_I, mB_T, mB_F, mT_A, mT_I, mT_B, mT_F, mF_A, mF_I, mF_B, mF_T, ↓md_gA0, md_a0, md_s0, ↓md_gA1, md_a1, md_s1, ↓md_gA2, md_a2, md_s2, ↓md_gA3, md_a3, md_s3, ↓md_gA4, md_a4, md_s4, ↓md_g5, ↓md_p5, ↓md_g6, ↓md_p6, ↓md_g7, ↓md_p7, ↓md_g8, ↓md_p8, ↓md_gA9, md_a9, md_s9, ↓md_gA10, md_a10, md_s10, ↓md_gA11, md_a11, md_s11, ↓md_gA12, md_a12, md_s12, ↓md_gA13, md_a13, md_s13, ↓md_g14, ↓md_p14, ↓md_g15, ↓md_p15, ↓md_g16, ↓md_p16, ↓md_gA17, md_a17, md_s17, ↓md_gA18, md_a18, md_s18, ↓md_g19, ↓md_p19, ↓md_gA20, md_a20, md_s20, ↓md_g21, ↓md_p21, ↓md_gA22, md_a22, md_s22, ↓md_gA23, md_a23, md_s23, ↓md_gA24, md_a24, md_s24]
      rw [X3_reductionOn hv (l := l) ⟨by omega, by omega⟩ ht]
      simp (disch := omega) only [gX3_units_b98, decide_true, decide_false, reduceIte, and_self, and_true, true_and, and_false, false_and, or_true, true_or, or_false, false_or, not_true_eq_false, not_false_eq_true, reduceCtorEq, mA_ss, mI_ss, ↓St_rc, ↓fn_B, ↓fn_nn_none, ↓fn_nn_some, rZ_0, rZ_1, rZ_b, b2_z, b2_1, b2_or, b2_or0, b2_or1, iI_add, iI_sub, iI_mul, iI_neg, lI_add, lI_sub, lI_mul, iI_lt, iI_le, iI_eq, iI_to64, lI_cmp_lt, lI_cmp_gt, lI_cmp_ge, lI_cmp_le, lI_cmp_eq, mA_s, mA_o, mI_s, mI_o, mB_s, mB_o, mA_I, mA_B, mA_T, mA_F, mI_A, mI_B, mI_T, mI_F, mB_A, mB_I, mB_T, mB_F, mT_A, mT_I, mT_B, mT_F, mF_A, mF_I, mF_B, mF_T, ↓md_gA0, md_a0, md_s0, ↓md_gA1, md_a1, md_s1, ↓md_gA2, md_a2, md_s2, ↓md_gA3, md_a3, md_s3, ↓md_gA4, md_a4, md_s4, ↓md_g5, ↓md_p5, ↓md_g6, ↓md_p6, ↓md_g7, ↓md_p7, ↓md_g8, ↓md_p8, ↓md_gA9, md_a9, md_s9, ↓md_gA10, md_a10, md_s10, ↓md_gA11, md_a11, md_s11, ↓md_gA12, md_a12, md_s12, ↓md_gA13, md_a13, md_s13, ↓md_g14, ↓md_p14, ↓md_g15, ↓md_p15, ↓md_g16, ↓md_p16, ↓md_gA17, md_a17, md_s17, ↓md_gA18, md_a18, md_s18, ↓md_g19, ↓md_p19, ↓md_gA20, md_a20, md_s20, ↓md_g21, ↓md_p21, ↓md_gA22, md_a22, md_s22, ↓md_gA23, md_a23, md_s23, ↓md_gA24, md_a24, md_s24]
      rw [ih (d + 1) _ g (by omega) (by omega) (by omega) (by omega) h5, Int.add_assoc]
      rfl
/-- the model's memory behind its sums over days -/
def uMem (μ : MM) (l : Int) : MM := setT (mA μ 17 (rA (μ.1 0) l 120 (μ.1 17))) (tch (μ.1 0) l (μ.1 0 81) μ.2.2.2.1)
theorem X3_units (hv : okD (μ.1 0)) {l fr to : Int} (hl : 0 ≤ l ∧ l < μ.1 0 0) (hf : r32 fr ∧ fr ≤ 3600) (ht : r32 to ∧ to < 3600) (pl : Bool) : gX3_units ρ b (iI l) (iI fr) (iI to) (iI (b2 pl)) (St σ b μ) = some (lI (sUnits (μ.1 0) l fr to pl), St σ b (uMem μ l)) := by
  have h0 := hv.1
  obtain ⟨-, j1, -⟩ := hv.2.2.2.2.1 l hl.1 hl.2
  have h1 := endOf_r hv hl.2
  have hvu : okD ((uMem μ l).1 0) := hv
  have hlu : 0 ≤ l ∧ l < (uMem μ l).1 0 0 := hl
  have fin : ∀ a c : Int, μ.1 0 (1 + 8 * l + 1) ≤ a → a ≤ 3600 → -2147483648 ≤ c → c < 3600 → gX3_units_b50 ρ b (iI (b2 pl)) (iI a) (iI c) (St σ b (uMem μ l)) = some (lI (sm (sUn (μ.1 0) l pl) a (c + 1 - a).toNat), St σ b (uMem μ l)) := by
    intro a c q1 q2 q3 q4
    have q := X3_units_l (ρ := ρ) (σ := σ) (b := b) (μ := uMem μ l) hvu hlu pl (last := c) q4 (fun m m1 m2 => if_pos ⟨m1, m2⟩) (fun d d1 d2 => if_pos ⟨d1, d2⟩) (c + 1 - a).toNat a 0 fnGas rfl (by unfold fnGas; omega) q1 q2 q3
    rw [Int.zero_add] at q
    exact q
  have mid : ∀ a : Int, μ.1 0 (1 + 8 * l + 1) ≤ a → a ≤ 3600 → gX3_units_b30 ρ b (iI l) (iI to) (iI (b2 pl)) (iI a) (St σ b (uMem μ l)) = some (lI (sm (sUn (μ.1 0) l pl) a ((if endOf (μ.1 0) l ≤ to then endOf (μ.1 0) l else to) + 1 - a).toNat), St σ b (uMem μ l)) := by
    intro a q1 q2
    unfold gX3_units_b30
    have e : endOf ((uMem μ l).1 0) l = endOf (μ.1 0) l := rfl
    simp (disch := omega) only [X3_endOf hvu, e, decide_true, decide_false, reduceIte, and_self, and_true, true_and, and_false, false_and, or_true, true_or, or_false, false_or, not_true_eq_false, not_false_eq_true, reduceCtorEq, mA_ss, mI_ss, ↓St_rc, ↓fn_B, ↓fn_nn_none, ↓fn_nn_some, rZ_0, rZ_1, rZ_b, b2_z, b2_1, b2_or, b2_or0, b2_or1, iI_add, iI_sub, iI_mul, iI_neg, lI_add, lI_sub, lI_mul, iI_lt, iI_le, iI_eq, iI_to64, lI_cmp_lt, lI_cmp_gt, lI_cmp_ge, lI_cmp_le, lI_cmp_eq, mA_s, mA_o, mI_s, mI_o, mB_s, mB_o, mA_I, mA_B, mA_T, mA_F, mI_A, mI_B, mI_T, mI_F, mB_A, mB_I, mB_T, mB_F, mT_A, mT_I, mT_B, mT_F, mF_A, mF_I, mF_B, mF_T, ↓md_gA0, md_a0, md_s0, ↓md_gA1, md_a1, md_s1, ↓md_gA2, md_a2, md_s2, ↓md_gA3, md_a3, md_s3, ↓md_gA4, md_a4, md_s4, ↓md_g5, ↓md_p5, ↓md_g6, ↓md_p6, ↓md_g7, ↓md_p7, ↓md_g8, ↓md_p8, ↓md_gA9, md_a9, md_s9, ↓md_gA10, md_a10, md_s10, ↓md_gA11, md_a11, md_s11, ↓md_gA12, md_a12, md_s12, ↓md_gA13, md_a13, md_s13, ↓md_g14, ↓md_p14, ↓md_g15, ↓md_p15, ↓md_g16, ↓md_p16, ↓md_gA17, md_a17, md_s17, ↓md_gA18, md_a18, md_s18, ↓md_g19, ↓md_p19, ↓md_gA20, md_a20, md_s20, ↓md_g21, ↓md_p21, ↓md_gA22, md_a22, md_s22, ↓md_gA23, md_a23, md_s23, ↓md_gA24, md_a24, md_s24]
    by_cases h : endOf (μ.1 0) l ≤ to
    · rw [if_pos h, if_pos h]
      exact fin a _ q1 q2 (by omega) (by omega)
    · rw [if_neg h, if_neg h]
      exact fin a _ q1 q2 (by omega) (by omega)
  unfold gX3_units sUnits
  rw [St_rc, X3_laysRents hv hl, fn_B_some, St_rc, X3_findsDefects (μ := mA μ 17 (rA (μ.1 0) l 120 (μ.1 17))) hv hl, fn_B_some, St_rc]
  rw [show (setT (mA μ 17 (rA (μ.1 0) l 120 (μ.1 17))) (tch ((mA μ 17 (rA (μ.1 0) l 120 (μ.1 17))).1 0) l ((mA μ 17 (rA (μ.1 0) l 120 (μ.1 17))).1 0 81) (mA μ 17 (rA (μ.1 0) l 120 (μ.1 17))).2.2.2.1)) = uMem μ l from rfl]
  have e : (uMem μ l).1 0 = μ.1 0 := rfl
  simp (disch := omega) only [X3_told, e, decide_true, decide_false, reduceIte, and_self, and_true, true_and, and_false, false_and, or_true, true_or, or_false, false_or, not_true_eq_false, not_false_eq_true, reduceCtorEq, mA_ss, mI_ss, ↓St_rc, ↓fn_B, ↓fn_nn_none, ↓fn_nn_some, rZ_0, rZ_1, rZ_b, b2_z, b2_1, b2_or, b2_or0, b2_or1, iI_add, iI_sub, iI_mul, iI_neg, lI_add, lI_sub, lI_mul, iI_lt, iI_le, iI_eq, iI_to64, lI_cmp_lt, lI_cmp_gt, lI_cmp_ge, lI_cmp_le, lI_cmp_eq, mA_s, mA_o, mI_s, mI_o, mB_s, mB_o, mA_I, mA_B, mA_T, mA_F, mI_A, mI_B, mI_T, mI_F, mB_A, mB_I, mB_T, mB_F, mT_A, mT_I, mT_B, mT_F, mF_A, mF_I, mF_B, mF_T, ↓md_gA0, md_a0, md_s0, ↓md_gA1, md_a1, md_s1, ↓md_gA2, md_a2, md_s2, ↓md_gA3, md_a3, md_s3, ↓md_gA4, md_a4, md_s4, ↓md_g5, ↓md_p5, ↓md_g6, ↓md_p6, ↓md_g7, ↓md_p7, ↓md_g8, ↓md_p8, ↓md_gA9, md_a9, md_s9, ↓md_gA10, md_a10, md_s10, ↓md_gA11, md_a11, md_s11, ↓md_gA12, md_a12, md_s12, ↓md_gA13, md_a13, md_s13, ↓md_g14, ↓md_p14, ↓md_g15, ↓md_p15, ↓md_g16, ↓md_p16, ↓md_gA17, md_a17, md_s17, ↓md_gA18, md_a18, md_s18, ↓md_g19, ↓md_p19, ↓md_gA20, md_a20, md_s20, ↓md_g21, ↓md_p21, ↓md_gA22, md_a22, md_s22, ↓md_gA23, md_a23, md_s23, ↓md_gA24, md_a24, md_s24]
  by_cases h : fr ≤ μ.1 0 (1 + 8 * l + 1)
  · rw [if_pos h, if_pos h]
    exact mid _ (Int.le_refl _) (by omega)
  · rw [if_neg h, if_neg h]
    exact mid _ (by omega) (by omega)
theorem sUnits_r {v : Int → Int} (hv : okD v) {l fr to : Int} (hl : 0 ≤ l ∧ l < v 0) (hf : fr ≤ 3600) (ht : to < 3600) (pl : Bool) : 0 ≤ sUnits v l fr to pl ∧ sUnits v l fr to pl ≤ 3599999640000 := by
  obtain ⟨-, j1, -⟩ := hv.2.2.2.2.1 l hl.1 hl.2
  have h1 := endOf_r hv hl.2
  unfold sUnits
  have h2 : v (1 + 8 * l + 1) ≤ (if fr ≤ v (1 + 8 * l + 1) then v (1 + 8 * l + 1) else fr) ∧ 0 ≤ (if fr ≤ v (1 + 8 * l + 1) then v (1 + 8 * l + 1) else fr) ∧ (if fr ≤ v (1 + 8 * l + 1) then v (1 + 8 * l + 1) else fr) ≤ 3600 := by split <;> omega
  have h3 : (if endOf v l ≤ to then endOf v l else to) < 3600 := by split <;> omega
  generalize (if fr ≤ v (1 + 8 * l + 1) then v (1 + 8 * l + 1) else fr) = a at *
  generalize (if endOf v l ≤ to then endOf v l else to) = c at *
  have q := sm_r (f := sUn v l pl) (lo := 0) (hi := 999999900) (c + 1 - a).toNat a (fun i i1 i2 => sUn_r hv hl pl (by omega))
  omega
theorem X3_dueUntil (hv : okD (μ.1 0)) {l day : Int} (hl : 0 ≤ l ∧ l < μ.1 0 0) (ht : r32 day ∧ day < 3600) : gX3_dueUntil ρ b (iI l) (iI day) (St σ b μ) = some (iI (sDue (μ.1 0) l day), St σ b (uMem μ l)) := by
  unfold gX3_dueUntil sDue
  have q := X3_units (ρ := ρ) (σ := σ) (b := b) hv hl (fr := 0) (by decide) ht false
  have r := sUnits_r hv hl (fr := 0) (by decide) ht.2 false
  rw [St_rc, show iI 0 = iI (b2 false) from rfl] 
  rw [show gX3_units ρ b (iI l) (iI (b2 false)) (iI day) (iI (b2 false)) (St σ b μ) = _ from q, fn_B_some, if_neg (by decide), lI_div ⟨by omega, by omega⟩ (by decide), tdiv_p r.1, lI_to32 ⟨by omega, by omega⟩]
theorem sDue_r {v : Int → Int} (hv : okD v) {l day : Int} (hl : 0 ≤ l ∧ l < v 0) (ht : day < 3600) : 0 ≤ sDue v l day ∧ sDue v l day ≤ 1199999880 := by
  have r := sUnits_r hv hl (fr := 0) (by decide) ht false
  unfold sDue
  omega
theorem X3_paid_l (hv : okD (μ.1 0)) {l day : Int} (hl : r32 l) (hy : r32 day) : ∀ (n : Nat) (p acc : Int) (gas : Nat), p + n = μ.1 0 130 → n < gas → 0 ≤ p → fnFix (fun _ _ _ _ _ => none) (gX3_paid_b5 ρ b) gas (iI l) (iI day) (lI acc) (iI p) (St σ b μ) =
    some (lI (acc + sm (fun p => if μ.1 0 (131 + 3 * p) = l ∧ μ.1 0 (131 + 3 * p + 1) ≤ day then μ.1 0 (131 + 3 * p + 2) else 0) p n), St σ b μ) := by
  intro n
  induction n with
  | zero =>
    intro p acc gas h1 h2 h3
    have h9 := hv.2.2.1
    obtain ⟨g, rfl⟩ := gas_s h2
    rw [fnFix_s, gX3_paid_b5, sm, Int.add_zero]
    simp (disch := omega) only [decide_true, decide_false, reduceIte, and_self, and_true, true_and, and_false, false_and, or_true, true_or, or_false, false_or, not_true_eq_false, not_false_eq_true, reduceCtorEq, mA_ss, mI_ss, ↓St_rc, ↓fn_B, ↓fn_nn_none, ↓fn_nn_some, rZ_0, rZ_1, rZ_b, b2_z, b2_1, b2_or, b2_or0, b2_or1, iI_add, iI_sub, iI_mul, iI_neg, lI_add, lI_sub, lI_mul, iI_lt, iI_le, iI_eq, iI_to64, lI_cmp_lt, lI_cmp_gt, lI_cmp_ge, lI_cmp_le, lI_cmp_eq, mA_s, mA_o, mI_s, mI_o, mB_s, mB_o, mA_I, mA_B, mA_T, mA_F, mI_A, mI_B, mI_T, mI_F, mB_A, mB_I, mB_T, mB_F, mT_A, mT_I, mT_B, mT_F, mF_A, mF_I, mF_B, mF_T, ↓md_gA0, md_a0, md_s0, ↓md_gA1, md_a1, md_s1, ↓md_gA2, md_a2, md_s2, ↓md_gA3, md_a3, md_s3, ↓md_gA4, md_a4, md_s4, ↓md_g5, ↓md_p5, ↓md_g6, ↓md_p6, ↓md_g7, ↓md_p7, ↓md_g8, ↓md_p8, ↓md_gA9, md_a9, md_s9, ↓md_gA10, md_a10, md_s10, ↓md_gA11, md_a11, md_s11, ↓md_gA12, md_a12, md_s12, ↓md_gA13, md_a13, md_s13, ↓md_g14, ↓md_p14, ↓md_g15, ↓md_p15, ↓md_g16, ↓md_p16, ↓md_gA17, md_a17, md_s17, ↓md_gA18, md_a18, md_s18, ↓md_g19, ↓md_p19, ↓md_gA20, md_a20, md_s20, ↓md_g21, ↓md_p21, ↓md_gA22, md_a22, md_s22, ↓md_gA23, md_a23, md_s23, ↓md_gA24, md_a24, md_s24]
    rw [if_pos (by omega)]
  | succ n ih =>
    intro p acc gas h1 h2 h3
    have h9 := hv.2.2.1
    have h0 := hv.1
    obtain ⟨g, rfl⟩ := gas_s h2
    obtain ⟨k1, k2, k3⟩ := hv.2.2.2.2.2.2.1 p h3 (by omega)
    rw [fnFix_s, gX3_paid_b5, sm]
    simp (disch := omega) only [decide_true, decide_false, reduceIte, and_self, and_true, true_and, and_false, false_and, or_true, true_or, or_false, false_or, not_true_eq_false, not_false_eq_true, reduceCtorEq, mA_ss, mI_ss, ↓St_rc, ↓fn_B, ↓fn_nn_none, ↓fn_nn_some, rZ_0, rZ_1, rZ_b, b2_z, b2_1, b2_or, b2_or0, b2_or1, iI_add, iI_sub, iI_mul, iI_neg, lI_add, lI_sub, lI_mul, iI_lt, iI_le, iI_eq, iI_to64, lI_cmp_lt, lI_cmp_gt, lI_cmp_ge, lI_cmp_le, lI_cmp_eq, mA_s, mA_o, mI_s, mI_o, mB_s, mB_o, mA_I, mA_B, mA_T, mA_F, mI_A, mI_B, mI_T, mI_F, mB_A, mB_I, mB_T, mB_F, mT_A, mT_I, mT_B, mT_F, mF_A, mF_I, mF_B, mF_T, ↓md_gA0, md_a0, md_s0, ↓md_gA1, md_a1, md_s1, ↓md_gA2, md_a2, md_s2, ↓md_gA3, md_a3, md_s3, ↓md_gA4, md_a4, md_s4, ↓md_g5, ↓md_p5, ↓md_g6, ↓md_p6, ↓md_g7, ↓md_p7, ↓md_g8, ↓md_p8, ↓md_gA9, md_a9, md_s9, ↓md_gA10, md_a10, md_s10, ↓md_gA11, md_a11, md_s11, ↓md_gA12, md_a12, md_s12, ↓md_gA13, md_a13, md_s13, ↓md_g14, ↓md_p14, ↓md_g15, ↓md_p15, ↓md_g16, ↓md_p16, ↓md_gA17, md_a17, md_s17, ↓md_gA18, md_a18, md_s18, ↓md_g19, ↓md_p19, ↓md_gA20, md_a20, md_s20, ↓md_g21, ↓md_p21, ↓md_gA22, md_a22, md_s22, ↓md_gA23, md_a23, md_s23, ↓md_gA24, md_a24, md_s24]
    rw [if_neg (by omega)]
    by_cases q1 : μ.1 0 (131 + 3 * p) = l
    · rw [if_pos q1]
      by_cases q2 : day < μ.1 0 (131 + 3 * p + 1)
      · rw [if_pos q2, if_neg (c := μ.1 0 (131 + 3 * p) = l ∧ μ.1 0 (131 + 3 * p + 1) ≤ day) (by omega)]
        simp (disch := omega) only [gX3_paid_b74, gX3_paid_b75, decide_true, decide_false, reduceIte, and_self, and_true, true_and, and_false, false_and, or_true, true_or, or_false, false_or, not_true_eq_false, not_false_eq_true, reduceCtorEq, mA_ss, mI_ss, ↓St_rc, ↓fn_B, ↓fn_nn_none, ↓fn_nn_some, rZ_0, rZ_1, rZ_b, b2_z, b2_1, b2_or, b2_or0, b2_or1, iI_add, iI_sub, iI_mul, iI_neg, lI_add, lI_sub, lI_mul, iI_lt, iI_le, iI_eq, iI_to64, lI_cmp_lt, lI_cmp_gt, lI_cmp_ge, lI_cmp_le, lI_cmp_eq, mA_s, mA_o, mI_s, mI_o, mB_s, mB_o, mA_I, mA_B, mA_T, mA_F, mI_A, mI_B, mI_T, mI_F, mB_A, mB_I, mB_T, mB_F, mT_A, mT_I, mT_B, mT_F, mF_A, mF_I, mF_B, mF_T, ↓md_gA0, md_a0, md_s0, ↓md_gA1, md_a1, md_s1, ↓md_gA2, md_a2, md_s2, ↓md_gA3, md_a3, md_s3, ↓md_gA4, md_a4, md_s4, ↓md_g5, ↓md_p5, ↓md_g6, ↓md_p6, ↓md_g7, ↓md_p7, ↓md_g8, ↓md_p8, ↓md_gA9, md_a9, md_s9, ↓md_gA10, md_a10, md_s10, ↓md_gA11, md_a11, md_s11, ↓md_gA12, md_a12, md_s12, ↓md_gA13, md_a13, md_s13, ↓md_g14, ↓md_p14, ↓md_g15, ↓md_p15, ↓md_g16, ↓md_p16, ↓md_gA17, md_a17, md_s17, ↓md_gA18, md_a18, md_s18, ↓md_g19, ↓md_p19, ↓md_gA20, md_a20, md_s20, ↓md_g21, ↓md_p21, ↓md_gA22, md_a22, md_s22, ↓md_gA23, md_a23, md_s23, ↓md_gA24, md_a24, md_s24]
        rw [Int.add_zero, ih (p + 1) acc g (by omega) (by omega) (by omega), Int.zero_add]
      · rw [if_neg q2, if_pos (c := μ.1 0 (131 + 3 * p) = l ∧ μ.1 0 (131 + 3 * p + 1) ≤ day) (by omega)]
        simp (disch := omega) only [gX3_paid_b75, decide_true, decide_false, reduceIte, and_self, and_true, true_and, and_false, false_and, or_true, true_or, or_false, false_or, not_true_eq_false, not_false_eq_true, reduceCtorEq, mA_ss, mI_ss, ↓St_rc, ↓fn_B, ↓fn_nn_none, ↓fn_nn_some, rZ_0, rZ_1, rZ_b, b2_z, b2_1, b2_or, b2_or0, b2_or1, iI_add, iI_sub, iI_mul, iI_neg, lI_add, lI_sub, lI_mul, iI_lt, iI_le, iI_eq, iI_to64, lI_cmp_lt, lI_cmp_gt, lI_cmp_ge, lI_cmp_le, lI_cmp_eq, mA_s, mA_o, mI_s, mI_o, mB_s, mB_o, mA_I, mA_B, mA_T, mA_F, mI_A, mI_B, mI_T, mI_F, mB_A, mB_I, mB_T, mB_F, mT_A, mT_I, mT_B, mT_F, mF_A, mF_I, mF_B, mF_T, ↓md_gA0, md_a0, md_s0, ↓md_gA1, md_a1, md_s1, ↓md_gA2, md_a2, md_s2, ↓md_gA3, md_a3, md_s3, ↓md_gA4, md_a4, md_s4, ↓md_g5, ↓md_p5, ↓md_g6, ↓md_p6, ↓md_g7, ↓md_p7, ↓md_g8, ↓md_p8, ↓md_gA9, md_a9, md_s9, ↓md_gA10, md_a10, md_s10, ↓md_gA11, md_a11, md_s11, ↓md_gA12, md_a12, md_s12, ↓md_gA13, md_a13, md_s13, ↓md_g14, ↓md_p14, ↓md_g15, ↓md_p15, ↓md_g16, ↓md_p16, ↓md_gA17, md_a17, md_s17, ↓md_gA18, md_a18, md_s18, ↓md_g19, ↓md_p19, ↓md_gA20, md_a20, md_s20, ↓md_g21, ↓md_p21, ↓md_gA22, md_a22, md_s22, ↓md_gA23, md_a23, md_s23, ↓md_gA24, md_a24, md_s24]
        rw [ih (p + 1) _ g (by omega) (by omega) (by omega), Int.add_assoc]
    · rw [if_neg q1, if_neg (c := μ.1 0 (131 + 3 * p) = l ∧ μ.1 0 (131 + 3 * p + 1) ≤ day) (by omega)]
      simp (disch := omega) only [gX3_paid_b74, gX3_paid_b75, decide_true, decide_false, reduceIte, and_self, and_true, true_and, and_false, false_and, or_true, true_or, or_false, false_or, not_true_eq_false, not_false_eq_true, reduceCtorEq, mA_ss, mI_ss, ↓St_rc, ↓fn_B, ↓fn_nn_none, ↓fn_nn_some, rZ_0, rZ_1, rZ_b, b2_z, b2_1, b2_or, b2_or0, b2_or1, iI_add, iI_sub, iI_mul, iI_neg, lI_add, lI_sub, lI_mul, iI_lt, iI_le, iI_eq, iI_to64, lI_cmp_lt, lI_cmp_gt, lI_cmp_ge, lI_cmp_le, lI_cmp_eq, mA_s, mA_o, mI_s, mI_o, mB_s, mB_o, mA_I, mA_B, mA_T, mA_F, mI_A, mI_B, mI_T, mI_F, mB_A, mB_I, mB_T, mB_F, mT_A, mT_I, mT_B, mT_F, mF_A, mF_I, mF_B, mF_T, ↓md_gA0, md_a0, md_s0, ↓md_gA1, md_a1, md_s1, ↓md_gA2, md_a2, md_s2, ↓md_gA3, md_a3, md_s3, ↓md_gA4, md_a4, md_s4, ↓md_g5, ↓md_p5, ↓md_g6, ↓md_p6, ↓md_g7, ↓md_p7, ↓md_g8, ↓md_p8, ↓md_gA9, md_a9, md_s9, ↓md_gA10, md_a10, md_s10, ↓md_gA11, md_a11, md_s11, ↓md_gA12, md_a12, md_s12, ↓md_gA13, md_a13, md_s13, ↓md_g14, ↓md_p14, ↓md_g15, ↓md_p15, ↓md_g16, ↓md_p16, ↓md_gA17, md_a17, md_s17, ↓md_gA18, md_a18, md_s18, ↓md_g19, ↓md_p19, ↓md_gA20, md_a20, md_s20, ↓md_g21, ↓md_p21, ↓md_gA22, md_a22, md_s22, ↓md_gA23, md_a23, md_s23, ↓md_gA24, md_a24, md_s24]
      rw [Int.add_zero, ih (p + 1) acc g (by omega) (by omega) (by omega), Int.zero_add]
theorem X3_paid (hv : okD (μ.1 0)) {l day : Int} (hl : r32 l) (hy : r32 day) : gX3_paid ρ b (iI l) (iI day) (St σ b μ) = some (lI (sPaid (μ.1 0) l day), St σ b μ) := by
  have h9 := hv.2.2.1
  have q := X3_paid_l (ρ := ρ) (σ := σ) (b := b) hv hl hy (μ.1 0 130).toNat 0 0 fnGas (by omega) (by unfold fnGas; omega) (by decide)
  rw [Int.zero_add] at q
  exact q
theorem sPaid_r {v : Int → Int} (hv : okD v) (l day : Int) : 0 ≤ sPaid v l day ∧ sPaid v l day ≤ 239999976 := by
  have h9 := hv.2.2.1
  have q := sm_r (f := fun p => if v (131 + 3 * p) = l ∧ v (131 + 3 * p + 1) ≤ day then v (131 + 3 * p + 2) else 0) (lo := 0) (hi := 9999999) (v 130).toNat 0 (fun i i1 i2 => by
    obtain ⟨k1, k2, k3⟩ := hv.2.2.2.2.2.2.1 i i1 (by omega)
    split <;> omega)
  unfold sPaid
  omega
end Due
