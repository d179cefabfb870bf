/-! the end of a change: what was there is kept -/
def shI (i : Int) (p : Int → Int) : Int → Int := fun j => if 0 ≤ j ∧ j < i then p (j + 3960) else p j
def stI (u i : Int) (ah p : Int → Int) : Int → Int := fun j => if u * 3960 ≤ j ∧ j < u * 3960 + i then ah (j - u * 3960) else p j
theorem shI_0 (p : Int → Int) : shI 0 p = p := by
  funext j
  unfold shI
  rw [if_neg (by omega)]
theorem shI_s {i : Int} {p : Int → Int} (h : 0 ≤ i) : uI (shI i p) i (shI i p (i + 3960)) = shI (i + 1) p := by
  funext j
  unfold uI shI
  by_cases h1 : j = i
  · rw [if_pos h1, if_neg (by omega), if_pos (by omega), h1]
  · rw [if_neg h1]
    by_cases h2 : 0 ≤ j ∧ j < i
    · rw [if_pos h2, if_pos (by omega)]
    · rw [if_neg h2, if_neg (by omega)]
theorem stI_0 (u : Int) (ah p : Int → Int) : stI u 0 ah p = p := by
  funext j
  unfold stI
  rw [if_neg (by omega)]
theorem stI_s {u i : Int} {ah p : Int → Int} (h : 0 ≤ i) : uI (stI u i ah p) (u * 3960 + i) (ah i) = stI u (i + 1) ah p := by
  funext j
  unfold uI stI
  by_cases h1 : j = u * 3960 + i
  · rw [if_pos h1, if_pos (by omega), h1]
    congr 1
    omega
  · rw [if_neg h1]
    by_cases h2 : u * 3960 ≤ j ∧ j < u * 3960 + i
    · rw [if_pos h2, if_pos (by omega)]
    · rw [if_neg h2, if_neg (by omega)]
/-- what was kept, with one more; how many -/
def sPush (p ah : Int → Int) (u : Int) : Int → Int := if u = 6 then stI 5 3960 ah (shI 19800 p) else stI u 3960 ah p
def sMore (u : Int) : Int := if u = 6 then 6 else u + 1
section Change2
variable {ρ : Nat → Nat} {σ : mS} {b : Nat} {μ : MM}
theorem X3_ends_b (x : Int) (hu : 0 ≤ μ.2.1 5 ∧ μ.2.1 5 ≤ 5) : ∀ (n : Nat) (i : Int) (gas : Nat), i + n = 3960 → n < gas → 0 ≤ i → fnFix (fun _ _ _ => none) (gX3_ends_b52 ρ b) gas (iI x) (iI i) (St σ b (mA μ 4 (stI (μ.2.1 5) i (μ.1 1) (μ.1 4)))) =
    some (iI x, St σ b (mI (mA μ 4 (stI (μ.2.1 5) 3960 (μ.1 1) (μ.1 4))) 5 (μ.2.1 5 + 1))) := by
  intro n
  induction n with
  | zero =>
    intro i gas h1 h2 h3
    obtain ⟨g, rfl⟩ := gas_s h2
    rw [fnFix_s, gX3_ends_b52]
    simp (disch := omega) only [decide_true, decide_false, reduceIte, and_self, and_true, true_and, and_false, false_and, or_true, true_or, or_false, false_or, not_true_eq_false, not_false_eq_true, reduceCtorEq, mA_ss, mI_ss, ↓St_rc, ↓fn_B, ↓fn_nn_none, ↓fn_nn_some, rZ_0, rZ_1, rZ_b, b2_z, b2_1, b2_or, b2_or0, b2_or1, iI_add, iI_sub, iI_mul, iI_neg, lI_add, lI_sub, lI_mul, iI_lt, iI_le, iI_eq, iI_to64, lI_cmp_lt, lI_cmp_gt, lI_cmp_ge, lI_cmp_le, lI_cmp_eq, mA_s, mA_o, mI_s, mI_o, mB_s, mB_o, mA_I, mA_B, mA_T, mA_F, mI_A, mI_B, mI_T, mI_F, mB_A, mB_I, mB_T, mB_F, mT_A, mT_I, mT_B, mT_F, mF_A, mF_I, mF_B, mF_T, ↓md_gA0, md_a0, md_s0, ↓md_gA1, md_a1, md_s1, ↓md_gA2, md_a2, md_s2, ↓md_gA3, md_a3, md_s3, ↓md_gA4, md_a4, md_s4, ↓md_g5, ↓md_p5, ↓md_g6, ↓md_p6, ↓md_g7, ↓md_p7, ↓md_g8, ↓md_p8, ↓md_gA9, md_a9, md_s9, ↓md_gA10, md_a10, md_s10, ↓md_gA11, md_a11, md_s11, ↓md_gA12, md_a12, md_s12, ↓md_gA13, md_a13, md_s13, ↓md_g14, ↓md_p14, ↓md_g15, ↓md_p15, ↓md_g16, ↓md_p16, ↓md_gA17, md_a17, md_s17, ↓md_gA18, md_a18, md_s18, ↓md_g19, ↓md_p19, ↓md_gA20, md_a20, md_s20, ↓md_g21, ↓md_p21, ↓md_gA22, md_a22, md_s22, ↓md_gA23, md_a23, md_s23, ↓md_gA24, md_a24, md_s24]
    rw [if_pos (by omega), show i = 3960 by omega]
  | succ n ih =>
    intro i gas h1 h2 h3
    obtain ⟨g, rfl⟩ := gas_s h2
    rw [fnFix_s, gX3_ends_b52]
    simp (disch := omega) only [decide_true, decide_false, reduceIte, and_self, and_true, true_and, and_false, false_and, or_true, true_or, or_false, false_or, not_true_eq_false, not_false_eq_true, reduceCtorEq, mA_ss, mI_ss, ↓St_rc, ↓fn_B, ↓fn_nn_none, ↓fn_nn_some, rZ_0, rZ_1, rZ_b, b2_z, b2_1, b2_or, b2_or0, b2_or1, iI_add, iI_sub, iI_mul, iI_neg, lI_add, lI_sub, lI_mul, iI_lt, iI_le, iI_eq, iI_to64, lI_cmp_lt, lI_cmp_gt, lI_cmp_ge, lI_cmp_le, lI_cmp_eq, mA_s, mA_o, mI_s, mI_o, mB_s, mB_o, mA_I, mA_B, mA_T, mA_F, mI_A, mI_B, mI_T, mI_F, mB_A, mB_I, mB_T, mB_F, mT_A, mT_I, mT_B, mT_F, mF_A, mF_I, mF_B, mF_T, ↓md_gA0, md_a0, md_s0, ↓md_gA1, md_a1, md_s1, ↓md_gA2, md_a2, md_s2, ↓md_gA3, md_a3, md_s3, ↓md_gA4, md_a4, md_s4, ↓md_g5, ↓md_p5, ↓md_g6, ↓md_p6, ↓md_g7, ↓md_p7, ↓md_g8, ↓md_p8, ↓md_gA9, md_a9, md_s9, ↓md_gA10, md_a10, md_s10, ↓md_gA11, md_a11, md_s11, ↓md_gA12, md_a12, md_s12, ↓md_gA13, md_a13, md_s13, ↓md_g14, ↓md_p14, ↓md_g15, ↓md_p15, ↓md_g16, ↓md_p16, ↓md_gA17, md_a17, md_s17, ↓md_gA18, md_a18, md_s18, ↓md_g19, ↓md_p19, ↓md_gA20, md_a20, md_s20, ↓md_g21, ↓md_p21, ↓md_gA22, md_a22, md_s22, ↓md_gA23, md_a23, md_s23, ↓md_gA24, md_a24, md_s24]
    rw [if_neg (by omega), stI_s h3]
    exact ih (i + 1) g (by omega) (by omega) (by omega)
theorem X3_ends_c (x : Int) (hu : 0 ≤ μ.2.1 5 ∧ μ.2.1 5 ≤ 5) : gX3_ends_b50 ρ b (iI x) (St σ b μ) = some (iI x, St σ b (mI (mA μ 4 (stI (μ.2.1 5) 3960 (μ.1 1) (μ.1 4))) 5 (μ.2.1 5 + 1))) := by
  have h := X3_ends_b (ρ := ρ) (σ := σ) (b := b) (μ := μ) x hu 3960 0 fnGas (by decide) (by decide) (by decide)
  rw [stI_0, mA_self] at h
  exact h
theorem X3_ends_a (x : Int) (hu : μ.2.1 5 = 6) : ∀ (n : Nat) (i : Int) (gas : Nat), i + n = 19800 → n < gas → 0 ≤ i → fnFix (fun _ _ _ => none) (gX3_ends_b11 ρ b) gas (iI x) (iI i) (St σ b (mA μ 4 (shI i (μ.1 4)))) =
    some (iI x, St σ b (mI (mA μ 4 (stI 5 3960 (μ.1 1) (shI 19800 (μ.1 4)))) 5 6)) := by
  intro n
  induction n with
  | zero =>
    intro i gas h1 h2 h3
    obtain ⟨g, rfl⟩ := gas_s h2
    rw [fnFix_s, gX3_ends_b11]
    simp (disch := omega) only [decide_true, decide_false, reduceIte, and_self, and_true, true_and, and_false, false_and, or_true, true_or, or_false, false_or, not_true_eq_false, not_false_eq_true, reduceCtorEq, mA_ss, mI_ss, ↓St_rc, ↓fn_B, ↓fn_nn_none, ↓fn_nn_some, rZ_0, rZ_1, rZ_b, b2_z, b2_1, b2_or, b2_or0, b2_or1, iI_add, iI_sub, iI_mul, iI_neg, lI_add, lI_sub, lI_mul, iI_lt, iI_le, iI_eq, iI_to64, lI_cmp_lt, lI_cmp_gt, lI_cmp_ge, lI_cmp_le, lI_cmp_eq, mA_s, mA_o, mI_s, mI_o, mB_s, mB_o, mA_I, mA_B, mA_T, mA_F, mI_A, mI_B, mI_T, mI_F, mB_A, mB_I, mB_T, mB_F, mT_A, mT_I, mT_B, mT_F, mF_A, mF_I, mF_B, mF_T, ↓md_gA0, md_a0, md_s0, ↓md_gA1, md_a1, md_s1, ↓md_gA2, md_a2, md_s2, ↓md_gA3, md_a3, md_s3, ↓md_gA4, md_a4, md_s4, ↓md_g5, ↓md_p5, ↓md_g6, ↓md_p6, ↓md_g7, ↓md_p7, ↓md_g8, ↓md_p8, ↓md_gA9, md_a9, md_s9, ↓md_gA10, md_a10, md_s10, ↓md_gA11, md_a11, md_s11, ↓md_gA12, md_a12, md_s12, ↓md_gA13, md_a13, md_s13, ↓md_g14, ↓md_p14, ↓md_g15, ↓md_p15, ↓md_g16, ↓md_p16, ↓md_gA17, md_a17, md_s17, ↓md_gA18, md_a18, md_s18, ↓md_g19, ↓md_p19, ↓md_gA20, md_a20, md_s20, ↓md_g21, ↓md_p21, ↓md_gA22, md_a22, md_s22, ↓md_gA23, md_a23, md_s23, ↓md_gA24, md_a24, md_s24]
    rw [if_pos (by omega), X3_ends_c x (by rw [mI_s, hu]; decide), hu]
    simp (disch := omega) only [decide_true, decide_false, reduceIte, and_self, and_true, true_and, and_false, false_and, or_true, true_or, or_false, false_or, not_true_eq_false, not_false_eq_true, reduceCtorEq, mA_ss, mI_ss, ↓St_rc, ↓fn_B, ↓fn_nn_none, ↓fn_nn_some, rZ_0, rZ_1, rZ_b, b2_z, b2_1, b2_or, b2_or0, b2_or1, iI_add, iI_sub, iI_mul, iI_neg, lI_add, lI_sub, lI_mul, iI_lt, iI_le, iI_eq, iI_to64, lI_cmp_lt, lI_cmp_gt, lI_cmp_ge, lI_cmp_le, lI_cmp_eq, mA_s, mA_o, mI_s, mI_o, mB_s, mB_o, mA_I, mA_B, mA_T, mA_F, mI_A, mI_B, mI_T, mI_F, mB_A, mB_I, mB_T, mB_F, mT_A, mT_I, mT_B, mT_F, mF_A, mF_I, mF_B, mF_T, ↓md_gA0, md_a0, md_s0, ↓md_gA1, md_a1, md_s1, ↓md_gA2, md_a2, md_s2, ↓md_gA3, md_a3, md_s3, ↓md_gA4, md_a4, md_s4, ↓md_g5, ↓md_p5, ↓md_g6, ↓md_p6, ↓md_g7, ↓md_p7, ↓md_g8, ↓md_p8, ↓md_gA9, md_a9, md_s9, ↓md_gA10, md_a10, md_s10, ↓md_gA11, md_a11, md_s11, ↓md_gA12, md_a12, md_s12, ↓md_gA13, md_a13, md_s13, ↓md_g14, ↓md_p14, ↓md_g15, ↓md_p15, ↓md_g16, ↓md_p16, ↓md_gA17, md_a17, md_s17, ↓md_gA18, md_a18, md_s18, ↓md_g19, ↓md_p19, ↓md_gA20, md_a20, md_s20, ↓md_g21, ↓md_p21, ↓md_gA22, md_a22, md_s22, ↓md_gA23, md_a23, md_s23, ↓md_gA24, md_a24, md_s24]
    rw [show i = 19800 by omega]
    rfl
  | succ n ih =>
    intro i gas h1 h2 h3
    obtain ⟨g, rfl⟩ := gas_s h2
    rw [fnFix_s, gX3_ends_b11]
    simp (disch := omega) only [decide_true, decide_false, reduceIte, and_self, and_true, true_and, and_false, false_and, or_true, true_or, or_false, false_or, not_true_eq_false, not_false_eq_true, reduceCtorEq, mA_ss, mI_ss, ↓St_rc, ↓fn_B, ↓fn_nn_none, ↓fn_nn_some, rZ_0, rZ_1, rZ_b, b2_z, b2_1, b2_or, b2_or0, b2_or1, iI_add, iI_sub, iI_mul, iI_neg, lI_add, lI_sub, lI_mul, iI_lt, iI_le, iI_eq, iI_to64, lI_cmp_lt, lI_cmp_gt, lI_cmp_ge, lI_cmp_le, lI_cmp_eq, mA_s, mA_o, mI_s, mI_o, mB_s, mB_o, mA_I, mA_B, mA_T, mA_F, mI_A, mI_B, mI_T, mI_F, mB_A, mB_I, mB_T, mB_F, mT_A, mT_I, mT_B, mT_F, mF_A, mF_I, mF_B, mF_T, ↓md_gA0, md_a0, md_s0, ↓md_gA1, md_a1, md_s1, ↓md_gA2, md_a2, md_s2, ↓md_gA3, md_a3, md_s3, ↓md_gA4, md_a4, md_s4, ↓md_g5, ↓md_p5, ↓md_g6, ↓md_p6, ↓md_g7, ↓md_p7, ↓md_g8, ↓md_p8, ↓md_gA9, md_a9, md_s9, ↓md_gA10, md_a10, md_s10, ↓md_gA11, md_a11, md_s11, ↓md_gA12, md_a12, md_s12, ↓md_gA13, md_a13, md_s13, ↓md_g14, ↓md_p14, ↓md_g15, ↓md_p15, ↓md_g16, ↓md_p16, ↓md_gA17, md_a17, md_s17, ↓md_gA18, md_a18, md_s18, ↓md_g19, ↓md_p19, ↓md_gA20, md_a20, md_s20, ↓md_g21, ↓md_p21, ↓md_gA22, md_a22, md_s22, ↓md_gA23, md_a23, md_s23, ↓md_gA24, md_a24, md_s24]
    rw [if_neg (by omega), shI_s h3]
    exact ih (i + 1) g (by omega) (by omega) (by omega)
theorem X3_ends (x : Int) (hu : 0 ≤ μ.2.1 5 ∧ μ.2.1 5 ≤ 6) : gX3_ends ρ b (iI x) (St σ b μ) = some (iI x, St σ b (mI (mA μ 4 (sPush (μ.1 4) (μ.1 1) (μ.2.1 5))) 5 (sMore (μ.2.1 5)))) := by
  unfold gX3_ends sPush sMore
  by_cases h : μ.2.1 5 = 6
  · simp (disch := omega) only [h, decide_true, decide_false, reduceIte, and_self, and_true, true_and, and_false, false_and, or_true, true_or, or_false, false_or, not_true_eq_false, not_false_eq_true, reduceCtorEq, mA_ss, mI_ss, ↓St_rc, ↓fn_B, ↓fn_nn_none, ↓fn_nn_some, rZ_0, rZ_1, rZ_b, b2_z, b2_1, b2_or, b2_or0, b2_or1, iI_add, iI_sub, iI_mul, iI_neg, lI_add, lI_sub, lI_mul, iI_lt, iI_le, iI_eq, iI_to64, lI_cmp_lt, lI_cmp_gt, lI_cmp_ge, lI_cmp_le, lI_cmp_eq, mA_s, mA_o, mI_s, mI_o, mB_s, mB_o, mA_I, mA_B, mA_T, mA_F, mI_A, mI_B, mI_T, mI_F, mB_A, mB_I, mB_T, mB_F, mT_A, mT_I, mT_B, mT_F, mF_A, mF_I, mF_B, mF_T, ↓md_gA0, md_a0, md_s0, ↓md_gA1, md_a1, md_s1, ↓md_gA2, md_a2, md_s2, ↓md_gA3, md_a3, md_s3, ↓md_gA4, md_a4, md_s4, ↓md_g5, ↓md_p5, ↓md_g6, ↓md_p6, ↓md_g7, ↓md_p7, ↓md_g8, ↓md_p8, ↓md_gA9, md_a9, md_s9, ↓md_gA10, md_a10, md_s10, ↓md_gA11, md_a11, md_s11, ↓md_gA12, md_a12, md_s12, ↓md_gA13, md_a13, md_s13, ↓md_g14, ↓md_p14, ↓md_g15, ↓md_p15, ↓md_g16, ↓md_p16, ↓md_gA17, md_a17, md_s17, ↓md_gA18, md_a18, md_s18, ↓md_g19, ↓md_p19, ↓md_gA20, md_a20, md_s20, ↓md_g21, ↓md_p21, ↓md_gA22, md_a22, md_s22, ↓md_gA23, md_a23, md_s23, ↓md_gA24, md_a24, md_s24]
    have q := X3_ends_a (ρ := ρ) (σ := σ) (b := b) (μ := μ) x h 19800 0 fnGas (by decide) (by decide) (by decide)
    rw [shI_0, mA_self] at q
    exact q
  · simp (disch := omega) only [h, decide_true, decide_false, reduceIte, and_self, and_true, true_and, and_false, false_and, or_true, true_or, or_false, false_or, not_true_eq_false, not_false_eq_true, reduceCtorEq, mA_ss, mI_ss, ↓St_rc, ↓fn_B, ↓fn_nn_none, ↓fn_nn_some, rZ_0, rZ_1, rZ_b, b2_z, b2_1, b2_or, b2_or0, b2_or1, iI_add, iI_sub, iI_mul, iI_neg, lI_add, lI_sub, lI_mul, iI_lt, iI_le, iI_eq, iI_to64, lI_cmp_lt, lI_cmp_gt, lI_cmp_ge, lI_cmp_le, lI_cmp_eq, mA_s, mA_o, mI_s, mI_o, mB_s, mB_o, mA_I, mA_B, mA_T, mA_F, mI_A, mI_B, mI_T, mI_F, mB_A, mB_I, mB_T, mB_F, mT_A, mT_I, mT_B, mT_F, mF_A, mF_I, mF_B, mF_T, ↓md_gA0, md_a0, md_s0, ↓md_gA1, md_a1, md_s1, ↓md_gA2, md_a2, md_s2, ↓md_gA3, md_a3, md_s3, ↓md_gA4, md_a4, md_s4, ↓md_g5, ↓md_p5, ↓md_g6, ↓md_p6, ↓md_g7, ↓md_p7, ↓md_g8, ↓md_p8, ↓md_gA9, md_a9, md_s9, ↓md_gA10, md_a10, md_s10, ↓md_gA11, md_a11, md_s11, ↓md_gA12, md_a12, md_s12, ↓md_gA13, md_a13, md_s13, ↓md_g14, ↓md_p14, ↓md_g15, ↓md_p15, ↓md_g16, ↓md_p16, ↓md_gA17, md_a17, md_s17, ↓md_gA18, md_a18, md_s18, ↓md_g19, ↓md_p19, ↓md_gA20, md_a20, md_s20, ↓md_g21, ↓md_p21, ↓md_gA22, md_a22, md_s22, ↓md_gA23, md_a23, md_s23, ↓md_gA24, md_a24, md_s24]
    rw [X3_ends_c x (by omega)]
/-- a change's answer, and the memory behind it -/
def eRes (μ : MM) (r : cT) : MM := if r.2.1 = 0 then mI (mA (mA (mI (mA μ 1 (cpI 3960 (μ.1 0) (μ.1 1))) 8 0) 0 r.2.2) 4 (sPush (μ.1 4) (cpI 3960 (μ.1 0) (μ.1 1)) (μ.2.1 5))) 5 (sMore (μ.2.1 5)) else mI (mI (mA μ 1 (cpI 3960 (μ.1 0) (μ.1 1))) 8 r.2.1) 6 r.2.1
def eAns (r : cT) : Int := if r.2.1 = 0 then r.1 else -3
theorem X3_closes (r : cT) (hr : 0 ≤ r.2.1 ∧ r.2.1 ≤ 6) (hu : 0 ≤ μ.2.1 5 ∧ μ.2.1 5 ≤ 6) : gX3_closes ρ b (iI r.1) (St σ b (cRes (mI (mA μ 1 (cpI 3960 (μ.1 0) (μ.1 1))) 8 0) r)) = some (iI (eAns r), St σ b (eRes μ r)) := by
  unfold gX3_closes cRes eRes eAns
  by_cases h : r.2.1 = 0
  · rw [if_pos h, if_pos h, if_pos h]
    simp (disch := omega) only [decide_true, decide_false, reduceIte, and_self, and_true, true_and, and_false, false_and, or_true, true_or, or_false, false_or, not_true_eq_false, not_false_eq_true, reduceCtorEq, mA_ss, mI_ss, ↓St_rc, ↓fn_B, ↓fn_nn_none, ↓fn_nn_some, rZ_0, rZ_1, rZ_b, b2_z, b2_1, b2_or, b2_or0, b2_or1, iI_add, iI_sub, iI_mul, iI_neg, lI_add, lI_sub, lI_mul, iI_lt, iI_le, iI_eq, iI_to64, lI_cmp_lt, lI_cmp_gt, lI_cmp_ge, lI_cmp_le, lI_cmp_eq, mA_s, mA_o, mI_s, mI_o, mB_s, mB_o, mA_I, mA_B, mA_T, mA_F, mI_A, mI_B, mI_T, mI_F, mB_A, mB_I, mB_T, mB_F, mT_A, mT_I, mT_B, mT_F, mF_A, mF_I, mF_B, mF_T, ↓md_gA0, md_a0, md_s0, ↓md_gA1, md_a1, md_s1, ↓md_gA2, md_a2, md_s2, ↓md_gA3, md_a3, md_s3, ↓md_gA4, md_a4, md_s4, ↓md_g5, ↓md_p5, ↓md_g6, ↓md_p6, ↓md_g7, ↓md_p7, ↓md_g8, ↓md_p8, ↓md_gA9, md_a9, md_s9, ↓md_gA10, md_a10, md_s10, ↓md_gA11, md_a11, md_s11, ↓md_gA12, md_a12, md_s12, ↓md_gA13, md_a13, md_s13, ↓md_g14, ↓md_p14, ↓md_g15, ↓md_p15, ↓md_g16, ↓md_p16, ↓md_gA17, md_a17, md_s17, ↓md_gA18, md_a18, md_s18, ↓md_g19, ↓md_p19, ↓md_gA20, md_a20, md_s20, ↓md_g21, ↓md_p21, ↓md_gA22, md_a22, md_s22, ↓md_gA23, md_a23, md_s23, ↓md_gA24, md_a24, md_s24]
    rw [X3_ends r.1 (by exact hu)]
    rfl
  · rw [if_neg h, if_neg h, if_neg h]
    simp (disch := omega) only [decide_true, decide_false, reduceIte, and_self, and_true, true_and, and_false, false_and, or_true, true_or, or_false, false_or, not_true_eq_false, not_false_eq_true, reduceCtorEq, mA_ss, mI_ss, ↓St_rc, ↓fn_B, ↓fn_nn_none, ↓fn_nn_some, rZ_0, rZ_1, rZ_b, b2_z, b2_1, b2_or, b2_or0, b2_or1, iI_add, iI_sub, iI_mul, iI_neg, lI_add, lI_sub, lI_mul, iI_lt, iI_le, iI_eq, iI_to64, lI_cmp_lt, lI_cmp_gt, lI_cmp_ge, lI_cmp_le, lI_cmp_eq, mA_s, mA_o, mI_s, mI_o, mB_s, mB_o, mA_I, mA_B, mA_T, mA_F, mI_A, mI_B, mI_T, mI_F, mB_A, mB_I, mB_T, mB_F, mT_A, mT_I, mT_B, mT_F, mF_A, mF_I, mF_B, mF_T, ↓md_gA0, md_a0, md_s0, ↓md_gA1, md_a1, md_s1, ↓md_gA2, md_a2, md_s2, ↓md_gA3, md_a3, md_s3, ↓md_gA4, md_a4, md_s4, ↓md_g5, ↓md_p5, ↓md_g6, ↓md_p6, ↓md_g7, ↓md_p7, ↓md_g8, ↓md_p8, ↓md_gA9, md_a9, md_s9, ↓md_gA10, md_a10, md_s10, ↓md_gA11, md_a11, md_s11, ↓md_gA12, md_a12, md_s12, ↓md_gA13, md_a13, md_s13, ↓md_g14, ↓md_p14, ↓md_g15, ↓md_p15, ↓md_g16, ↓md_p16, ↓md_gA17, md_a17, md_s17, ↓md_gA18, md_a18, md_s18, ↓md_g19, ↓md_p19, ↓md_gA20, md_a20, md_s20, ↓md_g21, ↓md_p21, ↓md_gA22, md_a22, md_s22, ↓md_gA23, md_a23, md_s23, ↓md_gA24, md_a24, md_s24]
    rw [if_neg h]
theorem cOk (v : Int → Int) : (∀ a c e, 0 ≤ (cMakes v a c e).2.1 ∧ (cMakes v a c e).2.1 ≤ 6) ∧ (∀ a c, 0 ≤ (cTells v a c).2.1 ∧ (cTells v a c).2.1 ≤ 6) ∧ (∀ a c e, 0 ≤ (cClauses v a c e).2.1 ∧ (cClauses v a c e).2.1 ≤ 6) ∧ (∀ a c e, 0 ≤ (cFaults v a c e).2.1 ∧ (cFaults v a c e).2.1 ≤ 6) ∧ (∀ a c, 0 ≤ (cMends v a c).2.1 ∧ (cMends v a c).2.1 ≤ 6)
  ∧ (∀ a c e, 0 ≤ (cPays v a c e).2.1 ∧ (cPays v a c e).2.1 ≤ 6) ∧ (∀ a c e, 0 ≤ (cLays v a c e).2.1 ∧ (cLays v a c e).2.1 ≤ 6) ∧ (∀ a c e, 0 ≤ (cGives v a c e).2.1 ∧ (cGives v a c e).2.1 ≤ 6) ∧ (∀ a, 0 ≤ (cDraws v a).2.1 ∧ (cDraws v a).2.1 ≤ 6) ∧ (∀ a c, 0 ≤ (cRate v a c).2.1 ∧ (cRate v a c).2.1 ≤ 6) := by
  refine ⟨?_, ?_, ?_, ?_, ?_, ?_, ?_, ?_, ?_, ?_⟩
  · intro a c e; unfold cMakes; repeat' split
    all_goals (dsimp only; omega)
  · intro a c; unfold cTells; repeat' split
    all_goals (dsimp only; omega)
  · intro a c e; unfold cClauses; repeat' split
    all_goals (dsimp only; omega)
  · intro a c e; unfold cFaults; repeat' split
    all_goals (dsimp only; omega)
  · intro a c; unfold cMends; repeat' split
    all_goals (dsimp only; omega)
  · intro a c e; unfold cPays; repeat' split
    all_goals (dsimp only; omega)
  · intro a c e; unfold cLays; repeat' split
    all_goals (dsimp only; omega)
  · intro a c e; unfold cGives; repeat' split
    all_goals (dsimp only; omega)
  · intro a; unfold cDraws; repeat' split
    all_goals (dsimp only; omega)
  · intro a c; unfold cRate; repeat' split
    all_goals (dsimp only; omega)
theorem X3_lease (hv : okD (μ.1 0)) (hu : 0 ≤ μ.2.1 5 ∧ μ.2.1 5 ≤ 6) {l x y : Int} (r1 : r32 l) (r2 : r32 x) (r3 : r32 y) : gX3_lease ρ b (iI l) (iI x) (iI y) (St σ b μ) = some (iI (eAns (cMakes (μ.1 0) l x y)), St σ b (eRes μ (cMakes (μ.1 0) l x y))) := by
  unfold gX3_lease
  have q : gX3_makes ρ b (iI l) (iI x) (iI y) (St σ b (mI (mA μ 1 (cpI 3960 (μ.1 0) (μ.1 1))) 8 0)) = some (iI (cMakes (μ.1 0) l x y).1, St σ b (cRes (mI (mA μ 1 (cpI 3960 (μ.1 0) (μ.1 1))) 8 0) (cMakes (μ.1 0) l x y))) := X3_makes (ρ := ρ) (σ := σ) (b := b) (μ := mI (mA μ 1 (cpI 3960 (μ.1 0) (μ.1 1))) 8 0) hv r1 r2 r3
  have q2 := X3_closes (ρ := ρ) (σ := σ) (b := b) (μ := μ) (cMakes (μ.1 0) l x y) ((cOk (μ.1 0)).1 l x y) hu
  rw [St_rc, X3_begins, fn_B_some, md_p8, St_rc, q, fn_B_some, St_rc, q2]
  rfl
theorem X3_index (hv : okD (μ.1 0)) (hu : 0 ≤ μ.2.1 5 ∧ μ.2.1 5 ≤ 6) {l x y : Int} (r1 : r32 l) (r2 : r32 x) (r3 : r32 y) : gX3_index ρ b (iI l) (iI x) (St σ b μ) = some (iI (eAns (cTells (μ.1 0) l x)), St σ b (eRes μ (cTells (μ.1 0) l x))) := by
  unfold gX3_index
  have q : gX3_tells ρ b (iI l) (iI x) (St σ b (mI (mA μ 1 (cpI 3960 (μ.1 0) (μ.1 1))) 8 0)) = some (iI (cTells (μ.1 0) l x).1, St σ b (cRes (mI (mA μ 1 (cpI 3960 (μ.1 0) (μ.1 1))) 8 0) (cTells (μ.1 0) l x))) := X3_tells (ρ := ρ) (σ := σ) (b := b) (μ := mI (mA μ 1 (cpI 3960 (μ.1 0) (μ.1 1))) 8 0) hv r1 r2
  have q2 := X3_closes (ρ := ρ) (σ := σ) (b := b) (μ := μ) (cTells (μ.1 0) l x) ((cOk (μ.1 0)).2.1 l x) hu
  rw [St_rc, X3_begins, fn_B_some, md_p8, St_rc, q, fn_B_some, St_rc, q2]
  rfl
theorem X3_clause (hv : okD (μ.1 0)) (hu : 0 ≤ μ.2.1 5 ∧ μ.2.1 5 ≤ 6) {l x y : Int} (r1 : r32 l) (r2 : r32 x) (r3 : r32 y) : gX3_clause ρ b (iI l) (iI x) (iI y) (St σ b μ) = some (iI (eAns (cClauses (μ.1 0) l x y)), St σ b (eRes μ (cClauses (μ.1 0) l x y))) := by
  unfold gX3_clause
  have q : gX3_clauses ρ b (iI l) (iI x) (iI y) (St σ b (mI (mA μ 1 (cpI 3960 (μ.1 0) (μ.1 1))) 8 0)) = some (iI (cClauses (μ.1 0) l x y).1, St σ b (cRes (mI (mA μ 1 (cpI 3960 (μ.1 0) (μ.1 1))) 8 0) (cClauses (μ.1 0) l x y))) := X3_clauses (ρ := ρ) (σ := σ) (b := b) (μ := mI (mA μ 1 (cpI 3960 (μ.1 0) (μ.1 1))) 8 0) hv r1 r2 r3
  have q2 := X3_closes (ρ := ρ) (σ := σ) (b := b) (μ := μ) (cClauses (μ.1 0) l x y) ((cOk (μ.1 0)).2.2.1 l x y) hu
  rw [St_rc, X3_begins, fn_B_some, md_p8, St_rc, q, fn_B_some, St_rc, q2]
  rfl
theorem X3_defect (hv : okD (μ.1 0)) (hu : 0 ≤ μ.2.1 5 ∧ μ.2.1 5 ≤ 6) {l x y : Int} (r1 : r32 l) (r2 : r32 x) (r3 : r32 y) : gX3_defect ρ b (iI l) (iI x) (iI y) (St σ b μ) = some (iI (eAns (cFaults (μ.1 0) l x y)), St σ b (eRes μ (cFaults (μ.1 0) l x y))) := by
  unfold gX3_defect
  have q : gX3_faults ρ b (iI l) (iI x) (iI y) (St σ b (mI (mA μ 1 (cpI 3960 (μ.1 0) (μ.1 1))) 8 0)) = some (iI (cFaults (μ.1 0) l x y).1, St σ b (cRes (mI (mA μ 1 (cpI 3960 (μ.1 0) (μ.1 1))) 8 0) (cFaults (μ.1 0) l x y))) := X3_faults (ρ := ρ) (σ := σ) (b := b) (μ := mI (mA μ 1 (cpI 3960 (μ.1 0) (μ.1 1))) 8 0) hv r1 r2 r3
  have q2 := X3_closes (ρ := ρ) (σ := σ) (b := b) (μ := μ) (cFaults (μ.1 0) l x y) ((cOk (μ.1 0)).2.2.2.1 l x y) hu
  rw [St_rc, X3_begins, fn_B_some, md_p8, St_rc, q, fn_B_some, St_rc, q2]
  rfl
theorem X3_repair (hv : okD (μ.1 0)) (hu : 0 ≤ μ.2.1 5 ∧ μ.2.1 5 ≤ 6) {l x y : Int} (r1 : r32 l) (r2 : r32 x) (r3 : r32 y) : gX3_repair ρ b (iI l) (iI x) (St σ b μ) = some (iI (eAns (cMends (μ.1 0) l x)), St σ b (eRes μ (cMends (μ.1 0) l x))) := by
  unfold gX3_repair
  have q : gX3_mends ρ b (iI l) (iI x) (St σ b (mI (mA μ 1 (cpI 3960 (μ.1 0) (μ.1 1))) 8 0)) = some (iI (cMends (μ.1 0) l x).1, St σ b (cRes (mI (mA μ 1 (cpI 3960 (μ.1 0) (μ.1 1))) 8 0) (cMends (μ.1 0) l x))) := X3_mends (ρ := ρ) (σ := σ) (b := b) (μ := mI (mA μ 1 (cpI 3960 (μ.1 0) (μ.1 1))) 8 0) hv r1 r2
  have q2 := X3_closes (ρ := ρ) (σ := σ) (b := b) (μ := μ) (cMends (μ.1 0) l x) ((cOk (μ.1 0)).2.2.2.2.1 l x) hu
  rw [St_rc, X3_begins, fn_B_some, md_p8, St_rc, q, fn_B_some, St_rc, q2]
  rfl
theorem X3_pay (hv : okD (μ.1 0)) (hu : 0 ≤ μ.2.1 5 ∧ μ.2.1 5 ≤ 6) {l x y : Int} (r1 : r32 l) (r2 : r32 x) (r3 : r32 y) : gX3_pay ρ b (iI l) (iI x) (iI y) (St σ b μ) = some (iI (eAns (cPays (μ.1 0) l x y)), St σ b (eRes μ (cPays (μ.1 0) l x y))) := by
  unfold gX3_pay
  have q : gX3_pays ρ b (iI l) (iI x) (iI y) (St σ b (mI (mA μ 1 (cpI 3960 (μ.1 0) (μ.1 1))) 8 0)) = some (iI (cPays (μ.1 0) l x y).1, St σ b (cRes (mI (mA μ 1 (cpI 3960 (μ.1 0) (μ.1 1))) 8 0) (cPays (μ.1 0) l x y))) := X3_pays (ρ := ρ) (σ := σ) (b := b) (μ := mI (mA μ 1 (cpI 3960 (μ.1 0) (μ.1 1))) 8 0) hv r1 r2 r3
  have q2 := X3_closes (ρ := ρ) (σ := σ) (b := b) (μ := μ) (cPays (μ.1 0) l x y) ((cOk (μ.1 0)).2.2.2.2.2.1 l x y) hu
  rw [St_rc, X3_begins, fn_B_some, md_p8, St_rc, q, fn_B_some, St_rc, q2]
  rfl
theorem X3_deposit (hv : okD (μ.1 0)) (hu : 0 ≤ μ.2.1 5 ∧ μ.2.1 5 ≤ 6) {l x y : Int} (r1 : r32 l) (r2 : r32 x) (r3 : r32 y) : gX3_deposit ρ b (iI l) (iI x) (iI y) (St σ b μ) = some (iI (eAns (cLays (μ.1 0) l x y)), St σ b (eRes μ (cLays (μ.1 0) l x y))) := by
  unfold gX3_deposit
  have q : gX3_lays ρ b (iI l) (iI x) (iI y) (St σ b (mI (mA μ 1 (cpI 3960 (μ.1 0) (μ.1 1))) 8 0)) = some (iI (cLays (μ.1 0) l x y).1, St σ b (cRes (mI (mA μ 1 (cpI 3960 (μ.1 0) (μ.1 1))) 8 0) (cLays (μ.1 0) l x y))) := X3_lays (ρ := ρ) (σ := σ) (b := b) (μ := mI (mA μ 1 (cpI 3960 (μ.1 0) (μ.1 1))) 8 0) hv r1 r2 r3
  have q2 := X3_closes (ρ := ρ) (σ := σ) (b := b) (μ := μ) (cLays (μ.1 0) l x y) ((cOk (μ.1 0)).2.2.2.2.2.2.1 l x y) hu
  rw [St_rc, X3_begins, fn_B_some, md_p8, St_rc, q, fn_B_some, St_rc, q2]
  rfl
theorem X3_notice (hv : okD (μ.1 0)) (hu : 0 ≤ μ.2.1 5 ∧ μ.2.1 5 ≤ 6) {l x y : Int} (r1 : r32 l) (r2 : r32 x) (r3 : r32 y) : gX3_notice ρ b (iI l) (iI x) (iI y) (St σ b μ) = some (iI (eAns (cGives (μ.1 0) l x y)), St σ b (eRes μ (cGives (μ.1 0) l x y))) := by
  unfold gX3_notice
  have q : gX3_gives ρ b (iI l) (iI x) (iI y) (St σ b (mI (mA μ 1 (cpI 3960 (μ.1 0) (μ.1 1))) 8 0)) = some (iI (cGives (μ.1 0) l x y).1, St σ b (cRes (mI (mA μ 1 (cpI 3960 (μ.1 0) (μ.1 1))) 8 0) (cGives (μ.1 0) l x y))) := X3_gives (ρ := ρ) (σ := σ) (b := b) (μ := mI (mA μ 1 (cpI 3960 (μ.1 0) (μ.1 1))) 8 0) hv r1 r2 r3
  have q2 := X3_closes (ρ := ρ) (σ := σ) (b := b) (μ := μ) (cGives (μ.1 0) l x y) ((cOk (μ.1 0)).2.2.2.2.2.2.2.1 l x y) hu
  rw [St_rc, X3_begins, fn_B_some, md_p8, St_rc, q, fn_B_some, St_rc, q2]
  rfl
theorem X3_withdraw (hv : okD (μ.1 0)) (hu : 0 ≤ μ.2.1 5 ∧ μ.2.1 5 ≤ 6) {l x y : Int} (r1 : r32 l) (r2 : r32 x) (r3 : r32 y) : gX3_withdraw ρ b (iI l) (St σ b μ) = some (iI (eAns (cDraws (μ.1 0) l)), St σ b (eRes μ (cDraws (μ.1 0) l))) := by
  unfold gX3_withdraw
  have q : gX3_draws ρ b (iI l) (St σ b (mI (mA μ 1 (cpI 3960 (μ.1 0) (μ.1 1))) 8 0)) = some (iI (cDraws (μ.1 0) l).1, St σ b (cRes (mI (mA μ 1 (cpI 3960 (μ.1 0) (μ.1 1))) 8 0) (cDraws (μ.1 0) l))) := X3_draws (ρ := ρ) (σ := σ) (b := b) (μ := mI (mA μ 1 (cpI 3960 (μ.1 0) (μ.1 1))) 8 0) hv r1
  have q2 := X3_closes (ρ := ρ) (σ := σ) (b := b) (μ := μ) (cDraws (μ.1 0) l) ((cOk (μ.1 0)).2.2.2.2.2.2.2.2.1 l) hu
  rw [St_rc, X3_begins, fn_B_some, md_p8, St_rc, q, fn_B_some, St_rc, q2]
  rfl
theorem X3_rate (hv : okD (μ.1 0)) (hu : 0 ≤ μ.2.1 5 ∧ μ.2.1 5 ≤ 6) {x y : Int} (r1 : r32 x) (r2 : r32 y) : gX3_rate ρ b (iI x) (iI y) (St σ b μ) = some (iI (eAns (cRate (μ.1 0) x y)), St σ b (eRes μ (cRate (μ.1 0) x y))) := by
  have bad : gX3_rate_b27 ρ b (iI x) (iI y) (some b) (St σ b (mA μ 1 (cpI 3960 (μ.1 0) (μ.1 1)))) = some (iI (-3), St σ b (mI (mI (mA μ 1 (cpI 3960 (μ.1 0) (μ.1 1))) 8 2) 6 2)) := by
    unfold gX3_rate_b27 gX3_rate_b28 gX3_closes
    simp (disch := omega) only [decide_true, decide_false, reduceIte, and_self, and_true, true_and, and_false, false_and, or_true, true_or, or_false, false_or, not_true_eq_false, not_false_eq_true, reduceCtorEq, mA_ss, mI_ss, ↓St_rc, ↓fn_B, ↓fn_nn_none, ↓fn_nn_some, rZ_0, rZ_1, rZ_b, b2_z, b2_1, b2_or, b2_or0, b2_or1, iI_add, iI_sub, iI_mul, iI_neg, lI_add, lI_sub, lI_mul, iI_lt, iI_le, iI_eq, iI_to64, lI_cmp_lt, lI_cmp_gt, lI_cmp_ge, lI_cmp_le, lI_cmp_eq, mA_s, mA_o, mI_s, mI_o, mB_s, mB_o, mA_I, mA_B, mA_T, mA_F, mI_A, mI_B, mI_T, mI_F, mB_A, mB_I, mB_T, mB_F, mT_A, mT_I, mT_B, mT_F, mF_A, mF_I, mF_B, mF_T, ↓md_gA0, md_a0, md_s0, ↓md_gA1, md_a1, md_s1, ↓md_gA2, md_a2, md_s2, ↓md_gA3, md_a3, md_s3, ↓md_gA4, md_a4, md_s4, ↓md_g5, ↓md_p5, ↓md_g6, ↓md_p6, ↓md_g7, ↓md_p7, ↓md_g8, ↓md_p8, ↓md_gA9, md_a9, md_s9, ↓md_gA10, md_a10, md_s10, ↓md_gA11, md_a11, md_s11, ↓md_gA12, md_a12, md_s12, ↓md_gA13, md_a13, md_s13, ↓md_g14, ↓md_p14, ↓md_g15, ↓md_p15, ↓md_g16, ↓md_p16, ↓md_gA17, md_a17, md_s17, ↓md_gA18, md_a18, md_s18, ↓md_g19, ↓md_p19, ↓md_gA20, md_a20, md_s20, ↓md_g21, ↓md_p21, ↓md_gA22, md_a22, md_s22, ↓md_gA23, md_a23, md_s23, ↓md_gA24, md_a24, md_s24]
    rfl
  unfold gX3_rate
  rw [St_rc, X3_begins, fn_B_some]
  by_cases h1 : 0 ≤ x ∧ x ≤ 3599
  · rw [fn_Bt (s := St σ b (mA μ 1 (cpI 3960 (μ.1 0) (μ.1 1)))) (by rw [X3_isDay r1, decide_eq_true h1])]
    by_cases h2 : 0 ≤ y ∧ y ≤ 2000
    · rw [fn_Bt (s := St σ b (mA μ 1 (cpI 3960 (μ.1 0) (μ.1 1)))) (by rw [X3_isIn r2 (by decide) (by decide), decide_eq_true h2])]
      have q2 := X3_closes (ρ := ρ) (σ := σ) (b := b) (μ := μ) (cRate (μ.1 0) x y) ((cOk (μ.1 0)).2.2.2.2.2.2.2.2.2 x y) hu
      have e : cRate (μ.1 0) x y = (sRate (μ.1 0) (x + 1).toNat, 0, uI (μ.1 0) (360 + x) y) := by unfold cRate; rw [if_neg (by omega)]
      unfold gX3_rate_b28
      simp (disch := omega) only [decide_true, decide_false, reduceIte, and_self, and_true, true_and, and_false, false_and, or_true, true_or, or_false, false_or, not_true_eq_false, not_false_eq_true, reduceCtorEq, mA_ss, mI_ss, ↓St_rc, ↓fn_B, ↓fn_nn_none, ↓fn_nn_some, rZ_0, rZ_1, rZ_b, b2_z, b2_1, b2_or, b2_or0, b2_or1, iI_add, iI_sub, iI_mul, iI_neg, lI_add, lI_sub, lI_mul, iI_lt, iI_le, iI_eq, iI_to64, lI_cmp_lt, lI_cmp_gt, lI_cmp_ge, lI_cmp_le, lI_cmp_eq, mA_s, mA_o, mI_s, mI_o, mB_s, mB_o, mA_I, mA_B, mA_T, mA_F, mI_A, mI_B, mI_T, mI_F, mB_A, mB_I, mB_T, mB_F, mT_A, mT_I, mT_B, mT_F, mF_A, mF_I, mF_B, mF_T, ↓md_gA0, md_a0, md_s0, ↓md_gA1, md_a1, md_s1, ↓md_gA2, md_a2, md_s2, ↓md_gA3, md_a3, md_s3, ↓md_gA4, md_a4, md_s4, ↓md_g5, ↓md_p5, ↓md_g6, ↓md_p6, ↓md_g7, ↓md_p7, ↓md_g8, ↓md_p8, ↓md_gA9, md_a9, md_s9, ↓md_gA10, md_a10, md_s10, ↓md_gA11, md_a11, md_s11, ↓md_gA12, md_a12, md_s12, ↓md_gA13, md_a13, md_s13, ↓md_g14, ↓md_p14, ↓md_g15, ↓md_p15, ↓md_g16, ↓md_p16, ↓md_gA17, md_a17, md_s17, ↓md_gA18, md_a18, md_s18, ↓md_g19, ↓md_p19, ↓md_gA20, md_a20, md_s20, ↓md_g21, ↓md_p21, ↓md_gA22, md_a22, md_s22, ↓md_gA23, md_a23, md_s23, ↓md_gA24, md_a24, md_s24]
      rw [if_pos (by decide), X3_rateOn (μ := mI (mA μ 1 (cpI 3960 (μ.1 0) (μ.1 1))) 8 0) hv (by omega)]
      simp (disch := omega) only [decide_true, decide_false, reduceIte, and_self, and_true, true_and, and_false, false_and, or_true, true_or, or_false, false_or, not_true_eq_false, not_false_eq_true, reduceCtorEq, mA_ss, mI_ss, ↓St_rc, ↓fn_B, ↓fn_nn_none, ↓fn_nn_some, rZ_0, rZ_1, rZ_b, b2_z, b2_1, b2_or, b2_or0, b2_or1, iI_add, iI_sub, iI_mul, iI_neg, lI_add, lI_sub, lI_mul, iI_lt, iI_le, iI_eq, iI_to64, lI_cmp_lt, lI_cmp_gt, lI_cmp_ge, lI_cmp_le, lI_cmp_eq, mA_s, mA_o, mI_s, mI_o, mB_s, mB_o, mA_I, mA_B, mA_T, mA_F, mI_A, mI_B, mI_T, mI_F, mB_A, mB_I, mB_T, mB_F, mT_A, mT_I, mT_B, mT_F, mF_A, mF_I, mF_B, mF_T, ↓md_gA0, md_a0, md_s0, ↓md_gA1, md_a1, md_s1, ↓md_gA2, md_a2, md_s2, ↓md_gA3, md_a3, md_s3, ↓md_gA4, md_a4, md_s4, ↓md_g5, ↓md_p5, ↓md_g6, ↓md_p6, ↓md_g7, ↓md_p7, ↓md_g8, ↓md_p8, ↓md_gA9, md_a9, md_s9, ↓md_gA10, md_a10, md_s10, ↓md_gA11, md_a11, md_s11, ↓md_gA12, md_a12, md_s12, ↓md_gA13, md_a13, md_s13, ↓md_g14, ↓md_p14, ↓md_g15, ↓md_p15, ↓md_g16, ↓md_p16, ↓md_gA17, md_a17, md_s17, ↓md_gA18, md_a18, md_s18, ↓md_g19, ↓md_p19, ↓md_gA20, md_a20, md_s20, ↓md_g21, ↓md_p21, ↓md_gA22, md_a22, md_s22, ↓md_gA23, md_a23, md_s23, ↓md_gA24, md_a24, md_s24]
      rw [e] at q2 ⊢
      unfold cRes at q2
      rw [if_pos rfl] at q2
      rw [q2]
    · rw [fn_Bf (s := St σ b (mA μ 1 (cpI 3960 (μ.1 0) (μ.1 1)))) (by rw [X3_isIn r2 (by decide) (by decide), decide_eq_false h2]), bad]
      unfold cRate
      rw [if_pos (Or.inr h2)]
      rfl
  · rw [fn_Bf (s := St σ b (mA μ 1 (cpI 3960 (μ.1 0) (μ.1 1)))) (by rw [X3_isDay r1, decide_eq_false h1]), bad]
    unfold cRate
    rw [if_pos (Or.inl h1)]
    rfl
end Change2
