/-! more questions to the model -/
def qLook (rs wh : Int → Int) (pa : Int → UInt32) (row i : Int) : Int32 :=
  if ¬ (0 ≤ row ∧ row ≤ 2) then iI (-1) else if ¬ (0 ≤ i ∧ i ≤ 11) then iI (-1) else if ¬ 0 ≤ rs row then iI (-3) else if rs row = 0 then iI (wh (12 * row + i)) else sBits (pa (12 * row + i))
def sDiff (x y : UInt32) : Bool := decide ¬ (Op.cmpValue (FP.fcmp x y) .l) = iI 0
def qCntI (v : Int → Int) : Int := sm (fun m => if v (240 + m) ≤ 0 then 0 else 1) 0 120
def qCntR (v : Int → Int) : Int := sm (fun d => if v (360 + d) < 0 then 0 else 1) 0 3600
def qCount (v : Int → Int) (tp un w : Int) : Int := if w = 0 then v 0 else if w = 1 then v 81 else if w = 2 then v 130 else if w = 3 then v 203 else if w = 4 then tp else if w = 5 then un else if w = 6 then qCntI v else if w = 7 then qCntR v else -1
def qLeft (v : Int → Int) (l fr to : Int) : Int32 :=
  if ¬ (0 ≤ l ∧ l < v 0) then iI (-1) else if ¬ (0 ≤ fr ∧ fr ≤ 3599) then iI (-2) else if ¬ (0 ≤ to ∧ to ≤ 3599) then iI (-2) else if ¬ fr ≤ to then iI (-2) else if sUnits v l fr to true = 0 then iI (-5) else sBits (FP.fdiv (FP.l2f (lI (sUnits v l fr to false))) (FP.l2f (lI (sUnits v l fr to true))))
section More
variable {ρ : Nat → Nat} {σ : mS} {b : Nat} {μ : MM}
theorem X3_look {row i : Int} (r1 : r32 row) (r2 : r32 i) (hrs : ∀ r, 0 ≤ r → r ≤ 2 → -1 ≤ μ.1 23 r ∧ μ.1 23 r ≤ 1) : gX3_look ρ b (iI row) (iI i) (St σ b μ) = some (qLook (μ.1 23) (μ.1 22) μ.2.2.2.2 row i, St σ b μ) := by
  unfold gX3_look qLook
  by_cases h1 : 0 ≤ row ∧ row ≤ 2
  · have h9 := hrs row h1.1 h1.2
    rw [fn_Bt (s := St σ b μ) (by rw [X3_isRow r1, decide_eq_true h1]), if_neg (by simpa using h1)]
    by_cases h2 : 0 ≤ i ∧ i ≤ 11
    · rw [fn_Bt (s := St σ b μ) (by rw [X3_isIn r2 (by decide) (by decide), decide_eq_true h2]), if_neg (by simpa using h2)]
      by_cases h3 : 0 ≤ μ.1 23 row
      · by_cases h4 : μ.1 23 row = 0
        · rw [if_neg (c := ¬ 0 ≤ μ.1 23 row) (by simpa using h3), if_pos h4]
          simp (disch := omega) only [h3, h4, decide_true, decide_false, reduceIte, and_self, and_true, true_and, and_false, false_and, or_true, true_or, or_false, false_or, not_true_eq_false, not_false_eq_true, reduceCtorEq, mA_ss, mI_ss, ↓St_rc, ↓fn_B, ↓fn_nn_none, ↓fn_nn_some, rZ_0, rZ_1, rZ_b, b2_z, b2_1, b2_or, b2_or0, b2_or1, iI_add, iI_sub, iI_mul, iI_neg, lI_add, lI_sub, lI_mul, iI_lt, iI_le, iI_eq, iI_to64, lI_cmp_lt, lI_cmp_gt, lI_cmp_ge, lI_cmp_le, lI_cmp_eq, mA_s, mA_o, mI_s, mI_o, mB_s, mB_o, mA_I, mA_B, mA_T, mA_F, mI_A, mI_B, mI_T, mI_F, mB_A, mB_I, mB_T, mB_F, mT_A, mT_I, mT_B, mT_F, mF_A, mF_I, mF_B, mF_T, ↓md_gA0, md_a0, md_s0, ↓md_gA1, md_a1, md_s1, ↓md_gA2, md_a2, md_s2, ↓md_gA3, md_a3, md_s3, ↓md_gA4, md_a4, md_s4, ↓md_g5, ↓md_p5, ↓md_g6, ↓md_p6, ↓md_g7, ↓md_p7, ↓md_g8, ↓md_p8, ↓md_gA9, md_a9, md_s9, ↓md_gA10, md_a10, md_s10, ↓md_gA11, md_a11, md_s11, ↓md_gA12, md_a12, md_s12, ↓md_gA13, md_a13, md_s13, ↓md_g14, ↓md_p14, ↓md_g15, ↓md_p15, ↓md_g16, ↓md_p16, ↓md_gA17, md_a17, md_s17, ↓md_gA18, md_a18, md_s18, ↓md_g19, ↓md_p19, ↓md_gA20, md_a20, md_s20, ↓md_g21, ↓md_p21, ↓md_gA22, md_a22, md_s22, ↓md_gA23, md_a23, md_s23, ↓md_gA24, md_a24, md_s24]
          rw [if_pos (by decide)]
        · simp (disch := omega) only [h3, h4, J26_bits, decide_true, decide_false, reduceIte, and_self, and_true, true_and, and_false, false_and, or_true, true_or, or_false, false_or, not_true_eq_false, not_false_eq_true, reduceCtorEq, mA_ss, mI_ss, ↓St_rc, ↓fn_B, ↓fn_nn_none, ↓fn_nn_some, rZ_0, rZ_1, rZ_b, b2_z, b2_1, b2_or, b2_or0, b2_or1, iI_add, iI_sub, iI_mul, iI_neg, lI_add, lI_sub, lI_mul, iI_lt, iI_le, iI_eq, iI_to64, lI_cmp_lt, lI_cmp_gt, lI_cmp_ge, lI_cmp_le, lI_cmp_eq, mA_s, mA_o, mI_s, mI_o, mB_s, mB_o, mA_I, mA_B, mA_T, mA_F, mI_A, mI_B, mI_T, mI_F, mB_A, mB_I, mB_T, mB_F, mT_A, mT_I, mT_B, mT_F, mF_A, mF_I, mF_B, mF_T, ↓md_gA0, md_a0, md_s0, ↓md_gA1, md_a1, md_s1, ↓md_gA2, md_a2, md_s2, ↓md_gA3, md_a3, md_s3, ↓md_gA4, md_a4, md_s4, ↓md_g5, ↓md_p5, ↓md_g6, ↓md_p6, ↓md_g7, ↓md_p7, ↓md_g8, ↓md_p8, ↓md_gA9, md_a9, md_s9, ↓md_gA10, md_a10, md_s10, ↓md_gA11, md_a11, md_s11, ↓md_gA12, md_a12, md_s12, ↓md_gA13, md_a13, md_s13, ↓md_g14, ↓md_p14, ↓md_g15, ↓md_p15, ↓md_g16, ↓md_p16, ↓md_gA17, md_a17, md_s17, ↓md_gA18, md_a18, md_s18, ↓md_g19, ↓md_p19, ↓md_gA20, md_a20, md_s20, ↓md_g21, ↓md_p21, ↓md_gA22, md_a22, md_s22, ↓md_gA23, md_a23, md_s23, ↓md_gA24, md_a24, md_s24]
      · simp (disch := omega) only [h3, decide_true, decide_false, reduceIte, and_self, and_true, true_and, and_false, false_and, or_true, true_or, or_false, false_or, not_true_eq_false, not_false_eq_true, reduceCtorEq, mA_ss, mI_ss, ↓St_rc, ↓fn_B, ↓fn_nn_none, ↓fn_nn_some, rZ_0, rZ_1, rZ_b, b2_z, b2_1, b2_or, b2_or0, b2_or1, iI_add, iI_sub, iI_mul, iI_neg, lI_add, lI_sub, lI_mul, iI_lt, iI_le, iI_eq, iI_to64, lI_cmp_lt, lI_cmp_gt, lI_cmp_ge, lI_cmp_le, lI_cmp_eq, mA_s, mA_o, mI_s, mI_o, mB_s, mB_o, mA_I, mA_B, mA_T, mA_F, mI_A, mI_B, mI_T, mI_F, mB_A, mB_I, mB_T, mB_F, mT_A, mT_I, mT_B, mT_F, mF_A, mF_I, mF_B, mF_T, ↓md_gA0, md_a0, md_s0, ↓md_gA1, md_a1, md_s1, ↓md_gA2, md_a2, md_s2, ↓md_gA3, md_a3, md_s3, ↓md_gA4, md_a4, md_s4, ↓md_g5, ↓md_p5, ↓md_g6, ↓md_p6, ↓md_g7, ↓md_p7, ↓md_g8, ↓md_p8, ↓md_gA9, md_a9, md_s9, ↓md_gA10, md_a10, md_s10, ↓md_gA11, md_a11, md_s11, ↓md_gA12, md_a12, md_s12, ↓md_gA13, md_a13, md_s13, ↓md_g14, ↓md_p14, ↓md_g15, ↓md_p15, ↓md_g16, ↓md_p16, ↓md_gA17, md_a17, md_s17, ↓md_gA18, md_a18, md_s18, ↓md_g19, ↓md_p19, ↓md_gA20, md_a20, md_s20, ↓md_g21, ↓md_p21, ↓md_gA22, md_a22, md_s22, ↓md_gA23, md_a23, md_s23, ↓md_gA24, md_a24, md_s24]
    · rw [fn_Bf (s := St σ b μ) (by rw [X3_isIn r2 (by decide) (by decide), decide_eq_false h2]), if_pos h2]
  · rw [fn_Bf (s := St σ b μ) (by rw [X3_isRow r1, decide_eq_false h1]), if_pos h1]
theorem X3_reason (h : 0 ≤ μ.2.1 6 ∧ μ.2.1 6 ≤ 6) : gX3_reason ρ b (St σ b μ) = some (iI (if μ.2.1 6 = 0 then -5 else μ.2.1 6), St σ b μ) := by
  unfold gX3_reason
  simp (disch := omega) only [decide_true, decide_false, reduceIte, and_self, and_true, true_and, and_false, false_and, or_true, true_or, or_false, false_or, not_true_eq_false, not_false_eq_true, reduceCtorEq, mA_ss, mI_ss, ↓St_rc, ↓fn_B, ↓fn_nn_none, ↓fn_nn_some, rZ_0, rZ_1, rZ_b, b2_z, b2_1, b2_or, b2_or0, b2_or1, iI_add, iI_sub, iI_mul, iI_neg, lI_add, lI_sub, lI_mul, iI_lt, iI_le, iI_eq, iI_to64, lI_cmp_lt, lI_cmp_gt, lI_cmp_ge, lI_cmp_le, lI_cmp_eq, mA_s, mA_o, mI_s, mI_o, mB_s, mB_o, mA_I, mA_B, mA_T, mA_F, mI_A, mI_B, mI_T, mI_F, mB_A, mB_I, mB_T, mB_F, mT_A, mT_I, mT_B, mT_F, mF_A, mF_I, mF_B, mF_T, ↓md_gA0, md_a0, md_s0, ↓md_gA1, md_a1, md_s1, ↓md_gA2, md_a2, md_s2, ↓md_gA3, md_a3, md_s3, ↓md_gA4, md_a4, md_s4, ↓md_g5, ↓md_p5, ↓md_g6, ↓md_p6, ↓md_g7, ↓md_p7, ↓md_g8, ↓md_p8, ↓md_gA9, md_a9, md_s9, ↓md_gA10, md_a10, md_s10, ↓md_gA11, md_a11, md_s11, ↓md_gA12, md_a12, md_s12, ↓md_gA13, md_a13, md_s13, ↓md_g14, ↓md_p14, ↓md_g15, ↓md_p15, ↓md_g16, ↓md_p16, ↓md_gA17, md_a17, md_s17, ↓md_gA18, md_a18, md_s18, ↓md_g19, ↓md_p19, ↓md_gA20, md_a20, md_s20, ↓md_g21, ↓md_p21, ↓md_gA22, md_a22, md_s22, ↓md_gA23, md_a23, md_s23, ↓md_gA24, md_a24, md_s24]
  split <;> rfl
theorem X3_cntI (hv : okD (μ.1 0)) : ∀ (n : Nat) (m acc : Int) (gas : Nat), m + n = 120 → n < gas → 0 ≤ m → fnFix (fun _ _ _ => none) (gX3_count_b93 ρ b) gas (iI acc) (iI m) (St σ b μ) = some (iI (acc + sm (fun m => if μ.1 0 (240 + m) ≤ 0 then 0 else 1) m n), St σ b μ) := by
  intro n
  induction n with
  | zero =>
    intro m acc gas h1 h2 h3
    obtain ⟨g, rfl⟩ := gas_s h2
    rw [fnFix_s, gX3_count_b93, sm, Int.add_zero]
    simp (disch := omega) only [decide_true, decide_false, reduceIte, and_self, and_true, true_and, and_false, false_and, or_true, true_or, or_false, false_or, not_true_eq_false, not_false_eq_true, reduceCtorEq, mA_ss, mI_ss, ↓St_rc, ↓fn_B, ↓fn_nn_none, ↓fn_nn_some, rZ_0, rZ_1, rZ_b, b2_z, b2_1, b2_or, b2_or0, b2_or1, iI_add, iI_sub, iI_mul, iI_neg, lI_add, lI_sub, lI_mul, iI_lt, iI_le, iI_eq, iI_to64, lI_cmp_lt, lI_cmp_gt, lI_cmp_ge, lI_cmp_le, lI_cmp_eq, mA_s, mA_o, mI_s, mI_o, mB_s, mB_o, mA_I, mA_B, mA_T, mA_F, mI_A, mI_B, mI_T, mI_F, mB_A, mB_I, mB_T, mB_F, mT_A, mT_I, mT_B, mT_F, mF_A, mF_I, mF_B, mF_T, ↓md_gA0, md_a0, md_s0, ↓md_gA1, md_a1, md_s1, ↓md_gA2, md_a2, md_s2, ↓md_gA3, md_a3, md_s3, ↓md_gA4, md_a4, md_s4, ↓md_g5, ↓md_p5, ↓md_g6, ↓md_p6, ↓md_g7, ↓md_p7, ↓md_g8, ↓md_p8, ↓md_gA9, md_a9, md_s9, ↓md_gA10, md_a10, md_s10, ↓md_gA11, md_a11, md_s11, ↓md_gA12, md_a12, md_s12, ↓md_gA13, md_a13, md_s13, ↓md_g14, ↓md_p14, ↓md_g15, ↓md_p15, ↓md_g16, ↓md_p16, ↓md_gA17, md_a17, md_s17, ↓md_gA18, md_a18, md_s18, ↓md_g19, ↓md_p19, ↓md_gA20, md_a20, md_s20, ↓md_g21, ↓md_p21, ↓md_gA22, md_a22, md_s22, ↓md_gA23, md_a23, md_s23, ↓md_gA24, md_a24, md_s24]
    rw [if_pos (by omega)]
  | succ n ih =>
    intro m acc gas h1 h2 h3
    obtain ⟨g, rfl⟩ := gas_s h2
    have k := hv.2.2.2.2.2.2.2.2.1 m (by omega) (by omega)
    rw [fnFix_s, gX3_count_b93, sm]
    simp (disch := omega) only [gX3_count_b118, decide_true, decide_false, reduceIte, and_self, and_true, true_and, and_false, false_and, or_true, true_or, or_false, false_or, not_true_eq_false, not_false_eq_true, reduceCtorEq, mA_ss, mI_ss, ↓St_rc, ↓fn_B, ↓fn_nn_none, ↓fn_nn_some, rZ_0, rZ_1, rZ_b, b2_z, b2_1, b2_or, b2_or0, b2_or1, iI_add, iI_sub, iI_mul, iI_neg, lI_add, lI_sub, lI_mul, iI_lt, iI_le, iI_eq, iI_to64, lI_cmp_lt, lI_cmp_gt, lI_cmp_ge, lI_cmp_le, lI_cmp_eq, mA_s, mA_o, mI_s, mI_o, mB_s, mB_o, mA_I, mA_B, mA_T, mA_F, mI_A, mI_B, mI_T, mI_F, mB_A, mB_I, mB_T, mB_F, mT_A, mT_I, mT_B, mT_F, mF_A, mF_I, mF_B, mF_T, ↓md_gA0, md_a0, md_s0, ↓md_gA1, md_a1, md_s1, ↓md_gA2, md_a2, md_s2, ↓md_gA3, md_a3, md_s3, ↓md_gA4, md_a4, md_s4, ↓md_g5, ↓md_p5, ↓md_g6, ↓md_p6, ↓md_g7, ↓md_p7, ↓md_g8, ↓md_p8, ↓md_gA9, md_a9, md_s9, ↓md_gA10, md_a10, md_s10, ↓md_gA11, md_a11, md_s11, ↓md_gA12, md_a12, md_s12, ↓md_gA13, md_a13, md_s13, ↓md_g14, ↓md_p14, ↓md_g15, ↓md_p15, ↓md_g16, ↓md_p16, ↓md_gA17, md_a17, md_s17, ↓md_gA18, md_a18, md_s18, ↓md_g19, ↓md_p19, ↓md_gA20, md_a20, md_s20, ↓md_g21, ↓md_p21, ↓md_gA22, md_a22, md_s22, ↓md_gA23, md_a23, md_s23, ↓md_gA24, md_a24, md_s24]
    rw [if_neg (by omega)]
    by_cases h : μ.1 0 (240 + m) ≤ 0
    · rw [if_pos h, if_pos h, Int.add_zero, Int.zero_add]
      exact ih (m + 1) acc g (by omega) (by omega) (by omega)
    · rw [if_neg h, if_neg h, ← Int.add_assoc]
      exact ih (m + 1) _ g (by omega) (by omega) (by omega)
theorem X3_cntR (hv : okD (μ.1 0)) : ∀ (n : Nat) (m acc : Int) (gas : Nat), m + n = 3600 → n < gas → 0 ≤ m → fnFix (fun _ _ _ => none) (gX3_count_b130 ρ b) gas (iI acc) (iI m) (St σ b μ) = some (iI (acc + sm (fun d => if μ.1 0 (360 + d) < 0 then 0 else 1) m n), St σ b μ) := by
  intro n
  induction n with
  | zero =>
    intro m acc gas h1 h2 h3
    obtain ⟨g, rfl⟩ := gas_s h2
    rw [fnFix_s, gX3_count_b130, sm, Int.add_zero]
    simp (disch := omega) only [decide_true, decide_false, reduceIte, and_self, and_true, true_and, and_false, false_and, or_true, true_or, or_false, false_or, not_true_eq_false, not_false_eq_true, reduceCtorEq, mA_ss, mI_ss, ↓St_rc, ↓fn_B, ↓fn_nn_none, ↓fn_nn_some, rZ_0, rZ_1, rZ_b, b2_z, b2_1, b2_or, b2_or0, b2_or1, iI_add, iI_sub, iI_mul, iI_neg, lI_add, lI_sub, lI_mul, iI_lt, iI_le, iI_eq, iI_to64, lI_cmp_lt, lI_cmp_gt, lI_cmp_ge, lI_cmp_le, lI_cmp_eq, mA_s, mA_o, mI_s, mI_o, mB_s, mB_o, mA_I, mA_B, mA_T, mA_F, mI_A, mI_B, mI_T, mI_F, mB_A, mB_I, mB_T, mB_F, mT_A, mT_I, mT_B, mT_F, mF_A, mF_I, mF_B, mF_T, ↓md_gA0, md_a0, md_s0, ↓md_gA1, md_a1, md_s1, ↓md_gA2, md_a2, md_s2, ↓md_gA3, md_a3, md_s3, ↓md_gA4, md_a4, md_s4, ↓md_g5, ↓md_p5, ↓md_g6, ↓md_p6, ↓md_g7, ↓md_p7, ↓md_g8, ↓md_p8, ↓md_gA9, md_a9, md_s9, ↓md_gA10, md_a10, md_s10, ↓md_gA11, md_a11, md_s11, ↓md_gA12, md_a12, md_s12, ↓md_gA13, md_a13, md_s13, ↓md_g14, ↓md_p14, ↓md_g15, ↓md_p15, ↓md_g16, ↓md_p16, ↓md_gA17, md_a17, md_s17, ↓md_gA18, md_a18, md_s18, ↓md_g19, ↓md_p19, ↓md_gA20, md_a20, md_s20, ↓md_g21, ↓md_p21, ↓md_gA22, md_a22, md_s22, ↓md_gA23, md_a23, md_s23, ↓md_gA24, md_a24, md_s24]
    rw [if_pos (by omega)]
  | succ n ih =>
    intro m acc gas h1 h2 h3
    obtain ⟨g, rfl⟩ := gas_s h2
    have k := hv.2.2.2.2.2.2.2.2.2 m (by omega) (by omega)
    rw [fnFix_s, gX3_count_b130, sm]
    simp (disch := omega) only [gX3_count_b156, decide_true, decide_false, reduceIte, and_self, and_true, true_and, and_false, false_and, or_true, true_or, or_false, false_or, not_true_eq_false, not_false_eq_true, reduceCtorEq, mA_ss, mI_ss, ↓St_rc, ↓fn_B, ↓fn_nn_none, ↓fn_nn_some, rZ_0, rZ_1, rZ_b, b2_z, b2_1, b2_or, b2_or0, b2_or1, iI_add, iI_sub, iI_mul, iI_neg, lI_add, lI_sub, lI_mul, iI_lt, iI_le, iI_eq, iI_to64, lI_cmp_lt, lI_cmp_gt, lI_cmp_ge, lI_cmp_le, lI_cmp_eq, mA_s, mA_o, mI_s, mI_o, mB_s, mB_o, mA_I, mA_B, mA_T, mA_F, mI_A, mI_B, mI_T, mI_F, mB_A, mB_I, mB_T, mB_F, mT_A, mT_I, mT_B, mT_F, mF_A, mF_I, mF_B, mF_T, ↓md_gA0, md_a0, md_s0, ↓md_gA1, md_a1, md_s1, ↓md_gA2, md_a2, md_s2, ↓md_gA3, md_a3, md_s3, ↓md_gA4, md_a4, md_s4, ↓md_g5, ↓md_p5, ↓md_g6, ↓md_p6, ↓md_g7, ↓md_p7, ↓md_g8, ↓md_p8, ↓md_gA9, md_a9, md_s9, ↓md_gA10, md_a10, md_s10, ↓md_gA11, md_a11, md_s11, ↓md_gA12, md_a12, md_s12, ↓md_gA13, md_a13, md_s13, ↓md_g14, ↓md_p14, ↓md_g15, ↓md_p15, ↓md_g16, ↓md_p16, ↓md_gA17, md_a17, md_s17, ↓md_gA18, md_a18, md_s18, ↓md_g19, ↓md_p19, ↓md_gA20, md_a20, md_s20, ↓md_g21, ↓md_p21, ↓md_gA22, md_a22, md_s22, ↓md_gA23, md_a23, md_s23, ↓md_gA24, md_a24, md_s24]
    rw [if_neg (by omega)]
    by_cases h : μ.1 0 (360 + m) < 0
    · rw [if_pos h, if_pos h, Int.add_zero, Int.zero_add]
      exact ih (m + 1) acc g (by omega) (by omega) (by omega)
    · rw [if_neg h, if_neg h, ← Int.add_assoc]
      exact ih (m + 1) _ g (by omega) (by omega) (by omega)
theorem X3_count (hv : okD (μ.1 0)) {w : Int} (r1 : r32 w) : gX3_count ρ b (iI w) (St σ b μ) = some (iI (qCount (μ.1 0) (μ.2.1 14) (μ.2.1 5) w), St σ b μ) := by
  have q1 := X3_cntI (ρ := ρ) (σ := σ) (b := b) hv 120 0 0 fnGas (by decide) (by decide) (by decide)
  have q2 := X3_cntR (ρ := ρ) (σ := σ) (b := b) hv 3600 0 0 fnGas (by decide) (by decide) (by decide)
  rw [Int.zero_add] at q1 q2
  unfold gX3_count qCount
  simp (disch := omega) only [decide_true, decide_false, reduceIte, and_self, and_true, true_and, and_false, false_and, or_true, true_or, or_false, false_or, not_true_eq_false, not_false_eq_true, reduceCtorEq, mA_ss, mI_ss, ↓St_rc, ↓fn_B, ↓fn_nn_none, ↓fn_nn_some, rZ_0, rZ_1, rZ_b, b2_z, b2_1, b2_or, b2_or0, b2_or1, iI_add, iI_sub, iI_mul, iI_neg, lI_add, lI_sub, lI_mul, iI_lt, iI_le, iI_eq, iI_to64, lI_cmp_lt, lI_cmp_gt, lI_cmp_ge, lI_cmp_le, lI_cmp_eq, mA_s, mA_o, mI_s, mI_o, mB_s, mB_o, mA_I, mA_B, mA_T, mA_F, mI_A, mI_B, mI_T, mI_F, mB_A, mB_I, mB_T, mB_F, mT_A, mT_I, mT_B, mT_F, mF_A, mF_I, mF_B, mF_T, ↓md_gA0, md_a0, md_s0, ↓md_gA1, md_a1, md_s1, ↓md_gA2, md_a2, md_s2, ↓md_gA3, md_a3, md_s3, ↓md_gA4, md_a4, md_s4, ↓md_g5, ↓md_p5, ↓md_g6, ↓md_p6, ↓md_g7, ↓md_p7, ↓md_g8, ↓md_p8, ↓md_gA9, md_a9, md_s9, ↓md_gA10, md_a10, md_s10, ↓md_gA11, md_a11, md_s11, ↓md_gA12, md_a12, md_s12, ↓md_gA13, md_a13, md_s13, ↓md_g14, ↓md_p14, ↓md_g15, ↓md_p15, ↓md_g16, ↓md_p16, ↓md_gA17, md_a17, md_s17, ↓md_gA18, md_a18, md_s18, ↓md_g19, ↓md_p19, ↓md_gA20, md_a20, md_s20, ↓md_g21, ↓md_p21, ↓md_gA22, md_a22, md_s22, ↓md_gA23, md_a23, md_s23, ↓md_gA24, md_a24, md_s24]
  by_cases h0 : w = 0
  · rw [if_pos h0, if_pos h0]
  rw [if_neg h0, if_neg h0]
  by_cases h1 : w = 1
  · rw [if_pos h1, if_pos h1]
  rw [if_neg h1, if_neg h1]
  by_cases h2 : w = 2
  · rw [if_pos h2, if_pos h2]
  rw [if_neg h2, if_neg h2]
  by_cases h3 : w = 3
  · rw [if_pos h3, if_pos h3]
  rw [if_neg h3, if_neg h3]
  by_cases h4 : w = 4
  · rw [if_pos h4, if_pos h4]
  rw [if_neg h4, if_neg h4]
  by_cases h5 : w = 5
  · rw [if_pos h5, if_pos h5]
  rw [if_neg h5, if_neg h5]
  by_cases h6 : w = 6
  · rw [if_pos h6, if_pos h6]
    exact q1
  rw [if_neg h6, if_neg h6]
  by_cases h7 : w = 7
  · rw [if_pos h7, if_pos h7]
    exact q2
  rw [if_neg h7, if_neg h7]
theorem X3_image (hv : okD (μ.1 0)) : gX3_image ρ b (St σ b μ) = some (iI (μ.1 0 0), St σ b (mB (mA μ 3 (cpI 3960 (μ.1 0) (μ.1 3))) 7 true)) := by
  unfold gX3_image
  rw [md_gA0, md_gA3, St_rc, X3_copies03, fn_B_some, show iI 1 = iI (b2 true) from rfl, md_p7]
  simp (disch := omega) only [decide_true, decide_false, reduceIte, and_self, and_true, true_and, and_false, false_and, or_true, true_or, or_false, false_or, not_true_eq_false, not_false_eq_true, reduceCtorEq, mA_ss, mI_ss, ↓St_rc, ↓fn_B, ↓fn_nn_none, ↓fn_nn_some, rZ_0, rZ_1, rZ_b, b2_z, b2_1, b2_or, b2_or0, b2_or1, iI_add, iI_sub, iI_mul, iI_neg, lI_add, lI_sub, lI_mul, iI_lt, iI_le, iI_eq, iI_to64, lI_cmp_lt, lI_cmp_gt, lI_cmp_ge, lI_cmp_le, lI_cmp_eq, mA_s, mA_o, mI_s, mI_o, mB_s, mB_o, mA_I, mA_B, mA_T, mA_F, mI_A, mI_B, mI_T, mI_F, mB_A, mB_I, mB_T, mB_F, mT_A, mT_I, mT_B, mT_F, mF_A, mF_I, mF_B, mF_T, ↓md_gA0, md_a0, md_s0, ↓md_gA1, md_a1, md_s1, ↓md_gA2, md_a2, md_s2, ↓md_gA3, md_a3, md_s3, ↓md_gA4, md_a4, md_s4, ↓md_g5, ↓md_p5, ↓md_g6, ↓md_p6, ↓md_g7, ↓md_p7, ↓md_g8, ↓md_p8, ↓md_gA9, md_a9, md_s9, ↓md_gA10, md_a10, md_s10, ↓md_gA11, md_a11, md_s11, ↓md_gA12, md_a12, md_s12, ↓md_gA13, md_a13, md_s13, ↓md_g14, ↓md_p14, ↓md_g15, ↓md_p15, ↓md_g16, ↓md_p16, ↓md_gA17, md_a17, md_s17, ↓md_gA18, md_a18, md_s18, ↓md_g19, ↓md_p19, ↓md_gA20, md_a20, md_s20, ↓md_g21, ↓md_p21, ↓md_gA22, md_a22, md_s22, ↓md_gA23, md_a23, md_s23, ↓md_gA24, md_a24, md_s24]
theorem X3_undo (hv : okD (μ.1 3)) : gX3_undo ρ b (St σ b μ) = if μ.2.2.1 7 = false then some (iI (-3), St σ b μ) else some (iI (μ.1 3 0), St σ b (mI (mA μ 0 (cpI 3960 (μ.1 3) (μ.1 0))) 5 0)) := by
  unfold gX3_undo
  simp (disch := omega) only [decide_true, decide_false, reduceIte, and_self, and_true, true_and, and_false, false_and, or_true, true_or, or_false, false_or, not_true_eq_false, not_false_eq_true, reduceCtorEq, mA_ss, mI_ss, ↓St_rc, ↓fn_B, ↓fn_nn_none, ↓fn_nn_some, rZ_0, rZ_1, rZ_b, b2_z, b2_1, b2_or, b2_or0, b2_or1, iI_add, iI_sub, iI_mul, iI_neg, lI_add, lI_sub, lI_mul, iI_lt, iI_le, iI_eq, iI_to64, lI_cmp_lt, lI_cmp_gt, lI_cmp_ge, lI_cmp_le, lI_cmp_eq, mA_s, mA_o, mI_s, mI_o, mB_s, mB_o, mA_I, mA_B, mA_T, mA_F, mI_A, mI_B, mI_T, mI_F, mB_A, mB_I, mB_T, mB_F, mT_A, mT_I, mT_B, mT_F, mF_A, mF_I, mF_B, mF_T, ↓md_gA0, md_a0, md_s0, ↓md_gA1, md_a1, md_s1, ↓md_gA2, md_a2, md_s2, ↓md_gA3, md_a3, md_s3, ↓md_gA4, md_a4, md_s4, ↓md_g5, ↓md_p5, ↓md_g6, ↓md_p6, ↓md_g7, ↓md_p7, ↓md_g8, ↓md_p8, ↓md_gA9, md_a9, md_s9, ↓md_gA10, md_a10, md_s10, ↓md_gA11, md_a11, md_s11, ↓md_gA12, md_a12, md_s12, ↓md_gA13, md_a13, md_s13, ↓md_g14, ↓md_p14, ↓md_g15, ↓md_p15, ↓md_g16, ↓md_p16, ↓md_gA17, md_a17, md_s17, ↓md_gA18, md_a18, md_s18, ↓md_g19, ↓md_p19, ↓md_gA20, md_a20, md_s20, ↓md_g21, ↓md_p21, ↓md_gA22, md_a22, md_s22, ↓md_gA23, md_a23, md_s23, ↓md_gA24, md_a24, md_s24]
  by_cases h : μ.2.2.1 7 = false
  · rw [if_pos h, if_pos h]
  · rw [if_neg h, if_neg h, X3_copies30]
    simp (disch := omega) only [decide_true, decide_false, reduceIte, and_self, and_true, true_and, and_false, false_and, or_true, true_or, or_false, false_or, not_true_eq_false, not_false_eq_true, reduceCtorEq, mA_ss, mI_ss, ↓St_rc, ↓fn_B, ↓fn_nn_none, ↓fn_nn_some, rZ_0, rZ_1, rZ_b, b2_z, b2_1, b2_or, b2_or0, b2_or1, iI_add, iI_sub, iI_mul, iI_neg, lI_add, lI_sub, lI_mul, iI_lt, iI_le, iI_eq, iI_to64, lI_cmp_lt, lI_cmp_gt, lI_cmp_ge, lI_cmp_le, lI_cmp_eq, mA_s, mA_o, mI_s, mI_o, mB_s, mB_o, mA_I, mA_B, mA_T, mA_F, mI_A, mI_B, mI_T, mI_F, mB_A, mB_I, mB_T, mB_F, mT_A, mT_I, mT_B, mT_F, mF_A, mF_I, mF_B, mF_T, ↓md_gA0, md_a0, md_s0, ↓md_gA1, md_a1, md_s1, ↓md_gA2, md_a2, md_s2, ↓md_gA3, md_a3, md_s3, ↓md_gA4, md_a4, md_s4, ↓md_g5, ↓md_p5, ↓md_g6, ↓md_p6, ↓md_g7, ↓md_p7, ↓md_g8, ↓md_p8, ↓md_gA9, md_a9, md_s9, ↓md_gA10, md_a10, md_s10, ↓md_gA11, md_a11, md_s11, ↓md_gA12, md_a12, md_s12, ↓md_gA13, md_a13, md_s13, ↓md_g14, ↓md_p14, ↓md_g15, ↓md_p15, ↓md_g16, ↓md_p16, ↓md_gA17, md_a17, md_s17, ↓md_gA18, md_a18, md_s18, ↓md_g19, ↓md_p19, ↓md_gA20, md_a20, md_s20, ↓md_g21, ↓md_p21, ↓md_gA22, md_a22, md_s22, ↓md_gA23, md_a23, md_s23, ↓md_gA24, md_a24, md_s24]
    rfl
theorem X3_back_l (u : Int) (hu : 0 ≤ u ∧ u ≤ 5) : ∀ (n : Nat) (k : Int) (gas : Nat), k + n = 3960 → n < gas → 0 ≤ k → fnFix (fun _ _ => none) (gX3_back_b22 ρ b) gas (iI k) (St σ b (mA (mI μ 5 u) 0 (cpI k (fun j => μ.1 4 (u * 3960 + j)) (μ.1 0)))) = some (iI u, St σ b (mA (mI μ 5 u) 0 (cpI 3960 (fun j => μ.1 4 (u * 3960 + j)) (μ.1 0)))) := by
  intro n
  induction n with
  | zero =>
    intro k gas h1 h2 h3
    obtain ⟨g, rfl⟩ := gas_s h2
    rw [fnFix_s, gX3_back_b22]
    simp (disch := omega) only [decide_true, decide_false, reduceIte, and_self, and_true, true_and, and_false, false_and, or_true, true_or, or_false, false_or, not_true_eq_false, not_false_eq_true, reduceCtorEq, mA_ss, mI_ss, ↓St_rc, ↓fn_B, ↓fn_nn_none, ↓fn_nn_some, rZ_0, rZ_1, rZ_b, b2_z, b2_1, b2_or, b2_or0, b2_or1, iI_add, iI_sub, iI_mul, iI_neg, lI_add, lI_sub, lI_mul, iI_lt, iI_le, iI_eq, iI_to64, lI_cmp_lt, lI_cmp_gt, lI_cmp_ge, lI_cmp_le, lI_cmp_eq, mA_s, mA_o, mI_s, mI_o, mB_s, mB_o, mA_I, mA_B, mA_T, mA_F, mI_A, mI_B, mI_T, mI_F, mB_A, mB_I, mB_T, mB_F, mT_A, mT_I, mT_B, mT_F, mF_A, mF_I, mF_B, mF_T, ↓md_gA0, md_a0, md_s0, ↓md_gA1, md_a1, md_s1, ↓md_gA2, md_a2, md_s2, ↓md_gA3, md_a3, md_s3, ↓md_gA4, md_a4, md_s4, ↓md_g5, ↓md_p5, ↓md_g6, ↓md_p6, ↓md_g7, ↓md_p7, ↓md_g8, ↓md_p8, ↓md_gA9, md_a9, md_s9, ↓md_gA10, md_a10, md_s10, ↓md_gA11, md_a11, md_s11, ↓md_gA12, md_a12, md_s12, ↓md_gA13, md_a13, md_s13, ↓md_g14, ↓md_p14, ↓md_g15, ↓md_p15, ↓md_g16, ↓md_p16, ↓md_gA17, md_a17, md_s17, ↓md_gA18, md_a18, md_s18, ↓md_g19, ↓md_p19, ↓md_gA20, md_a20, md_s20, ↓md_g21, ↓md_p21, ↓md_gA22, md_a22, md_s22, ↓md_gA23, md_a23, md_s23, ↓md_gA24, md_a24, md_s24]
    rw [if_pos (by omega), show k = 3960 by omega]
  | succ n ih =>
    intro k gas h1 h2 h3
    obtain ⟨g, rfl⟩ := gas_s h2
    have e := cpI_s k (fun j => μ.1 4 (u * 3960 + j)) (μ.1 0) h3
    rw [fnFix_s, gX3_back_b22]
    simp (disch := omega) only [decide_true, decide_false, reduceIte, and_self, and_true, true_and, and_false, false_and, or_true, true_or, or_false, false_or, not_true_eq_false, not_false_eq_true, reduceCtorEq, mA_ss, mI_ss, ↓St_rc, ↓fn_B, ↓fn_nn_none, ↓fn_nn_some, rZ_0, rZ_1, rZ_b, b2_z, b2_1, b2_or, b2_or0, b2_or1, iI_add, iI_sub, iI_mul, iI_neg, lI_add, lI_sub, lI_mul, iI_lt, iI_le, iI_eq, iI_to64, lI_cmp_lt, lI_cmp_gt, lI_cmp_ge, lI_cmp_le, lI_cmp_eq, mA_s, mA_o, mI_s, mI_o, mB_s, mB_o, mA_I, mA_B, mA_T, mA_F, mI_A, mI_B, mI_T, mI_F, mB_A, mB_I, mB_T, mB_F, mT_A, mT_I, mT_B, mT_F, mF_A, mF_I, mF_B, mF_T, ↓md_gA0, md_a0, md_s0, ↓md_gA1, md_a1, md_s1, ↓md_gA2, md_a2, md_s2, ↓md_gA3, md_a3, md_s3, ↓md_gA4, md_a4, md_s4, ↓md_g5, ↓md_p5, ↓md_g6, ↓md_p6, ↓md_g7, ↓md_p7, ↓md_g8, ↓md_p8, ↓md_gA9, md_a9, md_s9, ↓md_gA10, md_a10, md_s10, ↓md_gA11, md_a11, md_s11, ↓md_gA12, md_a12, md_s12, ↓md_gA13, md_a13, md_s13, ↓md_g14, ↓md_p14, ↓md_g15, ↓md_p15, ↓md_g16, ↓md_p16, ↓md_gA17, md_a17, md_s17, ↓md_gA18, md_a18, md_s18, ↓md_g19, ↓md_p19, ↓md_gA20, md_a20, md_s20, ↓md_g21, ↓md_p21, ↓md_gA22, md_a22, md_s22, ↓md_gA23, md_a23, md_s23, ↓md_gA24, md_a24, md_s24]
    rw [if_neg (by omega), e]
    exact ih (k + 1) g (by omega) (by omega) (by omega)
theorem X3_back (hu : 0 ≤ μ.2.1 5 ∧ μ.2.1 5 ≤ 6) : gX3_back ρ b (St σ b μ) = if μ.2.1 5 = 0 then some (iI (-3), St σ b μ) else some (iI (μ.2.1 5 - 1), St σ b (mA (mI μ 5 (μ.2.1 5 - 1)) 0 (cpI 3960 (fun j => μ.1 4 ((μ.2.1 5 - 1) * 3960 + j)) (μ.1 0)))) := by
  unfold gX3_back
  simp (disch := omega) only [decide_true, decide_false, reduceIte, and_self, and_true, true_and, and_false, false_and, or_true, true_or, or_false, false_or, not_true_eq_false, not_false_eq_true, reduceCtorEq, mA_ss, mI_ss, ↓St_rc, ↓fn_B, ↓fn_nn_none, ↓fn_nn_some, rZ_0, rZ_1, rZ_b, b2_z, b2_1, b2_or, b2_or0, b2_or1, iI_add, iI_sub, iI_mul, iI_neg, lI_add, lI_sub, lI_mul, iI_lt, iI_le, iI_eq, iI_to64, lI_cmp_lt, lI_cmp_gt, lI_cmp_ge, lI_cmp_le, lI_cmp_eq, mA_s, mA_o, mI_s, mI_o, mB_s, mB_o, mA_I, mA_B, mA_T, mA_F, mI_A, mI_B, mI_T, mI_F, mB_A, mB_I, mB_T, mB_F, mT_A, mT_I, mT_B, mT_F, mF_A, mF_I, mF_B, mF_T, ↓md_gA0, md_a0, md_s0, ↓md_gA1, md_a1, md_s1, ↓md_gA2, md_a2, md_s2, ↓md_gA3, md_a3, md_s3, ↓md_gA4, md_a4, md_s4, ↓md_g5, ↓md_p5, ↓md_g6, ↓md_p6, ↓md_g7, ↓md_p7, ↓md_g8, ↓md_p8, ↓md_gA9, md_a9, md_s9, ↓md_gA10, md_a10, md_s10, ↓md_gA11, md_a11, md_s11, ↓md_gA12, md_a12, md_s12, ↓md_gA13, md_a13, md_s13, ↓md_g14, ↓md_p14, ↓md_g15, ↓md_p15, ↓md_g16, ↓md_p16, ↓md_gA17, md_a17, md_s17, ↓md_gA18, md_a18, md_s18, ↓md_g19, ↓md_p19, ↓md_gA20, md_a20, md_s20, ↓md_g21, ↓md_p21, ↓md_gA22, md_a22, md_s22, ↓md_gA23, md_a23, md_s23, ↓md_gA24, md_a24, md_s24]
  by_cases h : μ.2.1 5 = 0
  · rw [if_pos h, if_pos h]
  · rw [if_neg h, if_neg h]
    have q := X3_back_l (ρ := ρ) (σ := σ) (b := b) (μ := μ) (μ.2.1 5 - 1) (by omega) 3960 0 fnGas (by decide) (by decide) (by decide)
    rw [cpI_0] at q
    have e : mA (mI μ 5 (μ.2.1 5 - 1)) 0 (μ.1 0) = mI μ 5 (μ.2.1 5 - 1) := mA_self (μ := mI μ 5 (μ.2.1 5 - 1)) (j := 0)
    rw [e] at q
    exact q
theorem X3_left (hv : okD (μ.1 0)) {l fr to : Int} (r1 : r32 l) (r2 : r32 fr) (r3 : r32 to) : ∃ μ1, gX3_left ρ b (iI l) (iI fr) (iI to) (St σ b μ) = some (qLeft (μ.1 0) l fr to, St σ b μ1) ∧ mEq μ μ1 := by
  have h0 := hv.1
  unfold gX3_left qLeft
  by_cases h1 : 0 ≤ l ∧ l < μ.1 0 0
  · rw [St_rc, fn_Bt (s := St σ b μ) (by rw [X3_isLease r1 (by omega), decide_eq_true h1]), if_neg (by simpa using h1)]
    by_cases h2 : 0 ≤ fr ∧ fr ≤ 3599
    · rw [fn_Bt (s := St σ b μ) (by rw [X3_isDay r2, decide_eq_true h2]), if_neg (by simpa using h2)]
      by_cases h3 : 0 ≤ to ∧ to ≤ 3599
      · rw [fn_Bt (s := St σ b μ) (by rw [X3_isDay r3, decide_eq_true h3]), if_neg (c := ¬ (0 ≤ to ∧ to ≤ 3599)) (by simpa using h3)]
        by_cases h4 : fr ≤ to
        · have k1 := sUnits_r hv h1 (fr := fr) (to := to) (by omega) (by omega) true
          rw [if_pos ((iI_le r2 r3).mpr h4), if_neg (c := ¬ fr ≤ to) (by simpa using h4), St_rc, show iI 1 = iI (b2 true) from rfl, X3_units hv h1 ⟨r2, by omega⟩ ⟨r3, by omega⟩, fn_B_some]
          by_cases h5 : sUnits (μ.1 0) l fr to true = 0
          · rw [if_pos ((lI_cmp_eq ⟨by omega, by omega⟩ (by decide)).mpr h5), if_pos h5]
            exact ⟨_, rfl, mEq.u μ l⟩
          · rw [if_neg (fun q => h5 ((lI_cmp_eq ⟨by omega, by omega⟩ (by decide)).mp q)), if_neg h5, St_rc, show iI 0 = iI (b2 false) from rfl, X3_units (μ := uMem μ l) (by exact hv) (by exact h1) ⟨r2, by omega⟩ ⟨r3, by omega⟩, fn_B_some, if_pos (n32_l h5 ⟨⟨by omega, by omega⟩, by omega⟩), J26_bits, fn_B_some]
            exact ⟨_, rfl, (mEq.u μ l).tr (mEq.u _ l)⟩
        · rw [if_neg (fun q => h4 ((iI_le r2 r3).mp q)), if_pos h4]
          exact ⟨μ, rfl, mEq.rf μ⟩
      · rw [fn_Bf (s := St σ b μ) (by rw [X3_isDay r3, decide_eq_false h3]), if_pos h3]
        exact ⟨μ, rfl, mEq.rf μ⟩
    · rw [fn_Bf (s := St σ b μ) (by rw [X3_isDay r2, decide_eq_false h2]), if_pos h2]
      exact ⟨μ, rfl, mEq.rf μ⟩
  · rw [St_rc, fn_Bf (s := St σ b μ) (by rw [X3_isLease r1 (by omega), decide_eq_false h1]), if_pos h1]
    exact ⟨μ, rfl, mEq.rf μ⟩
end More
