/-! rows of the model -/
def blk {α : Type} (st k : Int) (f g : Int → α) : Int → α := fun j => if st ≤ j ∧ j < st + k then f (j - st) else g j
theorem blk_0 {α : Type} (st : Int) (f g : Int → α) : blk st 0 f g = g := by
  funext j
  unfold blk
  rw [if_neg (by omega)]
theorem blk_s {α : Type} {st k : Int} {f g : Int → α} (h : 0 ≤ k) : (fun j => if j = st + k then f k else blk st k f g j) = blk st (k + 1) f g := by
  funext j
  unfold blk
  by_cases h1 : j = st + k
  · rw [if_pos h1, if_pos (by omega), h1]
    congr 1
    omega
  · rw [if_neg h1]
    by_cases h2 : st ≤ j ∧ j < st + k
    · rw [if_pos h2, if_pos (by omega)]
    · rw [if_neg h2, if_neg (by omega)]
theorem blk_u {st k : Int} {f g : Int → Int} (h : 0 ≤ k) : uI (blk st k f g) (st + k) (f k) = blk st (k + 1) f g := blk_s h
def setF (μ : MM) (f : Int → UInt32) : MM := (μ.1, μ.2.1, μ.2.2.1, μ.2.2.2.1, f)
theorem setF_self {μ : MM} : setF μ μ.2.2.2.2 = μ := rfl
theorem mF_set {μ : MM} {f : Int → UInt32} {i : Int} {x : UInt32} : mF (setF μ f) i x = setF μ (fun j => if j = i then x else f j) := rfl
/-- the rents in a row -/
def sRow (v : Int → Int) (l k : Int) : Int := if 120 ≤ bgn v l + k then 0 else rentAt v l (bgn v l + k)
def sRowF (v : Int → Int) (l k : Int) : UInt32 := FP.fdiv (FP.i2f (iI (sRow v l k))) 1120403456
def sMany (v : Int → Int) (l k : Int) : Int := if 120 ≤ bgn v l + k then 120 - bgn v l else k
def sBits (x : UInt32) : Int32 := if (Op.cmpValue (FP.fcmp x x) .l) = iI 0 then x.toInt32 else iI 2143289344
theorem J26_bits {ρ : Nat → Nat} {x : UInt32} {s : mS} : gJ26_floatToIntBits ρ x s = some (sBits x, s) := by
  unfold gJ26_floatToIntBits gJ26_isNaN sBits
  by_cases h : (Op.cmpValue (FP.fcmp x x) .l) = iI 0
  · rw [if_pos h, if_pos h]
    rfl
  · rw [if_neg h, if_neg h]
    rfl
section Rows
variable {ρ : Nat → Nat} {σ : mS} {b : Nat} {μ : MM}
theorem X3_isRow {x : Int} {s : mS} (h1 : r32 x) : gX3_isRow ρ (iI x) s = some (iI (b2 (decide (0 ≤ x ∧ x ≤ 2))), s) := by
  unfold gX3_isRow
  rw [X3_isIn h1 (by decide) (by decide)]
  simp (disch := omega) only [decide_true, decide_false, reduceIte, and_self, and_true, true_and, and_false, false_and, or_true, true_or, or_false, false_or, not_true_eq_false, not_false_eq_true, reduceCtorEq, mA_ss, mI_ss, ↓St_rc, ↓fn_B, ↓fn_nn_none, ↓fn_nn_some, rZ_0, rZ_1, rZ_b, b2_z, b2_1, b2_or, b2_or0, b2_or1, iI_add, iI_sub, iI_mul, iI_neg, lI_add, lI_sub, lI_mul, iI_lt, iI_le, iI_eq, iI_to64, lI_cmp_lt, lI_cmp_gt, lI_cmp_ge, lI_cmp_le, lI_cmp_eq, mA_s, mA_o, mI_s, mI_o, mB_s, mB_o, mA_I, mA_B, mA_T, mA_F, mI_A, mI_B, mI_T, mI_F, mB_A, mB_I, mB_T, mB_F, mT_A, mT_I, mT_B, mT_F, mF_A, mF_I, mF_B, mF_T, ↓md_gA0, md_a0, md_s0, ↓md_gA1, md_a1, md_s1, ↓md_gA2, md_a2, md_s2, ↓md_gA3, md_a3, md_s3, ↓md_gA4, md_a4, md_s4, ↓md_g5, ↓md_p5, ↓md_g6, ↓md_p6, ↓md_g7, ↓md_p7, ↓md_g8, ↓md_p8, ↓md_gA9, md_a9, md_s9, ↓md_gA10, md_a10, md_s10, ↓md_gA11, md_a11, md_s11, ↓md_gA12, md_a12, md_s12, ↓md_gA13, md_a13, md_s13, ↓md_g14, ↓md_p14, ↓md_g15, ↓md_p15, ↓md_g16, ↓md_p16, ↓md_gA17, md_a17, md_s17, ↓md_gA18, md_a18, md_s18, ↓md_g19, ↓md_p19, ↓md_gA20, md_a20, md_s20, ↓md_g21, ↓md_p21, ↓md_gA22, md_a22, md_s22, ↓md_gA23, md_a23, md_s23, ↓md_gA24, md_a24, md_s24]
def layM (μ : MM) (l row k : Int) : MM := setF (mA μ 22 (blk (12 * row) k (sRow (μ.1 0) l) (μ.1 22))) (blk (12 * row) k (sRowF (μ.1 0) l) μ.2.2.2.2)
theorem X3_lay_l (hv : okD (μ.1 0)) {l row : Int} (hl : 0 ≤ l ∧ l < μ.1 0 0) (hrow : 0 ≤ row ∧ row ≤ 2) (hr : ∀ m : Int, (bgn (μ.1 0) l : Int) ≤ m → m < 120 → μ.1 17 m = rentAt (μ.1 0) l m) : ∀ (n : Nat) (k : Int) (gas : Nat), k + n = 12 → n < gas → 0 ≤ k →
    fnFix (fun _ _ _ _ _ => none) (gX3_lay_b55 ρ b) gas (iI row) (iI (bgn (μ.1 0) l : Int)) (iI (sMany (μ.1 0) l k)) (iI k) (St σ b (layM μ l row k)) = some (iI (sMany (μ.1 0) l 12), St σ b (layM μ l row 12)) := by
  have hb := bgn_r hv hl
  intro n
  induction n with
  | zero =>
    intro k gas h1 h2 h3
    obtain ⟨g, rfl⟩ := gas_s h2
    rw [fnFix_s, gX3_lay_b55, show k = 12 by omega]
    simp (disch := omega) only [decide_true, decide_false, reduceIte, and_self, and_true, true_and, and_false, false_and, or_true, true_or, or_false, false_or, not_true_eq_false, not_false_eq_true, reduceCtorEq, mA_ss, mI_ss, ↓St_rc, ↓fn_B, ↓fn_nn_none, ↓fn_nn_some, rZ_0, rZ_1, rZ_b, b2_z, b2_1, b2_or, b2_or0, b2_or1, iI_add, iI_sub, iI_mul, iI_neg, lI_add, lI_sub, lI_mul, iI_lt, iI_le, iI_eq, iI_to64, lI_cmp_lt, lI_cmp_gt, lI_cmp_ge, lI_cmp_le, lI_cmp_eq, mA_s, mA_o, mI_s, mI_o, mB_s, mB_o, mA_I, mA_B, mA_T, mA_F, mI_A, mI_B, mI_T, mI_F, mB_A, mB_I, mB_T, mB_F, mT_A, mT_I, mT_B, mT_F, mF_A, mF_I, mF_B, mF_T, ↓md_gA0, md_a0, md_s0, ↓md_gA1, md_a1, md_s1, ↓md_gA2, md_a2, md_s2, ↓md_gA3, md_a3, md_s3, ↓md_gA4, md_a4, md_s4, ↓md_g5, ↓md_p5, ↓md_g6, ↓md_p6, ↓md_g7, ↓md_p7, ↓md_g8, ↓md_p8, ↓md_gA9, md_a9, md_s9, ↓md_gA10, md_a10, md_s10, ↓md_gA11, md_a11, md_s11, ↓md_gA12, md_a12, md_s12, ↓md_gA13, md_a13, md_s13, ↓md_g14, ↓md_p14, ↓md_g15, ↓md_p15, ↓md_g16, ↓md_p16, ↓md_gA17, md_a17, md_s17, ↓md_gA18, md_a18, md_s18, ↓md_g19, ↓md_p19, ↓md_gA20, md_a20, md_s20, ↓md_g21, ↓md_p21, ↓md_gA22, md_a22, md_s22, ↓md_gA23, md_a23, md_s23, ↓md_gA24, md_a24, md_s24]
    rw [if_pos (by decide)]
  | succ n ih =>
    intro k gas h1 h2 h3
    obtain ⟨g, rfl⟩ := gas_s h2
    have ih := ih (k + 1) g (by omega) (by omega) (by omega)
    have q100 : ∀ x, (fn_n32 (FP.fdiv (FP.i2f x) (1120403456 : UInt32)) = true) = True := fun x => eq_true (n32_100 x)
    have step : ∀ (x y : Int), x = sRow (μ.1 0) l k → gX3_lay_b105 ρ b (fnFix (fun _ _ _ _ _ => none) (gX3_lay_b55 ρ b) g) (iI row) (iI (bgn (μ.1 0) l : Int)) (iI k) (iI x) (iI (sMany (μ.1 0) l k)) (iI y) (St σ b (layM μ l row k)) = fnFix (fun _ _ _ _ _ => none) (gX3_lay_b55 ρ b) g (iI row) (iI (bgn (μ.1 0) l : Int)) (iI (sMany (μ.1 0) l k + y)) (iI (k + 1)) (St σ b (layM μ l row (k + 1))) := by
      intro x y hx
      subst hx
      have e1 : (layM μ l row k).1 22 = blk (12 * row) k (sRow (μ.1 0) l) (μ.1 22) := rfl
      unfold gX3_lay_b105
      simp (disch := omega) only [q100, e1, decide_true, decide_false, reduceIte, and_self, and_true, true_and, and_false, false_and, or_true, true_or, or_false, false_or, not_true_eq_false, not_false_eq_true, reduceCtorEq, mA_ss, mI_ss, ↓St_rc, ↓fn_B, ↓fn_nn_none, ↓fn_nn_some, rZ_0, rZ_1, rZ_b, b2_z, b2_1, b2_or, b2_or0, b2_or1, iI_add, iI_sub, iI_mul, iI_neg, lI_add, lI_sub, lI_mul, iI_lt, iI_le, iI_eq, iI_to64, lI_cmp_lt, lI_cmp_gt, lI_cmp_ge, lI_cmp_le, lI_cmp_eq, mA_s, mA_o, mI_s, mI_o, mB_s, mB_o, mA_I, mA_B, mA_T, mA_F, mI_A, mI_B, mI_T, mI_F, mB_A, mB_I, mB_T, mB_F, mT_A, mT_I, mT_B, mT_F, mF_A, mF_I, mF_B, mF_T, ↓md_gA0, md_a0, md_s0, ↓md_gA1, md_a1, md_s1, ↓md_gA2, md_a2, md_s2, ↓md_gA3, md_a3, md_s3, ↓md_gA4, md_a4, md_s4, ↓md_g5, ↓md_p5, ↓md_g6, ↓md_p6, ↓md_g7, ↓md_p7, ↓md_g8, ↓md_p8, ↓md_gA9, md_a9, md_s9, ↓md_gA10, md_a10, md_s10, ↓md_gA11, md_a11, md_s11, ↓md_gA12, md_a12, md_s12, ↓md_gA13, md_a13, md_s13, ↓md_g14, ↓md_p14, ↓md_g15, ↓md_p15, ↓md_g16, ↓md_p16, ↓md_gA17, md_a17, md_s17, ↓md_gA18, md_a18, md_s18, ↓md_g19, ↓md_p19, ↓md_gA20, md_a20, md_s20, ↓md_g21, ↓md_p21, ↓md_gA22, md_a22, md_s22, ↓md_gA23, md_a23, md_s23, ↓md_gA24, md_a24, md_s24]
      rw [blk_u h3]
      congr 1
      unfold layM
      have e2 : mF (mA (setF (mA μ 22 (blk (12 * row) k (sRow (μ.1 0) l) (μ.1 22))) (blk (12 * row) k (sRowF (μ.1 0) l) μ.2.2.2.2)) 22 (blk (12 * row) (k + 1) (sRow (μ.1 0) l) (μ.1 22))) (12 * row + k) (FP.fdiv (FP.i2f (iI (sRow (μ.1 0) l k))) 1120403456) = setF (mA (mA μ 22 (blk (12 * row) k (sRow (μ.1 0) l) (μ.1 22))) 22 (blk (12 * row) (k + 1) (sRow (μ.1 0) l) (μ.1 22))) (fun j => if j = 12 * row + k then sRowF (μ.1 0) l k else blk (12 * row) k (sRowF (μ.1 0) l) μ.2.2.2.2 j) := rfl
      rw [e2, blk_s h3, mA_ss]
    have e9 : (layM μ l row k).1 17 = μ.1 17 := rfl
    rw [fnFix_s, gX3_lay_b55]
    simp (disch := omega) only [e9, decide_true, decide_false, reduceIte, and_self, and_true, true_and, and_false, false_and, or_true, true_or, or_false, false_or, not_true_eq_false, not_false_eq_true, reduceCtorEq, mA_ss, mI_ss, ↓St_rc, ↓fn_B, ↓fn_nn_none, ↓fn_nn_some, rZ_0, rZ_1, rZ_b, b2_z, b2_1, b2_or, b2_or0, b2_or1, iI_add, iI_sub, iI_mul, iI_neg, lI_add, lI_sub, lI_mul, iI_lt, iI_le, iI_eq, iI_to64, lI_cmp_lt, lI_cmp_gt, lI_cmp_ge, lI_cmp_le, lI_cmp_eq, mA_s, mA_o, mI_s, mI_o, mB_s, mB_o, mA_I, mA_B, mA_T, mA_F, mI_A, mI_B, mI_T, mI_F, mB_A, mB_I, mB_T, mB_F, mT_A, mT_I, mT_B, mT_F, mF_A, mF_I, mF_B, mF_T, ↓md_gA0, md_a0, md_s0, ↓md_gA1, md_a1, md_s1, ↓md_gA2, md_a2, md_s2, ↓md_gA3, md_a3, md_s3, ↓md_gA4, md_a4, md_s4, ↓md_g5, ↓md_p5, ↓md_g6, ↓md_p6, ↓md_g7, ↓md_p7, ↓md_g8, ↓md_p8, ↓md_gA9, md_a9, md_s9, ↓md_gA10, md_a10, md_s10, ↓md_gA11, md_a11, md_s11, ↓md_gA12, md_a12, md_s12, ↓md_gA13, md_a13, md_s13, ↓md_g14, ↓md_p14, ↓md_g15, ↓md_p15, ↓md_g16, ↓md_p16, ↓md_gA17, md_a17, md_s17, ↓md_gA18, md_a18, md_s18, ↓md_g19, ↓md_p19, ↓md_gA20, md_a20, md_s20, ↓md_g21, ↓md_p21, ↓md_gA22, md_a22, md_s22, ↓md_gA23, md_a23, md_s23, ↓md_gA24, md_a24, md_s24]
    rw [if_neg (by omega)]
    by_cases h5 : 120 ≤ (bgn (μ.1 0) l : Int) + k
    · rw [if_pos h5, gX3_lay_b86]
      simp (disch := omega) only [decide_true, decide_false, reduceIte, and_self, and_true, true_and, and_false, false_and, or_true, true_or, or_false, false_or, not_true_eq_false, not_false_eq_true, reduceCtorEq, mA_ss, mI_ss, ↓St_rc, ↓fn_B, ↓fn_nn_none, ↓fn_nn_some, rZ_0, rZ_1, rZ_b, b2_z, b2_1, b2_or, b2_or0, b2_or1, iI_add, iI_sub, iI_mul, iI_neg, lI_add, lI_sub, lI_mul, iI_lt, iI_le, iI_eq, iI_to64, lI_cmp_lt, lI_cmp_gt, lI_cmp_ge, lI_cmp_le, lI_cmp_eq, mA_s, mA_o, mI_s, mI_o, mB_s, mB_o, mA_I, mA_B, mA_T, mA_F, mI_A, mI_B, mI_T, mI_F, mB_A, mB_I, mB_T, mB_F, mT_A, mT_I, mT_B, mT_F, mF_A, mF_I, mF_B, mF_T, ↓md_gA0, md_a0, md_s0, ↓md_gA1, md_a1, md_s1, ↓md_gA2, md_a2, md_s2, ↓md_gA3, md_a3, md_s3, ↓md_gA4, md_a4, md_s4, ↓md_g5, ↓md_p5, ↓md_g6, ↓md_p6, ↓md_g7, ↓md_p7, ↓md_g8, ↓md_p8, ↓md_gA9, md_a9, md_s9, ↓md_gA10, md_a10, md_s10, ↓md_gA11, md_a11, md_s11, ↓md_gA12, md_a12, md_s12, ↓md_gA13, md_a13, md_s13, ↓md_g14, ↓md_p14, ↓md_g15, ↓md_p15, ↓md_g16, ↓md_p16, ↓md_gA17, md_a17, md_s17, ↓md_gA18, md_a18, md_s18, ↓md_g19, ↓md_p19, ↓md_gA20, md_a20, md_s20, ↓md_g21, ↓md_p21, ↓md_gA22, md_a22, md_s22, ↓md_gA23, md_a23, md_s23, ↓md_gA24, md_a24, md_s24]
      rw [if_pos h5, step 0 0 (by unfold sRow; rw [if_pos h5]), ← ih]
      have e : sMany (μ.1 0) l k + 0 = sMany (μ.1 0) l (k + 1) := by unfold sMany; rw [if_pos h5, if_pos (by omega)]; omega
      rw [e]
    · rw [if_neg h5]
      rw [gX3_lay_b86]
      simp (disch := omega) only [decide_true, decide_false, reduceIte, and_self, and_true, true_and, and_false, false_and, or_true, true_or, or_false, false_or, not_true_eq_false, not_false_eq_true, reduceCtorEq, mA_ss, mI_ss, ↓St_rc, ↓fn_B, ↓fn_nn_none, ↓fn_nn_some, rZ_0, rZ_1, rZ_b, b2_z, b2_1, b2_or, b2_or0, b2_or1, iI_add, iI_sub, iI_mul, iI_neg, lI_add, lI_sub, lI_mul, iI_lt, iI_le, iI_eq, iI_to64, lI_cmp_lt, lI_cmp_gt, lI_cmp_ge, lI_cmp_le, lI_cmp_eq, mA_s, mA_o, mI_s, mI_o, mB_s, mB_o, mA_I, mA_B, mA_T, mA_F, mI_A, mI_B, mI_T, mI_F, mB_A, mB_I, mB_T, mB_F, mT_A, mT_I, mT_B, mT_F, mF_A, mF_I, mF_B, mF_T, ↓md_gA0, md_a0, md_s0, ↓md_gA1, md_a1, md_s1, ↓md_gA2, md_a2, md_s2, ↓md_gA3, md_a3, md_s3, ↓md_gA4, md_a4, md_s4, ↓md_g5, ↓md_p5, ↓md_g6, ↓md_p6, ↓md_g7, ↓md_p7, ↓md_g8, ↓md_p8, ↓md_gA9, md_a9, md_s9, ↓md_gA10, md_a10, md_s10, ↓md_gA11, md_a11, md_s11, ↓md_gA12, md_a12, md_s12, ↓md_gA13, md_a13, md_s13, ↓md_g14, ↓md_p14, ↓md_g15, ↓md_p15, ↓md_g16, ↓md_p16, ↓md_gA17, md_a17, md_s17, ↓md_gA18, md_a18, md_s18, ↓md_g19, ↓md_p19, ↓md_gA20, md_a20, md_s20, ↓md_g21, ↓md_p21, ↓md_gA22, md_a22, md_s22, ↓md_gA23, md_a23, md_s23, ↓md_gA24, md_a24, md_s24]
      rw [if_neg h5, step (μ.1 17 (bgn (μ.1 0) l + k)) 1 (by unfold sRow; rw [if_neg h5, hr _ (by omega) (by omega)]), ← ih]
      have e : sMany (μ.1 0) l k + 1 = sMany (μ.1 0) l (k + 1) := by
        unfold sMany
        rw [if_neg h5]
        split <;> omega
      rw [e]
/-- the rows behind a question or change: as they were, but for scratch -/
def mEqR (μ μ1 : MM) : Prop := μ1.1 0 = μ.1 0 ∧ μ1.1 3 = μ.1 3 ∧ μ1.1 4 = μ.1 4 ∧ μ1.1 9 = μ.1 9 ∧ μ1.2.1 5 = μ.2.1 5 ∧ μ1.2.1 6 = μ.2.1 6 ∧ μ1.2.1 14 = μ.2.1 14 ∧ μ1.2.2.1 7 = μ.2.2.1 7
theorem X3_lay_t (hv : okD (μ.1 0)) {row l kind : Int} (h1 : 0 ≤ row ∧ row ≤ 2) (h2 : 0 ≤ l ∧ l < μ.1 0 0) (h3 : 0 ≤ kind ∧ kind ≤ 1) : ∃ μ1, gX3_lay ρ b (iI row) (iI l) (iI kind) (St σ b μ) = some (iI (sMany (μ.1 0) l 12), St σ b μ1) ∧ mEqR μ μ1 ∧ μ1.1 23 = uI (μ.1 23) row kind ∧ μ1.1 22 = blk (12 * row) 12 (sRow (μ.1 0) l) (μ.1 22) ∧ μ1.2.2.2.2 = blk (12 * row) 12 (sRowF (μ.1 0) l) μ.2.2.2.2 := by
  have h0 := hv.1
  have hb := bgn_r hv h2
  obtain ⟨-, j1, -⟩ := hv.2.2.2.2.1 l h2.1 h2.2
  refine ⟨layM (mA (mA μ 17 (rA (μ.1 0) l 120 (μ.1 17))) 23 (uI (μ.1 23) row kind)) l row 12, ?_, ⟨rfl, rfl, rfl, rfl, rfl, rfl, rfl, rfl⟩, rfl, rfl, rfl⟩
  unfold gX3_lay
  rw [fn_Bt (s := St σ b μ) (by rw [X3_isRow ⟨by omega, by omega⟩, decide_eq_true h1]), St_rc, fn_Bt (s := St σ b μ) (by rw [X3_isLease ⟨by omega, by omega⟩ (by omega), decide_eq_true h2]), fn_Bt (s := St σ b μ) (by rw [X3_isIn ⟨by omega, by omega⟩ (by decide) (by decide), decide_eq_true h3]), St_rc, X3_laysRents hv h2, fn_B_some, St_rc]
  simp (disch := omega) only [X3_told, decide_true, decide_false, reduceIte, and_self, and_true, true_and, and_false, false_and, or_true, true_or, or_false, false_or, not_true_eq_false, not_false_eq_true, reduceCtorEq, mA_ss, mI_ss, ↓St_rc, ↓fn_B, ↓fn_nn_none, ↓fn_nn_some, rZ_0, rZ_1, rZ_b, b2_z, b2_1, b2_or, b2_or0, b2_or1, iI_add, iI_sub, iI_mul, iI_neg, lI_add, lI_sub, lI_mul, iI_lt, iI_le, iI_eq, iI_to64, lI_cmp_lt, lI_cmp_gt, lI_cmp_ge, lI_cmp_le, lI_cmp_eq, mA_s, mA_o, mI_s, mI_o, mB_s, mB_o, mA_I, mA_B, mA_T, mA_F, mI_A, mI_B, mI_T, mI_F, mB_A, mB_I, mB_T, mB_F, mT_A, mT_I, mT_B, mT_F, mF_A, mF_I, mF_B, mF_T, ↓md_gA0, md_a0, md_s0, ↓md_gA1, md_a1, md_s1, ↓md_gA2, md_a2, md_s2, ↓md_gA3, md_a3, md_s3, ↓md_gA4, md_a4, md_s4, ↓md_g5, ↓md_p5, ↓md_g6, ↓md_p6, ↓md_g7, ↓md_p7, ↓md_g8, ↓md_p8, ↓md_gA9, md_a9, md_s9, ↓md_gA10, md_a10, md_s10, ↓md_gA11, md_a11, md_s11, ↓md_gA12, md_a12, md_s12, ↓md_gA13, md_a13, md_s13, ↓md_g14, ↓md_p14, ↓md_g15, ↓md_p15, ↓md_g16, ↓md_p16, ↓md_gA17, md_a17, md_s17, ↓md_gA18, md_a18, md_s18, ↓md_g19, ↓md_p19, ↓md_gA20, md_a20, md_s20, ↓md_g21, ↓md_p21, ↓md_gA22, md_a22, md_s22, ↓md_gA23, md_a23, md_s23, ↓md_gA24, md_a24, md_s24]
  rw [if_neg (by decide), iI_div30 (by omega), ← hb.1]
  have q := X3_lay_l (ρ := ρ) (σ := σ) (b := b) (μ := mA (mA μ 17 (rA (μ.1 0) l 120 (μ.1 17))) 23 (uI (μ.1 23) row kind)) hv (l := l) (row := row) h2 h1 (fun m m1 m2 => if_pos ⟨m1, m2⟩) 12 0 fnGas (by decide) (by decide) (by decide)
  have e1 : sMany (μ.1 0) l 0 = 0 := by unfold sMany; rw [if_neg (by omega)]
  have e2 : layM (mA (mA μ 17 (rA (μ.1 0) l 120 (μ.1 17))) 23 (uI (μ.1 23) row kind)) l row 0 = mA (mA μ 17 (rA (μ.1 0) l 120 (μ.1 17))) 23 (uI (μ.1 23) row kind) := by
    unfold layM
    rw [blk_0, blk_0, mA_self]
    rfl
  rw [e2] at q
  have q : fnFix (fun _ _ _ _ _ => none) (gX3_lay_b55 ρ b) fnGas (iI row) (iI (bgn (μ.1 0) l : Int)) (iI (sMany (μ.1 0) l 0)) (iI 0) (St σ b (mA (mA μ 17 (rA (μ.1 0) l 120 (μ.1 17))) 23 (uI (μ.1 23) row kind))) = some (iI (sMany (μ.1 0) l 12), _) := q
  rw [e1] at q
  exact q
end Rows
