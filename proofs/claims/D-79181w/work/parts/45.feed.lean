/-! the tape -/
section Feed
variable {ρ : Nat → Nat} {σ : mS} {b : Nat} {μ : MM}
theorem X3_feed_l {n a c d e f : Int} (hn : 1 ≤ n ∧ n ≤ 5) (ht : 0 ≤ μ.2.1 14 ∧ μ.2.1 14 + n ≤ 60) : ∀ (m : Nat) (k : Int) (gas : Nat), k + m = n → m < gas → 0 ≤ k →
    fnFix (fun _ _ _ _ _ _ _ _ => none) (gX3_feed_b82 ρ b) gas (iI n) (iI a) (iI c) (iI d) (iI e) (iI f) (iI k) (St σ b (mA μ 9 (blk (μ.2.1 14) k (sFed a c d e f) (μ.1 9)))) =
    some (iI (μ.2.1 14 + n), St σ b (mI (mA μ 9 (blk (μ.2.1 14) n (sFed a c d e f) (μ.1 9))) 14 (μ.2.1 14 + n))) := by
  intro m
  induction m with
  | zero =>
    intro k gas h1 h2 h3
    obtain ⟨g, rfl⟩ := gas_s h2
    rw [fnFix_s, gX3_feed_b82, show k = n by omega]
    simp (disch := omega) only [decide_true, decide_false, reduceIte, and_self, and_true, true_and, and_false, false_and, or_true, true_or, or_false, false_or, not_true_eq_false, not_false_eq_true, reduceCtorEq, mA_ss, mI_ss, ↓St_rc, ↓fn_B, ↓fn_nn_none, ↓fn_nn_some, rZ_0, rZ_1, rZ_b, b2_z, b2_1, b2_or, b2_or0, b2_or1, iI_add, iI_sub, iI_mul, iI_neg, lI_add, lI_sub, lI_mul, iI_lt, iI_le, iI_eq, iI_to64, lI_cmp_lt, lI_cmp_gt, lI_cmp_ge, lI_cmp_le, lI_cmp_eq, mA_s, mA_o, mI_s, mI_o, mB_s, mB_o, mA_I, mA_B, mA_T, mA_F, mI_A, mI_B, mI_T, mI_F, mB_A, mB_I, mB_T, mB_F, mT_A, mT_I, mT_B, mT_F, mF_A, mF_I, mF_B, mF_T, ↓md_gA0, md_a0, md_s0, ↓md_gA1, md_a1, md_s1, ↓md_gA2, md_a2, md_s2, ↓md_gA3, md_a3, md_s3, ↓md_gA4, md_a4, md_s4, ↓md_g5, ↓md_p5, ↓md_g6, ↓md_p6, ↓md_g7, ↓md_p7, ↓md_g8, ↓md_p8, ↓md_gA9, md_a9, md_s9, ↓md_gA10, md_a10, md_s10, ↓md_gA11, md_a11, md_s11, ↓md_gA12, md_a12, md_s12, ↓md_gA13, md_a13, md_s13, ↓md_g14, ↓md_p14, ↓md_g15, ↓md_p15, ↓md_g16, ↓md_p16, ↓md_gA17, md_a17, md_s17, ↓md_gA18, md_a18, md_s18, ↓md_g19, ↓md_p19, ↓md_gA20, md_a20, md_s20, ↓md_g21, ↓md_p21, ↓md_gA22, md_a22, md_s22, ↓md_gA23, md_a23, md_s23, ↓md_gA24, md_a24, md_s24]
    rw [if_pos (Int.le_refl _)]
  | succ m ih =>
    intro k gas h1 h2 h3
    obtain ⟨g, rfl⟩ := gas_s h2
    have ih := ih (k + 1) g (by omega) (by omega) (by omega)
    have hb := blk_u (st := μ.2.1 14) (k := k) (f := sFed a c d e f) (g := μ.1 9) h3
    have st : ∀ x, x = sFed a c d e f k → gX3_feed_b142 ρ b (fnFix (fun _ _ _ _ _ _ _ _ => none) (gX3_feed_b82 ρ b) g) (iI n) (iI a) (iI c) (iI d) (iI e) (iI f) (iI k) (some (b + 6)) (iI (μ.2.1 14 + k)) (iI x) (St σ b (mA μ 9 (blk (μ.2.1 14) k (sFed a c d e f) (μ.1 9)))) = some (iI (μ.2.1 14 + n), St σ b (mI (mA μ 9 (blk (μ.2.1 14) n (sFed a c d e f) (μ.1 9))) 14 (μ.2.1 14 + n))) := by
      intro x hx
      subst hx
      unfold gX3_feed_b142
      simp (disch := omega) only [decide_true, decide_false, reduceIte, and_self, and_true, true_and, and_false, false_and, or_true, true_or, or_false, false_or, not_true_eq_false, not_false_eq_true, reduceCtorEq, mA_ss, mI_ss, ↓St_rc, ↓fn_B, ↓fn_nn_none, ↓fn_nn_some, rZ_0, rZ_1, rZ_b, b2_z, b2_1, b2_or, b2_or0, b2_or1, iI_add, iI_sub, iI_mul, iI_neg, lI_add, lI_sub, lI_mul, iI_lt, iI_le, iI_eq, iI_to64, lI_cmp_lt, lI_cmp_gt, lI_cmp_ge, lI_cmp_le, lI_cmp_eq, mA_s, mA_o, mI_s, mI_o, mB_s, mB_o, mA_I, mA_B, mA_T, mA_F, mI_A, mI_B, mI_T, mI_F, mB_A, mB_I, mB_T, mB_F, mT_A, mT_I, mT_B, mT_F, mF_A, mF_I, mF_B, mF_T, ↓md_gA0, md_a0, md_s0, ↓md_gA1, md_a1, md_s1, ↓md_gA2, md_a2, md_s2, ↓md_gA3, md_a3, md_s3, ↓md_gA4, md_a4, md_s4, ↓md_g5, ↓md_p5, ↓md_g6, ↓md_p6, ↓md_g7, ↓md_p7, ↓md_g8, ↓md_p8, ↓md_gA9, md_a9, md_s9, ↓md_gA10, md_a10, md_s10, ↓md_gA11, md_a11, md_s11, ↓md_gA12, md_a12, md_s12, ↓md_gA13, md_a13, md_s13, ↓md_g14, ↓md_p14, ↓md_g15, ↓md_p15, ↓md_g16, ↓md_p16, ↓md_gA17, md_a17, md_s17, ↓md_gA18, md_a18, md_s18, ↓md_g19, ↓md_p19, ↓md_gA20, md_a20, md_s20, ↓md_g21, ↓md_p21, ↓md_gA22, md_a22, md_s22, ↓md_gA23, md_a23, md_s23, ↓md_gA24, md_a24, md_s24]
      rw [hb]
      exact ih
    unfold sFed at st
    rw [fnFix_s, gX3_feed_b82]
    simp (disch := omega) only [decide_true, decide_false, reduceIte, and_self, and_true, true_and, and_false, false_and, or_true, true_or, or_false, false_or, not_true_eq_false, not_false_eq_true, reduceCtorEq, mA_ss, mI_ss, ↓St_rc, ↓fn_B, ↓fn_nn_none, ↓fn_nn_some, rZ_0, rZ_1, rZ_b, b2_z, b2_1, b2_or, b2_or0, b2_or1, iI_add, iI_sub, iI_mul, iI_neg, lI_add, lI_sub, lI_mul, iI_lt, iI_le, iI_eq, iI_to64, lI_cmp_lt, lI_cmp_gt, lI_cmp_ge, lI_cmp_le, lI_cmp_eq, mA_s, mA_o, mI_s, mI_o, mB_s, mB_o, mA_I, mA_B, mA_T, mA_F, mI_A, mI_B, mI_T, mI_F, mB_A, mB_I, mB_T, mB_F, mT_A, mT_I, mT_B, mT_F, mF_A, mF_I, mF_B, mF_T, ↓md_gA0, md_a0, md_s0, ↓md_gA1, md_a1, md_s1, ↓md_gA2, md_a2, md_s2, ↓md_gA3, md_a3, md_s3, ↓md_gA4, md_a4, md_s4, ↓md_g5, ↓md_p5, ↓md_g6, ↓md_p6, ↓md_g7, ↓md_p7, ↓md_g8, ↓md_p8, ↓md_gA9, md_a9, md_s9, ↓md_gA10, md_a10, md_s10, ↓md_gA11, md_a11, md_s11, ↓md_gA12, md_a12, md_s12, ↓md_gA13, md_a13, md_s13, ↓md_g14, ↓md_p14, ↓md_g15, ↓md_p15, ↓md_g16, ↓md_p16, ↓md_gA17, md_a17, md_s17, ↓md_gA18, md_a18, md_s18, ↓md_g19, ↓md_p19, ↓md_gA20, md_a20, md_s20, ↓md_g21, ↓md_p21, ↓md_gA22, md_a22, md_s22, ↓md_gA23, md_a23, md_s23, ↓md_gA24, md_a24, md_s24]
    rw [if_neg (by omega)]
    by_cases k0 : k = 0
    · rw [if_pos k0] at st ⊢
      exact st _ rfl
    rw [if_neg k0] at st ⊢
    by_cases k1 : k = 1
    · rw [if_pos k1] at st ⊢
      exact st _ rfl
    rw [if_neg k1] at st ⊢
    by_cases k2 : k = 2
    · rw [if_pos k2] at st ⊢
      exact st _ rfl
    rw [if_neg k2] at st ⊢
    by_cases k3 : k = 3
    · rw [if_pos k3] at st ⊢
      exact st _ rfl
    rw [if_neg k3] at st ⊢
    exact st _ rfl
def fedM (μ : MM) (n a c d e f : Int) : MM := if (1 ≤ n ∧ n ≤ 5) ∧ (0 ≤ a ∧ a ≤ 127) ∧ (0 ≤ c ∧ c ≤ 127) ∧ (0 ≤ d ∧ d ≤ 127) ∧ (0 ≤ e ∧ e ≤ 127) ∧ (0 ≤ f ∧ f ≤ 127) ∧ μ.2.1 14 + n ≤ 60 then mI (mA μ 9 (blk (μ.2.1 14) n (sFed a c d e f) (μ.1 9))) 14 (μ.2.1 14 + n) else μ
theorem X3_feed {n a c d e f : Int} (r1 : r32 n) (r2 : r32 a) (r3 : r32 c) (r4 : r32 d) (r5 : r32 e) (r6 : r32 f) (ht : 0 ≤ μ.2.1 14 ∧ μ.2.1 14 ≤ 60) : gX3_feed ρ b (iI n) (iI a) (iI c) (iI d) (iI e) (iI f) (St σ b μ) = some (iI (qFeed n a c d e f (μ.2.1 14)), St σ b (fedM μ n a c d e f)) := by
  unfold gX3_feed qFeed fedM
  by_cases h1 : 1 ≤ n ∧ n ≤ 5
  · rw [fn_Bt (s := St σ b μ) (by rw [X3_isIn r1 (by decide) (by decide), decide_eq_true h1]), if_neg (c := ¬ (1 ≤ n ∧ n ≤ 5)) (by simpa using h1)]
    by_cases h2 : 0 ≤ a ∧ a ≤ 127
    · rw [fn_Bt (s := St σ b μ) (by rw [X3_isIn r2 (by decide) (by decide), decide_eq_true h2])]
      by_cases h3 : 0 ≤ c ∧ c ≤ 127
      · rw [fn_Bt (s := St σ b μ) (by rw [X3_isIn r3 (by decide) (by decide), decide_eq_true h3])]
        by_cases h4 : 0 ≤ d ∧ d ≤ 127
        · rw [fn_Bt (s := St σ b μ) (by rw [X3_isIn r4 (by decide) (by decide), decide_eq_true h4])]
          by_cases h5 : 0 ≤ e ∧ e ≤ 127
          · rw [fn_Bt (s := St σ b μ) (by rw [X3_isIn r5 (by decide) (by decide), decide_eq_true h5])]
            by_cases h6 : 0 ≤ f ∧ f ≤ 127
            · rw [fn_Bt (s := St σ b μ) (by rw [X3_isIn r6 (by decide) (by decide), decide_eq_true h6]), if_neg (c := ¬ (0 ≤ a ∧ a ≤ 127) ∨ _) (by omega)]
              simp (disch := omega) only [decide_true, decide_false, reduceIte, and_self, and_true, true_and, and_false, false_and, or_true, true_or, or_false, false_or, not_true_eq_false, not_false_eq_true, reduceCtorEq, mA_ss, mI_ss, ↓St_rc, ↓fn_B, ↓fn_nn_none, ↓fn_nn_some, rZ_0, rZ_1, rZ_b, b2_z, b2_1, b2_or, b2_or0, b2_or1, iI_add, iI_sub, iI_mul, iI_neg, lI_add, lI_sub, lI_mul, iI_lt, iI_le, iI_eq, iI_to64, lI_cmp_lt, lI_cmp_gt, lI_cmp_ge, lI_cmp_le, lI_cmp_eq, mA_s, mA_o, mI_s, mI_o, mB_s, mB_o, mA_I, mA_B, mA_T, mA_F, mI_A, mI_B, mI_T, mI_F, mB_A, mB_I, mB_T, mB_F, mT_A, mT_I, mT_B, mT_F, mF_A, mF_I, mF_B, mF_T, ↓md_gA0, md_a0, md_s0, ↓md_gA1, md_a1, md_s1, ↓md_gA2, md_a2, md_s2, ↓md_gA3, md_a3, md_s3, ↓md_gA4, md_a4, md_s4, ↓md_g5, ↓md_p5, ↓md_g6, ↓md_p6, ↓md_g7, ↓md_p7, ↓md_g8, ↓md_p8, ↓md_gA9, md_a9, md_s9, ↓md_gA10, md_a10, md_s10, ↓md_gA11, md_a11, md_s11, ↓md_gA12, md_a12, md_s12, ↓md_gA13, md_a13, md_s13, ↓md_g14, ↓md_p14, ↓md_g15, ↓md_p15, ↓md_g16, ↓md_p16, ↓md_gA17, md_a17, md_s17, ↓md_gA18, md_a18, md_s18, ↓md_g19, ↓md_p19, ↓md_gA20, md_a20, md_s20, ↓md_g21, ↓md_p21, ↓md_gA22, md_a22, md_s22, ↓md_gA23, md_a23, md_s23, ↓md_gA24, md_a24, md_s24]
              by_cases h7 : μ.2.1 14 + n ≤ 60
              · rw [if_pos h7, if_neg (c := ¬ μ.2.1 14 + n ≤ 60) (by omega), if_pos (by omega)]
                have q := X3_feed_l (ρ := ρ) (σ := σ) (b := b) (μ := μ) (a := a) (c := c) (d := d) (e := e) (f := f) h1 ⟨ht.1, h7⟩ n.toNat 0 fnGas (by omega) (by unfold fnGas; omega) (by decide)
                rw [blk_0, mA_self] at q
                exact q
              · rw [if_neg h7, if_pos (c := ¬ μ.2.1 14 + n ≤ 60) h7, if_neg (by omega)]
            · rw [fn_Bf (s := St σ b μ) (by rw [X3_isIn r6 (by decide) (by decide), decide_eq_false h6]), if_pos (c := ¬ (0 ≤ a ∧ a ≤ 127) ∨ _) (by omega), if_neg (by omega)]
          · rw [fn_Bf (s := St σ b μ) (by rw [X3_isIn r5 (by decide) (by decide), decide_eq_false h5]), if_pos (c := ¬ (0 ≤ a ∧ a ≤ 127) ∨ _) (by omega), if_neg (by omega)]
        · rw [fn_Bf (s := St σ b μ) (by rw [X3_isIn r4 (by decide) (by decide), decide_eq_false h4]), if_pos (c := ¬ (0 ≤ a ∧ a ≤ 127) ∨ _) (by omega), if_neg (by omega)]
      · rw [fn_Bf (s := St σ b μ) (by rw [X3_isIn r3 (by decide) (by decide), decide_eq_false h3]), if_pos (c := ¬ (0 ≤ a ∧ a ≤ 127) ∨ _) (by omega), if_neg (by omega)]
    · rw [fn_Bf (s := St σ b μ) (by rw [X3_isIn r2 (by decide) (by decide), decide_eq_false h2]), if_pos (c := ¬ (0 ≤ a ∧ a ≤ 127) ∨ _) (by omega), if_neg (by omega)]
  · rw [fn_Bf (s := St σ b μ) (by rw [X3_isIn r1 (by decide) (by decide), decide_eq_false h1]), if_pos (c := ¬ (1 ≤ n ∧ n ≤ 5)) h1, if_neg (by omega)]
end Feed
