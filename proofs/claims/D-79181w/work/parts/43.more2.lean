/-! and more -/
def qPut (rs wh : Int → Int) (pa : Int → UInt32) (row i x : Int) : Int :=
  if ¬ (0 ≤ row ∧ row ≤ 2) then -1 else if ¬ (0 ≤ i ∧ i ≤ 11) then -1 else if ¬ 0 ≤ rs row then -3 else b2 (if rs row = 0 then decide ¬ wh (12 * row + i) = x else sDiff (pa (12 * row + i)) (FP.i2f (iI x)))
/-- the kinds of commands' letters aside: what a run of questions about a lease answers -/
def sSub (v : Int → Int) (l : Int) : Int := sm (fun k => if v (1 + 8 * k) = l then 1 else 0) 0 (v 0).toNat
def sDep8 (v : Int → Int) : Nat → Int → Int
  | 0, _ => 0
  | n + 1, k => if k < 0 then 0 else 1 + sDep8 v n (v (1 + 8 * k))
def qOf (v : Int → Int) (l w : Int) : Int :=
  if ¬ (0 ≤ l ∧ l < v 0) then -1 else if ¬ (0 ≤ w ∧ w ≤ 9) then -1 else
  if w = 0 then (if 0 ≤ v (1 + 8 * l) then v (1 + 8 * l) else -5) else if w = 1 then v (1 + 8 * l + 1) else if w = 2 then v (1 + 8 * l + 2) else if w = 3 then v (1 + 8 * l + 3) else if w = 4 then v (1 + 8 * l + 4)
  else if w = 5 then (if endOf v l = 1000000 then -5 else endOf v l) else if w = 6 then (if 0 ≤ v (1 + 8 * l + 6) then v (1 + 8 * l + 6) else -5) else if w = 7 then sSub v l else if w = 8 then sDep8 v 11 (v (1 + 8 * l)) else (if 0 ≤ v (1 + 8 * l + 5) then v (1 + 8 * l + 5) else -5)
def sAcc (v : Int → Int) (day w l : Int) : Int :=
  if w = 0 then b2 (decide (v (1 + 8 * l + 1) ≤ day ∧ day ≤ endOf v l)) else if w = 2 then sDue v l day else if w = 3 then sPaid v l day else if w = 4 then sThere v l day else if w = 5 then b2 (decide (endOf v l < v (1 + 8 * l + 1))) else 0
def qAcc (v : Int → Int) (day w : Int) : Int :=
  if ¬ (0 ≤ day ∧ day ≤ 3599) then nNo else if ¬ (0 ≤ w ∧ w ≤ 7) then nNo else
  (if w = 1 then sm (fun d => b2 (sHolds v d day)) 0 (v 81).toNat else if w = 6 then sIdx v (day / 30 + 1).toNat else if w = 7 then sRate v (day + 1).toNat else 0) + sm (sAcc v day w) 0 (v 0).toNat
def qFeed (n a c d e f tp : Int) : Int := if ¬ (1 ≤ n ∧ n ≤ 5) then -2 else if ¬ (0 ≤ a ∧ a ≤ 127) ∨ ¬ (0 ≤ c ∧ c ≤ 127) ∨ ¬ (0 ≤ d ∧ d ≤ 127) ∨ ¬ (0 ≤ e ∧ e ≤ 127) ∨ ¬ (0 ≤ f ∧ f ≤ 127) then -2 else if ¬ tp + n ≤ 60 then -4 else tp + n
def sFed (a c d e f k : Int) : Int := if k = 0 then a else if k = 1 then c else if k = 2 then d else if k = 3 then e else f
section More2
variable {ρ : Nat → Nat} {σ : mS} {b : Nat} {μ : MM}
theorem X3_like_l {fr to : Int} (h1 : 0 ≤ fr ∧ fr ≤ 2) (h2 : 0 ≤ to ∧ to ≤ 2) (hto : r32 (μ.1 23 to)) : ∀ (n : Nat) (k : Int) (gas : Nat), k + n = 12 → n < gas → 0 ≤ k →
    fnFix (fun _ _ _ _ => none) (gX3_like_b42 ρ b) gas (iI fr) (iI to) (iI k) (St σ b (setF (mA μ 22 (blk (12 * to) k (fun j => μ.1 22 (12 * fr + j)) (μ.1 22))) (blk (12 * to) k (fun j => μ.2.2.2.2 (12 * fr + j)) μ.2.2.2.2))) =
    some (iI (μ.1 23 to), St σ b (setF (mA μ 22 (blk (12 * to) 12 (fun j => μ.1 22 (12 * fr + j)) (μ.1 22))) (blk (12 * to) 12 (fun j => μ.2.2.2.2 (12 * fr + j)) μ.2.2.2.2))) := by
  intro n
  induction n with
  | zero =>
    intro k gas a1 a2 a3
    obtain ⟨g, rfl⟩ := gas_s a2
    rw [fnFix_s, gX3_like_b42, show k = 12 by omega]
    have e : ∀ f, (setF (mA μ 22 f) (blk (12 * to) 12 (fun j => μ.2.2.2.2 (12 * fr + j)) μ.2.2.2.2)).1 23 = μ.1 23 := fun _ => rfl
    simp (disch := omega) only [e, decide_true, decide_false, reduceIte, and_self, and_true, true_and, and_false, false_and, or_true, true_or, or_false, false_or, not_true_eq_false, not_false_eq_true, reduceCtorEq, mA_ss, mI_ss, ↓St_rc, ↓fn_B, ↓fn_nn_none, ↓fn_nn_some, rZ_0, rZ_1, rZ_b, b2_z, b2_1, b2_or, b2_or0, b2_or1, iI_add, iI_sub, iI_mul, iI_neg, lI_add, lI_sub, lI_mul, iI_lt, iI_le, iI_eq, iI_to64, lI_cmp_lt, lI_cmp_gt, lI_cmp_ge, lI_cmp_le, lI_cmp_eq, mA_s, mA_o, mI_s, mI_o, mB_s, mB_o, mA_I, mA_B, mA_T, mA_F, mI_A, mI_B, mI_T, mI_F, mB_A, mB_I, mB_T, mB_F, mT_A, mT_I, mT_B, mT_F, mF_A, mF_I, mF_B, mF_T, ↓md_gA0, md_a0, md_s0, ↓md_gA1, md_a1, md_s1, ↓md_gA2, md_a2, md_s2, ↓md_gA3, md_a3, md_s3, ↓md_gA4, md_a4, md_s4, ↓md_g5, ↓md_p5, ↓md_g6, ↓md_p6, ↓md_g7, ↓md_p7, ↓md_g8, ↓md_p8, ↓md_gA9, md_a9, md_s9, ↓md_gA10, md_a10, md_s10, ↓md_gA11, md_a11, md_s11, ↓md_gA12, md_a12, md_s12, ↓md_gA13, md_a13, md_s13, ↓md_g14, ↓md_p14, ↓md_g15, ↓md_p15, ↓md_g16, ↓md_p16, ↓md_gA17, md_a17, md_s17, ↓md_gA18, md_a18, md_s18, ↓md_g19, ↓md_p19, ↓md_gA20, md_a20, md_s20, ↓md_g21, ↓md_p21, ↓md_gA22, md_a22, md_s22, ↓md_gA23, md_a23, md_s23, ↓md_gA24, md_a24, md_s24]
    rw [if_pos (by decide)]
  | succ n ih =>
    intro k gas a1 a2 a3
    obtain ⟨g, rfl⟩ := gas_s a2
    have ih := ih (k + 1) g (by omega) (by omega) (by omega)
    have e1 : ∀ f, (setF (mA μ 22 (blk (12 * to) k (fun j => μ.1 22 (12 * fr + j)) (μ.1 22))) f).1 22 = blk (12 * to) k (fun j => μ.1 22 (12 * fr + j)) (μ.1 22) := fun _ => rfl
    have e2 : blk (12 * to) k (fun j => μ.1 22 (12 * fr + j)) (μ.1 22) (12 * fr + k) = μ.1 22 (12 * fr + k) := by
      unfold blk
      split
      · congr 1
        omega
      · rfl
    have e3 : blk (12 * to) k (fun j => μ.2.2.2.2 (12 * fr + j)) μ.2.2.2.2 (12 * fr + k) = μ.2.2.2.2 (12 * fr + k) := by
      unfold blk
      split
      · congr 1
        omega
      · rfl
    have e4 := blk_u (st := 12 * to) (k := k) (f := fun j => μ.1 22 (12 * fr + j)) (g := μ.1 22) a3
    have e5 := blk_s (st := 12 * to) (k := k) (f := fun j => μ.2.2.2.2 (12 * fr + j)) (g := μ.2.2.2.2) a3
    rw [fnFix_s, gX3_like_b42]
    simp (disch := omega) only [e1, decide_true, decide_false, reduceIte, and_self, and_true, true_and, and_false, false_and, or_true, true_or, or_false, false_or, not_true_eq_false, not_false_eq_true, reduceCtorEq, mA_ss, mI_ss, ↓St_rc, ↓fn_B, ↓fn_nn_none, ↓fn_nn_some, rZ_0, rZ_1, rZ_b, b2_z, b2_1, b2_or, b2_or0, b2_or1, iI_add, iI_sub, iI_mul, iI_neg, lI_add, lI_sub, lI_mul, iI_lt, iI_le, iI_eq, iI_to64, lI_cmp_lt, lI_cmp_gt, lI_cmp_ge, lI_cmp_le, lI_cmp_eq, mA_s, mA_o, mI_s, mI_o, mB_s, mB_o, mA_I, mA_B, mA_T, mA_F, mI_A, mI_B, mI_T, mI_F, mB_A, mB_I, mB_T, mB_F, mT_A, mT_I, mT_B, mT_F, mF_A, mF_I, mF_B, mF_T, ↓md_gA0, md_a0, md_s0, ↓md_gA1, md_a1, md_s1, ↓md_gA2, md_a2, md_s2, ↓md_gA3, md_a3, md_s3, ↓md_gA4, md_a4, md_s4, ↓md_g5, ↓md_p5, ↓md_g6, ↓md_p6, ↓md_g7, ↓md_p7, ↓md_g8, ↓md_p8, ↓md_gA9, md_a9, md_s9, ↓md_gA10, md_a10, md_s10, ↓md_gA11, md_a11, md_s11, ↓md_gA12, md_a12, md_s12, ↓md_gA13, md_a13, md_s13, ↓md_g14, ↓md_p14, ↓md_g15, ↓md_p15, ↓md_g16, ↓md_p16, ↓md_gA17, md_a17, md_s17, ↓md_gA18, md_a18, md_s18, ↓md_g19, ↓md_p19, ↓md_gA20, md_a20, md_s20, ↓md_g21, ↓md_p21, ↓md_gA22, md_a22, md_s22, ↓md_gA23, md_a23, md_s23, ↓md_gA24, md_a24, md_s24]
    rw [if_neg (by omega), e2, e4]
    have e6 : mF (mA (setF (mA μ 22 (blk (12 * to) k (fun j => μ.1 22 (12 * fr + j)) (μ.1 22))) (blk (12 * to) k (fun j => μ.2.2.2.2 (12 * fr + j)) μ.2.2.2.2)) 22 (blk (12 * to) (k + 1) (fun j => μ.1 22 (12 * fr + j)) (μ.1 22))) (12 * to + k) (blk (12 * to) k (fun j => μ.2.2.2.2 (12 * fr + j)) μ.2.2.2.2 (12 * fr + k)) = setF (mA (mA μ 22 (blk (12 * to) k (fun j => μ.1 22 (12 * fr + j)) (μ.1 22))) 22 (blk (12 * to) (k + 1) (fun j => μ.1 22 (12 * fr + j)) (μ.1 22))) (fun j => if j = 12 * to + k then blk (12 * to) k (fun j => μ.2.2.2.2 (12 * fr + j)) μ.2.2.2.2 (12 * fr + k) else blk (12 * to) k (fun j => μ.2.2.2.2 (12 * fr + j)) μ.2.2.2.2 j) := rfl
    refine (congrArg (fun m => fnFix (fun _ _ _ _ => none) (gX3_like_b42 ρ b) g (iI fr) (iI to) (iI (k + 1)) (St σ b m)) (e6.trans ?_)).trans ih
    rw [e3, e5, mA_ss]
theorem X3_like_t {fr to : Int} (h1 : 0 ≤ fr ∧ fr ≤ 2) (h2 : 0 ≤ to ∧ to ≤ 2) (hrs : ∀ r, 0 ≤ r → r ≤ 2 → -1 ≤ μ.1 23 r ∧ μ.1 23 r ≤ 1) (h3 : 0 ≤ μ.1 23 fr) : ∃ μ1, gX3_like ρ b (iI fr) (iI to) (St σ b μ) = some (iI (μ.1 23 fr), St σ b μ1) ∧ mEqR μ μ1 ∧ μ1.1 23 = uI (μ.1 23) to (μ.1 23 fr) ∧ μ1.1 22 = blk (12 * to) 12 (fun j => μ.1 22 (12 * fr + j)) (μ.1 22) ∧ μ1.2.2.2.2 = blk (12 * to) 12 (fun j => μ.2.2.2.2 (12 * fr + j)) μ.2.2.2.2 := by
  have h9 := hrs fr h1.1 h1.2
  have q := X3_like_l (ρ := ρ) (σ := σ) (b := b) (μ := mA μ 23 (uI (μ.1 23) to (μ.1 23 fr))) h1 h2 (by show r32 (uI (μ.1 23) to (μ.1 23 fr) to); rw [uI_s]; exact ⟨by omega, by omega⟩) 12 0 fnGas (by decide) (by decide) (by decide)
  rw [blk_0, blk_0, mA_self, setF_self] at q
  have e : (mA μ 23 (uI (μ.1 23) to (μ.1 23 fr))).1 23 to = μ.1 23 fr := uI_s _ _ _
  rw [e] at q
  refine ⟨setF (mA (mA μ 23 (uI (μ.1 23) to (μ.1 23 fr))) 22 (blk (12 * to) 12 (fun j => μ.1 22 (12 * fr + j)) (μ.1 22))) (blk (12 * to) 12 (fun j => μ.2.2.2.2 (12 * fr + j)) μ.2.2.2.2), ?_, ⟨rfl, rfl, rfl, rfl, rfl, rfl, rfl, rfl⟩, rfl, rfl, rfl⟩
  unfold gX3_like
  rw [fn_Bt (s := St σ b μ) (by rw [X3_isRow ⟨by omega, by omega⟩, decide_eq_true h1]), fn_Bt (s := St σ b μ) (by rw [X3_isRow ⟨by omega, by omega⟩, decide_eq_true h2])]
  simp (disch := omega) only [h3, decide_true, decide_false, reduceIte, and_self, and_true, true_and, and_false, false_and, or_true, true_or, or_false, false_or, not_true_eq_false, not_false_eq_true, reduceCtorEq, mA_ss, mI_ss, ↓St_rc, ↓fn_B, ↓fn_nn_none, ↓fn_nn_some, rZ_0, rZ_1, rZ_b, b2_z, b2_1, b2_or, b2_or0, b2_or1, iI_add, iI_sub, iI_mul, iI_neg, lI_add, lI_sub, lI_mul, iI_lt, iI_le, iI_eq, iI_to64, lI_cmp_lt, lI_cmp_gt, lI_cmp_ge, lI_cmp_le, lI_cmp_eq, mA_s, mA_o, mI_s, mI_o, mB_s, mB_o, mA_I, mA_B, mA_T, mA_F, mI_A, mI_B, mI_T, mI_F, mB_A, mB_I, mB_T, mB_F, mT_A, mT_I, mT_B, mT_F, mF_A, mF_I, mF_B, mF_T, ↓md_gA0, md_a0, md_s0, ↓md_gA1, md_a1, md_s1, ↓md_gA2, md_a2, md_s2, ↓md_gA3, md_a3, md_s3, ↓md_gA4, md_a4, md_s4, ↓md_g5, ↓md_p5, ↓md_g6, ↓md_p6, ↓md_g7, ↓md_p7, ↓md_g8, ↓md_p8, ↓md_gA9, md_a9, md_s9, ↓md_gA10, md_a10, md_s10, ↓md_gA11, md_a11, md_s11, ↓md_gA12, md_a12, md_s12, ↓md_gA13, md_a13, md_s13, ↓md_g14, ↓md_p14, ↓md_g15, ↓md_p15, ↓md_g16, ↓md_p16, ↓md_gA17, md_a17, md_s17, ↓md_gA18, md_a18, md_s18, ↓md_g19, ↓md_p19, ↓md_gA20, md_a20, md_s20, ↓md_g21, ↓md_p21, ↓md_gA22, md_a22, md_s22, ↓md_gA23, md_a23, md_s23, ↓md_gA24, md_a24, md_s24]
  exact q
theorem X3_put_t {row i x : Int} (h1 : 0 ≤ row ∧ row ≤ 2) (h2 : 0 ≤ i ∧ i ≤ 11) (r3 : r32 x) (hrs : ∀ r, 0 ≤ r → r ≤ 2 → -1 ≤ μ.1 23 r ∧ μ.1 23 r ≤ 1) (h3 : 0 ≤ μ.1 23 row) (hw : r32 (μ.1 22 (12 * row + i))) : gX3_put ρ b (iI row) (iI i) (iI x) (St σ b μ) = some (iI (qPut (μ.1 23) (μ.1 22) μ.2.2.2.2 row i x), St σ b (mF (mA μ 22 (uI (μ.1 22) (12 * row + i) x)) (12 * row + i) (FP.i2f (iI x)))) := by
  have h9 := hrs row h1.1 h1.2
  unfold gX3_put qPut
  rw [if_neg (by simpa using h1), if_neg (by simpa using h2), if_neg (by simpa using h3), fn_Bt (s := St σ b μ) (by rw [X3_isRow ⟨by omega, by omega⟩, decide_eq_true h1]), fn_Bt (s := St σ b μ) (by rw [X3_isIn ⟨by omega, by omega⟩ (by decide) (by decide), decide_eq_true h2])]
  have fin : ∀ z : Bool, gX3_put_b85 ρ b (iI row) (iI i) (iI x) (iI (b2 z)) (St σ b μ) = some (iI (b2 z), St σ b (mF (mA μ 22 (uI (μ.1 22) (12 * row + i) x)) (12 * row + i) (FP.i2f (iI x)))) := by
    intro z
    unfold gX3_put_b85
    simp (disch := omega) only [decide_true, decide_false, reduceIte, and_self, and_true, true_and, and_false, false_and, or_true, true_or, or_false, false_or, not_true_eq_false, not_false_eq_true, reduceCtorEq, mA_ss, mI_ss, ↓St_rc, ↓fn_B, ↓fn_nn_none, ↓fn_nn_some, rZ_0, rZ_1, rZ_b, b2_z, b2_1, b2_or, b2_or0, b2_or1, iI_add, iI_sub, iI_mul, iI_neg, lI_add, lI_sub, lI_mul, iI_lt, iI_le, iI_eq, iI_to64, lI_cmp_lt, lI_cmp_gt, lI_cmp_ge, lI_cmp_le, lI_cmp_eq, mA_s, mA_o, mI_s, mI_o, mB_s, mB_o, mA_I, mA_B, mA_T, mA_F, mI_A, mI_B, mI_T, mI_F, mB_A, mB_I, mB_T, mB_F, mT_A, mT_I, mT_B, mT_F, mF_A, mF_I, mF_B, mF_T, ↓md_gA0, md_a0, md_s0, ↓md_gA1, md_a1, md_s1, ↓md_gA2, md_a2, md_s2, ↓md_gA3, md_a3, md_s3, ↓md_gA4, md_a4, md_s4, ↓md_g5, ↓md_p5, ↓md_g6, ↓md_p6, ↓md_g7, ↓md_p7, ↓md_g8, ↓md_p8, ↓md_gA9, md_a9, md_s9, ↓md_gA10, md_a10, md_s10, ↓md_gA11, md_a11, md_s11, ↓md_gA12, md_a12, md_s12, ↓md_gA13, md_a13, md_s13, ↓md_g14, ↓md_p14, ↓md_g15, ↓md_p15, ↓md_g16, ↓md_p16, ↓md_gA17, md_a17, md_s17, ↓md_gA18, md_a18, md_s18, ↓md_g19, ↓md_p19, ↓md_gA20, md_a20, md_s20, ↓md_g21, ↓md_p21, ↓md_gA22, md_a22, md_s22, ↓md_gA23, md_a23, md_s23, ↓md_gA24, md_a24, md_s24]
    cases z
    · rfl
    · rfl
  by_cases h4 : μ.1 23 row = 0
  · by_cases h5 : μ.1 22 (12 * row + i) = x
    · simp (disch := omega) only [h3, h4, h5, decide_true, decide_false, reduceIte, and_self, and_true, true_and, and_false, false_and, or_true, true_or, or_false, false_or, not_true_eq_false, not_false_eq_true, reduceCtorEq, mA_ss, mI_ss, ↓St_rc, ↓fn_B, ↓fn_nn_none, ↓fn_nn_some, rZ_0, rZ_1, rZ_b, b2_z, b2_1, b2_or, b2_or0, b2_or1, iI_add, iI_sub, iI_mul, iI_neg, lI_add, lI_sub, lI_mul, iI_lt, iI_le, iI_eq, iI_to64, lI_cmp_lt, lI_cmp_gt, lI_cmp_ge, lI_cmp_le, lI_cmp_eq, mA_s, mA_o, mI_s, mI_o, mB_s, mB_o, mA_I, mA_B, mA_T, mA_F, mI_A, mI_B, mI_T, mI_F, mB_A, mB_I, mB_T, mB_F, mT_A, mT_I, mT_B, mT_F, mF_A, mF_I, mF_B, mF_T, ↓md_gA0, md_a0, md_s0, ↓md_gA1, md_a1, md_s1, ↓md_gA2, md_a2, md_s2, ↓md_gA3, md_a3, md_s3, ↓md_gA4, md_a4, md_s4, ↓md_g5, ↓md_p5, ↓md_g6, ↓md_p6, ↓md_g7, ↓md_p7, ↓md_g8, ↓md_p8, ↓md_gA9, md_a9, md_s9, ↓md_gA10, md_a10, md_s10, ↓md_gA11, md_a11, md_s11, ↓md_gA12, md_a12, md_s12, ↓md_gA13, md_a13, md_s13, ↓md_g14, ↓md_p14, ↓md_g15, ↓md_p15, ↓md_g16, ↓md_p16, ↓md_gA17, md_a17, md_s17, ↓md_gA18, md_a18, md_s18, ↓md_g19, ↓md_p19, ↓md_gA20, md_a20, md_s20, ↓md_g21, ↓md_p21, ↓md_gA22, md_a22, md_s22, ↓md_gA23, md_a23, md_s23, ↓md_gA24, md_a24, md_s24]
      rw [if_pos (by decide), show iI 0 = iI (b2 false) from rfl, fin]
    · simp (disch := omega) only [h3, h4, h5, decide_true, decide_false, reduceIte, and_self, and_true, true_and, and_false, false_and, or_true, true_or, or_false, false_or, not_true_eq_false, not_false_eq_true, reduceCtorEq, mA_ss, mI_ss, ↓St_rc, ↓fn_B, ↓fn_nn_none, ↓fn_nn_some, rZ_0, rZ_1, rZ_b, b2_z, b2_1, b2_or, b2_or0, b2_or1, iI_add, iI_sub, iI_mul, iI_neg, lI_add, lI_sub, lI_mul, iI_lt, iI_le, iI_eq, iI_to64, lI_cmp_lt, lI_cmp_gt, lI_cmp_ge, lI_cmp_le, lI_cmp_eq, mA_s, mA_o, mI_s, mI_o, mB_s, mB_o, mA_I, mA_B, mA_T, mA_F, mI_A, mI_B, mI_T, mI_F, mB_A, mB_I, mB_T, mB_F, mT_A, mT_I, mT_B, mT_F, mF_A, mF_I, mF_B, mF_T, ↓md_gA0, md_a0, md_s0, ↓md_gA1, md_a1, md_s1, ↓md_gA2, md_a2, md_s2, ↓md_gA3, md_a3, md_s3, ↓md_gA4, md_a4, md_s4, ↓md_g5, ↓md_p5, ↓md_g6, ↓md_p6, ↓md_g7, ↓md_p7, ↓md_g8, ↓md_p8, ↓md_gA9, md_a9, md_s9, ↓md_gA10, md_a10, md_s10, ↓md_gA11, md_a11, md_s11, ↓md_gA12, md_a12, md_s12, ↓md_gA13, md_a13, md_s13, ↓md_g14, ↓md_p14, ↓md_g15, ↓md_p15, ↓md_g16, ↓md_p16, ↓md_gA17, md_a17, md_s17, ↓md_gA18, md_a18, md_s18, ↓md_g19, ↓md_p19, ↓md_gA20, md_a20, md_s20, ↓md_g21, ↓md_p21, ↓md_gA22, md_a22, md_s22, ↓md_gA23, md_a23, md_s23, ↓md_gA24, md_a24, md_s24]
      rw [if_pos (by decide), show iI 1 = iI (b2 true) from rfl, fin]
  · simp (disch := omega) only [h3, h4, decide_true, decide_false, reduceIte, and_self, and_true, true_and, and_false, false_and, or_true, true_or, or_false, false_or, not_true_eq_false, not_false_eq_true, reduceCtorEq, mA_ss, mI_ss, ↓St_rc, ↓fn_B, ↓fn_nn_none, ↓fn_nn_some, rZ_0, rZ_1, rZ_b, b2_z, b2_1, b2_or, b2_or0, b2_or1, iI_add, iI_sub, iI_mul, iI_neg, lI_add, lI_sub, lI_mul, iI_lt, iI_le, iI_eq, iI_to64, lI_cmp_lt, lI_cmp_gt, lI_cmp_ge, lI_cmp_le, lI_cmp_eq, mA_s, mA_o, mI_s, mI_o, mB_s, mB_o, mA_I, mA_B, mA_T, mA_F, mI_A, mI_B, mI_T, mI_F, mB_A, mB_I, mB_T, mB_F, mT_A, mT_I, mT_B, mT_F, mF_A, mF_I, mF_B, mF_T, ↓md_gA0, md_a0, md_s0, ↓md_gA1, md_a1, md_s1, ↓md_gA2, md_a2, md_s2, ↓md_gA3, md_a3, md_s3, ↓md_gA4, md_a4, md_s4, ↓md_g5, ↓md_p5, ↓md_g6, ↓md_p6, ↓md_g7, ↓md_p7, ↓md_g8, ↓md_p8, ↓md_gA9, md_a9, md_s9, ↓md_gA10, md_a10, md_s10, ↓md_gA11, md_a11, md_s11, ↓md_gA12, md_a12, md_s12, ↓md_gA13, md_a13, md_s13, ↓md_g14, ↓md_p14, ↓md_g15, ↓md_p15, ↓md_g16, ↓md_p16, ↓md_gA17, md_a17, md_s17, ↓md_gA18, md_a18, md_s18, ↓md_g19, ↓md_p19, ↓md_gA20, md_a20, md_s20, ↓md_g21, ↓md_p21, ↓md_gA22, md_a22, md_s22, ↓md_gA23, md_a23, md_s23, ↓md_gA24, md_a24, md_s24]
    unfold sDiff
    by_cases h5 : (Op.cmpValue (FP.fcmp (μ.2.2.2.2 (12 * row + i)) (FP.i2f (iI x))) .l) = iI 0
    · rw [if_pos h5, show iI 0 = iI (b2 false) from rfl, fin, decide_eq_false (fun q => q h5)]
    · rw [if_neg h5, show iI 1 = iI (b2 true) from rfl, fin, decide_eq_true h5]
theorem X3_of_b (hv : okD (μ.1 0)) {l : Int} (hl : 0 ≤ l ∧ l < μ.1 0 0) : ∀ (n : Nat) (k acc : Int) (gas : Nat), k + n = μ.1 0 0 → n < gas → 0 ≤ k → fnFix (fun _ _ _ _ => none) (gX3_of_b147 ρ b) gas (iI l) (iI acc) (iI k) (St σ b μ) = some (iI (acc + sm (fun k => if μ.1 0 (1 + 8 * k) = l then 1 else 0) k n), St σ b μ) := by
  have h0 := hv.1
  intro n
  induction n with
  | zero =>
    intro k acc gas h1 h2 h3
    obtain ⟨g, rfl⟩ := gas_s h2
    rw [fnFix_s, gX3_of_b147, sm, Int.add_zero]
    simp (disch := omega) only [decide_true, decide_false, reduceIte, and_self, and_true, true_and, and_false, false_and, or_true, true_or, or_false, false_or, not_true_eq_false, not_false_eq_true, reduceCtorEq, mA_ss, mI_ss, ↓St_rc, ↓fn_B, ↓fn_nn_none, ↓fn_nn_some, rZ_0, rZ_1, rZ_b, b2_z, b2_1, b2_or, b2_or0, b2_or1, iI_add, iI_sub, iI_mul, iI_neg, lI_add, lI_sub, lI_mul, iI_lt, iI_le, iI_eq, iI_to64, lI_cmp_lt, lI_cmp_gt, lI_cmp_ge, lI_cmp_le, lI_cmp_eq, mA_s, mA_o, mI_s, mI_o, mB_s, mB_o, mA_I, mA_B, mA_T, mA_F, mI_A, mI_B, mI_T, mI_F, mB_A, mB_I, mB_T, mB_F, mT_A, mT_I, mT_B, mT_F, mF_A, mF_I, mF_B, mF_T, ↓md_gA0, md_a0, md_s0, ↓md_gA1, md_a1, md_s1, ↓md_gA2, md_a2, md_s2, ↓md_gA3, md_a3, md_s3, ↓md_gA4, md_a4, md_s4, ↓md_g5, ↓md_p5, ↓md_g6, ↓md_p6, ↓md_g7, ↓md_p7, ↓md_g8, ↓md_p8, ↓md_gA9, md_a9, md_s9, ↓md_gA10, md_a10, md_s10, ↓md_gA11, md_a11, md_s11, ↓md_gA12, md_a12, md_s12, ↓md_gA13, md_a13, md_s13, ↓md_g14, ↓md_p14, ↓md_g15, ↓md_p15, ↓md_g16, ↓md_p16, ↓md_gA17, md_a17, md_s17, ↓md_gA18, md_a18, md_s18, ↓md_g19, ↓md_p19, ↓md_gA20, md_a20, md_s20, ↓md_g21, ↓md_p21, ↓md_gA22, md_a22, md_s22, ↓md_gA23, md_a23, md_s23, ↓md_gA24, md_a24, md_s24]
    rw [if_pos (by omega)]
  | succ n ih =>
    intro k acc gas h1 h2 h3
    obtain ⟨g, rfl⟩ := gas_s h2
    obtain ⟨k1, -⟩ := hv.2.2.2.2.1 k h3 (by omega)
    have e : 1 + 8 * k + 0 = 1 + 8 * k := by omega
    rw [fnFix_s, gX3_of_b147, sm]
    simp (disch := omega) only [X3_told, gX3_of_b175, e, decide_true, decide_false, reduceIte, and_self, and_true, true_and, and_false, false_and, or_true, true_or, or_false, false_or, not_true_eq_false, not_false_eq_true, reduceCtorEq, mA_ss, mI_ss, ↓St_rc, ↓fn_B, ↓fn_nn_none, ↓fn_nn_some, rZ_0, rZ_1, rZ_b, b2_z, b2_1, b2_or, b2_or0, b2_or1, iI_add, iI_sub, iI_mul, iI_neg, lI_add, lI_sub, lI_mul, iI_lt, iI_le, iI_eq, iI_to64, lI_cmp_lt, lI_cmp_gt, lI_cmp_ge, lI_cmp_le, lI_cmp_eq, mA_s, mA_o, mI_s, mI_o, mB_s, mB_o, mA_I, mA_B, mA_T, mA_F, mI_A, mI_B, mI_T, mI_F, mB_A, mB_I, mB_T, mB_F, mT_A, mT_I, mT_B, mT_F, mF_A, mF_I, mF_B, mF_T, ↓md_gA0, md_a0, md_s0, ↓md_gA1, md_a1, md_s1, ↓md_gA2, md_a2, md_s2, ↓md_gA3, md_a3, md_s3, ↓md_gA4, md_a4, md_s4, ↓md_g5, ↓md_p5, ↓md_g6, ↓md_p6, ↓md_g7, ↓md_p7, ↓md_g8, ↓md_p8, ↓md_gA9, md_a9, md_s9, ↓md_gA10, md_a10, md_s10, ↓md_gA11, md_a11, md_s11, ↓md_gA12, md_a12, md_s12, ↓md_gA13, md_a13, md_s13, ↓md_g14, ↓md_p14, ↓md_g15, ↓md_p15, ↓md_g16, ↓md_p16, ↓md_gA17, md_a17, md_s17, ↓md_gA18, md_a18, md_s18, ↓md_g19, ↓md_p19, ↓md_gA20, md_a20, md_s20, ↓md_g21, ↓md_p21, ↓md_gA22, md_a22, md_s22, ↓md_gA23, md_a23, md_s23, ↓md_gA24, md_a24, md_s24]
    rw [if_neg (by omega)]
    by_cases h : μ.1 0 (1 + 8 * k) = l
    · rw [if_pos h, if_pos h, ← Int.add_assoc]
      exact ih (k + 1) _ g (by omega) (by omega) (by omega)
    · rw [if_neg h, if_neg h, Int.add_zero, Int.zero_add]
      exact ih (k + 1) _ g (by omega) (by omega) (by omega)
theorem X3_of_c (hv : okD (μ.1 0)) : ∀ (n : Nat) (k acc : Int) (gas : Nat), k < n → n < gas → -1 ≤ k → k < μ.1 0 0 → fnFix (fun _ _ _ => none) (gX3_of_b193 ρ b) gas (iI acc) (iI k) (St σ b μ) = some (iI (acc + sDep8 (μ.1 0) n k), St σ b μ) := by
  have h0 := hv.1
  intro n
  induction n with
  | zero =>
    intro k acc gas h1 h2 h3 h4
    obtain ⟨g, rfl⟩ := gas_s h2
    rw [fnFix_s, gX3_of_b193, sDep8, Int.add_zero]
    simp (disch := omega) only [decide_true, decide_false, reduceIte, and_self, and_true, true_and, and_false, false_and, or_true, true_or, or_false, false_or, not_true_eq_false, not_false_eq_true, reduceCtorEq, mA_ss, mI_ss, ↓St_rc, ↓fn_B, ↓fn_nn_none, ↓fn_nn_some, rZ_0, rZ_1, rZ_b, b2_z, b2_1, b2_or, b2_or0, b2_or1, iI_add, iI_sub, iI_mul, iI_neg, lI_add, lI_sub, lI_mul, iI_lt, iI_le, iI_eq, iI_to64, lI_cmp_lt, lI_cmp_gt, lI_cmp_ge, lI_cmp_le, lI_cmp_eq, mA_s, mA_o, mI_s, mI_o, mB_s, mB_o, mA_I, mA_B, mA_T, mA_F, mI_A, mI_B, mI_T, mI_F, mB_A, mB_I, mB_T, mB_F, mT_A, mT_I, mT_B, mT_F, mF_A, mF_I, mF_B, mF_T, ↓md_gA0, md_a0, md_s0, ↓md_gA1, md_a1, md_s1, ↓md_gA2, md_a2, md_s2, ↓md_gA3, md_a3, md_s3, ↓md_gA4, md_a4, md_s4, ↓md_g5, ↓md_p5, ↓md_g6, ↓md_p6, ↓md_g7, ↓md_p7, ↓md_g8, ↓md_p8, ↓md_gA9, md_a9, md_s9, ↓md_gA10, md_a10, md_s10, ↓md_gA11, md_a11, md_s11, ↓md_gA12, md_a12, md_s12, ↓md_gA13, md_a13, md_s13, ↓md_g14, ↓md_p14, ↓md_g15, ↓md_p15, ↓md_g16, ↓md_p16, ↓md_gA17, md_a17, md_s17, ↓md_gA18, md_a18, md_s18, ↓md_g19, ↓md_p19, ↓md_gA20, md_a20, md_s20, ↓md_g21, ↓md_p21, ↓md_gA22, md_a22, md_s22, ↓md_gA23, md_a23, md_s23, ↓md_gA24, md_a24, md_s24]
    rw [if_pos (by omega)]
  | succ n ih =>
    intro k acc gas h1 h2 h3 h4
    obtain ⟨g, rfl⟩ := gas_s h2
    rw [fnFix_s, gX3_of_b193, sDep8]
    by_cases hk : k < 0
    · simp (disch := omega) only [hk, decide_true, decide_false, reduceIte, and_self, and_true, true_and, and_false, false_and, or_true, true_or, or_false, false_or, not_true_eq_false, not_false_eq_true, reduceCtorEq, mA_ss, mI_ss, ↓St_rc, ↓fn_B, ↓fn_nn_none, ↓fn_nn_some, rZ_0, rZ_1, rZ_b, b2_z, b2_1, b2_or, b2_or0, b2_or1, iI_add, iI_sub, iI_mul, iI_neg, lI_add, lI_sub, lI_mul, iI_lt, iI_le, iI_eq, iI_to64, lI_cmp_lt, lI_cmp_gt, lI_cmp_ge, lI_cmp_le, lI_cmp_eq, mA_s, mA_o, mI_s, mI_o, mB_s, mB_o, mA_I, mA_B, mA_T, mA_F, mI_A, mI_B, mI_T, mI_F, mB_A, mB_I, mB_T, mB_F, mT_A, mT_I, mT_B, mT_F, mF_A, mF_I, mF_B, mF_T, ↓md_gA0, md_a0, md_s0, ↓md_gA1, md_a1, md_s1, ↓md_gA2, md_a2, md_s2, ↓md_gA3, md_a3, md_s3, ↓md_gA4, md_a4, md_s4, ↓md_g5, ↓md_p5, ↓md_g6, ↓md_p6, ↓md_g7, ↓md_p7, ↓md_g8, ↓md_p8, ↓md_gA9, md_a9, md_s9, ↓md_gA10, md_a10, md_s10, ↓md_gA11, md_a11, md_s11, ↓md_gA12, md_a12, md_s12, ↓md_gA13, md_a13, md_s13, ↓md_g14, ↓md_p14, ↓md_g15, ↓md_p15, ↓md_g16, ↓md_p16, ↓md_gA17, md_a17, md_s17, ↓md_gA18, md_a18, md_s18, ↓md_g19, ↓md_p19, ↓md_gA20, md_a20, md_s20, ↓md_g21, ↓md_p21, ↓md_gA22, md_a22, md_s22, ↓md_gA23, md_a23, md_s23, ↓md_gA24, md_a24, md_s24]
      rw [Int.add_zero]
    · obtain ⟨k1, -⟩ := hv.2.2.2.2.1 k (by omega) h4
      have e : 1 + 8 * k + 0 = 1 + 8 * k := by omega
      simp (disch := omega) only [X3_told, hk, e, decide_true, decide_false, reduceIte, and_self, and_true, true_and, and_false, false_and, or_true, true_or, or_false, false_or, not_true_eq_false, not_false_eq_true, reduceCtorEq, mA_ss, mI_ss, ↓St_rc, ↓fn_B, ↓fn_nn_none, ↓fn_nn_some, rZ_0, rZ_1, rZ_b, b2_z, b2_1, b2_or, b2_or0, b2_or1, iI_add, iI_sub, iI_mul, iI_neg, lI_add, lI_sub, lI_mul, iI_lt, iI_le, iI_eq, iI_to64, lI_cmp_lt, lI_cmp_gt, lI_cmp_ge, lI_cmp_le, lI_cmp_eq, mA_s, mA_o, mI_s, mI_o, mB_s, mB_o, mA_I, mA_B, mA_T, mA_F, mI_A, mI_B, mI_T, mI_F, mB_A, mB_I, mB_T, mB_F, mT_A, mT_I, mT_B, mT_F, mF_A, mF_I, mF_B, mF_T, ↓md_gA0, md_a0, md_s0, ↓md_gA1, md_a1, md_s1, ↓md_gA2, md_a2, md_s2, ↓md_gA3, md_a3, md_s3, ↓md_gA4, md_a4, md_s4, ↓md_g5, ↓md_p5, ↓md_g6, ↓md_p6, ↓md_g7, ↓md_p7, ↓md_g8, ↓md_p8, ↓md_gA9, md_a9, md_s9, ↓md_gA10, md_a10, md_s10, ↓md_gA11, md_a11, md_s11, ↓md_gA12, md_a12, md_s12, ↓md_gA13, md_a13, md_s13, ↓md_g14, ↓md_p14, ↓md_g15, ↓md_p15, ↓md_g16, ↓md_p16, ↓md_gA17, md_a17, md_s17, ↓md_gA18, md_a18, md_s18, ↓md_g19, ↓md_p19, ↓md_gA20, md_a20, md_s20, ↓md_g21, ↓md_p21, ↓md_gA22, md_a22, md_s22, ↓md_gA23, md_a23, md_s23, ↓md_gA24, md_a24, md_s24]
      rw [ih _ _ g (by omega) (by omega) (by omega) (by omega), Int.add_assoc]
theorem X3_of (hv : okD (μ.1 0)) {l w : Int} (r1 : r32 l) (r2 : r32 w) : gX3_of ρ b (iI l) (iI w) (St σ b μ) = some (iI (qOf (μ.1 0) l w), St σ b μ) := by
  have h0 := hv.1
  unfold gX3_of qOf
  by_cases h1 : 0 ≤ l ∧ l < μ.1 0 0
  · rw [St_rc, fn_Bt (s := St σ b μ) (by rw [X3_isLease r1 (by omega), decide_eq_true h1]), if_neg (by simpa using h1)]
    by_cases h2 : 0 ≤ w ∧ w ≤ 9
    · obtain ⟨k1, k2, k3, k4, k5, k6⟩ := hv.2.2.2.2.1 l h1.1 h1.2
      have k7 := endOf_r hv h1.2
      have e : 1 + 8 * l + 0 = 1 + 8 * l := by omega
      rw [fn_Bt (s := St σ b μ) (by rw [X3_isIn r2 (by decide) (by decide), decide_eq_true h2]), if_neg (c := ¬ (0 ≤ w ∧ w ≤ 9)) (by simpa using h2)]
      by_cases w0 : w = 0
      · rw [if_pos (by rw [w0]), if_pos w0]
        simp (disch := omega) only [X3_told, e, decide_true, decide_false, reduceIte, and_self, and_true, true_and, and_false, false_and, or_true, true_or, or_false, false_or, not_true_eq_false, not_false_eq_true, reduceCtorEq, mA_ss, mI_ss, ↓St_rc, ↓fn_B, ↓fn_nn_none, ↓fn_nn_some, rZ_0, rZ_1, rZ_b, b2_z, b2_1, b2_or, b2_or0, b2_or1, iI_add, iI_sub, iI_mul, iI_neg, lI_add, lI_sub, lI_mul, iI_lt, iI_le, iI_eq, iI_to64, lI_cmp_lt, lI_cmp_gt, lI_cmp_ge, lI_cmp_le, lI_cmp_eq, mA_s, mA_o, mI_s, mI_o, mB_s, mB_o, mA_I, mA_B, mA_T, mA_F, mI_A, mI_B, mI_T, mI_F, mB_A, mB_I, mB_T, mB_F, mT_A, mT_I, mT_B, mT_F, mF_A, mF_I, mF_B, mF_T, ↓md_gA0, md_a0, md_s0, ↓md_gA1, md_a1, md_s1, ↓md_gA2, md_a2, md_s2, ↓md_gA3, md_a3, md_s3, ↓md_gA4, md_a4, md_s4, ↓md_g5, ↓md_p5, ↓md_g6, ↓md_p6, ↓md_g7, ↓md_p7, ↓md_g8, ↓md_p8, ↓md_gA9, md_a9, md_s9, ↓md_gA10, md_a10, md_s10, ↓md_gA11, md_a11, md_s11, ↓md_gA12, md_a12, md_s12, ↓md_gA13, md_a13, md_s13, ↓md_g14, ↓md_p14, ↓md_g15, ↓md_p15, ↓md_g16, ↓md_p16, ↓md_gA17, md_a17, md_s17, ↓md_gA18, md_a18, md_s18, ↓md_g19, ↓md_p19, ↓md_gA20, md_a20, md_s20, ↓md_g21, ↓md_p21, ↓md_gA22, md_a22, md_s22, ↓md_gA23, md_a23, md_s23, ↓md_gA24, md_a24, md_s24]
        split <;> rfl
      rw [if_neg (fun q => w0 ((iI_eq r2 (by decide)).mp q)), if_neg w0]
      by_cases w1 : w = 1
      · rw [if_pos (by rw [w1]), if_pos w1, w1]
        simp (disch := omega) only [X3_told, decide_true, decide_false, reduceIte, and_self, and_true, true_and, and_false, false_and, or_true, true_or, or_false, false_or, not_true_eq_false, not_false_eq_true, reduceCtorEq, mA_ss, mI_ss, ↓St_rc, ↓fn_B, ↓fn_nn_none, ↓fn_nn_some, rZ_0, rZ_1, rZ_b, b2_z, b2_1, b2_or, b2_or0, b2_or1, iI_add, iI_sub, iI_mul, iI_neg, lI_add, lI_sub, lI_mul, iI_lt, iI_le, iI_eq, iI_to64, lI_cmp_lt, lI_cmp_gt, lI_cmp_ge, lI_cmp_le, lI_cmp_eq, mA_s, mA_o, mI_s, mI_o, mB_s, mB_o, mA_I, mA_B, mA_T, mA_F, mI_A, mI_B, mI_T, mI_F, mB_A, mB_I, mB_T, mB_F, mT_A, mT_I, mT_B, mT_F, mF_A, mF_I, mF_B, mF_T, ↓md_gA0, md_a0, md_s0, ↓md_gA1, md_a1, md_s1, ↓md_gA2, md_a2, md_s2, ↓md_gA3, md_a3, md_s3, ↓md_gA4, md_a4, md_s4, ↓md_g5, ↓md_p5, ↓md_g6, ↓md_p6, ↓md_g7, ↓md_p7, ↓md_g8, ↓md_p8, ↓md_gA9, md_a9, md_s9, ↓md_gA10, md_a10, md_s10, ↓md_gA11, md_a11, md_s11, ↓md_gA12, md_a12, md_s12, ↓md_gA13, md_a13, md_s13, ↓md_g14, ↓md_p14, ↓md_g15, ↓md_p15, ↓md_g16, ↓md_p16, ↓md_gA17, md_a17, md_s17, ↓md_gA18, md_a18, md_s18, ↓md_g19, ↓md_p19, ↓md_gA20, md_a20, md_s20, ↓md_g21, ↓md_p21, ↓md_gA22, md_a22, md_s22, ↓md_gA23, md_a23, md_s23, ↓md_gA24, md_a24, md_s24]
      rw [if_neg (fun q => w1 ((iI_eq r2 (by decide)).mp q)), if_neg w1]
      by_cases w2 : w = 2
      · rw [if_pos (by rw [w2]), if_pos w2, w2]
        simp (disch := omega) only [X3_told, decide_true, decide_false, reduceIte, and_self, and_true, true_and, and_false, false_and, or_true, true_or, or_false, false_or, not_true_eq_false, not_false_eq_true, reduceCtorEq, mA_ss, mI_ss, ↓St_rc, ↓fn_B, ↓fn_nn_none, ↓fn_nn_some, rZ_0, rZ_1, rZ_b, b2_z, b2_1, b2_or, b2_or0, b2_or1, iI_add, iI_sub, iI_mul, iI_neg, lI_add, lI_sub, lI_mul, iI_lt, iI_le, iI_eq, iI_to64, lI_cmp_lt, lI_cmp_gt, lI_cmp_ge, lI_cmp_le, lI_cmp_eq, mA_s, mA_o, mI_s, mI_o, mB_s, mB_o, mA_I, mA_B, mA_T, mA_F, mI_A, mI_B, mI_T, mI_F, mB_A, mB_I, mB_T, mB_F, mT_A, mT_I, mT_B, mT_F, mF_A, mF_I, mF_B, mF_T, ↓md_gA0, md_a0, md_s0, ↓md_gA1, md_a1, md_s1, ↓md_gA2, md_a2, md_s2, ↓md_gA3, md_a3, md_s3, ↓md_gA4, md_a4, md_s4, ↓md_g5, ↓md_p5, ↓md_g6, ↓md_p6, ↓md_g7, ↓md_p7, ↓md_g8, ↓md_p8, ↓md_gA9, md_a9, md_s9, ↓md_gA10, md_a10, md_s10, ↓md_gA11, md_a11, md_s11, ↓md_gA12, md_a12, md_s12, ↓md_gA13, md_a13, md_s13, ↓md_g14, ↓md_p14, ↓md_g15, ↓md_p15, ↓md_g16, ↓md_p16, ↓md_gA17, md_a17, md_s17, ↓md_gA18, md_a18, md_s18, ↓md_g19, ↓md_p19, ↓md_gA20, md_a20, md_s20, ↓md_g21, ↓md_p21, ↓md_gA22, md_a22, md_s22, ↓md_gA23, md_a23, md_s23, ↓md_gA24, md_a24, md_s24]
      rw [if_neg (fun q => w2 ((iI_eq r2 (by decide)).mp q)), if_neg w2]
      by_cases w3 : w = 3
      · rw [if_pos (by rw [w3]), if_pos w3, w3]
        simp (disch := omega) only [X3_told, decide_true, decide_false, reduceIte, and_self, and_true, true_and, and_false, false_and, or_true, true_or, or_false, false_or, not_true_eq_false, not_false_eq_true, reduceCtorEq, mA_ss, mI_ss, ↓St_rc, ↓fn_B, ↓fn_nn_none, ↓fn_nn_some, rZ_0, rZ_1, rZ_b, b2_z, b2_1, b2_or, b2_or0, b2_or1, iI_add, iI_sub, iI_mul, iI_neg, lI_add, lI_sub, lI_mul, iI_lt, iI_le, iI_eq, iI_to64, lI_cmp_lt, lI_cmp_gt, lI_cmp_ge, lI_cmp_le, lI_cmp_eq, mA_s, mA_o, mI_s, mI_o, mB_s, mB_o, mA_I, mA_B, mA_T, mA_F, mI_A, mI_B, mI_T, mI_F, mB_A, mB_I, mB_T, mB_F, mT_A, mT_I, mT_B, mT_F, mF_A, mF_I, mF_B, mF_T, ↓md_gA0, md_a0, md_s0, ↓md_gA1, md_a1, md_s1, ↓md_gA2, md_a2, md_s2, ↓md_gA3, md_a3, md_s3, ↓md_gA4, md_a4, md_s4, ↓md_g5, ↓md_p5, ↓md_g6, ↓md_p6, ↓md_g7, ↓md_p7, ↓md_g8, ↓md_p8, ↓md_gA9, md_a9, md_s9, ↓md_gA10, md_a10, md_s10, ↓md_gA11, md_a11, md_s11, ↓md_gA12, md_a12, md_s12, ↓md_gA13, md_a13, md_s13, ↓md_g14, ↓md_p14, ↓md_g15, ↓md_p15, ↓md_g16, ↓md_p16, ↓md_gA17, md_a17, md_s17, ↓md_gA18, md_a18, md_s18, ↓md_g19, ↓md_p19, ↓md_gA20, md_a20, md_s20, ↓md_g21, ↓md_p21, ↓md_gA22, md_a22, md_s22, ↓md_gA23, md_a23, md_s23, ↓md_gA24, md_a24, md_s24]
      rw [if_neg (fun q => w3 ((iI_eq r2 (by decide)).mp q)), if_neg w3]
      by_cases w4 : w = 4
      · rw [if_pos (by rw [w4]), if_pos w4, w4]
        simp (disch := omega) only [X3_told, decide_true, decide_false, reduceIte, and_self, and_true, true_and, and_false, false_and, or_true, true_or, or_false, false_or, not_true_eq_false, not_false_eq_true, reduceCtorEq, mA_ss, mI_ss, ↓St_rc, ↓fn_B, ↓fn_nn_none, ↓fn_nn_some, rZ_0, rZ_1, rZ_b, b2_z, b2_1, b2_or, b2_or0, b2_or1, iI_add, iI_sub, iI_mul, iI_neg, lI_add, lI_sub, lI_mul, iI_lt, iI_le, iI_eq, iI_to64, lI_cmp_lt, lI_cmp_gt, lI_cmp_ge, lI_cmp_le, lI_cmp_eq, mA_s, mA_o, mI_s, mI_o, mB_s, mB_o, mA_I, mA_B, mA_T, mA_F, mI_A, mI_B, mI_T, mI_F, mB_A, mB_I, mB_T, mB_F, mT_A, mT_I, mT_B, mT_F, mF_A, mF_I, mF_B, mF_T, ↓md_gA0, md_a0, md_s0, ↓md_gA1, md_a1, md_s1, ↓md_gA2, md_a2, md_s2, ↓md_gA3, md_a3, md_s3, ↓md_gA4, md_a4, md_s4, ↓md_g5, ↓md_p5, ↓md_g6, ↓md_p6, ↓md_g7, ↓md_p7, ↓md_g8, ↓md_p8, ↓md_gA9, md_a9, md_s9, ↓md_gA10, md_a10, md_s10, ↓md_gA11, md_a11, md_s11, ↓md_gA12, md_a12, md_s12, ↓md_gA13, md_a13, md_s13, ↓md_g14, ↓md_p14, ↓md_g15, ↓md_p15, ↓md_g16, ↓md_p16, ↓md_gA17, md_a17, md_s17, ↓md_gA18, md_a18, md_s18, ↓md_g19, ↓md_p19, ↓md_gA20, md_a20, md_s20, ↓md_g21, ↓md_p21, ↓md_gA22, md_a22, md_s22, ↓md_gA23, md_a23, md_s23, ↓md_gA24, md_a24, md_s24]
      rw [if_neg (fun q => w4 ((iI_eq r2 (by decide)).mp q)), if_neg w4]
      by_cases w5 : w = 5
      · rw [if_pos (by rw [w5]), if_pos w5]
        simp (disch := omega) only [X3_endOf hv, decide_true, decide_false, reduceIte, and_self, and_true, true_and, and_false, false_and, or_true, true_or, or_false, false_or, not_true_eq_false, not_false_eq_true, reduceCtorEq, mA_ss, mI_ss, ↓St_rc, ↓fn_B, ↓fn_nn_none, ↓fn_nn_some, rZ_0, rZ_1, rZ_b, b2_z, b2_1, b2_or, b2_or0, b2_or1, iI_add, iI_sub, iI_mul, iI_neg, lI_add, lI_sub, lI_mul, iI_lt, iI_le, iI_eq, iI_to64, lI_cmp_lt, lI_cmp_gt, lI_cmp_ge, lI_cmp_le, lI_cmp_eq, mA_s, mA_o, mI_s, mI_o, mB_s, mB_o, mA_I, mA_B, mA_T, mA_F, mI_A, mI_B, mI_T, mI_F, mB_A, mB_I, mB_T, mB_F, mT_A, mT_I, mT_B, mT_F, mF_A, mF_I, mF_B, mF_T, ↓md_gA0, md_a0, md_s0, ↓md_gA1, md_a1, md_s1, ↓md_gA2, md_a2, md_s2, ↓md_gA3, md_a3, md_s3, ↓md_gA4, md_a4, md_s4, ↓md_g5, ↓md_p5, ↓md_g6, ↓md_p6, ↓md_g7, ↓md_p7, ↓md_g8, ↓md_p8, ↓md_gA9, md_a9, md_s9, ↓md_gA10, md_a10, md_s10, ↓md_gA11, md_a11, md_s11, ↓md_gA12, md_a12, md_s12, ↓md_gA13, md_a13, md_s13, ↓md_g14, ↓md_p14, ↓md_g15, ↓md_p15, ↓md_g16, ↓md_p16, ↓md_gA17, md_a17, md_s17, ↓md_gA18, md_a18, md_s18, ↓md_g19, ↓md_p19, ↓md_gA20, md_a20, md_s20, ↓md_g21, ↓md_p21, ↓md_gA22, md_a22, md_s22, ↓md_gA23, md_a23, md_s23, ↓md_gA24, md_a24, md_s24]
        split <;> rfl
      rw [if_neg (fun q => w5 ((iI_eq r2 (by decide)).mp q)), if_neg w5]
      by_cases w6 : w = 6
      · rw [if_pos (by rw [w6]), if_pos w6]
        simp (disch := omega) only [X3_told, decide_true, decide_false, reduceIte, and_self, and_true, true_and, and_false, false_and, or_true, true_or, or_false, false_or, not_true_eq_false, not_false_eq_true, reduceCtorEq, mA_ss, mI_ss, ↓St_rc, ↓fn_B, ↓fn_nn_none, ↓fn_nn_some, rZ_0, rZ_1, rZ_b, b2_z, b2_1, b2_or, b2_or0, b2_or1, iI_add, iI_sub, iI_mul, iI_neg, lI_add, lI_sub, lI_mul, iI_lt, iI_le, iI_eq, iI_to64, lI_cmp_lt, lI_cmp_gt, lI_cmp_ge, lI_cmp_le, lI_cmp_eq, mA_s, mA_o, mI_s, mI_o, mB_s, mB_o, mA_I, mA_B, mA_T, mA_F, mI_A, mI_B, mI_T, mI_F, mB_A, mB_I, mB_T, mB_F, mT_A, mT_I, mT_B, mT_F, mF_A, mF_I, mF_B, mF_T, ↓md_gA0, md_a0, md_s0, ↓md_gA1, md_a1, md_s1, ↓md_gA2, md_a2, md_s2, ↓md_gA3, md_a3, md_s3, ↓md_gA4, md_a4, md_s4, ↓md_g5, ↓md_p5, ↓md_g6, ↓md_p6, ↓md_g7, ↓md_p7, ↓md_g8, ↓md_p8, ↓md_gA9, md_a9, md_s9, ↓md_gA10, md_a10, md_s10, ↓md_gA11, md_a11, md_s11, ↓md_gA12, md_a12, md_s12, ↓md_gA13, md_a13, md_s13, ↓md_g14, ↓md_p14, ↓md_g15, ↓md_p15, ↓md_g16, ↓md_p16, ↓md_gA17, md_a17, md_s17, ↓md_gA18, md_a18, md_s18, ↓md_g19, ↓md_p19, ↓md_gA20, md_a20, md_s20, ↓md_g21, ↓md_p21, ↓md_gA22, md_a22, md_s22, ↓md_gA23, md_a23, md_s23, ↓md_gA24, md_a24, md_s24]
        split <;> rfl
      rw [if_neg (fun q => w6 ((iI_eq r2 (by decide)).mp q)), if_neg w6]
      by_cases w7 : w = 7
      · rw [if_pos (by rw [w7]), if_pos w7]
        have q := X3_of_b (ρ := ρ) (σ := σ) (b := b) hv h1 (μ.1 0 0).toNat 0 0 fnGas (by omega) (by unfold fnGas; omega) (by decide)
        rw [Int.zero_add] at q
        exact q
      rw [if_neg (fun q => w7 ((iI_eq r2 (by decide)).mp q)), if_neg w7]
      by_cases w8 : w = 8
      · rw [if_pos (by rw [w8]), if_pos w8]
        have q := X3_of_c (ρ := ρ) (σ := σ) (b := b) hv 11 (μ.1 0 (1 + 8 * l)) 0 fnGas (by omega) (by decide) (by omega) (by omega)
        rw [Int.zero_add] at q
        simp (disch := omega) only [X3_told, e, decide_true, decide_false, reduceIte, and_self, and_true, true_and, and_false, false_and, or_true, true_or, or_false, false_or, not_true_eq_false, not_false_eq_true, reduceCtorEq, mA_ss, mI_ss, ↓St_rc, ↓fn_B, ↓fn_nn_none, ↓fn_nn_some, rZ_0, rZ_1, rZ_b, b2_z, b2_1, b2_or, b2_or0, b2_or1, iI_add, iI_sub, iI_mul, iI_neg, lI_add, lI_sub, lI_mul, iI_lt, iI_le, iI_eq, iI_to64, lI_cmp_lt, lI_cmp_gt, lI_cmp_ge, lI_cmp_le, lI_cmp_eq, mA_s, mA_o, mI_s, mI_o, mB_s, mB_o, mA_I, mA_B, mA_T, mA_F, mI_A, mI_B, mI_T, mI_F, mB_A, mB_I, mB_T, mB_F, mT_A, mT_I, mT_B, mT_F, mF_A, mF_I, mF_B, mF_T, ↓md_gA0, md_a0, md_s0, ↓md_gA1, md_a1, md_s1, ↓md_gA2, md_a2, md_s2, ↓md_gA3, md_a3, md_s3, ↓md_gA4, md_a4, md_s4, ↓md_g5, ↓md_p5, ↓md_g6, ↓md_p6, ↓md_g7, ↓md_p7, ↓md_g8, ↓md_p8, ↓md_gA9, md_a9, md_s9, ↓md_gA10, md_a10, md_s10, ↓md_gA11, md_a11, md_s11, ↓md_gA12, md_a12, md_s12, ↓md_gA13, md_a13, md_s13, ↓md_g14, ↓md_p14, ↓md_g15, ↓md_p15, ↓md_g16, ↓md_p16, ↓md_gA17, md_a17, md_s17, ↓md_gA18, md_a18, md_s18, ↓md_g19, ↓md_p19, ↓md_gA20, md_a20, md_s20, ↓md_g21, ↓md_p21, ↓md_gA22, md_a22, md_s22, ↓md_gA23, md_a23, md_s23, ↓md_gA24, md_a24, md_s24]
        exact q
      rw [if_neg (fun q => w8 ((iI_eq r2 (by decide)).mp q)), if_neg w8]
      simp (disch := omega) only [X3_told, decide_true, decide_false, reduceIte, and_self, and_true, true_and, and_false, false_and, or_true, true_or, or_false, false_or, not_true_eq_false, not_false_eq_true, reduceCtorEq, mA_ss, mI_ss, ↓St_rc, ↓fn_B, ↓fn_nn_none, ↓fn_nn_some, rZ_0, rZ_1, rZ_b, b2_z, b2_1, b2_or, b2_or0, b2_or1, iI_add, iI_sub, iI_mul, iI_neg, lI_add, lI_sub, lI_mul, iI_lt, iI_le, iI_eq, iI_to64, lI_cmp_lt, lI_cmp_gt, lI_cmp_ge, lI_cmp_le, lI_cmp_eq, mA_s, mA_o, mI_s, mI_o, mB_s, mB_o, mA_I, mA_B, mA_T, mA_F, mI_A, mI_B, mI_T, mI_F, mB_A, mB_I, mB_T, mB_F, mT_A, mT_I, mT_B, mT_F, mF_A, mF_I, mF_B, mF_T, ↓md_gA0, md_a0, md_s0, ↓md_gA1, md_a1, md_s1, ↓md_gA2, md_a2, md_s2, ↓md_gA3, md_a3, md_s3, ↓md_gA4, md_a4, md_s4, ↓md_g5, ↓md_p5, ↓md_g6, ↓md_p6, ↓md_g7, ↓md_p7, ↓md_g8, ↓md_p8, ↓md_gA9, md_a9, md_s9, ↓md_gA10, md_a10, md_s10, ↓md_gA11, md_a11, md_s11, ↓md_gA12, md_a12, md_s12, ↓md_gA13, md_a13, md_s13, ↓md_g14, ↓md_p14, ↓md_g15, ↓md_p15, ↓md_g16, ↓md_p16, ↓md_gA17, md_a17, md_s17, ↓md_gA18, md_a18, md_s18, ↓md_g19, ↓md_p19, ↓md_gA20, md_a20, md_s20, ↓md_g21, ↓md_p21, ↓md_gA22, md_a22, md_s22, ↓md_gA23, md_a23, md_s23, ↓md_gA24, md_a24, md_s24]
      split <;> rfl
    · rw [fn_Bf (s := St σ b μ) (by rw [X3_isIn r2 (by decide) (by decide), decide_eq_false h2]), if_pos h2]
  · rw [St_rc, fn_Bf (s := St σ b μ) (by rw [X3_isLease r1 (by omega), decide_eq_false h1]), if_pos h1]
end More2
