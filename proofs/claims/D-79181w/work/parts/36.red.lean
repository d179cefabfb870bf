/-! defects, reductions, units -/
def sm (f : Int → Int) : Int → Nat → Int
  | _, 0 => 0
  | a, n + 1 => f a + sm f (a + 1) n
theorem sm_congr {f g : Int → Int} : ∀ (n : Nat) (a : Int), (∀ i, a ≤ i → i < a + n → f i = g i) → sm f a n = sm g a n
  | 0, _, _ => rfl
  | n + 1, a, h => by
    unfold sm
    rw [h a (by omega) (by omega), sm_congr n (a + 1) (fun i h1 h2 => h i (by omega) (by omega))]
theorem sm_r {f : Int → Int} {lo hi : Int} : ∀ (n : Nat) (a : Int), (∀ i, a ≤ i → i < a + n → lo ≤ f i ∧ f i ≤ hi) → lo * n ≤ sm f a n ∧ sm f a n ≤ hi * n
  | 0, _, _ => by unfold sm; simp
  | n + 1, a, h => by
    unfold sm
    have h1 := h a (by omega) (by omega)
    have h2 := sm_r (f := f) (lo := lo) (hi := hi) n (a + 1) (fun i h1 h2 => h i (by omega) (by omega))
    have e : ((n + 1 : Nat) : Int) = (n : Int) + 1 := by omega
    rw [e, Int.mul_add, Int.mul_add]
    omega
theorem sm_last (f : Int → Int) : ∀ (n : Nat) (a : Int), sm f a (n + 1) = sm f a n + f (a + n)
  | 0, a => by unfold sm; unfold sm; simp
  | n + 1, a => by
    have h := sm_last f n (a + 1)
    rw [show sm f a (n + 1 + 1) = f a + sm f (a + 1) (n + 1) from rfl, h, show sm f a (n + 1) = f a + sm f (a + 1) n from rfl]
    rw [show a + 1 + (n : Int) = a + ((n + 1 : Nat) : Int) by omega]
    omega
def sUnder (v : Int → Int) (t : Int) : Nat → Int → Bool
  | 0, _ => false
  | n + 1, k => if k < 0 then false else (decide (t = k) || sUnder v t n (v (1 + 8 * k)))
def sHolds (v : Int → Int) (d day : Int) : Bool := decide (v (82 + 4 * d + 2) ≤ day ∧ day < v (82 + 4 * d + 3))
def sRedS (v : Int → Int) (t : Int → Bool) (day : Int) : Int := sm (fun d => if t d = true ∧ sHolds v d day = true then v (82 + 4 * d + 1) else 0) 0 (v 81).toNat
def sRed (v : Int → Int) (l day : Int) : Int := if sRedS v (fun d => sUnder v (v (82 + 4 * d)) 11 l) day ≤ 100 then sRedS v (fun d => sUnder v (v (82 + 4 * d)) 11 l) day else 100
theorem sRedS_r {v : Int → Int} (hv : okD v) (t : Int → Bool) (day : Int) : 0 ≤ sRedS v t day ∧ sRedS v t day ≤ 1200 := by
  have h := hv.2.1
  have q := sm_r (f := fun d => if t d = true ∧ sHolds v d day = true then v (82 + 4 * d + 1) else 0) (lo := 0) (hi := 100) (v 81).toNat 0 (fun i h1 h2 => by
    obtain ⟨-, k, -⟩ := hv.2.2.2.2.2.1 i h1 (by omega)
    split <;> omega)
  unfold sRedS
  omega
theorem sRed_r {v : Int → Int} (hv : okD v) (l day : Int) : 0 ≤ sRed v l day ∧ sRed v l day ≤ 100 := by
  have := sRedS_r hv (fun d => sUnder v (v (82 + 4 * d)) 11 l) day
  unfold sRed
  split <;> omega
def setT (μ : MM) (f : Int → Bool) : MM := (μ.1, μ.2.1, μ.2.2.1, f, μ.2.2.2.2)
theorem setT_self {μ : MM} : setT μ μ.2.2.2.1 = μ := rfl
def tch (v : Int → Int) (l k : Int) (old : Int → Bool) : Int → Bool := fun d => if 0 ≤ d ∧ d < k then sUnder v (v (82 + 4 * d)) 11 l else old d
theorem tch_0 (v : Int → Int) (l : Int) (old : Int → Bool) : tch v l 0 old = old := by
  funext d
  unfold tch
  rw [if_neg (by omega)]
section Red
variable {ρ : Nat → Nat} {σ : mS} {b : Nat} {μ : MM}
theorem mT_ss {i : Int} {x y : Bool} : mT (mT μ i x) i y = mT μ i y := by
  unfold mT
  refine Prod.ext rfl (Prod.ext rfl (Prod.ext rfl (Prod.ext (funext fun j => ?_) rfl)))
  dsimp only
  by_cases h : j = i
  · rw [if_pos h, if_pos h]
  · rw [if_neg h, if_neg h, if_neg h]
theorem mT_s {i : Int} {x : Bool} : (mT μ i x).2.2.2.1 i = x := if_pos rfl
theorem X3_fd22 (hv : okD (μ.1 0)) {K : Int32 → Int32 → mS → Option (Unit × mS)} {x1 : Int32} {d : Int} (hd : 0 ≤ d ∧ d < μ.1 0 81) : ∀ (n : Nat) (k : Int) (acc : Bool) (gas : Nat), k < n → n < gas → -1 ≤ k → k < μ.1 0 0 → fnFix (fun _ _ _ _ => none) (gX3_findsDefects_b22 ρ b K) gas x1 (iI d) (iI k) (St σ b (mT μ d acc)) = K x1 (iI (d + 1)) (St σ b (mT μ d (acc || sUnder (μ.1 0) (μ.1 0 (82 + 4 * d)) n k))) := by
  intro n
  induction n with
  | zero =>
    intro k acc gas h1 h2 h3 h4
    obtain ⟨g, rfl⟩ := gas_s h2
    rw [fnFix_s, gX3_findsDefects_b22]
    simp (disch := omega) only [decide_true, decide_false, reduceIte, and_self, and_true, true_and, and_false, false_and, or_true, true_or, or_false, false_or, not_true_eq_false, not_false_eq_true, reduceCtorEq, mA_ss, mI_ss, ↓St_rc, ↓fn_B, ↓fn_nn_none, ↓fn_nn_some, rZ_0, rZ_1, rZ_b, b2_z, b2_1, b2_or, b2_or0, b2_or1, iI_add, iI_sub, iI_mul, iI_neg, lI_add, lI_sub, lI_mul, iI_lt, iI_le, iI_eq, iI_to64, lI_cmp_lt, lI_cmp_gt, lI_cmp_ge, lI_cmp_le, lI_cmp_eq, mA_s, mA_o, mI_s, mI_o, mB_s, mB_o, mA_I, mA_B, mA_T, mA_F, mI_A, mI_B, mI_T, mI_F, mB_A, mB_I, mB_T, mB_F, mT_A, mT_I, mT_B, mT_F, mF_A, mF_I, mF_B, mF_T, ↓md_gA0, md_a0, md_s0, ↓md_gA1, md_a1, md_s1, ↓md_gA2, md_a2, md_s2, ↓md_gA3, md_a3, md_s3, ↓md_gA4, md_a4, md_s4, ↓md_g5, ↓md_p5, ↓md_g6, ↓md_p6, ↓md_g7, ↓md_p7, ↓md_g8, ↓md_p8, ↓md_gA9, md_a9, md_s9, ↓md_gA10, md_a10, md_s10, ↓md_gA11, md_a11, md_s11, ↓md_gA12, md_a12, md_s12, ↓md_gA13, md_a13, md_s13, ↓md_g14, ↓md_p14, ↓md_g15, ↓md_p15, ↓md_g16, ↓md_p16, ↓md_gA17, md_a17, md_s17, ↓md_gA18, md_a18, md_s18, ↓md_g19, ↓md_p19, ↓md_gA20, md_a20, md_s20, ↓md_g21, ↓md_p21, ↓md_gA22, md_a22, md_s22, ↓md_gA23, md_a23, md_s23, ↓md_gA24, md_a24, md_s24]
    rw [if_pos (by omega), sUnder, Bool.or_false]
  | succ n ih =>
    intro k acc gas h1 h2 h3 h4
    obtain ⟨g, rfl⟩ := gas_s h2
    have h0 := hv.1
    have h9 := hv.2.1
    rw [fnFix_s, gX3_findsDefects_b22, sUnder]
    by_cases hk : k < 0
    · simp (disch := omega) only [hk, decide_true, decide_false, reduceIte, and_self, and_true, true_and, and_false, false_and, or_true, true_or, or_false, false_or, not_true_eq_false, not_false_eq_true, reduceCtorEq, mA_ss, mI_ss, ↓St_rc, ↓fn_B, ↓fn_nn_none, ↓fn_nn_some, rZ_0, rZ_1, rZ_b, b2_z, b2_1, b2_or, b2_or0, b2_or1, iI_add, iI_sub, iI_mul, iI_neg, lI_add, lI_sub, lI_mul, iI_lt, iI_le, iI_eq, iI_to64, lI_cmp_lt, lI_cmp_gt, lI_cmp_ge, lI_cmp_le, lI_cmp_eq, mA_s, mA_o, mI_s, mI_o, mB_s, mB_o, mA_I, mA_B, mA_T, mA_F, mI_A, mI_B, mI_T, mI_F, mB_A, mB_I, mB_T, mB_F, mT_A, mT_I, mT_B, mT_F, mF_A, mF_I, mF_B, mF_T, ↓md_gA0, md_a0, md_s0, ↓md_gA1, md_a1, md_s1, ↓md_gA2, md_a2, md_s2, ↓md_gA3, md_a3, md_s3, ↓md_gA4, md_a4, md_s4, ↓md_g5, ↓md_p5, ↓md_g6, ↓md_p6, ↓md_g7, ↓md_p7, ↓md_g8, ↓md_p8, ↓md_gA9, md_a9, md_s9, ↓md_gA10, md_a10, md_s10, ↓md_gA11, md_a11, md_s11, ↓md_gA12, md_a12, md_s12, ↓md_gA13, md_a13, md_s13, ↓md_g14, ↓md_p14, ↓md_g15, ↓md_p15, ↓md_g16, ↓md_p16, ↓md_gA17, md_a17, md_s17, ↓md_gA18, md_a18, md_s18, ↓md_g19, ↓md_p19, ↓md_gA20, md_a20, md_s20, ↓md_g21, ↓md_p21, ↓md_gA22, md_a22, md_s22, ↓md_gA23, md_a23, md_s23, ↓md_gA24, md_a24, md_s24]
      rw [Bool.or_false]
    · obtain ⟨k1, -⟩ := hv.2.2.2.2.1 k (by omega) h4
      obtain ⟨k2, -⟩ := hv.2.2.2.2.2.1 d hd.1 hd.2
      have e : 1 + 8 * k + 0 = 1 + 8 * k := by omega
      by_cases ht : μ.1 0 (82 + 4 * d) = k
      · simp (disch := omega) only [gX3_findsDefects_b53, X3_told, ht, hk, mT_s, mT_ss, e, decide_true, decide_false, reduceIte, and_self, and_true, true_and, and_false, false_and, or_true, true_or, or_false, false_or, not_true_eq_false, not_false_eq_true, reduceCtorEq, mA_ss, mI_ss, ↓St_rc, ↓fn_B, ↓fn_nn_none, ↓fn_nn_some, rZ_0, rZ_1, rZ_b, b2_z, b2_1, b2_or, b2_or0, b2_or1, iI_add, iI_sub, iI_mul, iI_neg, lI_add, lI_sub, lI_mul, iI_lt, iI_le, iI_eq, iI_to64, lI_cmp_lt, lI_cmp_gt, lI_cmp_ge, lI_cmp_le, lI_cmp_eq, mA_s, mA_o, mI_s, mI_o, mB_s, mB_o, mA_I, mA_B, mA_T, mA_F, mI_A, mI_B, mI_T, mI_F, mB_A, mB_I, mB_T, mB_F, mT_A, mT_I, mT_B, mT_F, mF_A, mF_I, mF_B, mF_T, ↓md_gA0, md_a0, md_s0, ↓md_gA1, md_a1, md_s1, ↓md_gA2, md_a2, md_s2, ↓md_gA3, md_a3, md_s3, ↓md_gA4, md_a4, md_s4, ↓md_g5, ↓md_p5, ↓md_g6, ↓md_p6, ↓md_g7, ↓md_p7, ↓md_g8, ↓md_p8, ↓md_gA9, md_a9, md_s9, ↓md_gA10, md_a10, md_s10, ↓md_gA11, md_a11, md_s11, ↓md_gA12, md_a12, md_s12, ↓md_gA13, md_a13, md_s13, ↓md_g14, ↓md_p14, ↓md_g15, ↓md_p15, ↓md_g16, ↓md_p16, ↓md_gA17, md_a17, md_s17, ↓md_gA18, md_a18, md_s18, ↓md_g19, ↓md_p19, ↓md_gA20, md_a20, md_s20, ↓md_g21, ↓md_p21, ↓md_gA22, md_a22, md_s22, ↓md_gA23, md_a23, md_s23, ↓md_gA24, md_a24, md_s24]
        rw [ih _ _ _ (by omega) (by omega) (by omega) (by omega), ← ht]
        rw [Bool.true_or, Bool.or_true]
      · simp (disch := omega) only [gX3_findsDefects_b53, X3_told, ht, hk, mT_s, mT_ss, e, decide_true, decide_false, reduceIte, and_self, and_true, true_and, and_false, false_and, or_true, true_or, or_false, false_or, not_true_eq_false, not_false_eq_true, reduceCtorEq, mA_ss, mI_ss, ↓St_rc, ↓fn_B, ↓fn_nn_none, ↓fn_nn_some, rZ_0, rZ_1, rZ_b, b2_z, b2_1, b2_or, b2_or0, b2_or1, iI_add, iI_sub, iI_mul, iI_neg, lI_add, lI_sub, lI_mul, iI_lt, iI_le, iI_eq, iI_to64, lI_cmp_lt, lI_cmp_gt, lI_cmp_ge, lI_cmp_le, lI_cmp_eq, mA_s, mA_o, mI_s, mI_o, mB_s, mB_o, mA_I, mA_B, mA_T, mA_F, mI_A, mI_B, mI_T, mI_F, mB_A, mB_I, mB_T, mB_F, mT_A, mT_I, mT_B, mT_F, mF_A, mF_I, mF_B, mF_T, ↓md_gA0, md_a0, md_s0, ↓md_gA1, md_a1, md_s1, ↓md_gA2, md_a2, md_s2, ↓md_gA3, md_a3, md_s3, ↓md_gA4, md_a4, md_s4, ↓md_g5, ↓md_p5, ↓md_g6, ↓md_p6, ↓md_g7, ↓md_p7, ↓md_g8, ↓md_p8, ↓md_gA9, md_a9, md_s9, ↓md_gA10, md_a10, md_s10, ↓md_gA11, md_a11, md_s11, ↓md_gA12, md_a12, md_s12, ↓md_gA13, md_a13, md_s13, ↓md_g14, ↓md_p14, ↓md_g15, ↓md_p15, ↓md_g16, ↓md_p16, ↓md_gA17, md_a17, md_s17, ↓md_gA18, md_a18, md_s18, ↓md_g19, ↓md_p19, ↓md_gA20, md_a20, md_s20, ↓md_g21, ↓md_p21, ↓md_gA22, md_a22, md_s22, ↓md_gA23, md_a23, md_s23, ↓md_gA24, md_a24, md_s24]
        rw [ih _ _ _ (by omega) (by omega) (by omega) (by omega)]
        rw [Bool.false_or]
theorem X3_fd2 (hv : okD (μ.1 0)) {l : Int} (hl : 0 ≤ l ∧ l < μ.1 0 0) (old : Int → Bool) : ∀ (n : Nat) (d : Int) (gas : Nat), d + n = μ.1 0 81 → n < gas → 0 ≤ d → fnFix (fun _ _ _ => none) (gX3_findsDefects_b2 ρ b) gas (iI l) (iI d) (St σ b (setT μ (tch (μ.1 0) l d old))) = some ((), St σ b (setT μ (tch (μ.1 0) l (μ.1 0 81) old))) := by
  intro n
  induction n with
  | zero =>
    intro d gas h1 h2 h3
    have h9 := hv.2.1
    obtain ⟨g, rfl⟩ := gas_s h2
    rw [fnFix_s, gX3_findsDefects_b2]
    have e : ∀ f, (setT μ f).1 0 = μ.1 0 := fun f => rfl
    simp (disch := omega) only [e, decide_true, decide_false, reduceIte, and_self, and_true, true_and, and_false, false_and, or_true, true_or, or_false, false_or, not_true_eq_false, not_false_eq_true, reduceCtorEq, mA_ss, mI_ss, ↓St_rc, ↓fn_B, ↓fn_nn_none, ↓fn_nn_some, rZ_0, rZ_1, rZ_b, b2_z, b2_1, b2_or, b2_or0, b2_or1, iI_add, iI_sub, iI_mul, iI_neg, lI_add, lI_sub, lI_mul, iI_lt, iI_le, iI_eq, iI_to64, lI_cmp_lt, lI_cmp_gt, lI_cmp_ge, lI_cmp_le, lI_cmp_eq, mA_s, mA_o, mI_s, mI_o, mB_s, mB_o, mA_I, mA_B, mA_T, mA_F, mI_A, mI_B, mI_T, mI_F, mB_A, mB_I, mB_T, mB_F, mT_A, mT_I, mT_B, mT_F, mF_A, mF_I, mF_B, mF_T, ↓md_gA0, md_a0, md_s0, ↓md_gA1, md_a1, md_s1, ↓md_gA2, md_a2, md_s2, ↓md_gA3, md_a3, md_s3, ↓md_gA4, md_a4, md_s4, ↓md_g5, ↓md_p5, ↓md_g6, ↓md_p6, ↓md_g7, ↓md_p7, ↓md_g8, ↓md_p8, ↓md_gA9, md_a9, md_s9, ↓md_gA10, md_a10, md_s10, ↓md_gA11, md_a11, md_s11, ↓md_gA12, md_a12, md_s12, ↓md_gA13, md_a13, md_s13, ↓md_g14, ↓md_p14, ↓md_g15, ↓md_p15, ↓md_g16, ↓md_p16, ↓md_gA17, md_a17, md_s17, ↓md_gA18, md_a18, md_s18, ↓md_g19, ↓md_p19, ↓md_gA20, md_a20, md_s20, ↓md_g21, ↓md_p21, ↓md_gA22, md_a22, md_s22, ↓md_gA23, md_a23, md_s23, ↓md_gA24, md_a24, md_s24]
    rw [if_pos (by omega), show d = μ.1 0 81 by omega]
  | succ n ih =>
    intro d gas h1 h2 h3
    have h9 := hv.2.1
    obtain ⟨g, rfl⟩ := gas_s h2
    rw [fnFix_s, gX3_findsDefects_b2]
    have e : ∀ f, (setT μ f).1 0 = μ.1 0 := fun f => rfl
    simp (disch := omega) only [e, decide_true, decide_false, reduceIte, and_self, and_true, true_and, and_false, false_and, or_true, true_or, or_false, false_or, not_true_eq_false, not_false_eq_true, reduceCtorEq, mA_ss, mI_ss, ↓St_rc, ↓fn_B, ↓fn_nn_none, ↓fn_nn_some, rZ_0, rZ_1, rZ_b, b2_z, b2_1, b2_or, b2_or0, b2_or1, iI_add, iI_sub, iI_mul, iI_neg, lI_add, lI_sub, lI_mul, iI_lt, iI_le, iI_eq, iI_to64, lI_cmp_lt, lI_cmp_gt, lI_cmp_ge, lI_cmp_le, lI_cmp_eq, mA_s, mA_o, mI_s, mI_o, mB_s, mB_o, mA_I, mA_B, mA_T, mA_F, mI_A, mI_B, mI_T, mI_F, mB_A, mB_I, mB_T, mB_F, mT_A, mT_I, mT_B, mT_F, mF_A, mF_I, mF_B, mF_T, ↓md_gA0, md_a0, md_s0, ↓md_gA1, md_a1, md_s1, ↓md_gA2, md_a2, md_s2, ↓md_gA3, md_a3, md_s3, ↓md_gA4, md_a4, md_s4, ↓md_g5, ↓md_p5, ↓md_g6, ↓md_p6, ↓md_g7, ↓md_p7, ↓md_g8, ↓md_p8, ↓md_gA9, md_a9, md_s9, ↓md_gA10, md_a10, md_s10, ↓md_gA11, md_a11, md_s11, ↓md_gA12, md_a12, md_s12, ↓md_gA13, md_a13, md_s13, ↓md_g14, ↓md_p14, ↓md_g15, ↓md_p15, ↓md_g16, ↓md_p16, ↓md_gA17, md_a17, md_s17, ↓md_gA18, md_a18, md_s18, ↓md_g19, ↓md_p19, ↓md_gA20, md_a20, md_s20, ↓md_g21, ↓md_p21, ↓md_gA22, md_a22, md_s22, ↓md_gA23, md_a23, md_s23, ↓md_gA24, md_a24, md_s24]
    rw [if_neg (by omega)]
    have q0 : iI 0 = iI (b2 false) := rfl
    rw [show (fn_sZ 2 (some (b + 12)) (iI d) (iI 0) (St σ b (setT μ (tch (μ.1 0) l d old))) fun a4 => fnFix (fun _ _ _ _ => none) (gX3_findsDefects_b22 ρ b (fnFix (fun _ _ _ => none) (gX3_findsDefects_b2 ρ b) g)) fnGas (iI l) (iI d) (iI l) a4) = _ from md_s18 (x := false) (by omega)]
    have h0 := hv.1
    rw [X3_fd22 (μ := setT μ (tch (μ.1 0) l d old)) (by exact hv) (show 0 ≤ d ∧ d < μ.1 0 81 by omega) 11 l false fnGas (by omega) (by decide) (by omega) (by exact hl.2)]
    have e2 : mT (setT μ (tch (μ.1 0) l d old)) d (false || sUnder (μ.1 0) (μ.1 0 (82 + 4 * d)) 11 l) = setT μ (tch (μ.1 0) l (d + 1) old) := by
      unfold mT setT
      refine Prod.ext rfl (Prod.ext rfl (Prod.ext rfl (Prod.ext (funext fun j => ?_) rfl)))
      dsimp only
      unfold tch
      by_cases hj : j = d
      · rw [if_pos hj, if_pos (by omega), hj, Bool.false_or]
      · rw [if_neg hj]
        by_cases hj2 : 0 ≤ j ∧ j < d
        · rw [if_pos hj2, if_pos (by omega)]
        · rw [if_neg hj2, if_neg (by omega)]
    rw [show (setT μ (tch (μ.1 0) l d old)).1 0 = μ.1 0 from rfl, e2]
    exact ih (d + 1) g (by omega) (by omega) (by omega)
theorem X3_findsDefects (hv : okD (μ.1 0)) {l : Int} (hl : 0 ≤ l ∧ l < μ.1 0 0) : gX3_findsDefects ρ b (iI l) (St σ b μ) = some ((), St σ b (setT μ (tch (μ.1 0) l (μ.1 0 81) μ.2.2.2.1))) := by
  have h9 := hv.2.1
  have q := X3_fd2 (ρ := ρ) (σ := σ) (b := b) hv hl μ.2.2.2.1 (μ.1 0 81).toNat 0 fnGas (by omega) (by unfold fnGas; omega) (by decide)
  rw [tch_0] at q
  exact q
theorem X3_holds (hv : okD (μ.1 0)) {d day : Int} (hd : 0 ≤ d ∧ d < μ.1 0 81) (hy : r32 day) : gX3_holds ρ b (iI d) (iI day) (St σ b μ) = some (iI (b2 (sHolds (μ.1 0) d day)), St σ b μ) := by
  have h9 := hv.2.1
  obtain ⟨-, -, k1, k2⟩ := hv.2.2.2.2.2.1 d hd.1 hd.2
  unfold gX3_holds sHolds
  simp (disch := omega) only [decide_true, decide_false, reduceIte, and_self, and_true, true_and, and_false, false_and, or_true, true_or, or_false, false_or, not_true_eq_false, not_false_eq_true, reduceCtorEq, mA_ss, mI_ss, ↓St_rc, ↓fn_B, ↓fn_nn_none, ↓fn_nn_some, rZ_0, rZ_1, rZ_b, b2_z, b2_1, b2_or, b2_or0, b2_or1, iI_add, iI_sub, iI_mul, iI_neg, lI_add, lI_sub, lI_mul, iI_lt, iI_le, iI_eq, iI_to64, lI_cmp_lt, lI_cmp_gt, lI_cmp_ge, lI_cmp_le, lI_cmp_eq, mA_s, mA_o, mI_s, mI_o, mB_s, mB_o, mA_I, mA_B, mA_T, mA_F, mI_A, mI_B, mI_T, mI_F, mB_A, mB_I, mB_T, mB_F, mT_A, mT_I, mT_B, mT_F, mF_A, mF_I, mF_B, mF_T, ↓md_gA0, md_a0, md_s0, ↓md_gA1, md_a1, md_s1, ↓md_gA2, md_a2, md_s2, ↓md_gA3, md_a3, md_s3, ↓md_gA4, md_a4, md_s4, ↓md_g5, ↓md_p5, ↓md_g6, ↓md_p6, ↓md_g7, ↓md_p7, ↓md_g8, ↓md_p8, ↓md_gA9, md_a9, md_s9, ↓md_gA10, md_a10, md_s10, ↓md_gA11, md_a11, md_s11, ↓md_gA12, md_a12, md_s12, ↓md_gA13, md_a13, md_s13, ↓md_g14, ↓md_p14, ↓md_g15, ↓md_p15, ↓md_g16, ↓md_p16, ↓md_gA17, md_a17, md_s17, ↓md_gA18, md_a18, md_s18, ↓md_g19, ↓md_p19, ↓md_gA20, md_a20, md_s20, ↓md_g21, ↓md_p21, ↓md_gA22, md_a22, md_s22, ↓md_gA23, md_a23, md_s23, ↓md_gA24, md_a24, md_s24]
  split
  · rw [decide_eq_false (by omega)]
  · split
    · rw [decide_eq_false (by omega)]
    · rw [decide_eq_true (by omega)]
theorem X3_redOn_l (hv : okD (μ.1 0)) {day : Int} (hy : r32 day) : ∀ (n : Nat) (d acc : Int) (gas : Nat), d + n = μ.1 0 81 → n < gas → 0 ≤ d → 0 ≤ acc ∧ acc ≤ 100 * d → fnFix (fun _ _ _ _ => none) (gX3_reductionOn_b4 ρ b) gas (iI day) (iI acc) (iI d) (St σ b μ) =
    some (iI (if acc + sm (fun d => if μ.2.2.2.1 d = true ∧ sHolds (μ.1 0) d day = true then μ.1 0 (82 + 4 * d + 1) else 0) d n ≤ 100 then acc + sm (fun d => if μ.2.2.2.1 d = true ∧ sHolds (μ.1 0) d day = true then μ.1 0 (82 + 4 * d + 1) else 0) d n else 100), St σ b μ) := by
  intro n
  induction n with
  | zero =>
    intro d acc gas h1 h2 h3 h4
    have h9 := hv.2.1
    obtain ⟨g, rfl⟩ := gas_s h2
    rw [fnFix_s, gX3_reductionOn_b4, sm, Int.add_zero]
    simp (disch := omega) only [decide_true, decide_false, reduceIte, and_self, and_true, true_and, and_false, false_and, or_true, true_or, or_false, false_or, not_true_eq_false, not_false_eq_true, reduceCtorEq, mA_ss, mI_ss, ↓St_rc, ↓fn_B, ↓fn_nn_none, ↓fn_nn_some, rZ_0, rZ_1, rZ_b, b2_z, b2_1, b2_or, b2_or0, b2_or1, iI_add, iI_sub, iI_mul, iI_neg, lI_add, lI_sub, lI_mul, iI_lt, iI_le, iI_eq, iI_to64, lI_cmp_lt, lI_cmp_gt, lI_cmp_ge, lI_cmp_le, lI_cmp_eq, mA_s, mA_o, mI_s, mI_o, mB_s, mB_o, mA_I, mA_B, mA_T, mA_F, mI_A, mI_B, mI_T, mI_F, mB_A, mB_I, mB_T, mB_F, mT_A, mT_I, mT_B, mT_F, mF_A, mF_I, mF_B, mF_T, ↓md_gA0, md_a0, md_s0, ↓md_gA1, md_a1, md_s1, ↓md_gA2, md_a2, md_s2, ↓md_gA3, md_a3, md_s3, ↓md_gA4, md_a4, md_s4, ↓md_g5, ↓md_p5, ↓md_g6, ↓md_p6, ↓md_g7, ↓md_p7, ↓md_g8, ↓md_p8, ↓md_gA9, md_a9, md_s9, ↓md_gA10, md_a10, md_s10, ↓md_gA11, md_a11, md_s11, ↓md_gA12, md_a12, md_s12, ↓md_gA13, md_a13, md_s13, ↓md_g14, ↓md_p14, ↓md_g15, ↓md_p15, ↓md_g16, ↓md_p16, ↓md_gA17, md_a17, md_s17, ↓md_gA18, md_a18, md_s18, ↓md_g19, ↓md_p19, ↓md_gA20, md_a20, md_s20, ↓md_g21, ↓md_p21, ↓md_gA22, md_a22, md_s22, ↓md_gA23, md_a23, md_s23, ↓md_gA24, md_a24, md_s24]
    rw [if_pos (by omega)]
    split <;> rfl
  | succ n ih =>
    intro d acc gas h1 h2 h3 h4
    have h9 := hv.2.1
    obtain ⟨g, rfl⟩ := gas_s h2
    obtain ⟨-, k1, -⟩ := hv.2.2.2.2.2.1 d h3 (by omega)
    rw [fnFix_s, gX3_reductionOn_b4, sm]
    simp (disch := omega) only [decide_true, decide_false, reduceIte, and_self, and_true, true_and, and_false, false_and, or_true, true_or, or_false, false_or, not_true_eq_false, not_false_eq_true, reduceCtorEq, mA_ss, mI_ss, ↓St_rc, ↓fn_B, ↓fn_nn_none, ↓fn_nn_some, rZ_0, rZ_1, rZ_b, b2_z, b2_1, b2_or, b2_or0, b2_or1, iI_add, iI_sub, iI_mul, iI_neg, lI_add, lI_sub, lI_mul, iI_lt, iI_le, iI_eq, iI_to64, lI_cmp_lt, lI_cmp_gt, lI_cmp_ge, lI_cmp_le, lI_cmp_eq, mA_s, mA_o, mI_s, mI_o, mB_s, mB_o, mA_I, mA_B, mA_T, mA_F, mI_A, mI_B, mI_T, mI_F, mB_A, mB_I, mB_T, mB_F, mT_A, mT_I, mT_B, mT_F, mF_A, mF_I, mF_B, mF_T, ↓md_gA0, md_a0, md_s0, ↓md_gA1, md_a1, md_s1, ↓md_gA2, md_a2, md_s2, ↓md_gA3, md_a3, md_s3, ↓md_gA4, md_a4, md_s4, ↓md_g5, ↓md_p5, ↓md_g6, ↓md_p6, ↓md_g7, ↓md_p7, ↓md_g8, ↓md_p8, ↓md_gA9, md_a9, md_s9, ↓md_gA10, md_a10, md_s10, ↓md_gA11, md_a11, md_s11, ↓md_gA12, md_a12, md_s12, ↓md_gA13, md_a13, md_s13, ↓md_g14, ↓md_p14, ↓md_g15, ↓md_p15, ↓md_g16, ↓md_p16, ↓md_gA17, md_a17, md_s17, ↓md_gA18, md_a18, md_s18, ↓md_g19, ↓md_p19, ↓md_gA20, md_a20, md_s20, ↓md_g21, ↓md_p21, ↓md_gA22, md_a22, md_s22, ↓md_gA23, md_a23, md_s23, ↓md_gA24, md_a24, md_s24]
    rw [if_neg (by omega)]
    by_cases ht : μ.2.2.2.1 d = true
    · have hf : ¬ μ.2.2.2.1 d = false := by rw [ht]; decide
      rw [if_neg hf]
      simp (disch := omega) only [X3_holds hv, decide_true, decide_false, reduceIte, and_self, and_true, true_and, and_false, false_and, or_true, true_or, or_false, false_or, not_true_eq_false, not_false_eq_true, reduceCtorEq, mA_ss, mI_ss, ↓St_rc, ↓fn_B, ↓fn_nn_none, ↓fn_nn_some, rZ_0, rZ_1, rZ_b, b2_z, b2_1, b2_or, b2_or0, b2_or1, iI_add, iI_sub, iI_mul, iI_neg, lI_add, lI_sub, lI_mul, iI_lt, iI_le, iI_eq, iI_to64, lI_cmp_lt, lI_cmp_gt, lI_cmp_ge, lI_cmp_le, lI_cmp_eq, mA_s, mA_o, mI_s, mI_o, mB_s, mB_o, mA_I, mA_B, mA_T, mA_F, mI_A, mI_B, mI_T, mI_F, mB_A, mB_I, mB_T, mB_F, mT_A, mT_I, mT_B, mT_F, mF_A, mF_I, mF_B, mF_T, ↓md_gA0, md_a0, md_s0, ↓md_gA1, md_a1, md_s1, ↓md_gA2, md_a2, md_s2, ↓md_gA3, md_a3, md_s3, ↓md_gA4, md_a4, md_s4, ↓md_g5, ↓md_p5, ↓md_g6, ↓md_p6, ↓md_g7, ↓md_p7, ↓md_g8, ↓md_p8, ↓md_gA9, md_a9, md_s9, ↓md_gA10, md_a10, md_s10, ↓md_gA11, md_a11, md_s11, ↓md_gA12, md_a12, md_s12, ↓md_gA13, md_a13, md_s13, ↓md_g14, ↓md_p14, ↓md_g15, ↓md_p15, ↓md_g16, ↓md_p16, ↓md_gA17, md_a17, md_s17, ↓md_gA18, md_a18, md_s18, ↓md_g19, ↓md_p19, ↓md_gA20, md_a20, md_s20, ↓md_g21, ↓md_p21, ↓md_gA22, md_a22, md_s22, ↓md_gA23, md_a23, md_s23, ↓md_gA24, md_a24, md_s24]
      by_cases hh : sHolds (μ.1 0) d day = true
      · have hf2 : ¬ sHolds (μ.1 0) d day = false := by rw [hh]; decide
        rw [if_neg hf2, if_pos (c := μ.2.2.2.1 d = true ∧ sHolds (μ.1 0) d day = true) ⟨ht, hh⟩]
        simp (disch := omega) only [gX3_reductionOn_b51, decide_true, decide_false, reduceIte, and_self, and_true, true_and, and_false, false_and, or_true, true_or, or_false, false_or, not_true_eq_false, not_false_eq_true, reduceCtorEq, mA_ss, mI_ss, ↓St_rc, ↓fn_B, ↓fn_nn_none, ↓fn_nn_some, rZ_0, rZ_1, rZ_b, b2_z, b2_1, b2_or, b2_or0, b2_or1, iI_add, iI_sub, iI_mul, iI_neg, lI_add, lI_sub, lI_mul, iI_lt, iI_le, iI_eq, iI_to64, lI_cmp_lt, lI_cmp_gt, lI_cmp_ge, lI_cmp_le, lI_cmp_eq, mA_s, mA_o, mI_s, mI_o, mB_s, mB_o, mA_I, mA_B, mA_T, mA_F, mI_A, mI_B, mI_T, mI_F, mB_A, mB_I, mB_T, mB_F, mT_A, mT_I, mT_B, mT_F, mF_A, mF_I, mF_B, mF_T, ↓md_gA0, md_a0, md_s0, ↓md_gA1, md_a1, md_s1, ↓md_gA2, md_a2, md_s2, ↓md_gA3, md_a3, md_s3, ↓md_gA4, md_a4, md_s4, ↓md_g5, ↓md_p5, ↓md_g6, ↓md_p6, ↓md_g7, ↓md_p7, ↓md_g8, ↓md_p8, ↓md_gA9, md_a9, md_s9, ↓md_gA10, md_a10, md_s10, ↓md_gA11, md_a11, md_s11, ↓md_gA12, md_a12, md_s12, ↓md_gA13, md_a13, md_s13, ↓md_g14, ↓md_p14, ↓md_g15, ↓md_p15, ↓md_g16, ↓md_p16, ↓md_gA17, md_a17, md_s17, ↓md_gA18, md_a18, md_s18, ↓md_g19, ↓md_p19, ↓md_gA20, md_a20, md_s20, ↓md_g21, ↓md_p21, ↓md_gA22, md_a22, md_s22, ↓md_gA23, md_a23, md_s23, ↓md_gA24, md_a24, md_s24]
        rw [ih (d + 1) (acc + μ.1 0 (82 + 4 * d + 1)) g (by omega) (by omega) (by omega) (by omega), Int.add_assoc]
      · have hf2 : sHolds (μ.1 0) d day = false := by simpa using hh
        rw [if_pos hf2, if_neg (c := μ.2.2.2.1 d = true ∧ sHolds (μ.1 0) d day = true) (fun q => hh q.2)]
        simp (disch := omega) only [gX3_reductionOn_b51, gX3_reductionOn_b50, decide_true, decide_false, reduceIte, and_self, and_true, true_and, and_false, false_and, or_true, true_or, or_false, false_or, not_true_eq_false, not_false_eq_true, reduceCtorEq, mA_ss, mI_ss, ↓St_rc, ↓fn_B, ↓fn_nn_none, ↓fn_nn_some, rZ_0, rZ_1, rZ_b, b2_z, b2_1, b2_or, b2_or0, b2_or1, iI_add, iI_sub, iI_mul, iI_neg, lI_add, lI_sub, lI_mul, iI_lt, iI_le, iI_eq, iI_to64, lI_cmp_lt, lI_cmp_gt, lI_cmp_ge, lI_cmp_le, lI_cmp_eq, mA_s, mA_o, mI_s, mI_o, mB_s, mB_o, mA_I, mA_B, mA_T, mA_F, mI_A, mI_B, mI_T, mI_F, mB_A, mB_I, mB_T, mB_F, mT_A, mT_I, mT_B, mT_F, mF_A, mF_I, mF_B, mF_T, ↓md_gA0, md_a0, md_s0, ↓md_gA1, md_a1, md_s1, ↓md_gA2, md_a2, md_s2, ↓md_gA3, md_a3, md_s3, ↓md_gA4, md_a4, md_s4, ↓md_g5, ↓md_p5, ↓md_g6, ↓md_p6, ↓md_g7, ↓md_p7, ↓md_g8, ↓md_p8, ↓md_gA9, md_a9, md_s9, ↓md_gA10, md_a10, md_s10, ↓md_gA11, md_a11, md_s11, ↓md_gA12, md_a12, md_s12, ↓md_gA13, md_a13, md_s13, ↓md_g14, ↓md_p14, ↓md_g15, ↓md_p15, ↓md_g16, ↓md_p16, ↓md_gA17, md_a17, md_s17, ↓md_gA18, md_a18, md_s18, ↓md_g19, ↓md_p19, ↓md_gA20, md_a20, md_s20, ↓md_g21, ↓md_p21, ↓md_gA22, md_a22, md_s22, ↓md_gA23, md_a23, md_s23, ↓md_gA24, md_a24, md_s24]
        rw [Int.add_zero, ih (d + 1) acc g (by omega) (by omega) (by omega) (by omega), Int.zero_add]
    · have hf : μ.2.2.2.1 d = false := by simpa using ht
      rw [if_pos hf, if_neg (c := μ.2.2.2.1 d = true ∧ sHolds (μ.1 0) d day = true) (fun q => ht q.1)]
      simp (disch := omega) only [gX3_reductionOn_b51, gX3_reductionOn_b50, decide_true, decide_false, reduceIte, and_self, and_true, true_and, and_false, false_and, or_true, true_or, or_false, false_or, not_true_eq_false, not_false_eq_true, reduceCtorEq, mA_ss, mI_ss, ↓St_rc, ↓fn_B, ↓fn_nn_none, ↓fn_nn_some, rZ_0, rZ_1, rZ_b, b2_z, b2_1, b2_or, b2_or0, b2_or1, iI_add, iI_sub, iI_mul, iI_neg, lI_add, lI_sub, lI_mul, iI_lt, iI_le, iI_eq, iI_to64, lI_cmp_lt, lI_cmp_gt, lI_cmp_ge, lI_cmp_le, lI_cmp_eq, mA_s, mA_o, mI_s, mI_o, mB_s, mB_o, mA_I, mA_B, mA_T, mA_F, mI_A, mI_B, mI_T, mI_F, mB_A, mB_I, mB_T, mB_F, mT_A, mT_I, mT_B, mT_F, mF_A, mF_I, mF_B, mF_T, ↓md_gA0, md_a0, md_s0, ↓md_gA1, md_a1, md_s1, ↓md_gA2, md_a2, md_s2, ↓md_gA3, md_a3, md_s3, ↓md_gA4, md_a4, md_s4, ↓md_g5, ↓md_p5, ↓md_g6, ↓md_p6, ↓md_g7, ↓md_p7, ↓md_g8, ↓md_p8, ↓md_gA9, md_a9, md_s9, ↓md_gA10, md_a10, md_s10, ↓md_gA11, md_a11, md_s11, ↓md_gA12, md_a12, md_s12, ↓md_gA13, md_a13, md_s13, ↓md_g14, ↓md_p14, ↓md_g15, ↓md_p15, ↓md_g16, ↓md_p16, ↓md_gA17, md_a17, md_s17, ↓md_gA18, md_a18, md_s18, ↓md_g19, ↓md_p19, ↓md_gA20, md_a20, md_s20, ↓md_g21, ↓md_p21, ↓md_gA22, md_a22, md_s22, ↓md_gA23, md_a23, md_s23, ↓md_gA24, md_a24, md_s24]
      rw [Int.add_zero, ih (d + 1) acc g (by omega) (by omega) (by omega) (by omega), Int.zero_add]
theorem X3_reductionOn (hv : okD (μ.1 0)) {l day : Int} (hy : r32 day) (ht : ∀ d, 0 ≤ d → d < μ.1 0 81 → μ.2.2.2.1 d = sUnder (μ.1 0) (μ.1 0 (82 + 4 * d)) 11 l) : gX3_reductionOn ρ b (iI day) (St σ b μ) = some (iI (sRed (μ.1 0) l day), St σ b μ) := by
  have h9 := hv.2.1
  have q := X3_redOn_l (ρ := ρ) (σ := σ) (b := b) hv hy (μ.1 0 81).toNat 0 0 fnGas (by omega) (by unfold fnGas; omega) (by decide) (by decide)
  have e : sm (fun d => if μ.2.2.2.1 d = true ∧ sHolds (μ.1 0) d day = true then μ.1 0 (82 + 4 * d + 1) else 0) 0 (μ.1 0 81).toNat = sRedS (μ.1 0) (fun d => sUnder (μ.1 0) (μ.1 0 (82 + 4 * d)) 11 l) day := by
    unfold sRedS
    exact sm_congr _ _ (fun i h1 h2 => by rw [ht i h1 (by omega)])
  rw [Int.zero_add, e] at q
  exact q
end Red
