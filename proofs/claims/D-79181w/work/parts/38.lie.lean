/-! deposits -/
theorem sm_add (f g : Int → Int) : ∀ (n : Nat) (a : Int), sm (fun i => f i + g i) a n = sm f a n + sm g a n
  | 0, _ => rfl
  | n + 1, a => by
    unfold sm
    rw [sm_add f g n (a + 1)]
    omega
def sDep (v : Int → Int) (l d : Int) : Int := sm (fun k => if v (204 + 3 * k) = l ∧ v (204 + 3 * k + 1) = d then v (204 + 3 * k + 2) else 0) 0 (v 203).toNat
def sRem (v : Int → Int) (l d : Int) : Int := sm (fun k => if v (204 + 3 * k) = l ∧ d ≤ v (204 + 3 * k + 1) then v (204 + 3 * k + 2) else 0) 0 (v 203).toNat
def sLie (v : Int → Int) (l : Int) : Nat → Int × Int
  | 0 => (0, 0)
  | n + 1 => if (n : Int) % 30 = 29 then ((sLie v l n).1 + sDep v l n + ((sLie v l n).1 + sDep v l n) * sRate v (n + 1) / 120000, (sLie v l n).2 + ((sLie v l n).1 + sDep v l n) * sRate v (n + 1) / 120000) else ((sLie v l n).1 + sDep v l n, (sLie v l n).2)
def sGrow : Nat → Int
  | 0 => 119999988
  | m + 1 => sGrow m + sGrow m / 60
theorem sGrow_p : ∀ m, 0 ≤ sGrow m
  | 0 => by decide
  | m + 1 => by
    have := sGrow_p m
    unfold sGrow
    omega
theorem sGrow_m : ∀ k m, sGrow m ≤ sGrow (m + k)
  | 0, m => Int.le_refl _
  | k + 1, m => by
    have h1 := sGrow_m k m
    have h2 := sGrow_p (m + k)
    show sGrow m ≤ sGrow (m + k) + sGrow (m + k) / 60
    omega
theorem sGrow_r {m : Nat} (h : m ≤ 120) : sGrow m ≤ 1000000000 := by
  have h1 := sGrow_m (120 - m) m
  rw [show m + (120 - m) = 120 by omega] at h1
  exact Int.le_trans h1 (by decide +kernel)
theorem sDep_rem (v : Int → Int) (l d : Int) : sRem v l d = sDep v l d + sRem v l (d + 1) := by
  unfold sRem sDep
  rw [← sm_add]
  refine sm_congr _ _ (fun i _ _ => ?_)
  by_cases h1 : v (204 + 3 * i) = l
  · by_cases h2 : v (204 + 3 * i + 1) = d
    · rw [if_pos ⟨h1, by omega⟩, if_pos ⟨h1, h2⟩, if_neg (by omega), Int.add_zero]
    · by_cases h3 : d ≤ v (204 + 3 * i + 1)
      · rw [if_pos ⟨h1, h3⟩, if_neg (by omega), if_pos ⟨h1, by omega⟩, Int.zero_add]
      · rw [if_neg (by omega), if_neg (by omega), if_neg (by omega), Int.zero_add]
  · rw [if_neg (by omega), if_neg (by omega), if_neg (by omega), Int.zero_add]
theorem sRem_r {v : Int → Int} (hv : okD v) (l d : Int) : 0 ≤ sRem v l d ∧ sRem v l d ≤ 119999988 := by
  have h9 := hv.2.2.2.1
  have q := sm_r (f := fun k => if v (204 + 3 * k) = l ∧ d ≤ v (204 + 3 * k + 1) then v (204 + 3 * k + 2) else 0) (lo := 0) (hi := 9999999) (v 203).toNat 0 (fun i i1 i2 => by
    obtain ⟨k1, k2, k3⟩ := hv.2.2.2.2.2.2.2.1 i i1 (by omega)
    split <;> omega)
  unfold sRem
  omega
theorem sDep_p {v : Int → Int} (hv : okD v) (l d : Int) : 0 ≤ sDep v l d := by
  have h9 := hv.2.2.2.1
  have q := sm_r (f := fun k => if v (204 + 3 * k) = l ∧ v (204 + 3 * k + 1) = d then v (204 + 3 * k + 2) else 0) (lo := 0) (hi := 9999999) (v 203).toNat 0 (fun i i1 i2 => by
    obtain ⟨k1, k2, k3⟩ := hv.2.2.2.2.2.2.2.1 i i1 (by omega)
    split <;> omega)
  unfold sDep
  omega
theorem sRate_r {v : Int → Int} (hv : okD v) : ∀ n : Nat, n ≤ 3600 → 0 ≤ sRate v n ∧ sRate v n ≤ 2000
  | 0, _ => ⟨show (0 : Int) ≤ 0 by decide, show (0 : Int) ≤ 2000 by decide⟩
  | n + 1, h => by
    have k := hv.2.2.2.2.2.2.2.2.2 n (by omega) (by omega)
    unfold sRate
    split
    · exact sRate_r hv n (by omega)
    · omega
theorem more_r {a r : Int} (h1 : 0 ≤ a) (h2 : 0 ≤ r ∧ r ≤ 2000) : 0 ≤ a * r ∧ a * r ≤ 2000 * a ∧ 0 ≤ a * r / 120000 ∧ a * r / 120000 ≤ a / 60 := by
  have k1 : 0 ≤ a * r := Int.mul_nonneg h1 h2.1
  have k2 : a * r ≤ a * 2000 := Int.mul_le_mul_of_nonneg_left h2.2 h1
  generalize a * r = z at *
  omega
theorem sLie_r {v : Int → Int} (hv : okD v) (l : Int) : ∀ n : Nat, n ≤ 3600 → 0 ≤ (sLie v l n).1 ∧ (sLie v l n).1 + sRem v l n ≤ sGrow (n / 30) ∧ 0 ≤ (sLie v l n).2 ∧ (sLie v l n).2 ≤ (sLie v l n).1
  | 0, _ => by
    have := sRem_r hv l (0 : Nat)
    refine ⟨Int.le_refl _, ?_, Int.le_refl _, Int.le_refl _⟩
    show 0 + sRem v l (0 : Nat) ≤ 119999988
    omega
  | n + 1, h => by
    obtain ⟨i1, i2, i3, i4⟩ := sLie_r hv l n (by omega)
    have d1 := sDep_rem v l n
    have d2 := sDep_p hv l n
    have d3 := sRem_r hv l ((n : Int) + 1)
    have d4 := sRate_r hv (n + 1) h
    have d5 := more_r (a := (sLie v l n).1 + sDep v l n) (r := sRate v (n + 1)) (by omega) d4
    have e : ((n + 1 : Nat) : Int) = (n : Int) + 1 := by omega
    rw [e]
    unfold sLie
    by_cases hm : (n : Int) % 30 = 29
    · rw [if_pos hm]
      dsimp only
      have e2 : (n + 1) / 30 = n / 30 + 1 := by omega
      rw [e2]
      have e3 : sGrow (n / 30 + 1) = sGrow (n / 30) + sGrow (n / 30) / 60 := rfl
      omega
    · rw [if_neg hm]
      dsimp only
      have e2 : (n + 1) / 30 = n / 30 := by omega
      rw [e2]
      omega
theorem sLie_b {v : Int → Int} (hv : okD v) (l : Int) {n : Nat} (h : n ≤ 3600) : 0 ≤ (sLie v l n).1 ∧ (sLie v l n).1 + sRem v l n ≤ 1000000000 ∧ 0 ≤ (sLie v l n).2 ∧ (sLie v l n).2 ≤ (sLie v l n).1 := by
  have h1 := sLie_r hv l n h
  have h2 := sGrow_r (m := n / 30) (by omega)
  omega
section Lie
variable {ρ : Nat → Nat} {σ : mS} {b : Nat} {μ : MM}
theorem X3_lies75 (hv : okD (μ.1 0)) {K : Int32 → Int64 → Int32 → Int32 → Int32 → mS → Option (Int64 × mS)} {l day rt : Int} {x6 : Int32} (hl : r32 l) (hy : 0 ≤ day ∧ day < 3600) (hr : 0 ≤ rt ∧ rt ≤ 2000) : ∀ (n : Nat) (k acc : Int) (gas : Nat), k + n = μ.1 0 203 → n < gas → 0 ≤ k → 0 ≤ acc → acc + sm (fun k => if μ.1 0 (204 + 3 * k) = l ∧ μ.1 0 (204 + 3 * k + 1) = day then μ.1 0 (204 + 3 * k + 2) else 0) k n ≤ 1000000000 →
    fnFix (fun _ _ _ _ _ _ _ => none) (gX3_lies_b75 ρ b K) gas (iI l) (lI acc) (iI rt) x6 (iI day) (iI k) (St σ b μ) =
    (if day % 30 = 29 then K (iI l) (lI (acc + sm (fun k => if μ.1 0 (204 + 3 * k) = l ∧ μ.1 0 (204 + 3 * k + 1) = day then μ.1 0 (204 + 3 * k + 2) else 0) k n + (acc + sm (fun k => if μ.1 0 (204 + 3 * k) = l ∧ μ.1 0 (204 + 3 * k + 1) = day then μ.1 0 (204 + 3 * k + 2) else 0) k n) * rt / 120000)) (iI rt) x6 (iI (day + 1)) (St σ b (mI μ 19 (μ.2.1 19 + (acc + sm (fun k => if μ.1 0 (204 + 3 * k) = l ∧ μ.1 0 (204 + 3 * k + 1) = day then μ.1 0 (204 + 3 * k + 2) else 0) k n) * rt / 120000)))
      else K (iI l) (lI (acc + sm (fun k => if μ.1 0 (204 + 3 * k) = l ∧ μ.1 0 (204 + 3 * k + 1) = day then μ.1 0 (204 + 3 * k + 2) else 0) k n)) (iI rt) x6 (iI (day + 1)) (St σ b μ)) := by
  intro n
  induction n with
  | zero =>
    intro k acc gas h1 h2 h3 h4 h5
    have h9 := hv.2.2.2.1
    obtain ⟨g, rfl⟩ := gas_s h2
    have q30 : (iI 30 = iI 0) = False := eq_false (by decide)
    have q12 : (lI 120000 = lI 0) = False := eq_false (by decide)
    have m1 := more_r h4 hr
    rw [sm, Int.add_zero] at *
    rw [fnFix_s, gX3_lies_b75]
    simp (disch := omega) only [q30, q12, iI_div30, decide_true, decide_false, reduceIte, and_self, and_true, true_and, and_false, false_and, or_true, true_or, or_false, false_or, not_true_eq_false, not_false_eq_true, reduceCtorEq, mA_ss, mI_ss, ↓St_rc, ↓fn_B, ↓fn_nn_none, ↓fn_nn_some, rZ_0, rZ_1, rZ_b, b2_z, b2_1, b2_or, b2_or0, b2_or1, iI_add, iI_sub, iI_mul, iI_neg, lI_add, lI_sub, lI_mul, iI_lt, iI_le, iI_eq, iI_to64, lI_cmp_lt, lI_cmp_gt, lI_cmp_ge, lI_cmp_le, lI_cmp_eq, mA_s, mA_o, mI_s, mI_o, mB_s, mB_o, mA_I, mA_B, mA_T, mA_F, mI_A, mI_B, mI_T, mI_F, mB_A, mB_I, mB_T, mB_F, mT_A, mT_I, mT_B, mT_F, mF_A, mF_I, mF_B, mF_T, ↓md_gA0, md_a0, md_s0, ↓md_gA1, md_a1, md_s1, ↓md_gA2, md_a2, md_s2, ↓md_gA3, md_a3, md_s3, ↓md_gA4, md_a4, md_s4, ↓md_g5, ↓md_p5, ↓md_g6, ↓md_p6, ↓md_g7, ↓md_p7, ↓md_g8, ↓md_p8, ↓md_gA9, md_a9, md_s9, ↓md_gA10, md_a10, md_s10, ↓md_gA11, md_a11, md_s11, ↓md_gA12, md_a12, md_s12, ↓md_gA13, md_a13, md_s13, ↓md_g14, ↓md_p14, ↓md_g15, ↓md_p15, ↓md_g16, ↓md_p16, ↓md_gA17, md_a17, md_s17, ↓md_gA18, md_a18, md_s18, ↓md_g19, ↓md_p19, ↓md_gA20, md_a20, md_s20, ↓md_g21, ↓md_p21, ↓md_gA22, md_a22, md_s22, ↓md_gA23, md_a23, md_s23, ↓md_gA24, md_a24, md_s24]
    rw [if_pos (by omega), show day - day / 30 * 30 = day % 30 by omega]
    by_cases hm : day % 30 = 29
    · rw [if_pos hm, if_pos hm, lI_div ⟨by omega, by omega⟩ (by decide), tdiv_p m1.1]
      simp (disch := omega) only [gX3_lies_b194, decide_true, decide_false, reduceIte, and_self, and_true, true_and, and_false, false_and, or_true, true_or, or_false, false_or, not_true_eq_false, not_false_eq_true, reduceCtorEq, mA_ss, mI_ss, ↓St_rc, ↓fn_B, ↓fn_nn_none, ↓fn_nn_some, rZ_0, rZ_1, rZ_b, b2_z, b2_1, b2_or, b2_or0, b2_or1, iI_add, iI_sub, iI_mul, iI_neg, lI_add, lI_sub, lI_mul, iI_lt, iI_le, iI_eq, iI_to64, lI_cmp_lt, lI_cmp_gt, lI_cmp_ge, lI_cmp_le, lI_cmp_eq, mA_s, mA_o, mI_s, mI_o, mB_s, mB_o, mA_I, mA_B, mA_T, mA_F, mI_A, mI_B, mI_T, mI_F, mB_A, mB_I, mB_T, mB_F, mT_A, mT_I, mT_B, mT_F, mF_A, mF_I, mF_B, mF_T, ↓md_gA0, md_a0, md_s0, ↓md_gA1, md_a1, md_s1, ↓md_gA2, md_a2, md_s2, ↓md_gA3, md_a3, md_s3, ↓md_gA4, md_a4, md_s4, ↓md_g5, ↓md_p5, ↓md_g6, ↓md_p6, ↓md_g7, ↓md_p7, ↓md_g8, ↓md_p8, ↓md_gA9, md_a9, md_s9, ↓md_gA10, md_a10, md_s10, ↓md_gA11, md_a11, md_s11, ↓md_gA12, md_a12, md_s12, ↓md_gA13, md_a13, md_s13, ↓md_g14, ↓md_p14, ↓md_g15, ↓md_p15, ↓md_g16, ↓md_p16, ↓md_gA17, md_a17, md_s17, ↓md_gA18, md_a18, md_s18, ↓md_g19, ↓md_p19, ↓md_gA20, md_a20, md_s20, ↓md_g21, ↓md_p21, ↓md_gA22, md_a22, md_s22, ↓md_gA23, md_a23, md_s23, ↓md_gA24, md_a24, md_s24]
    · rw [if_neg hm, if_neg hm]
      simp (disch := omega) only [gX3_lies_b194, decide_true, decide_false, reduceIte, and_self, and_true, true_and, and_false, false_and, or_true, true_or, or_false, false_or, not_true_eq_false, not_false_eq_true, reduceCtorEq, mA_ss, mI_ss, ↓St_rc, ↓fn_B, ↓fn_nn_none, ↓fn_nn_some, rZ_0, rZ_1, rZ_b, b2_z, b2_1, b2_or, b2_or0, b2_or1, iI_add, iI_sub, iI_mul, iI_neg, lI_add, lI_sub, lI_mul, iI_lt, iI_le, iI_eq, iI_to64, lI_cmp_lt, lI_cmp_gt, lI_cmp_ge, lI_cmp_le, lI_cmp_eq, mA_s, mA_o, mI_s, mI_o, mB_s, mB_o, mA_I, mA_B, mA_T, mA_F, mI_A, mI_B, mI_T, mI_F, mB_A, mB_I, mB_T, mB_F, mT_A, mT_I, mT_B, mT_F, mF_A, mF_I, mF_B, mF_T, ↓md_gA0, md_a0, md_s0, ↓md_gA1, md_a1, md_s1, ↓md_gA2, md_a2, md_s2, ↓md_gA3, md_a3, md_s3, ↓md_gA4, md_a4, md_s4, ↓md_g5, ↓md_p5, ↓md_g6, ↓md_p6, ↓md_g7, ↓md_p7, ↓md_g8, ↓md_p8, ↓md_gA9, md_a9, md_s9, ↓md_gA10, md_a10, md_s10, ↓md_gA11, md_a11, md_s11, ↓md_gA12, md_a12, md_s12, ↓md_gA13, md_a13, md_s13, ↓md_g14, ↓md_p14, ↓md_g15, ↓md_p15, ↓md_g16, ↓md_p16, ↓md_gA17, md_a17, md_s17, ↓md_gA18, md_a18, md_s18, ↓md_g19, ↓md_p19, ↓md_gA20, md_a20, md_s20, ↓md_g21, ↓md_p21, ↓md_gA22, md_a22, md_s22, ↓md_gA23, md_a23, md_s23, ↓md_gA24, md_a24, md_s24]
  | succ n ih =>
    intro k acc gas h1 h2 h3 h4 h5
    have h9 := hv.2.2.2.1
    have h0 := hv.1
    obtain ⟨g, rfl⟩ := gas_s h2
    obtain ⟨k1, k2, k3⟩ := hv.2.2.2.2.2.2.2.1 k h3 (by omega)
    have ns : 0 ≤ sm (fun k => if μ.1 0 (204 + 3 * k) = l ∧ μ.1 0 (204 + 3 * k + 1) = day then μ.1 0 (204 + 3 * k + 2) else 0) (k + 1) n := by
      have q := sm_r (f := fun k => if μ.1 0 (204 + 3 * k) = l ∧ μ.1 0 (204 + 3 * k + 1) = day then μ.1 0 (204 + 3 * k + 2) else 0) (lo := 0) (hi := 9999999) n (k + 1) (fun i i1 i2 => by
        obtain ⟨k1, k2, k3⟩ := hv.2.2.2.2.2.2.2.1 i (by omega) (by omega)
        split <;> omega)
      omega
    rw [sm] at *
    rw [fnFix_s, gX3_lies_b75]
    simp (disch := omega) only [decide_true, decide_false, reduceIte, and_self, and_true, true_and, and_false, false_and, or_true, true_or, or_false, false_or, not_true_eq_false, not_false_eq_true, reduceCtorEq, mA_ss, mI_ss, ↓St_rc, ↓fn_B, ↓fn_nn_none, ↓fn_nn_some, rZ_0, rZ_1, rZ_b, b2_z, b2_1, b2_or, b2_or0, b2_or1, iI_add, iI_sub, iI_mul, iI_neg, lI_add, lI_sub, lI_mul, iI_lt, iI_le, iI_eq, iI_to64, lI_cmp_lt, lI_cmp_gt, lI_cmp_ge, lI_cmp_le, lI_cmp_eq, mA_s, mA_o, mI_s, mI_o, mB_s, mB_o, mA_I, mA_B, mA_T, mA_F, mI_A, mI_B, mI_T, mI_F, mB_A, mB_I, mB_T, mB_F, mT_A, mT_I, mT_B, mT_F, mF_A, mF_I, mF_B, mF_T, ↓md_gA0, md_a0, md_s0, ↓md_gA1, md_a1, md_s1, ↓md_gA2, md_a2, md_s2, ↓md_gA3, md_a3, md_s3, ↓md_gA4, md_a4, md_s4, ↓md_g5, ↓md_p5, ↓md_g6, ↓md_p6, ↓md_g7, ↓md_p7, ↓md_g8, ↓md_p8, ↓md_gA9, md_a9, md_s9, ↓md_gA10, md_a10, md_s10, ↓md_gA11, md_a11, md_s11, ↓md_gA12, md_a12, md_s12, ↓md_gA13, md_a13, md_s13, ↓md_g14, ↓md_p14, ↓md_g15, ↓md_p15, ↓md_g16, ↓md_p16, ↓md_gA17, md_a17, md_s17, ↓md_gA18, md_a18, md_s18, ↓md_g19, ↓md_p19, ↓md_gA20, md_a20, md_s20, ↓md_g21, ↓md_p21, ↓md_gA22, md_a22, md_s22, ↓md_gA23, md_a23, md_s23, ↓md_gA24, md_a24, md_s24]
    rw [if_neg (by omega)]
    by_cases q1 : μ.1 0 (204 + 3 * k) = l
    · rw [if_pos q1]
      by_cases q2 : μ.1 0 (204 + 3 * k + 1) = day
      · rw [if_pos q2]
        rw [if_pos (c := μ.1 0 (204 + 3 * k) = l ∧ μ.1 0 (204 + 3 * k + 1) = day) (by omega)] at *
        simp (disch := omega) only [gX3_lies_b146, decide_true, decide_false, reduceIte, and_self, and_true, true_and, and_false, false_and, or_true, true_or, or_false, false_or, not_true_eq_false, not_false_eq_true, reduceCtorEq, mA_ss, mI_ss, ↓St_rc, ↓fn_B, ↓fn_nn_none, ↓fn_nn_some, rZ_0, rZ_1, rZ_b, b2_z, b2_1, b2_or, b2_or0, b2_or1, iI_add, iI_sub, iI_mul, iI_neg, lI_add, lI_sub, lI_mul, iI_lt, iI_le, iI_eq, iI_to64, lI_cmp_lt, lI_cmp_gt, lI_cmp_ge, lI_cmp_le, lI_cmp_eq, mA_s, mA_o, mI_s, mI_o, mB_s, mB_o, mA_I, mA_B, mA_T, mA_F, mI_A, mI_B, mI_T, mI_F, mB_A, mB_I, mB_T, mB_F, mT_A, mT_I, mT_B, mT_F, mF_A, mF_I, mF_B, mF_T, ↓md_gA0, md_a0, md_s0, ↓md_gA1, md_a1, md_s1, ↓md_gA2, md_a2, md_s2, ↓md_gA3, md_a3, md_s3, ↓md_gA4, md_a4, md_s4, ↓md_g5, ↓md_p5, ↓md_g6, ↓md_p6, ↓md_g7, ↓md_p7, ↓md_g8, ↓md_p8, ↓md_gA9, md_a9, md_s9, ↓md_gA10, md_a10, md_s10, ↓md_gA11, md_a11, md_s11, ↓md_gA12, md_a12, md_s12, ↓md_gA13, md_a13, md_s13, ↓md_g14, ↓md_p14, ↓md_g15, ↓md_p15, ↓md_g16, ↓md_p16, ↓md_gA17, md_a17, md_s17, ↓md_gA18, md_a18, md_s18, ↓md_g19, ↓md_p19, ↓md_gA20, md_a20, md_s20, ↓md_g21, ↓md_p21, ↓md_gA22, md_a22, md_s22, ↓md_gA23, md_a23, md_s23, ↓md_gA24, md_a24, md_s24]
        rw [ih (k + 1) (acc + μ.1 0 (204 + 3 * k + 2)) g (by omega) (by omega) (by omega) (by omega) (by omega)]
        simp only [Int.add_assoc]
      · rw [if_neg q2]
        rw [if_neg (c := μ.1 0 (204 + 3 * k) = l ∧ μ.1 0 (204 + 3 * k + 1) = day) (by omega), Int.zero_add] at *
        simp (disch := omega) only [gX3_lies_b145, gX3_lies_b146, decide_true, decide_false, reduceIte, and_self, and_true, true_and, and_false, false_and, or_true, true_or, or_false, false_or, not_true_eq_false, not_false_eq_true, reduceCtorEq, mA_ss, mI_ss, ↓St_rc, ↓fn_B, ↓fn_nn_none, ↓fn_nn_some, rZ_0, rZ_1, rZ_b, b2_z, b2_1, b2_or, b2_or0, b2_or1, iI_add, iI_sub, iI_mul, iI_neg, lI_add, lI_sub, lI_mul, iI_lt, iI_le, iI_eq, iI_to64, lI_cmp_lt, lI_cmp_gt, lI_cmp_ge, lI_cmp_le, lI_cmp_eq, mA_s, mA_o, mI_s, mI_o, mB_s, mB_o, mA_I, mA_B, mA_T, mA_F, mI_A, mI_B, mI_T, mI_F, mB_A, mB_I, mB_T, mB_F, mT_A, mT_I, mT_B, mT_F, mF_A, mF_I, mF_B, mF_T, ↓md_gA0, md_a0, md_s0, ↓md_gA1, md_a1, md_s1, ↓md_gA2, md_a2, md_s2, ↓md_gA3, md_a3, md_s3, ↓md_gA4, md_a4, md_s4, ↓md_g5, ↓md_p5, ↓md_g6, ↓md_p6, ↓md_g7, ↓md_p7, ↓md_g8, ↓md_p8, ↓md_gA9, md_a9, md_s9, ↓md_gA10, md_a10, md_s10, ↓md_gA11, md_a11, md_s11, ↓md_gA12, md_a12, md_s12, ↓md_gA13, md_a13, md_s13, ↓md_g14, ↓md_p14, ↓md_g15, ↓md_p15, ↓md_g16, ↓md_p16, ↓md_gA17, md_a17, md_s17, ↓md_gA18, md_a18, md_s18, ↓md_g19, ↓md_p19, ↓md_gA20, md_a20, md_s20, ↓md_g21, ↓md_p21, ↓md_gA22, md_a22, md_s22, ↓md_gA23, md_a23, md_s23, ↓md_gA24, md_a24, md_s24]
        rw [Int.add_zero, ih (k + 1) acc g (by omega) (by omega) (by omega) (by omega) (by omega)]
    · rw [if_neg q1]
      rw [if_neg (c := μ.1 0 (204 + 3 * k) = l ∧ μ.1 0 (204 + 3 * k + 1) = day) (by omega), Int.zero_add] at *
      simp (disch := omega) only [gX3_lies_b145, gX3_lies_b146, decide_true, decide_false, reduceIte, and_self, and_true, true_and, and_false, false_and, or_true, true_or, or_false, false_or, not_true_eq_false, not_false_eq_true, reduceCtorEq, mA_ss, mI_ss, ↓St_rc, ↓fn_B, ↓fn_nn_none, ↓fn_nn_some, rZ_0, rZ_1, rZ_b, b2_z, b2_1, b2_or, b2_or0, b2_or1, iI_add, iI_sub, iI_mul, iI_neg, lI_add, lI_sub, lI_mul, iI_lt, iI_le, iI_eq, iI_to64, lI_cmp_lt, lI_cmp_gt, lI_cmp_ge, lI_cmp_le, lI_cmp_eq, mA_s, mA_o, mI_s, mI_o, mB_s, mB_o, mA_I, mA_B, mA_T, mA_F, mI_A, mI_B, mI_T, mI_F, mB_A, mB_I, mB_T, mB_F, mT_A, mT_I, mT_B, mT_F, mF_A, mF_I, mF_B, mF_T, ↓md_gA0, md_a0, md_s0, ↓md_gA1, md_a1, md_s1, ↓md_gA2, md_a2, md_s2, ↓md_gA3, md_a3, md_s3, ↓md_gA4, md_a4, md_s4, ↓md_g5, ↓md_p5, ↓md_g6, ↓md_p6, ↓md_g7, ↓md_p7, ↓md_g8, ↓md_p8, ↓md_gA9, md_a9, md_s9, ↓md_gA10, md_a10, md_s10, ↓md_gA11, md_a11, md_s11, ↓md_gA12, md_a12, md_s12, ↓md_gA13, md_a13, md_s13, ↓md_g14, ↓md_p14, ↓md_g15, ↓md_p15, ↓md_g16, ↓md_p16, ↓md_gA17, md_a17, md_s17, ↓md_gA18, md_a18, md_s18, ↓md_g19, ↓md_p19, ↓md_gA20, md_a20, md_s20, ↓md_g21, ↓md_p21, ↓md_gA22, md_a22, md_s22, ↓md_gA23, md_a23, md_s23, ↓md_gA24, md_a24, md_s24]
      rw [Int.add_zero, ih (k + 1) acc g (by omega) (by omega) (by omega) (by omega) (by omega)]
theorem X3_lies33 (hv : okD (μ.1 0)) {l last : Int} (hl : r32 l) (hlast : -1 ≤ last ∧ last < 3600) : ∀ (n d : Nat) (gas : Nat), (last + 1 - d).toNat = n → n < gas → (d : Int) ≤ last + 1 → fnFix (fun _ _ _ _ _ _ => none) (gX3_lies_b33 ρ b) gas (iI l) (lI (sLie (μ.1 0) l d).1) (iI (sRate (μ.1 0) d)) (iI last) (iI (d : Int)) (St σ b (mI μ 19 (sLie (μ.1 0) l d).2)) =
    some (lI (sLie (μ.1 0) l (last + 1).toNat).1, St σ b (mI μ 19 (sLie (μ.1 0) l (last + 1).toNat).2)) := by
  intro n
  induction n with
  | zero =>
    intro d gas h1 h2 h3
    obtain ⟨g, rfl⟩ := gas_s h2
    rw [fnFix_s, gX3_lies_b33]
    simp (disch := omega) only [decide_true, decide_false, reduceIte, and_self, and_true, true_and, and_false, false_and, or_true, true_or, or_false, false_or, not_true_eq_false, not_false_eq_true, reduceCtorEq, mA_ss, mI_ss, ↓St_rc, ↓fn_B, ↓fn_nn_none, ↓fn_nn_some, rZ_0, rZ_1, rZ_b, b2_z, b2_1, b2_or, b2_or0, b2_or1, iI_add, iI_sub, iI_mul, iI_neg, lI_add, lI_sub, lI_mul, iI_lt, iI_le, iI_eq, iI_to64, lI_cmp_lt, lI_cmp_gt, lI_cmp_ge, lI_cmp_le, lI_cmp_eq, mA_s, mA_o, mI_s, mI_o, mB_s, mB_o, mA_I, mA_B, mA_T, mA_F, mI_A, mI_B, mI_T, mI_F, mB_A, mB_I, mB_T, mB_F, mT_A, mT_I, mT_B, mT_F, mF_A, mF_I, mF_B, mF_T, ↓md_gA0, md_a0, md_s0, ↓md_gA1, md_a1, md_s1, ↓md_gA2, md_a2, md_s2, ↓md_gA3, md_a3, md_s3, ↓md_gA4, md_a4, md_s4, ↓md_g5, ↓md_p5, ↓md_g6, ↓md_p6, ↓md_g7, ↓md_p7, ↓md_g8, ↓md_p8, ↓md_gA9, md_a9, md_s9, ↓md_gA10, md_a10, md_s10, ↓md_gA11, md_a11, md_s11, ↓md_gA12, md_a12, md_s12, ↓md_gA13, md_a13, md_s13, ↓md_g14, ↓md_p14, ↓md_g15, ↓md_p15, ↓md_g16, ↓md_p16, ↓md_gA17, md_a17, md_s17, ↓md_gA18, md_a18, md_s18, ↓md_g19, ↓md_p19, ↓md_gA20, md_a20, md_s20, ↓md_g21, ↓md_p21, ↓md_gA22, md_a22, md_s22, ↓md_gA23, md_a23, md_s23, ↓md_gA24, md_a24, md_s24]
    rw [if_pos (by omega), show (last + 1).toNat = d by omega]
  | succ n ih =>
    intro d gas h1 h2 h3
    have h9 := hv.2.2.2.1
    obtain ⟨g, rfl⟩ := gas_s h2
    have k1 := hv.2.2.2.2.2.2.2.2.2 (d : Int) (by omega) (by omega)
    have k2 := sRate_r hv d (by omega)
    have k3 := sRate_r hv (d + 1) (by omega)
    have k4 := sLie_b hv l (n := d) (by omega)
    have k5 := sDep_rem (μ.1 0) l d
    have k6 := sRem_r hv l ((d : Int) + 1)
    have e : sRate (μ.1 0) (d + 1) = if μ.1 0 (360 + d) < 0 then sRate (μ.1 0) d else μ.1 0 (360 + d) := rfl
    have ih := ih (d + 1) g (by omega) (by omega) (by omega)
    have q := X3_lies75 (ρ := ρ) (σ := σ) (b := b) (μ := mI μ 19 (sLie (μ.1 0) l d).2) hv (K := fnFix (fun _ _ _ _ _ _ => none) (gX3_lies_b33 ρ b) g) (day := (d : Int)) (rt := sRate (μ.1 0) (d + 1)) (x6 := iI last) hl (by omega) k3 (μ.1 0 203).toNat 0 (sLie (μ.1 0) l d).1 fnGas (by show (0 : Int) + _ = μ.1 0 203; omega) (by unfold fnGas; omega) (by decide) k4.1 (by show (sLie (μ.1 0) l d).1 + sDep (μ.1 0) l d ≤ _; omega)
    have q : fnFix (fun _ _ _ _ _ _ _ => none) (gX3_lies_b75 ρ b (fnFix (fun _ _ _ _ _ _ => none) (gX3_lies_b33 ρ b) g)) fnGas (iI l) (lI (sLie (μ.1 0) l d).1) (iI (sRate (μ.1 0) (d + 1))) (iI last) (iI (d : Int)) (iI 0) (St σ b (mI μ 19 (sLie (μ.1 0) l d).2)) = some (lI (sLie (μ.1 0) l (last + 1).toNat).1, St σ b (mI μ 19 (sLie (μ.1 0) l (last + 1).toNat).2)) := by
      refine q.trans ?_
      rw [← ih]
      have e9 : ((d + 1 : Nat) : Int) = (d : Int) + 1 := by omega
      rw [e9]
      by_cases hm : (d : Int) % 30 = 29
      · rw [if_pos hm]
        have e1 : sLie (μ.1 0) l (d + 1) = ((sLie (μ.1 0) l d).1 + sDep (μ.1 0) l d + ((sLie (μ.1 0) l d).1 + sDep (μ.1 0) l d) * sRate (μ.1 0) (d + 1) / 120000, (sLie (μ.1 0) l d).2 + ((sLie (μ.1 0) l d).1 + sDep (μ.1 0) l d) * sRate (μ.1 0) (d + 1) / 120000) := if_pos hm
        rw [e1]
        simp (disch := omega) only [decide_true, decide_false, reduceIte, and_self, and_true, true_and, and_false, false_and, or_true, true_or, or_false, false_or, not_true_eq_false, not_false_eq_true, reduceCtorEq, mA_ss, mI_ss, ↓St_rc, ↓fn_B, ↓fn_nn_none, ↓fn_nn_some, rZ_0, rZ_1, rZ_b, b2_z, b2_1, b2_or, b2_or0, b2_or1, iI_add, iI_sub, iI_mul, iI_neg, lI_add, lI_sub, lI_mul, iI_lt, iI_le, iI_eq, iI_to64, lI_cmp_lt, lI_cmp_gt, lI_cmp_ge, lI_cmp_le, lI_cmp_eq, mA_s, mA_o, mI_s, mI_o, mB_s, mB_o, mA_I, mA_B, mA_T, mA_F, mI_A, mI_B, mI_T, mI_F, mB_A, mB_I, mB_T, mB_F, mT_A, mT_I, mT_B, mT_F, mF_A, mF_I, mF_B, mF_T, ↓md_gA0, md_a0, md_s0, ↓md_gA1, md_a1, md_s1, ↓md_gA2, md_a2, md_s2, ↓md_gA3, md_a3, md_s3, ↓md_gA4, md_a4, md_s4, ↓md_g5, ↓md_p5, ↓md_g6, ↓md_p6, ↓md_g7, ↓md_p7, ↓md_g8, ↓md_p8, ↓md_gA9, md_a9, md_s9, ↓md_gA10, md_a10, md_s10, ↓md_gA11, md_a11, md_s11, ↓md_gA12, md_a12, md_s12, ↓md_gA13, md_a13, md_s13, ↓md_g14, ↓md_p14, ↓md_g15, ↓md_p15, ↓md_g16, ↓md_p16, ↓md_gA17, md_a17, md_s17, ↓md_gA18, md_a18, md_s18, ↓md_g19, ↓md_p19, ↓md_gA20, md_a20, md_s20, ↓md_g21, ↓md_p21, ↓md_gA22, md_a22, md_s22, ↓md_gA23, md_a23, md_s23, ↓md_gA24, md_a24, md_s24]
        rfl
      · rw [if_neg hm]
        have e1 : sLie (μ.1 0) l (d + 1) = ((sLie (μ.1 0) l d).1 + sDep (μ.1 0) l d, (sLie (μ.1 0) l d).2) := if_neg hm
        rw [e1]
        rfl
    rw [fnFix_s, gX3_lies_b33]
    simp (disch := omega) only [decide_true, decide_false, reduceIte, and_self, and_true, true_and, and_false, false_and, or_true, true_or, or_false, false_or, not_true_eq_false, not_false_eq_true, reduceCtorEq, mA_ss, mI_ss, ↓St_rc, ↓fn_B, ↓fn_nn_none, ↓fn_nn_some, rZ_0, rZ_1, rZ_b, b2_z, b2_1, b2_or, b2_or0, b2_or1, iI_add, iI_sub, iI_mul, iI_neg, lI_add, lI_sub, lI_mul, iI_lt, iI_le, iI_eq, iI_to64, lI_cmp_lt, lI_cmp_gt, lI_cmp_ge, lI_cmp_le, lI_cmp_eq, mA_s, mA_o, mI_s, mI_o, mB_s, mB_o, mA_I, mA_B, mA_T, mA_F, mI_A, mI_B, mI_T, mI_F, mB_A, mB_I, mB_T, mB_F, mT_A, mT_I, mT_B, mT_F, mF_A, mF_I, mF_B, mF_T, ↓md_gA0, md_a0, md_s0, ↓md_gA1, md_a1, md_s1, ↓md_gA2, md_a2, md_s2, ↓md_gA3, md_a3, md_s3, ↓md_gA4, md_a4, md_s4, ↓md_g5, ↓md_p5, ↓md_g6, ↓md_p6, ↓md_g7, ↓md_p7, ↓md_g8, ↓md_p8, ↓md_gA9, md_a9, md_s9, ↓md_gA10, md_a10, md_s10, ↓md_gA11, md_a11, md_s11, ↓md_gA12, md_a12, md_s12, ↓md_gA13, md_a13, md_s13, ↓md_g14, ↓md_p14, ↓md_g15, ↓md_p15, ↓md_g16, ↓md_p16, ↓md_gA17, md_a17, md_s17, ↓md_gA18, md_a18, md_s18, ↓md_g19, ↓md_p19, ↓md_gA20, md_a20, md_s20, ↓md_g21, ↓md_p21, ↓md_gA22, md_a22, md_s22, ↓md_gA23, md_a23, md_s23, ↓md_gA24, md_a24, md_s24]
    rw [if_neg (by omega)]
    rw [e] at q
    by_cases h5 : μ.1 0 (360 + d) < 0
    · rw [if_pos h5] at q ⊢
      exact q
    · rw [if_neg h5] at q ⊢
      exact q
/-- the last day on which a lease's deposit is counted -/
def lastOf (v : Int → Int) (l day : Int) : Int := if endOf v l ≤ day then endOf v l else day
theorem X3_lies (hv : okD (μ.1 0)) {l day : Int} (hl : 0 ≤ l ∧ l < μ.1 0 0) (hy : -1 ≤ day ∧ day < 3600) : gX3_lies ρ b (iI l) (iI day) (St σ b μ) = some (lI (sLie (μ.1 0) l (lastOf (μ.1 0) l day + 1).toNat).1, St σ b (mI μ 19 (sLie (μ.1 0) l (lastOf (μ.1 0) l day + 1).toNat).2)) := by
  have h0 := hv.1
  have h1 := endOf_r hv hl.2
  have fin : ∀ last : Int, -1 ≤ last → last < 3600 → gX3_lies_b28 ρ b (iI l) (lI 0) (iI 0) (iI last) (St σ b (mI μ 19 0)) = some (lI (sLie (μ.1 0) l (last + 1).toNat).1, St σ b (mI μ 19 (sLie (μ.1 0) l (last + 1).toNat).2)) := by
    intro last q1 q2
    exact X3_lies33 (ρ := ρ) (σ := σ) (b := b) hv ⟨by omega, by omega⟩ ⟨q1, q2⟩ (last + 1).toNat 0 fnGas (by omega) (by unfold fnGas; omega) (by omega)
  unfold gX3_lies
  rw [md_p19, St_rc, X3_endOf (μ := mI μ 19 0) hv (by exact ⟨by omega, hl.2⟩), fn_B_some]
  have e : endOf ((mI μ 19 0).1 0) l = endOf (μ.1 0) l := rfl
  rw [e]
  unfold lastOf
  by_cases h : endOf (μ.1 0) l ≤ day
  · rw [if_pos ((iI_le ⟨by omega, by omega⟩ ⟨by omega, by omega⟩).mpr h), if_pos h, St_rc, X3_endOf (μ := mI μ 19 0) hv (by exact ⟨by omega, hl.2⟩), fn_B_some, e]
    exact fin _ (by omega) (by omega)
  · rw [if_neg (fun q => h ((iI_le ⟨by omega, by omega⟩ ⟨by omega, by omega⟩).mp q)), if_neg h]
    exact fin _ (by omega) (by omega)
end Lie
