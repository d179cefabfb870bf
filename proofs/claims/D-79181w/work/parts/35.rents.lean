/-! rents -/
theorem dn_eq {a b : Int} (hb : 0 < b) : (if 0 ≤ a then a.tdiv b else if a.tdiv b * b = a then a.tdiv b else a.tdiv b - 1) = a / b := by
  by_cases h : 0 ≤ a
  · rw [if_pos h, tdiv_p h]
  · rw [if_neg h]
    have e : a.tdiv b = -((-a) / b) := by
      have h2 := Int.neg_tdiv (a := -a) (b := b)
      rw [Int.neg_neg] at h2
      rw [h2, tdiv_p (by omega)]
    have h3 := Int.mul_ediv_add_emod (-a) b
    have h4 := Int.emod_nonneg (-a) (show b ≠ 0 by omega)
    have h5 := Int.emod_lt_of_pos (-a) hb
    rw [e]
    generalize hq : (-a) / b = q at *
    generalize hr : (-a) % b = r at *
    have e2 : -q * b = -(b * q) := by rw [Int.neg_mul, Int.mul_comm]
    rw [e2]
    generalize hp : b * q = p at *
    by_cases h6 : -p = a
    · rw [if_pos h6]
      refine ((Int.ediv_emod_unique (r := 0) (q := -q) hb).mpr ⟨?_, by omega, by omega⟩).1.symm
      rw [Int.mul_neg, hp]
      omega
    · rw [if_neg h6]
      refine ((Int.ediv_emod_unique (r := b - r) (q := -q - 1) hb).mpr ⟨?_, by omega, by omega⟩).1.symm
      rw [Int.mul_sub, Int.mul_neg, hp, Int.mul_one]
      omega
theorem up_r {r o s : Int} (h1 : 1 ≤ r ∧ r ≤ 9999999) (h2 : -9899 ≤ o ∧ o ≤ 9899) (h3 : 0 ≤ s ∧ s ≤ 100) : -9898999010100 ≤ r * o * s ∧ r * o * s ≤ 9898999010100 := by
  have e : r * o * s = r * s * o := by rw [Int.mul_assoc, Int.mul_comm o s, ← Int.mul_assoc]
  rw [e]
  have k1 : 0 ≤ r * s := Int.mul_nonneg (by omega) h3.1
  have k2 : r * s ≤ 9999999 * 100 := Int.mul_le_mul h1.2 h3.2 h3.1 (by decide)
  generalize r * s = t at *
  have k3 : t * o ≤ t * 9899 := Int.mul_le_mul_of_nonneg_left h2.2 k1
  have k4 : t * -9899 ≤ t * o := Int.mul_le_mul_of_nonneg_left h2.1 k1
  omega
theorem dn_r {a b : Int} (ha : -9898999010100 ≤ a ∧ a ≤ 9898999010100) (hb : 100 ≤ b) : -1000000000 ≤ a / (100 * b) ∧ a / (100 * b) ≤ 1000000000 := by
  have h1 := Int.mul_ediv_add_emod a (100 * b)
  have h2 := Int.emod_nonneg a (show 100 * b ≠ 0 by omega)
  have h3 := Int.emod_lt_of_pos a (show 0 < 100 * b by omega)
  generalize a / (100 * b) = q at *
  generalize a % (100 * b) = r at *
  constructor
  · apply Int.not_lt.mp
    intro h
    have k : (100 * b) * (q + 1) ≤ 10000 * (q + 1) := by
      have := Int.mul_le_mul_of_nonneg_right (show (10000 : Int) ≤ 100 * b by omega) (show 0 ≤ -(q + 1) by omega)
      rw [Int.mul_neg, Int.mul_neg] at this
      omega
    rw [Int.mul_add, Int.mul_one] at k
    generalize (100 * b) * q = z at *
    omega
  · apply Int.not_lt.mp
    intro h
    have k : 10000 * q ≤ (100 * b) * q := Int.mul_le_mul_of_nonneg_right (by omega) (by omega)
    generalize (100 * b) * q = z at *
    omega
def bgn (v : Int → Int) (l : Int) : Nat := (v (1 + 8 * l + 1) / 30).toNat
def sClamp (x : Int) : Int := if 1 ≤ x then (if x ≤ 9999999 then x else 9999999) else 1
def sAbs (x : Int) : Int := if 0 ≤ x then x else -x
def sStep (v : Int → Int) (l : Int) (rb : Int × Int) (now : Int) : Int × Int :=
  if v (1 + 8 * l + 3) ≤ 0 then rb else if sAbs (now - rb.2) * 1000 < v (1 + 8 * l + 3) * rb.2 then rb else (sClamp (rb.1 + rb.1 * (now - rb.2) * v (1 + 8 * l + 4) / (100 * rb.2)), now)
def sRent (v : Int → Int) (l : Int) : Nat → Int × Int
  | 0 => (v (1 + 8 * l + 2), sIdx v (bgn v l + 1))
  | k + 1 => sStep v l (sRent v l k) (sIdx v (bgn v l + 1 + k + 1))
def rentAt (v : Int → Int) (l m : Int) : Int := (sRent v l (m.toNat - bgn v l)).1
def rA (v : Int → Int) (l : Int) (k : Int) (old : Int → Int) : Int → Int := fun j => if bgn v l ≤ j ∧ j < k then rentAt v l j else old j
theorem sIdx_r {v : Int → Int} (hv : okD v) : ∀ n : Nat, n ≤ 120 → 100 ≤ sIdx v n ∧ sIdx v n ≤ 9999
  | 0, _ => ⟨show (100 : Int) ≤ 1000 by decide, show (1000 : Int) ≤ 9999 by decide⟩
  | n + 1, h => by
    have k := hv.2.2.2.2.2.2.2.2.1 n (by omega) (by omega)
    unfold sIdx
    split
    · exact sIdx_r hv n (by omega)
    · omega
theorem sClamp_r (x : Int) : 1 ≤ sClamp x ∧ sClamp x ≤ 9999999 := by
  unfold sClamp
  split
  · split <;> omega
  · omega
theorem sRent_r {v : Int → Int} (hv : okD v) {l : Int} (hl : 0 ≤ l ∧ l < v 0) : ∀ k : Nat, bgn v l + 1 + k ≤ 120 → (1 ≤ (sRent v l k).1 ∧ (sRent v l k).1 ≤ 9999999) ∧ (100 ≤ (sRent v l k).2 ∧ (sRent v l k).2 ≤ 9999)
  | 0, h => by
    obtain ⟨-, -, k1, -⟩ := hv.2.2.2.2.1 l hl.1 hl.2
    exact ⟨⟨k1.1, Int.le_trans k1.2 (by decide)⟩, sIdx_r hv _ (by omega)⟩
  | k + 1, h => by
    have ih := sRent_r hv hl k (by omega)
    unfold sRent sStep
    split
    · exact ih
    · split
      · exact ih
      · exact ⟨sClamp_r _, sIdx_r hv _ (by omega)⟩
theorem bgn_r {v : Int → Int} (hv : okD v) {l : Int} (hl : 0 ≤ l ∧ l < v 0) : (bgn v l : Int) = v (1 + 8 * l + 1) / 30 ∧ bgn v l < 120 := by
  obtain ⟨-, k1, -⟩ := hv.2.2.2.2.1 l hl.1 hl.2
  unfold bgn
  omega
section Rents
variable {ρ : Nat → Nat} {σ : mS} {b : Nat} {μ : MM}
theorem X3_down {a c : Int} (ha : r64 a) (hc : 0 < c ∧ c < 9000000000000000) (hq : r32 (a / c)) {s : mS} : gX3_down ρ (lI a) (lI c) s = some (iI (a / c), s) := by
  unfold gX3_down
  have hd : r64 (a.tdiv c * c) := by
    rcases Int.le_total 0 a with h | h
    · rw [tdiv_p h, Int.mul_comm]
      have h1 := Int.mul_ediv_add_emod a c
      have h2 := Int.emod_nonneg a (show c ≠ 0 by omega)
      have h3 := Int.mul_nonneg (Int.le_of_lt hc.1) (Int.ediv_nonneg h (Int.le_of_lt hc.1))
      omega
    · have h2 := Int.neg_tdiv (a := -a) (b := c)
      rw [Int.neg_neg] at h2
      rw [h2, tdiv_p (by omega), Int.neg_mul, Int.mul_comm]
      have h1 := Int.mul_ediv_add_emod (-a) c
      have h2 := Int.emod_nonneg (-a) (show c ≠ 0 by omega)
      have h3 := Int.mul_nonneg (Int.le_of_lt hc.1) (Int.ediv_nonneg (show 0 ≤ -a by omega) (Int.le_of_lt hc.1))
      omega
  rw [if_neg (by rw [lI_eq ⟨by omega, by omega⟩ (by decide)]; omega), lI_div ha ⟨hc.1, by omega⟩, lI_mul]
  simp (disch := omega) only [lI_cmp_ge, lI_cmp_eq, lI_sub]
  have e := dn_eq (a := a) hc.1
  by_cases h1 : 0 ≤ a
  · rw [if_pos h1] at e ⊢
    rw [e, lI_to32 hq]
  · rw [if_neg h1] at e ⊢
    by_cases h2 : a.tdiv c * c = a
    · rw [if_pos h2] at e ⊢
      rw [e, lI_to32 hq]
    · rw [if_neg h2] at e ⊢
      rw [e, lI_to32 hq]
theorem X3_lr177 {K : Int32 → Int32 → Int32 → Int32 → Int32 → mS → Option (Unit × mS)} {x1 x4 x5 : Int32} {r m : Int} (hm : 0 ≤ m ∧ m < 120) : gX3_laysRents_b177 ρ b K x1 (iI r) x4 x5 (iI m) (St σ b μ) = K x1 (iI r) x4 x5 (iI (m + 1)) (St σ b (mA μ 17 (uI (μ.1 17) m r))) := by
  unfold gX3_laysRents_b177
  simp (disch := omega) only [decide_true, decide_false, reduceIte, and_self, and_true, true_and, and_false, false_and, or_true, true_or, or_false, false_or, not_true_eq_false, not_false_eq_true, reduceCtorEq, mA_ss, mI_ss, ↓St_rc, ↓fn_B, ↓fn_nn_none, ↓fn_nn_some, rZ_0, rZ_1, rZ_b, b2_z, b2_1, b2_or, b2_or0, b2_or1, iI_add, iI_sub, iI_mul, iI_neg, lI_add, lI_sub, lI_mul, iI_lt, iI_le, iI_eq, iI_to64, lI_cmp_lt, lI_cmp_gt, lI_cmp_ge, lI_cmp_le, lI_cmp_eq, mA_s, mA_o, mI_s, mI_o, mB_s, mB_o, mA_I, mA_B, mA_T, mA_F, mI_A, mI_B, mI_T, mI_F, mB_A, mB_I, mB_T, mB_F, mT_A, mT_I, mT_B, mT_F, mF_A, mF_I, mF_B, mF_T, ↓md_gA0, md_a0, md_s0, ↓md_gA1, md_a1, md_s1, ↓md_gA2, md_a2, md_s2, ↓md_gA3, md_a3, md_s3, ↓md_gA4, md_a4, md_s4, ↓md_g5, ↓md_p5, ↓md_g6, ↓md_p6, ↓md_g7, ↓md_p7, ↓md_g8, ↓md_p8, ↓md_gA9, md_a9, md_s9, ↓md_gA10, md_a10, md_s10, ↓md_gA11, md_a11, md_s11, ↓md_gA12, md_a12, md_s12, ↓md_gA13, md_a13, md_s13, ↓md_g14, ↓md_p14, ↓md_g15, ↓md_p15, ↓md_g16, ↓md_p16, ↓md_gA17, md_a17, md_s17, ↓md_gA18, md_a18, md_s18, ↓md_g19, ↓md_p19, ↓md_gA20, md_a20, md_s20, ↓md_g21, ↓md_p21, ↓md_gA22, md_a22, md_s22, ↓md_gA23, md_a23, md_s23, ↓md_gA24, md_a24, md_s24]
theorem mul_r5 {a c : Int} (h1 : 0 ≤ a ∧ a ≤ 500) (h2 : 0 ≤ c ∧ c ≤ 9999) : 0 ≤ a * c ∧ a * c ≤ 5000000 := by
  have k1 : 0 ≤ a * c := Int.mul_nonneg h1.1 h2.1
  have k2 : a * c ≤ 500 * 9999 := Int.mul_le_mul h1.2 h2.2 h2.1 (by decide)
  omega
theorem X3_lr108 (hv : okD (μ.1 0)) {K : Int32 → Int32 → Int32 → Int32 → Int32 → mS → Option (Unit × mS)} {l r base now m : Int} (hl : 0 ≤ l ∧ l < μ.1 0 0) (hr : 1 ≤ r ∧ r ≤ 9999999) (hb : 100 ≤ base ∧ base ≤ 9999) (hn : 100 ≤ now ∧ now ≤ 9999) (hm : 0 ≤ m ∧ m < 120) (ht : ¬ μ.1 0 (1 + 8 * l + 3) ≤ 0) :
    gX3_laysRents_b108 ρ b K (iI l) (iI r) (iI base) (iI now) (iI m) (iI (now - base)) (iI (sAbs (now - base))) (St σ b μ) =
      K (iI l) (iI (sStep (μ.1 0) l (r, base) now).1) (iI (sStep (μ.1 0) l (r, base) now).2) (iI now) (iI (m + 1)) (St σ b (mA μ 17 (uI (μ.1 17) m (sStep (μ.1 0) l (r, base) now).1))) := by
  have h0 := hv.1
  obtain ⟨-, -, -, k3, k4, -⟩ := hv.2.2.2.2.1 l hl.1 hl.2
  have k5 := mul_r5 k3 ⟨show 0 ≤ base by omega, hb.2⟩
  have k6 : 0 ≤ sAbs (now - base) ∧ sAbs (now - base) ≤ 9899 := by unfold sAbs; split <;> omega
  have k7 := up_r hr (show -9899 ≤ now - base ∧ now - base ≤ 9899 by omega) k4
  have k8 := dn_r k7 hb.1
  unfold gX3_laysRents_b108 sStep
  rw [if_neg ht]
  simp (disch := omega) only [X3_told, decide_true, decide_false, reduceIte, and_self, and_true, true_and, and_false, false_and, or_true, true_or, or_false, false_or, not_true_eq_false, not_false_eq_true, reduceCtorEq, mA_ss, mI_ss, ↓St_rc, ↓fn_B, ↓fn_nn_none, ↓fn_nn_some, rZ_0, rZ_1, rZ_b, b2_z, b2_1, b2_or, b2_or0, b2_or1, iI_add, iI_sub, iI_mul, iI_neg, lI_add, lI_sub, lI_mul, iI_lt, iI_le, iI_eq, iI_to64, lI_cmp_lt, lI_cmp_gt, lI_cmp_ge, lI_cmp_le, lI_cmp_eq, mA_s, mA_o, mI_s, mI_o, mB_s, mB_o, mA_I, mA_B, mA_T, mA_F, mI_A, mI_B, mI_T, mI_F, mB_A, mB_I, mB_T, mB_F, mT_A, mT_I, mT_B, mT_F, mF_A, mF_I, mF_B, mF_T, ↓md_gA0, md_a0, md_s0, ↓md_gA1, md_a1, md_s1, ↓md_gA2, md_a2, md_s2, ↓md_gA3, md_a3, md_s3, ↓md_gA4, md_a4, md_s4, ↓md_g5, ↓md_p5, ↓md_g6, ↓md_p6, ↓md_g7, ↓md_p7, ↓md_g8, ↓md_p8, ↓md_gA9, md_a9, md_s9, ↓md_gA10, md_a10, md_s10, ↓md_gA11, md_a11, md_s11, ↓md_gA12, md_a12, md_s12, ↓md_gA13, md_a13, md_s13, ↓md_g14, ↓md_p14, ↓md_g15, ↓md_p15, ↓md_g16, ↓md_p16, ↓md_gA17, md_a17, md_s17, ↓md_gA18, md_a18, md_s18, ↓md_g19, ↓md_p19, ↓md_gA20, md_a20, md_s20, ↓md_g21, ↓md_p21, ↓md_gA22, md_a22, md_s22, ↓md_gA23, md_a23, md_s23, ↓md_gA24, md_a24, md_s24]
  by_cases h1 : sAbs (now - base) * 1000 < μ.1 0 (1 + 8 * l + 3) * base
  · rw [if_pos h1, if_pos h1, X3_lr177 hm]
  · rw [if_neg h1, if_neg h1, X3_down ⟨by omega, by omega⟩ ⟨by omega, by omega⟩ ⟨by omega, by omega⟩]
    generalize r * (now - base) * μ.1 0 (1 + 8 * l + 4) / (100 * base) = q at *
    simp (disch := omega) only [gX3_laysRents_b172, X3_lr177, decide_true, decide_false, reduceIte, and_self, and_true, true_and, and_false, false_and, or_true, true_or, or_false, false_or, not_true_eq_false, not_false_eq_true, reduceCtorEq, mA_ss, mI_ss, ↓St_rc, ↓fn_B, ↓fn_nn_none, ↓fn_nn_some, rZ_0, rZ_1, rZ_b, b2_z, b2_1, b2_or, b2_or0, b2_or1, iI_add, iI_sub, iI_mul, iI_neg, lI_add, lI_sub, lI_mul, iI_lt, iI_le, iI_eq, iI_to64, lI_cmp_lt, lI_cmp_gt, lI_cmp_ge, lI_cmp_le, lI_cmp_eq, mA_s, mA_o, mI_s, mI_o, mB_s, mB_o, mA_I, mA_B, mA_T, mA_F, mI_A, mI_B, mI_T, mI_F, mB_A, mB_I, mB_T, mB_F, mT_A, mT_I, mT_B, mT_F, mF_A, mF_I, mF_B, mF_T, ↓md_gA0, md_a0, md_s0, ↓md_gA1, md_a1, md_s1, ↓md_gA2, md_a2, md_s2, ↓md_gA3, md_a3, md_s3, ↓md_gA4, md_a4, md_s4, ↓md_g5, ↓md_p5, ↓md_g6, ↓md_p6, ↓md_g7, ↓md_p7, ↓md_g8, ↓md_p8, ↓md_gA9, md_a9, md_s9, ↓md_gA10, md_a10, md_s10, ↓md_gA11, md_a11, md_s11, ↓md_gA12, md_a12, md_s12, ↓md_gA13, md_a13, md_s13, ↓md_g14, ↓md_p14, ↓md_g15, ↓md_p15, ↓md_g16, ↓md_p16, ↓md_gA17, md_a17, md_s17, ↓md_gA18, md_a18, md_s18, ↓md_g19, ↓md_p19, ↓md_gA20, md_a20, md_s20, ↓md_g21, ↓md_p21, ↓md_gA22, md_a22, md_s22, ↓md_gA23, md_a23, md_s23, ↓md_gA24, md_a24, md_s24]
    unfold sClamp
    by_cases h2 : 1 ≤ r + q
    · rw [if_pos h2, if_pos h2]
      by_cases h3 : r + q ≤ 9999999
      · rw [if_pos h3, if_pos h3]
      · rw [if_neg h3, if_neg h3]
    · rw [if_neg h2, if_neg h2]
theorem X3_lr77 (hv : okD (μ.1 0)) {K : Int32 → Int32 → Int32 → Int32 → Int32 → mS → Option (Unit × mS)} {l r base now m : Int} (hl : 0 ≤ l ∧ l < μ.1 0 0) (hr : 1 ≤ r ∧ r ≤ 9999999) (hb : 100 ≤ base ∧ base ≤ 9999) (hn : 100 ≤ now ∧ now ≤ 9999) (hm : 0 ≤ m ∧ m < 120) :
    gX3_laysRents_b77 ρ b K (iI l) (iI r) (iI base) (iI m) (iI now) (St σ b μ) =
      K (iI l) (iI (sStep (μ.1 0) l (r, base) now).1) (iI (sStep (μ.1 0) l (r, base) now).2) (iI now) (iI (m + 1)) (St σ b (mA μ 17 (uI (μ.1 17) m (sStep (μ.1 0) l (r, base) now).1))) := by
  have h0 := hv.1
  obtain ⟨-, -, -, k3, k4, -⟩ := hv.2.2.2.2.1 l hl.1 hl.2
  unfold gX3_laysRents_b77
  by_cases ht : μ.1 0 (1 + 8 * l + 3) ≤ 0
  · unfold sStep
    simp (disch := omega) only [X3_told, decide_true, decide_false, reduceIte, and_self, and_true, true_and, and_false, false_and, or_true, true_or, or_false, false_or, not_true_eq_false, not_false_eq_true, reduceCtorEq, mA_ss, mI_ss, ↓St_rc, ↓fn_B, ↓fn_nn_none, ↓fn_nn_some, rZ_0, rZ_1, rZ_b, b2_z, b2_1, b2_or, b2_or0, b2_or1, iI_add, iI_sub, iI_mul, iI_neg, lI_add, lI_sub, lI_mul, iI_lt, iI_le, iI_eq, iI_to64, lI_cmp_lt, lI_cmp_gt, lI_cmp_ge, lI_cmp_le, lI_cmp_eq, mA_s, mA_o, mI_s, mI_o, mB_s, mB_o, mA_I, mA_B, mA_T, mA_F, mI_A, mI_B, mI_T, mI_F, mB_A, mB_I, mB_T, mB_F, mT_A, mT_I, mT_B, mT_F, mF_A, mF_I, mF_B, mF_T, ↓md_gA0, md_a0, md_s0, ↓md_gA1, md_a1, md_s1, ↓md_gA2, md_a2, md_s2, ↓md_gA3, md_a3, md_s3, ↓md_gA4, md_a4, md_s4, ↓md_g5, ↓md_p5, ↓md_g6, ↓md_p6, ↓md_g7, ↓md_p7, ↓md_g8, ↓md_p8, ↓md_gA9, md_a9, md_s9, ↓md_gA10, md_a10, md_s10, ↓md_gA11, md_a11, md_s11, ↓md_gA12, md_a12, md_s12, ↓md_gA13, md_a13, md_s13, ↓md_g14, ↓md_p14, ↓md_g15, ↓md_p15, ↓md_g16, ↓md_p16, ↓md_gA17, md_a17, md_s17, ↓md_gA18, md_a18, md_s18, ↓md_g19, ↓md_p19, ↓md_gA20, md_a20, md_s20, ↓md_g21, ↓md_p21, ↓md_gA22, md_a22, md_s22, ↓md_gA23, md_a23, md_s23, ↓md_gA24, md_a24, md_s24]
    rw [if_pos ht, if_pos ht, X3_lr177 hm]
  · have q := X3_lr108 (ρ := ρ) (σ := σ) (b := b) hv (K := K) hl hr hb hn hm ht
    unfold sAbs at q
    simp (disch := omega) only [X3_told, decide_true, decide_false, reduceIte, and_self, and_true, true_and, and_false, false_and, or_true, true_or, or_false, false_or, not_true_eq_false, not_false_eq_true, reduceCtorEq, mA_ss, mI_ss, ↓St_rc, ↓fn_B, ↓fn_nn_none, ↓fn_nn_some, rZ_0, rZ_1, rZ_b, b2_z, b2_1, b2_or, b2_or0, b2_or1, iI_add, iI_sub, iI_mul, iI_neg, lI_add, lI_sub, lI_mul, iI_lt, iI_le, iI_eq, iI_to64, lI_cmp_lt, lI_cmp_gt, lI_cmp_ge, lI_cmp_le, lI_cmp_eq, mA_s, mA_o, mI_s, mI_o, mB_s, mB_o, mA_I, mA_B, mA_T, mA_F, mI_A, mI_B, mI_T, mI_F, mB_A, mB_I, mB_T, mB_F, mT_A, mT_I, mT_B, mT_F, mF_A, mF_I, mF_B, mF_T, ↓md_gA0, md_a0, md_s0, ↓md_gA1, md_a1, md_s1, ↓md_gA2, md_a2, md_s2, ↓md_gA3, md_a3, md_s3, ↓md_gA4, md_a4, md_s4, ↓md_g5, ↓md_p5, ↓md_g6, ↓md_p6, ↓md_g7, ↓md_p7, ↓md_g8, ↓md_p8, ↓md_gA9, md_a9, md_s9, ↓md_gA10, md_a10, md_s10, ↓md_gA11, md_a11, md_s11, ↓md_gA12, md_a12, md_s12, ↓md_gA13, md_a13, md_s13, ↓md_g14, ↓md_p14, ↓md_g15, ↓md_p15, ↓md_g16, ↓md_p16, ↓md_gA17, md_a17, md_s17, ↓md_gA18, md_a18, md_s18, ↓md_g19, ↓md_p19, ↓md_gA20, md_a20, md_s20, ↓md_g21, ↓md_p21, ↓md_gA22, md_a22, md_s22, ↓md_gA23, md_a23, md_s23, ↓md_gA24, md_a24, md_s24]
    rw [if_neg ht]
    by_cases h1 : 0 ≤ now - base
    · rw [if_pos h1] at q ⊢
      exact q
    · rw [if_neg h1] at q ⊢
      exact q
theorem rA_s {v old : Int → Int} {l : Int} {k : Nat} (h : bgn v l ≤ k) : uI (rA v l k old) k (rentAt v l k) = rA v l (k + 1) old := by
  funext j
  unfold uI rA
  by_cases h1 : j = k
  · rw [if_pos h1, if_pos (by omega), h1]
  · rw [if_neg h1]
    by_cases h2 : bgn v l ≤ j ∧ j < k
    · rw [if_pos h2, if_pos (by omega)]
    · rw [if_neg h2, if_neg (by omega)]
theorem X3_laysRents_l (hv : okD (μ.1 0)) {l : Int} (hl : 0 ≤ l ∧ l < μ.1 0 0) (old : Int → Int) : ∀ (n k : Nat) (gas : Nat), bgn (μ.1 0) l + 1 + k + n = 120 → n < gas → fnFix (fun _ _ _ _ _ _ => none) (gX3_laysRents_b40 ρ b) gas (iI l) (iI (sRent (μ.1 0) l k).1) (iI (sRent (μ.1 0) l k).2) (iI (sIdx (μ.1 0) (bgn (μ.1 0) l + 1 + k))) (iI ((bgn (μ.1 0) l + 1 + k : Nat) : Int)) (St σ b (mA μ 17 (rA (μ.1 0) l ((bgn (μ.1 0) l + 1 + k : Nat) : Int) old))) = some ((), St σ b (mA μ 17 (rA (μ.1 0) l 120 old))) := by
  intro n
  induction n with
  | zero =>
    intro k gas h1 h2
    obtain ⟨g, rfl⟩ := gas_s h2
    rw [fnFix_s, gX3_laysRents_b40]
    simp (disch := omega) only [decide_true, decide_false, reduceIte, and_self, and_true, true_and, and_false, false_and, or_true, true_or, or_false, false_or, not_true_eq_false, not_false_eq_true, reduceCtorEq, mA_ss, mI_ss, ↓St_rc, ↓fn_B, ↓fn_nn_none, ↓fn_nn_some, rZ_0, rZ_1, rZ_b, b2_z, b2_1, b2_or, b2_or0, b2_or1, iI_add, iI_sub, iI_mul, iI_neg, lI_add, lI_sub, lI_mul, iI_lt, iI_le, iI_eq, iI_to64, lI_cmp_lt, lI_cmp_gt, lI_cmp_ge, lI_cmp_le, lI_cmp_eq, mA_s, mA_o, mI_s, mI_o, mB_s, mB_o, mA_I, mA_B, mA_T, mA_F, mI_A, mI_B, mI_T, mI_F, mB_A, mB_I, mB_T, mB_F, mT_A, mT_I, mT_B, mT_F, mF_A, mF_I, mF_B, mF_T, ↓md_gA0, md_a0, md_s0, ↓md_gA1, md_a1, md_s1, ↓md_gA2, md_a2, md_s2, ↓md_gA3, md_a3, md_s3, ↓md_gA4, md_a4, md_s4, ↓md_g5, ↓md_p5, ↓md_g6, ↓md_p6, ↓md_g7, ↓md_p7, ↓md_g8, ↓md_p8, ↓md_gA9, md_a9, md_s9, ↓md_gA10, md_a10, md_s10, ↓md_gA11, md_a11, md_s11, ↓md_gA12, md_a12, md_s12, ↓md_gA13, md_a13, md_s13, ↓md_g14, ↓md_p14, ↓md_g15, ↓md_p15, ↓md_g16, ↓md_p16, ↓md_gA17, md_a17, md_s17, ↓md_gA18, md_a18, md_s18, ↓md_g19, ↓md_p19, ↓md_gA20, md_a20, md_s20, ↓md_g21, ↓md_p21, ↓md_gA22, md_a22, md_s22, ↓md_gA23, md_a23, md_s23, ↓md_gA24, md_a24, md_s24]
    rw [if_pos (by omega), show bgn (μ.1 0) l + 1 + k = 120 by omega]
    rfl
  | succ n ih =>
    intro k gas h1 h2
    obtain ⟨g, rfl⟩ := gas_s h2
    have k1 := sRent_r hv hl k (by omega)
    have k2 := sIdx_r hv (bgn (μ.1 0) l + 1 + k + 1) (by omega)
    have k3 := sIdx_r hv (bgn (μ.1 0) l + 1 + k) (by omega)
    have k4 := hv.2.2.2.2.2.2.2.2.1 ((bgn (μ.1 0) l + 1 + k : Nat) : Int) (by omega) (by omega)
    have e : sIdx (μ.1 0) (bgn (μ.1 0) l + 1 + k + 1) = if μ.1 0 (240 + ((bgn (μ.1 0) l + 1 + k : Nat) : Int)) ≤ 0 then sIdx (μ.1 0) (bgn (μ.1 0) l + 1 + k) else μ.1 0 (240 + ((bgn (μ.1 0) l + 1 + k : Nat) : Int)) := rfl
    have e2 : (sStep (μ.1 0) l (sRent (μ.1 0) l k) (sIdx (μ.1 0) (bgn (μ.1 0) l + 1 + k + 1))).1 = rentAt (μ.1 0) l ((bgn (μ.1 0) l + 1 + k : Nat) : Int) := by
      unfold rentAt
      rw [show ((bgn (μ.1 0) l + 1 + k : Nat) : Int).toNat - bgn (μ.1 0) l = k + 1 by omega]
      rfl
    have ih := ih (k + 1) g (by omega) (by omega)
    have q := X3_lr77 (ρ := ρ) (σ := σ) (b := b) (μ := mA μ 17 (rA (μ.1 0) l ((bgn (μ.1 0) l + 1 + k : Nat) : Int) old)) hv (K := fnFix (fun _ _ _ _ _ _ => none) (gX3_laysRents_b40 ρ b) g) hl k1.1 k1.2 k2 (m := ((bgn (μ.1 0) l + 1 + k : Nat) : Int)) (by omega)
    simp (disch := omega) only [mA_s, mA_ss, mA_o] at q
    have q : gX3_laysRents_b77 ρ b (fnFix (fun _ _ _ _ _ _ => none) (gX3_laysRents_b40 ρ b) g) (iI l) (iI (sRent (μ.1 0) l k).1) (iI (sRent (μ.1 0) l k).2) (iI ((bgn (μ.1 0) l + 1 + k : Nat) : Int)) (iI (sIdx (μ.1 0) (bgn (μ.1 0) l + 1 + k + 1))) (St σ b (mA μ 17 (rA (μ.1 0) l ((bgn (μ.1 0) l + 1 + k : Nat) : Int) old))) = some ((), St σ b (mA μ 17 (rA (μ.1 0) l 120 old))) := by
      refine q.trans ?_
      have e3 : uI (rA (μ.1 0) l ((bgn (μ.1 0) l + 1 + k : Nat) : Int) old) ((bgn (μ.1 0) l + 1 + k : Nat) : Int) (sStep (μ.1 0) l ((sRent (μ.1 0) l k).1, (sRent (μ.1 0) l k).2) (sIdx (μ.1 0) (bgn (μ.1 0) l + 1 + k + 1))).1 = rA (μ.1 0) l (((bgn (μ.1 0) l + 1 + k : Nat) : Int) + 1) old := by
        refine Eq.trans ?_ (rA_s (by omega))
        exact congrArg (uI _ _) e2
      rw [e3]
      exact ih
    rw [fnFix_s, gX3_laysRents_b40]
    simp (disch := omega) only [decide_true, decide_false, reduceIte, and_self, and_true, true_and, and_false, false_and, or_true, true_or, or_false, false_or, not_true_eq_false, not_false_eq_true, reduceCtorEq, mA_ss, mI_ss, ↓St_rc, ↓fn_B, ↓fn_nn_none, ↓fn_nn_some, rZ_0, rZ_1, rZ_b, b2_z, b2_1, b2_or, b2_or0, b2_or1, iI_add, iI_sub, iI_mul, iI_neg, lI_add, lI_sub, lI_mul, iI_lt, iI_le, iI_eq, iI_to64, lI_cmp_lt, lI_cmp_gt, lI_cmp_ge, lI_cmp_le, lI_cmp_eq, mA_s, mA_o, mI_s, mI_o, mB_s, mB_o, mA_I, mA_B, mA_T, mA_F, mI_A, mI_B, mI_T, mI_F, mB_A, mB_I, mB_T, mB_F, mT_A, mT_I, mT_B, mT_F, mF_A, mF_I, mF_B, mF_T, ↓md_gA0, md_a0, md_s0, ↓md_gA1, md_a1, md_s1, ↓md_gA2, md_a2, md_s2, ↓md_gA3, md_a3, md_s3, ↓md_gA4, md_a4, md_s4, ↓md_g5, ↓md_p5, ↓md_g6, ↓md_p6, ↓md_g7, ↓md_p7, ↓md_g8, ↓md_p8, ↓md_gA9, md_a9, md_s9, ↓md_gA10, md_a10, md_s10, ↓md_gA11, md_a11, md_s11, ↓md_gA12, md_a12, md_s12, ↓md_gA13, md_a13, md_s13, ↓md_g14, ↓md_p14, ↓md_g15, ↓md_p15, ↓md_g16, ↓md_p16, ↓md_gA17, md_a17, md_s17, ↓md_gA18, md_a18, md_s18, ↓md_g19, ↓md_p19, ↓md_gA20, md_a20, md_s20, ↓md_g21, ↓md_p21, ↓md_gA22, md_a22, md_s22, ↓md_gA23, md_a23, md_s23, ↓md_gA24, md_a24, md_s24]
    rw [if_neg (by omega)]
    rw [e] at q
    by_cases h5 : μ.1 0 (240 + ((bgn (μ.1 0) l + 1 + k : Nat) : Int)) ≤ 0
    · rw [if_pos h5] at q ⊢
      exact q
    · rw [if_neg h5] at q ⊢
      exact q
theorem X3_laysRents (hv : okD (μ.1 0)) {l : Int} (hl : 0 ≤ l ∧ l < μ.1 0 0) : gX3_laysRents ρ b (iI l) (St σ b μ) = some ((), St σ b (mA μ 17 (rA (μ.1 0) l 120 (μ.1 17)))) := by
  have h0 := hv.1
  obtain ⟨-, k1, -⟩ := hv.2.2.2.2.1 l hl.1 hl.2
  have k2 := bgn_r hv hl
  have q := X3_laysRents_l (ρ := ρ) (σ := σ) (b := b) hv hl (μ.1 17) (119 - bgn (μ.1 0) l) 0 fnGas (by omega) (by unfold fnGas; omega)
  have e : rA (μ.1 0) l ((bgn (μ.1 0) l + 1 + 0 : Nat) : Int) (μ.1 17) = uI (μ.1 17) (bgn (μ.1 0) l : Int) (μ.1 0 (1 + 8 * l + 2)) := by
    funext j
    unfold rA uI
    by_cases h : j = (bgn (μ.1 0) l : Int)
    · rw [if_pos h, if_pos (by omega), h]
      unfold rentAt
      rw [show (bgn (μ.1 0) l : Int).toNat - bgn (μ.1 0) l = 0 by omega]
      rfl
    · rw [if_neg h, if_neg (by omega)]
  rw [e] at q
  unfold gX3_laysRents
  simp (disch := omega) only [X3_told, decide_true, decide_false, reduceIte, and_self, and_true, true_and, and_false, false_and, or_true, true_or, or_false, false_or, not_true_eq_false, not_false_eq_true, reduceCtorEq, mA_ss, mI_ss, ↓St_rc, ↓fn_B, ↓fn_nn_none, ↓fn_nn_some, rZ_0, rZ_1, rZ_b, b2_z, b2_1, b2_or, b2_or0, b2_or1, iI_add, iI_sub, iI_mul, iI_neg, lI_add, lI_sub, lI_mul, iI_lt, iI_le, iI_eq, iI_to64, lI_cmp_lt, lI_cmp_gt, lI_cmp_ge, lI_cmp_le, lI_cmp_eq, mA_s, mA_o, mI_s, mI_o, mB_s, mB_o, mA_I, mA_B, mA_T, mA_F, mI_A, mI_B, mI_T, mI_F, mB_A, mB_I, mB_T, mB_F, mT_A, mT_I, mT_B, mT_F, mF_A, mF_I, mF_B, mF_T, ↓md_gA0, md_a0, md_s0, ↓md_gA1, md_a1, md_s1, ↓md_gA2, md_a2, md_s2, ↓md_gA3, md_a3, md_s3, ↓md_gA4, md_a4, md_s4, ↓md_g5, ↓md_p5, ↓md_g6, ↓md_p6, ↓md_g7, ↓md_p7, ↓md_g8, ↓md_p8, ↓md_gA9, md_a9, md_s9, ↓md_gA10, md_a10, md_s10, ↓md_gA11, md_a11, md_s11, ↓md_gA12, md_a12, md_s12, ↓md_gA13, md_a13, md_s13, ↓md_g14, ↓md_p14, ↓md_g15, ↓md_p15, ↓md_g16, ↓md_p16, ↓md_gA17, md_a17, md_s17, ↓md_gA18, md_a18, md_s18, ↓md_g19, ↓md_p19, ↓md_gA20, md_a20, md_s20, ↓md_g21, ↓md_p21, ↓md_gA22, md_a22, md_s22, ↓md_gA23, md_a23, md_s23, ↓md_gA24, md_a24, md_s24]
  rw [if_neg (by decide), iI_div30 (by omega), ← k2.1]
  simp (disch := omega) only [X3_told, decide_true, decide_false, reduceIte, and_self, and_true, true_and, and_false, false_and, or_true, true_or, or_false, false_or, not_true_eq_false, not_false_eq_true, reduceCtorEq, mA_ss, mI_ss, ↓St_rc, ↓fn_B, ↓fn_nn_none, ↓fn_nn_some, rZ_0, rZ_1, rZ_b, b2_z, b2_1, b2_or, b2_or0, b2_or1, iI_add, iI_sub, iI_mul, iI_neg, lI_add, lI_sub, lI_mul, iI_lt, iI_le, iI_eq, iI_to64, lI_cmp_lt, lI_cmp_gt, lI_cmp_ge, lI_cmp_le, lI_cmp_eq, mA_s, mA_o, mI_s, mI_o, mB_s, mB_o, mA_I, mA_B, mA_T, mA_F, mI_A, mI_B, mI_T, mI_F, mB_A, mB_I, mB_T, mB_F, mT_A, mT_I, mT_B, mT_F, mF_A, mF_I, mF_B, mF_T, ↓md_gA0, md_a0, md_s0, ↓md_gA1, md_a1, md_s1, ↓md_gA2, md_a2, md_s2, ↓md_gA3, md_a3, md_s3, ↓md_gA4, md_a4, md_s4, ↓md_g5, ↓md_p5, ↓md_g6, ↓md_p6, ↓md_g7, ↓md_p7, ↓md_g8, ↓md_p8, ↓md_gA9, md_a9, md_s9, ↓md_gA10, md_a10, md_s10, ↓md_gA11, md_a11, md_s11, ↓md_gA12, md_a12, md_s12, ↓md_gA13, md_a13, md_s13, ↓md_g14, ↓md_p14, ↓md_g15, ↓md_p15, ↓md_g16, ↓md_p16, ↓md_gA17, md_a17, md_s17, ↓md_gA18, md_a18, md_s18, ↓md_g19, ↓md_p19, ↓md_gA20, md_a20, md_s20, ↓md_g21, ↓md_p21, ↓md_gA22, md_a22, md_s22, ↓md_gA23, md_a23, md_s23, ↓md_gA24, md_a24, md_s24]
  rw [X3_indexOf hv (by omega)]
  simp (disch := omega) only [decide_true, decide_false, reduceIte, and_self, and_true, true_and, and_false, false_and, or_true, true_or, or_false, false_or, not_true_eq_false, not_false_eq_true, reduceCtorEq, mA_ss, mI_ss, ↓St_rc, ↓fn_B, ↓fn_nn_none, ↓fn_nn_some, rZ_0, rZ_1, rZ_b, b2_z, b2_1, b2_or, b2_or0, b2_or1, iI_add, iI_sub, iI_mul, iI_neg, lI_add, lI_sub, lI_mul, iI_lt, iI_le, iI_eq, iI_to64, lI_cmp_lt, lI_cmp_gt, lI_cmp_ge, lI_cmp_le, lI_cmp_eq, mA_s, mA_o, mI_s, mI_o, mB_s, mB_o, mA_I, mA_B, mA_T, mA_F, mI_A, mI_B, mI_T, mI_F, mB_A, mB_I, mB_T, mB_F, mT_A, mT_I, mT_B, mT_F, mF_A, mF_I, mF_B, mF_T, ↓md_gA0, md_a0, md_s0, ↓md_gA1, md_a1, md_s1, ↓md_gA2, md_a2, md_s2, ↓md_gA3, md_a3, md_s3, ↓md_gA4, md_a4, md_s4, ↓md_g5, ↓md_p5, ↓md_g6, ↓md_p6, ↓md_g7, ↓md_p7, ↓md_g8, ↓md_p8, ↓md_gA9, md_a9, md_s9, ↓md_gA10, md_a10, md_s10, ↓md_gA11, md_a11, md_s11, ↓md_gA12, md_a12, md_s12, ↓md_gA13, md_a13, md_s13, ↓md_g14, ↓md_p14, ↓md_g15, ↓md_p15, ↓md_g16, ↓md_p16, ↓md_gA17, md_a17, md_s17, ↓md_gA18, md_a18, md_s18, ↓md_g19, ↓md_p19, ↓md_gA20, md_a20, md_s20, ↓md_g21, ↓md_p21, ↓md_gA22, md_a22, md_s22, ↓md_gA23, md_a23, md_s23, ↓md_gA24, md_a24, md_s24]
  rw [show ((bgn (μ.1 0) l : Int) + 1).toNat = bgn (μ.1 0) l + 1 by omega]
  exact q
end Rents
