/-! questions to the model. mEq: what matters of its memory is as it was -/
def mEq (μ μ1 : MM) : Prop := μ1.1 0 = μ.1 0 ∧ μ1.1 3 = μ.1 3 ∧ μ1.1 4 = μ.1 4 ∧ μ1.1 9 = μ.1 9 ∧ μ1.1 22 = μ.1 22 ∧ μ1.1 23 = μ.1 23 ∧ μ1.2.1 5 = μ.2.1 5 ∧ μ1.2.1 6 = μ.2.1 6 ∧ μ1.2.1 14 = μ.2.1 14 ∧ μ1.2.2.1 7 = μ.2.2.1 7 ∧ μ1.2.2.2.2 = μ.2.2.2.2
theorem mEq.rf (μ : MM) : mEq μ μ := ⟨rfl, rfl, rfl, rfl, rfl, rfl, rfl, rfl, rfl, rfl, rfl⟩
theorem mEq.tr {a c e : MM} (h1 : mEq a c) (h2 : mEq c e) : mEq a e := by
  obtain ⟨a1, a2, a3, a4, a5, a6, a7, a8, a9, a10, a11⟩ := h1
  obtain ⟨b1, b2, b3, b4, b5, b6, b7, b8, b9, b10, b11⟩ := h2
  exact ⟨b1.trans a1, b2.trans a2, b3.trans a3, b4.trans a4, b5.trans a5, b6.trans a6, b7.trans a7, b8.trans a8, b9.trans a9, b10.trans a10, b11.trans a11⟩
theorem mEq.u (μ : MM) (l : Int) : mEq μ (uMem μ l) := ⟨rfl, rfl, rfl, rfl, rfl, rfl, rfl, rfl, rfl, rfl, rfl⟩
theorem mEq.i (μ : MM) (x : Int) : mEq μ (mI μ 19 x) := ⟨rfl, rfl, rfl, rfl, rfl, rfl, rfl, rfl, rfl, rfl, rfl⟩
def nNo : Int := -9223372036854775808
def qRent (v : Int → Int) (l m : Int) : Int := if ¬ (0 ≤ l ∧ l < v 0) then -1 else if ¬ (0 ≤ m ∧ m ≤ 119) then -2 else if ¬ (v (1 + 8 * l + 1) / 30 ≤ m) then -5 else rentAt v l m
def qRed (v : Int → Int) (l day : Int) : Int := if ¬ (0 ≤ l ∧ l < v 0) then -1 else if ¬ (0 ≤ day ∧ day ≤ 3599) then -2 else sRed v l day
def qDue (v : Int → Int) (l day : Int) : Int := if ¬ (0 ≤ l ∧ l < v 0) then -1 else if ¬ (0 ≤ day ∧ day ≤ 3599) then -2 else sDue v l day
def qMonthly (v : Int → Int) (l m : Int) : Int := if ¬ (0 ≤ l ∧ l < v 0) then -1 else if ¬ (0 ≤ m ∧ m ≤ 119) then -2 else sDue v l (30 * m + 29) - (if m = 0 then 0 else sDue v l (30 * m - 1))
def qBal (v : Int → Int) (l day : Int) : Int := if ¬ (0 ≤ l ∧ l < v 0) then nNo else if ¬ (0 ≤ day ∧ day ≤ 3599) then nNo else sDue v l day - sPaid v l day
def qDep (v : Int → Int) (l day w : Int) : Int := if ¬ (0 ≤ l ∧ l < v 0) then nNo else if ¬ (0 ≤ day ∧ day ≤ 3599) then nNo else if ¬ (0 ≤ w ∧ w ≤ 1) then nNo else if w = 1 then (sLie v l (lastOf v l day + 1).toNat).2 else (sLie v l (lastOf v l day + 1).toNat).1
def sOwed (v : Int → Int) (l day : Int) : Int := sDue v l day - sPaid v l day
def sThere (v : Int → Int) (l day : Int) : Int := (sLie v l (lastOf v l day + 1).toNat).1
def sTakes (v : Int → Int) (l day : Int) : Int := if 0 < sOwed v l day then (if sThere v l day ≤ sOwed v l day then sThere v l day else sOwed v l day) else 0
def qSettle (v : Int → Int) (l w : Int) : Int := if ¬ (0 ≤ l ∧ l < v 0) then nNo else if ¬ (0 ≤ w ∧ w ≤ 2) then nNo else
  if w = 0 then sThere v l (lastOf v l 3599) - sTakes v l (lastOf v l 3599) else if w = 2 then sTakes v l (lastOf v l 3599) else if sOwed v l (lastOf v l 3599) ≤ sTakes v l (lastOf v l 3599) then 0 else sOwed v l (lastOf v l 3599) - sTakes v l (lastOf v l 3599)
section Query
variable {ρ : Nat → Nat} {σ : mS} {b : Nat} {μ : MM}
theorem X3_rent (hv : okD (μ.1 0)) {l m : Int} (r1 : r32 l) (r2 : r32 m) : ∃ μ1, gX3_rent ρ b (iI l) (iI m) (St σ b μ) = some (iI (qRent (μ.1 0) l m), St σ b μ1) ∧ mEq μ μ1 := by
  have h0 := hv.1
  have q30 : (iI 30 = iI 0) = False := eq_false (by decide)
  unfold gX3_rent qRent
  by_cases h1 : 0 ≤ l ∧ l < μ.1 0 0
  · obtain ⟨-, j1, -⟩ := hv.2.2.2.2.1 l h1.1 h1.2
    have k1 := bgn_r hv h1
    rw [St_rc, fn_Bt (s := St σ b μ) (by rw [X3_isLease r1 (by omega), decide_eq_true h1]), if_neg (by simpa using h1)]
    by_cases h2 : 0 ≤ m ∧ m ≤ 119
    · rw [fn_Bt (s := St σ b μ) (by rw [X3_isIn r2 (by decide) (by decide), decide_eq_true h2]), if_neg (by simpa using h2), St_rc, X3_told (by omega), fn_B_some, if_neg (by decide), iI_div30 (by omega)]
      by_cases h3 : μ.1 0 (1 + 8 * l + 1) / 30 ≤ m
      · rw [if_pos ((iI_le ⟨by omega, by omega⟩ r2).mpr h3), if_neg (by simpa using h3), St_rc, X3_laysRents hv h1, fn_B_some]
        refine ⟨mA μ 17 (rA (μ.1 0) l 120 (μ.1 17)), ?_, ⟨rfl, rfl, rfl, rfl, rfl, rfl, rfl, rfl, rfl, rfl, rfl⟩⟩
        simp (disch := omega) only [decide_true, decide_false, reduceIte, and_self, and_true, true_and, and_false, false_and, or_true, true_or, or_false, false_or, not_true_eq_false, not_false_eq_true, reduceCtorEq, mA_ss, mI_ss, ↓St_rc, ↓fn_B, ↓fn_nn_none, ↓fn_nn_some, rZ_0, rZ_1, rZ_b, b2_z, b2_1, b2_or, b2_or0, b2_or1, iI_add, iI_sub, iI_mul, iI_neg, lI_add, lI_sub, lI_mul, iI_lt, iI_le, iI_eq, iI_to64, lI_cmp_lt, lI_cmp_gt, lI_cmp_ge, lI_cmp_le, lI_cmp_eq, mA_s, mA_o, mI_s, mI_o, mB_s, mB_o, mA_I, mA_B, mA_T, mA_F, mI_A, mI_B, mI_T, mI_F, mB_A, mB_I, mB_T, mB_F, mT_A, mT_I, mT_B, mT_F, mF_A, mF_I, mF_B, mF_T, ↓md_gA0, md_a0, md_s0, ↓md_gA1, md_a1, md_s1, ↓md_gA2, md_a2, md_s2, ↓md_gA3, md_a3, md_s3, ↓md_gA4, md_a4, md_s4, ↓md_g5, ↓md_p5, ↓md_g6, ↓md_p6, ↓md_g7, ↓md_p7, ↓md_g8, ↓md_p8, ↓md_gA9, md_a9, md_s9, ↓md_gA10, md_a10, md_s10, ↓md_gA11, md_a11, md_s11, ↓md_gA12, md_a12, md_s12, ↓md_gA13, md_a13, md_s13, ↓md_g14, ↓md_p14, ↓md_g15, ↓md_p15, ↓md_g16, ↓md_p16, ↓md_gA17, md_a17, md_s17, ↓md_gA18, md_a18, md_s18, ↓md_g19, ↓md_p19, ↓md_gA20, md_a20, md_s20, ↓md_g21, ↓md_p21, ↓md_gA22, md_a22, md_s22, ↓md_gA23, md_a23, md_s23, ↓md_gA24, md_a24, md_s24]
        unfold rA
        rw [if_pos (by omega)]
      · rw [if_neg (fun q => h3 ((iI_le ⟨by omega, by omega⟩ r2).mp q)), if_pos h3]
        exact ⟨μ, rfl, mEq.rf μ⟩
    · rw [fn_Bf (s := St σ b μ) (by rw [X3_isIn r2 (by decide) (by decide), decide_eq_false h2]), if_pos h2]
      exact ⟨μ, rfl, mEq.rf μ⟩
  · rw [St_rc, fn_Bf (s := St σ b μ) (by rw [X3_isLease r1 (by omega), decide_eq_false h1]), if_pos h1]
    exact ⟨μ, rfl, mEq.rf μ⟩
theorem X3_reduction (hv : okD (μ.1 0)) {l day : Int} (r1 : r32 l) (r2 : r32 day) : ∃ μ1, gX3_reduction ρ b (iI l) (iI day) (St σ b μ) = some (iI (qRed (μ.1 0) l day), St σ b μ1) ∧ mEq μ μ1 := by
  have h0 := hv.1
  unfold gX3_reduction qRed
  by_cases h1 : 0 ≤ l ∧ l < μ.1 0 0
  · rw [St_rc, fn_Bt (s := St σ b μ) (by rw [X3_isLease r1 (by omega), decide_eq_true h1]), if_neg (by simpa using h1)]
    by_cases h2 : 0 ≤ day ∧ day ≤ 3599
    · rw [fn_Bt (s := St σ b μ) (by rw [X3_isDay r2, decide_eq_true h2]), if_neg (by simpa using h2), St_rc, X3_findsDefects hv h1, fn_B_some, St_rc]
      rw [X3_reductionOn (μ := setT μ (tch (μ.1 0) l (μ.1 0 81) μ.2.2.2.1)) (by exact hv) (l := l) r2 (fun d d1 d2 => if_pos ⟨d1, d2⟩), fn_B_some]
      exact ⟨_, rfl, ⟨rfl, rfl, rfl, rfl, rfl, rfl, rfl, rfl, rfl, rfl, rfl⟩⟩
    · rw [fn_Bf (s := St σ b μ) (by rw [X3_isDay r2, decide_eq_false h2]), if_pos h2]
      exact ⟨μ, rfl, mEq.rf μ⟩
  · rw [St_rc, fn_Bf (s := St σ b μ) (by rw [X3_isLease r1 (by omega), decide_eq_false h1]), if_pos h1]
    exact ⟨μ, rfl, mEq.rf μ⟩
theorem X3_due (hv : okD (μ.1 0)) {l day : Int} (r1 : r32 l) (r2 : r32 day) : ∃ μ1, gX3_due ρ b (iI l) (iI day) (St σ b μ) = some (iI (qDue (μ.1 0) l day), St σ b μ1) ∧ mEq μ μ1 := by
  have h0 := hv.1
  unfold gX3_due qDue
  by_cases h1 : 0 ≤ l ∧ l < μ.1 0 0
  · rw [St_rc, fn_Bt (s := St σ b μ) (by rw [X3_isLease r1 (by omega), decide_eq_true h1]), if_neg (by simpa using h1)]
    by_cases h2 : 0 ≤ day ∧ day ≤ 3599
    · rw [fn_Bt (s := St σ b μ) (by rw [X3_isDay r2, decide_eq_true h2]), if_neg (by simpa using h2), St_rc, X3_dueUntil hv h1 ⟨r2, by omega⟩, fn_B_some]
      exact ⟨_, rfl, mEq.u μ l⟩
    · rw [fn_Bf (s := St σ b μ) (by rw [X3_isDay r2, decide_eq_false h2]), if_pos h2]
      exact ⟨μ, rfl, mEq.rf μ⟩
  · rw [St_rc, fn_Bf (s := St σ b μ) (by rw [X3_isLease r1 (by omega), decide_eq_false h1]), if_pos h1]
    exact ⟨μ, rfl, mEq.rf μ⟩
theorem X3_again (hv : okD (μ.1 0)) {l day : Int} (r1 : r32 l) (r2 : r32 day) : ∃ μ1, gX3_again ρ b (iI l) (iI day) (St σ b μ) = some (iI (qDue (μ.1 0) l day), St σ b μ1) ∧ mEq μ μ1 := by
  obtain ⟨μ1, h1, h2⟩ := X3_due (ρ := ρ) (σ := σ) (b := b) hv r1 r2
  unfold gX3_again
  rw [St_rc, h1, fn_B_some]
  exact ⟨μ1, rfl, h2⟩
theorem X3_monthly (hv : okD (μ.1 0)) {l m : Int} (r1 : r32 l) (r2 : r32 m) : ∃ μ1, gX3_monthly ρ b (iI l) (iI m) (St σ b μ) = some (iI (qMonthly (μ.1 0) l m), St σ b μ1) ∧ mEq μ μ1 := by
  have h0 := hv.1
  unfold gX3_monthly qMonthly
  by_cases h1 : 0 ≤ l ∧ l < μ.1 0 0
  · rw [St_rc, fn_Bt (s := St σ b μ) (by rw [X3_isLease r1 (by omega), decide_eq_true h1]), if_neg (by simpa using h1)]
    by_cases h2 : 0 ≤ m ∧ m ≤ 119
    · rw [fn_Bt (s := St σ b μ) (by rw [X3_isIn r2 (by decide) (by decide), decide_eq_true h2]), if_neg (by simpa using h2), St_rc, iI_mul, iI_add, X3_dueUntil hv h1 ⟨⟨by omega, by omega⟩, by omega⟩, fn_B_some]
      by_cases h3 : m = 0
      · rw [if_pos (by rw [h3]), if_pos h3, iI_sub]
        exact ⟨_, rfl, mEq.u μ l⟩
      · rw [if_neg (fun q => h3 ((iI_eq r2 (by decide)).mp q)), if_neg h3, St_rc, iI_sub, X3_dueUntil (μ := uMem μ l) (by exact hv) (by exact h1) ⟨⟨by omega, by omega⟩, by omega⟩, fn_B_some, iI_sub]
        exact ⟨_, rfl, (mEq.u μ l).tr (mEq.u _ l)⟩
    · rw [fn_Bf (s := St σ b μ) (by rw [X3_isIn r2 (by decide) (by decide), decide_eq_false h2]), if_pos h2]
      exact ⟨μ, rfl, mEq.rf μ⟩
  · rw [St_rc, fn_Bf (s := St σ b μ) (by rw [X3_isLease r1 (by omega), decide_eq_false h1]), if_pos h1]
    exact ⟨μ, rfl, mEq.rf μ⟩
theorem X3_balance (hv : okD (μ.1 0)) {l day : Int} (r1 : r32 l) (r2 : r32 day) : ∃ μ1, gX3_balance ρ b (iI l) (iI day) (St σ b μ) = some (lI (qBal (μ.1 0) l day), St σ b μ1) ∧ mEq μ μ1 := by
  have h0 := hv.1
  unfold gX3_balance qBal
  by_cases h1 : 0 ≤ l ∧ l < μ.1 0 0
  · rw [St_rc, fn_Bt (s := St σ b μ) (by rw [X3_isLease r1 (by omega), decide_eq_true h1]), if_neg (by simpa using h1)]
    by_cases h2 : 0 ≤ day ∧ day ≤ 3599
    · have k := sDue_r hv h1 (day := day) (by omega)
      rw [fn_Bt (s := St σ b μ) (by rw [X3_isDay r2, decide_eq_true h2]), if_neg (by simpa using h2), St_rc, X3_dueUntil hv h1 ⟨r2, by omega⟩, fn_B_some, St_rc, X3_paid (μ := uMem μ l) (by exact hv) r1 r2, fn_B_some, iI_to64 ⟨by omega, by omega⟩, lI_sub]
      exact ⟨_, rfl, mEq.u μ l⟩
    · rw [fn_Bf (s := St σ b μ) (by rw [X3_isDay r2, decide_eq_false h2]), if_pos h2]
      exact ⟨μ, rfl, mEq.rf μ⟩
  · rw [St_rc, fn_Bf (s := St σ b μ) (by rw [X3_isLease r1 (by omega), decide_eq_false h1]), if_pos h1]
    exact ⟨μ, rfl, mEq.rf μ⟩
theorem X3_deposited (hv : okD (μ.1 0)) {l day w : Int} (r1 : r32 l) (r2 : r32 day) (r3 : r32 w) : ∃ μ1, gX3_deposited ρ b (iI l) (iI day) (iI w) (St σ b μ) = some (lI (qDep (μ.1 0) l day w), St σ b μ1) ∧ mEq μ μ1 := by
  have h0 := hv.1
  unfold gX3_deposited qDep
  by_cases h1 : 0 ≤ l ∧ l < μ.1 0 0
  · rw [St_rc, fn_Bt (s := St σ b μ) (by rw [X3_isLease r1 (by omega), decide_eq_true h1]), if_neg (by simpa using h1)]
    by_cases h2 : 0 ≤ day ∧ day ≤ 3599
    · rw [fn_Bt (s := St σ b μ) (by rw [X3_isDay r2, decide_eq_true h2]), if_neg (by simpa using h2)]
      by_cases h3 : 0 ≤ w ∧ w ≤ 1
      · rw [fn_Bt (s := St σ b μ) (by rw [X3_isIn r3 (by decide) (by decide), decide_eq_true h3]), if_neg (by simpa using h3), St_rc, X3_lies hv h1 (by omega), fn_B_some]
        by_cases h4 : w = 1
        · rw [if_pos (by rw [h4]), if_pos h4, md_g19, mI_s]
          exact ⟨_, rfl, mEq.i μ _⟩
        · rw [if_neg (fun q => h4 ((iI_eq r3 (by decide)).mp q)), if_neg h4]
          exact ⟨_, rfl, mEq.i μ _⟩
      · rw [fn_Bf (s := St σ b μ) (by rw [X3_isIn r3 (by decide) (by decide), decide_eq_false h3]), if_pos h3]
        exact ⟨μ, rfl, mEq.rf μ⟩
    · rw [fn_Bf (s := St σ b μ) (by rw [X3_isDay r2, decide_eq_false h2]), if_pos h2]
      exact ⟨μ, rfl, mEq.rf μ⟩
  · rw [St_rc, fn_Bf (s := St σ b μ) (by rw [X3_isLease r1 (by omega), decide_eq_false h1]), if_pos h1]
    exact ⟨μ, rfl, mEq.rf μ⟩
theorem sThere_r {v : Int → Int} (hv : okD v) {l day : Int} (hl : l < v 0) (hd : -1 ≤ day ∧ day < 3600) : 0 ≤ sThere v l day ∧ sThere v l day ≤ 1000000000 := by
  have h1 := endOf_r hv hl
  have h3 : lastOf v l day < 3600 := by unfold lastOf; split <;> omega
  have h2 := sLie_b hv l (n := (lastOf v l day + 1).toNat) (by omega)
  have h4 := sRem_r hv l ((lastOf v l day + 1).toNat : Nat)
  unfold sThere
  omega
theorem X3_settle_f (hv : okD (μ.1 0)) {l w day : Int} (hl : 0 ≤ l ∧ l < μ.1 0 0) (hd : 0 ≤ day ∧ day < 3600) (hw : 0 ≤ w ∧ w ≤ 2) : ∃ μ1, gX3_settlement_b43 ρ b (iI l) (iI w) (iI day) (St σ b μ) = some (lI (if w = 0 then sThere (μ.1 0) l day - sTakes (μ.1 0) l day else if w = 2 then sTakes (μ.1 0) l day else if sOwed (μ.1 0) l day ≤ sTakes (μ.1 0) l day then 0 else sOwed (μ.1 0) l day - sTakes (μ.1 0) l day), St σ b μ1) ∧ mEq μ μ1 := by
  have h0 := hv.1
  have k1 := sDue_r hv hl (day := day) hd.2
  have k2 := sPaid_r hv l day
  have k3 := sThere_r hv hl.2 (day := day) (by omega)
  have k4 : -300000000 ≤ sOwed (μ.1 0) l day ∧ sOwed (μ.1 0) l day ≤ 1200000000 := by unfold sOwed; omega
  have e1 : sDue (μ.1 0) l day - sPaid (μ.1 0) l day = sOwed (μ.1 0) l day := rfl
  refine ⟨mI (uMem μ l) 19 (sLie (μ.1 0) l (lastOf (μ.1 0) l day + 1).toNat).2, ?_, (mEq.u μ l).tr (mEq.i _ _)⟩
  unfold gX3_settlement_b43
  rw [St_rc, X3_dueUntil hv hl ⟨⟨by omega, by omega⟩, hd.2⟩, fn_B_some, St_rc, X3_paid (μ := uMem μ l) (by exact hv) ⟨by omega, by omega⟩ ⟨by omega, by omega⟩, fn_B_some, St_rc, X3_lies (μ := uMem μ l) (by exact hv) (by exact hl) (by omega), fn_B_some, iI_to64 ⟨by omega, by omega⟩, lI_sub]
  rw [show (uMem μ l).1 0 = μ.1 0 from rfl, e1]
  rw [show (sLie (μ.1 0) l (lastOf (μ.1 0) l day + 1).toNat).1 = sThere (μ.1 0) l day from rfl]
  have fin : ∀ (t : Int) (s : mS), -1000000000 ≤ t → t ≤ 1200000000 → gX3_settlement_b94 ρ b (iI w) (lI (sOwed (μ.1 0) l day)) (lI (sThere (μ.1 0) l day)) (lI t) s = some (lI (if w = 0 then sThere (μ.1 0) l day - t else if w = 2 then t else if sOwed (μ.1 0) l day ≤ t then 0 else sOwed (μ.1 0) l day - t), s) := by
    intro t s t1 t2
    unfold gX3_settlement_b94
    simp (disch := omega) only [decide_true, decide_false, reduceIte, and_self, and_true, true_and, and_false, false_and, or_true, true_or, or_false, false_or, not_true_eq_false, not_false_eq_true, reduceCtorEq, mA_ss, mI_ss, ↓St_rc, ↓fn_B, ↓fn_nn_none, ↓fn_nn_some, rZ_0, rZ_1, rZ_b, b2_z, b2_1, b2_or, b2_or0, b2_or1, iI_add, iI_sub, iI_mul, iI_neg, lI_add, lI_sub, lI_mul, iI_lt, iI_le, iI_eq, iI_to64, lI_cmp_lt, lI_cmp_gt, lI_cmp_ge, lI_cmp_le, lI_cmp_eq, mA_s, mA_o, mI_s, mI_o, mB_s, mB_o, mA_I, mA_B, mA_T, mA_F, mI_A, mI_B, mI_T, mI_F, mB_A, mB_I, mB_T, mB_F, mT_A, mT_I, mT_B, mT_F, mF_A, mF_I, mF_B, mF_T, ↓md_gA0, md_a0, md_s0, ↓md_gA1, md_a1, md_s1, ↓md_gA2, md_a2, md_s2, ↓md_gA3, md_a3, md_s3, ↓md_gA4, md_a4, md_s4, ↓md_g5, ↓md_p5, ↓md_g6, ↓md_p6, ↓md_g7, ↓md_p7, ↓md_g8, ↓md_p8, ↓md_gA9, md_a9, md_s9, ↓md_gA10, md_a10, md_s10, ↓md_gA11, md_a11, md_s11, ↓md_gA12, md_a12, md_s12, ↓md_gA13, md_a13, md_s13, ↓md_g14, ↓md_p14, ↓md_g15, ↓md_p15, ↓md_g16, ↓md_p16, ↓md_gA17, md_a17, md_s17, ↓md_gA18, md_a18, md_s18, ↓md_g19, ↓md_p19, ↓md_gA20, md_a20, md_s20, ↓md_g21, ↓md_p21, ↓md_gA22, md_a22, md_s22, ↓md_gA23, md_a23, md_s23, ↓md_gA24, md_a24, md_s24]
    split
    · rfl
    · split
      · rfl
      · split <;> rfl
  unfold sTakes
  simp (disch := omega) only [lI_cmp_gt, lI_cmp_ge]
  by_cases h1 : 0 < sOwed (μ.1 0) l day
  · rw [if_pos h1, if_pos h1]
    by_cases h2 : sThere (μ.1 0) l day ≤ sOwed (μ.1 0) l day
    · rw [if_pos h2, if_pos h2]
      exact fin _ _ (by omega) (by omega)
    · rw [if_neg h2, if_neg h2]
      exact fin _ _ (by omega) (by omega)
  · rw [if_neg h1, if_neg h1]
    exact fin _ _ (by omega) (by omega)
theorem X3_settlement (hv : okD (μ.1 0)) {l w : Int} (r1 : r32 l) (r2 : r32 w) : ∃ μ1, gX3_settlement ρ b (iI l) (iI w) (St σ b μ) = some (lI (qSettle (μ.1 0) l w), St σ b μ1) ∧ mEq μ μ1 := by
  have h0 := hv.1
  unfold gX3_settlement qSettle
  by_cases h1 : 0 ≤ l ∧ l < μ.1 0 0
  · have h5 := endOf_r hv h1.2
    rw [St_rc, fn_Bt (s := St σ b μ) (by rw [X3_isLease r1 (by omega), decide_eq_true h1]), if_neg (by simpa using h1)]
    by_cases h2 : 0 ≤ w ∧ w ≤ 2
    · rw [fn_Bt (s := St σ b μ) (by rw [X3_isIn r2 (by decide) (by decide), decide_eq_true h2]), if_neg (by simpa using h2), St_rc, X3_endOf hv (by omega), fn_B_some]
      unfold lastOf
      by_cases h3 : 3599 ≤ endOf (μ.1 0) l
      · rw [if_pos ((iI_le (by decide) ⟨by omega, by omega⟩).mpr h3)]
        have e : (if endOf (μ.1 0) l ≤ 3599 then endOf (μ.1 0) l else 3599) = 3599 := by split <;> omega
        rw [e]
        exact X3_settle_f hv h1 (day := 3599) (by decide) h2
      · rw [if_neg (fun q => h3 ((iI_le (by decide) ⟨by omega, by omega⟩).mp q)), St_rc, X3_endOf hv (by omega), fn_B_some]
        have e : (if endOf (μ.1 0) l ≤ 3599 then endOf (μ.1 0) l else 3599) = endOf (μ.1 0) l := if_pos (by omega)
        rw [e]
        exact X3_settle_f hv h1 (day := endOf (μ.1 0) l) (by omega) h2
    · rw [fn_Bf (s := St σ b μ) (by rw [X3_isIn r2 (by decide) (by decide), decide_eq_false h2]), if_pos h2]
      exact ⟨μ, rfl, mEq.rf μ⟩
  · rw [St_rc, fn_Bf (s := St σ b μ) (by rw [X3_isLease r1 (by omega), decide_eq_false h1]), if_pos h1]
    exact ⟨μ, rfl, mEq.rf μ⟩
end Query
