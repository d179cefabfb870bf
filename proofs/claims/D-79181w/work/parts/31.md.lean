/-! THE MODEL's MEMORY, by pure/mkmd.py: arrays of numbers, numbers, truths (by the number of the field), touches, parts -/
abbrev MM : Type := (Nat → Int → Int) × (Nat → Int) × (Nat → Bool) × (Int → Bool) × (Int → UInt32)
def mA (μ : MM) (j : Nat) (f : Int → Int) : MM := (fun i => if i = j then f else μ.1 i, μ.2)
def mI (μ : MM) (j : Nat) (x : Int) : MM := (μ.1, fun i => if i = j then x else μ.2.1 i, μ.2.2)
def mB (μ : MM) (j : Nat) (x : Bool) : MM := (μ.1, μ.2.1, fun i => if i = j then x else μ.2.2.1 i, μ.2.2.2)
def mT (μ : MM) (i : Int) (x : Bool) : MM := (μ.1, μ.2.1, μ.2.2.1, fun j => if j = i then x else μ.2.2.2.1 j, μ.2.2.2.2)
def mF (μ : MM) (i : Int) (x : UInt32) : MM := (μ.1, μ.2.1, μ.2.2.1, μ.2.2.2.1, fun j => if j = i then x else μ.2.2.2.2 j)
theorem mA_s {μ : MM} {j : Nat} {f : Int → Int} : (mA μ j f).1 j = f := if_pos rfl
theorem mA_o {μ : MM} {j i : Nat} {f : Int → Int} (h : i ≠ j) : (mA μ j f).1 i = μ.1 i := if_neg h
theorem mI_s {μ : MM} {j : Nat} {x : Int} : (mI μ j x).2.1 j = x := if_pos rfl
theorem mI_o {μ : MM} {j i : Nat} {x : Int} (h : i ≠ j) : (mI μ j x).2.1 i = μ.2.1 i := if_neg h
theorem mB_s {μ : MM} {j : Nat} {x : Bool} : (mB μ j x).2.2.1 j = x := if_pos rfl
theorem mB_o {μ : MM} {j i : Nat} {x : Bool} (h : i ≠ j) : (mB μ j x).2.2.1 i = μ.2.2.1 i := if_neg h
theorem mA_I {μ : MM} {j : Nat} {f : Int → Int} : (mA μ j f).2.1 = μ.2.1 := rfl
theorem mA_B {μ : MM} {j : Nat} {f : Int → Int} : (mA μ j f).2.2.1 = μ.2.2.1 := rfl
theorem mA_T {μ : MM} {j : Nat} {f : Int → Int} : (mA μ j f).2.2.2.1 = μ.2.2.2.1 := rfl
theorem mA_F {μ : MM} {j : Nat} {f : Int → Int} : (mA μ j f).2.2.2.2 = μ.2.2.2.2 := rfl
theorem mI_A {μ : MM} {j : Nat} {x : Int} : (mI μ j x).1 = μ.1 := rfl
theorem mI_B {μ : MM} {j : Nat} {x : Int} : (mI μ j x).2.2.1 = μ.2.2.1 := rfl
theorem mI_T {μ : MM} {j : Nat} {x : Int} : (mI μ j x).2.2.2.1 = μ.2.2.2.1 := rfl
theorem mI_F {μ : MM} {j : Nat} {x : Int} : (mI μ j x).2.2.2.2 = μ.2.2.2.2 := rfl
theorem mB_A {μ : MM} {j : Nat} {x : Bool} : (mB μ j x).1 = μ.1 := rfl
theorem mB_I {μ : MM} {j : Nat} {x : Bool} : (mB μ j x).2.1 = μ.2.1 := rfl
theorem mB_T {μ : MM} {j : Nat} {x : Bool} : (mB μ j x).2.2.2.1 = μ.2.2.2.1 := rfl
theorem mB_F {μ : MM} {j : Nat} {x : Bool} : (mB μ j x).2.2.2.2 = μ.2.2.2.2 := rfl
theorem mT_A {μ : MM} {i : Int} {x : Bool} : (mT μ i x).1 = μ.1 := rfl
theorem mT_I {μ : MM} {i : Int} {x : Bool} : (mT μ i x).2.1 = μ.2.1 := rfl
theorem mT_B {μ : MM} {i : Int} {x : Bool} : (mT μ i x).2.2.1 = μ.2.2.1 := rfl
theorem mT_F {μ : MM} {i : Int} {x : Bool} : (mT μ i x).2.2.2.2 = μ.2.2.2.2 := rfl
theorem mF_A {μ : MM} {i : Int} {x : UInt32} : (mF μ i x).1 = μ.1 := rfl
theorem mF_I {μ : MM} {i : Int} {x : UInt32} : (mF μ i x).2.1 = μ.2.1 := rfl
theorem mF_B {μ : MM} {i : Int} {x : UInt32} : (mF μ i x).2.2.1 = μ.2.2.1 := rfl
theorem mF_T {μ : MM} {i : Int} {x : UInt32} : (mF μ i x).2.2.2.1 = μ.2.2.2.1 := rfl
theorem mA_1 {μ : MM} {j : Nat} {f : Int → Int} : (mA μ j f).1 = fun i => if i = j then f else μ.1 i := rfl
theorem mA_ss {μ : MM} {j : Nat} {f g : Int → Int} : mA (mA μ j f) j g = mA μ j g := by
  unfold mA
  refine Prod.ext (funext fun i => ?_) rfl
  dsimp only
  by_cases h : i = j
  · rw [if_pos h, if_pos h]
  · rw [if_neg h, if_neg h, if_neg h]
theorem mA_self {μ : MM} {j : Nat} : mA μ j (μ.1 j) = μ := by
  unfold mA
  refine Prod.ext (funext fun i => ?_) rfl
  dsimp only
  by_cases h : i = j
  · rw [if_pos h, h]
  · rw [if_neg h]
theorem mI_ss {μ : MM} {j : Nat} {x y : Int} : mI (mI μ j x) j y = mI μ j y := by
  unfold mI
  refine Prod.ext rfl (Prod.ext (funext fun i => ?_) rfl)
  dsimp only
  by_cases h : i = j
  · rw [if_pos h, if_pos h]
  · rw [if_neg h, if_neg h, if_neg h]
def mflds (b : Nat) (μ : MM) : List Value := [va_rf (some (b + 1)), va_rf (some (b + 2)), va_rf (some (b + 3)), va_rf (some (b + 4)), va_rf (some (b + 5)), Value.int (iI (μ.2.1 5)), Value.int (iI (μ.2.1 6)), Value.int (iI (b2 (μ.2.2.1 7))), Value.int (iI (μ.2.1 8)), va_rf (some (b + 6)), va_rf (some (b + 7)), va_rf (some (b + 8)), va_rf (some (b + 9)), va_rf (some (b + 10)), Value.int (iI (μ.2.1 14)), Value.int (iI (μ.2.1 15)), Value.int (iI (b2 (μ.2.2.1 16))), va_rf (some (b + 11)), va_rf (some (b + 12)), Value.long (lI (μ.2.1 19)), va_rf (some (b + 13)), Value.int (iI (μ.2.1 21)), va_rf (some (b + 14)), va_rf (some (b + 15)), va_rf (some (b + 16))]
def mcell (b : Nat) (μ : MM) (j : Nat) : mE := match j with
  | 0 => .inr (31, mflds b μ)
  | 1 => .inl (0, 3960, aI (fun k : Nat => iI (μ.1 0 k)))
  | 2 => .inl (0, 3960, aI (fun k : Nat => iI (μ.1 1 k)))
  | 3 => .inl (0, 3960, aI (fun k : Nat => iI (μ.1 2 k)))
  | 4 => .inl (0, 3960, aI (fun k : Nat => iI (μ.1 3 k)))
  | 5 => .inl (0, 23760, aI (fun k : Nat => iI (μ.1 4 k)))
  | 6 => .inl (0, 60, aI (fun k : Nat => iI (μ.1 9 k)))
  | 7 => .inl (0, 60, aI (fun k : Nat => iI (μ.1 10 k)))
  | 8 => .inl (0, 60, aI (fun k : Nat => iI (μ.1 11 k)))
  | 9 => .inl (0, 60, aI (fun k : Nat => iI (μ.1 12 k)))
  | 10 => .inl (0, 60, aI (fun k : Nat => iI (μ.1 13 k)))
  | 11 => .inl (0, 120, aI (fun k : Nat => iI (μ.1 17 k)))
  | 12 => .inl (2, 12, aI (fun k : Nat => iI (b2 (μ.2.2.2.1 k))))
  | 13 => .inl (0, 4500, aI (fun k : Nat => iI (μ.1 20 k)))
  | 14 => .inl (0, 36, aI (fun k : Nat => iI (μ.1 22 k)))
  | 15 => .inl (0, 3, aI (fun k : Nat => iI (μ.1 23 k)))
  | 16 => .inl (3, 36, aF (fun k : Nat => μ.2.2.2.2 k))
  | _ => .inr (31, [])
/-- the heap σ, with the model's memory μ at b -/
def St (σ : mS) (b : Nat) (μ : MM) : mS := (fun q => if b ≤ q ∧ q < b + 17 then some (mcell b μ (q - b)) else σ.1 q, σ.2)
theorem St_at {σ : mS} {b : Nat} {μ : MM} {j : Nat} (h : j < 17) : (St σ b μ).1 (b + j) = some (mcell b μ j) := by
  show (if b ≤ b + j ∧ b + j < b + 17 then some (mcell b μ (b + j - b)) else σ.1 (b + j)) = _
  rw [if_pos ⟨by omega, by omega⟩, Nat.add_sub_cancel_left]
theorem St_ob {σ : mS} {b : Nat} {μ : MM} : (St σ b μ).1 b = some (.inr (31, mflds b μ)) := St_at (j := 0) (by decide)
theorem St_up {σ : mS} {b : Nat} {μ μ1 : MM} {j : Nat} {e : mE} (h : j < 17) (he : mcell b μ1 j = e) (ho : ∀ i, i < 17 → i ≠ j → mcell b μ1 i = mcell b μ i) : mUp (St σ b μ) (b + j) e = St σ b μ1 := by
  unfold mUp St
  refine Prod.ext (funext fun q => ?_) rfl
  dsimp only
  by_cases hq : b ≤ q ∧ q < b + 17
  · rw [if_pos hq, if_pos hq]
    by_cases hj : q = b + j
    · rw [if_pos hj, hj, Nat.add_sub_cancel_left, he]
    · rw [if_neg hj, ho (q - b) (by omega) (by omega)]
  · rw [if_neg hq, if_neg (fun q9 => hq ⟨by omega, by omega⟩), if_neg hq]
theorem St_up0 {σ : mS} {b : Nat} {μ μ1 : MM} {fs : List Value} (he : mflds b μ1 = fs) (ho : ∀ i, i < 17 → i ≠ 0 → mcell b μ1 i = mcell b μ i) : mUp (St σ b μ) b (.inr (31, fs)) = St σ b μ1 := St_up (j := 0) (by decide) (by rw [← he]; rfl) ho
theorem St_rc {β : Type} {σ : mS} {b : Nat} {μ : MM} {kk : Nat → Option β} : fn_rc 31 (some b) (St σ b μ) kk = kk b := by
  unfold fn_rc fnO
  dsimp only
  rw [St_ob]
  rfl
theorem uB_upd (f : Int → Bool) {i : Int} (x : Bool) (h : 0 ≤ i) : upd (fun k : Nat => iI (b2 (f k))) i.toNat (iI (b2 x)) = fun k : Nat => iI (b2 ((fun j => if j = i then x else f j) k)) := by
  funext j
  unfold upd
  dsimp only
  by_cases hj : j = i.toNat
  · rw [if_pos hj, if_pos (by omega)]
  · rw [if_neg hj, if_neg (by omega)]
theorem uF_upd (f : Int → UInt32) {i : Int} (x : UInt32) (h : 0 ≤ i) : vf_upd (fun k : Nat => f k) i.toNat x = fun k : Nat => (fun j : Int => if j = i then x else f j) k := by
  funext j
  unfold vf_upd
  dsimp only
  by_cases hj : j = i.toNat
  · rw [if_pos hj, if_pos (by omega)]
  · rw [if_neg hj, if_neg (by omega)]
section MD
variable {β : Type} {σ : mS} {b : Nat} {μ : MM}
theorem md_gA0 {kk : Option Nat → Option β} : fn_gA 31 0 (some b) (St σ b μ) kk = kk (some (b + 1)) := by
  unfold fn_gA fnO; dsimp only; rw [St_ob]; rfl
theorem md_a0 {i : Int} (h : 0 ≤ i ∧ i < 3960) {kk : Int32 → Option β} : fn_aI 0 (some (b + 1)) (iI i) (St σ b μ) kk = kk (iI (μ.1 0 i)) := by
  unfold fn_aI fnA
  dsimp only
  rw [St_at (j := 1) (by decide)]
  show fn_in (iI i) 3960 (kk _) = _
  rw [fn_in_ok h (by decide), iI_nat ⟨by omega, by omega⟩]
  dsimp only
  rw [Int.toNat_of_nonneg h.1]
theorem md_s0 {i x : Int} (h : 0 ≤ i ∧ i < 3960) {kk : mS → Option β} : fn_sI 0 (some (b + 1)) (iI i) (iI x) (St σ b μ) kk = kk (St σ b (mA μ 0 (uI (μ.1 0) i x))) := by
  unfold fn_sI fnA
  dsimp only
  rw [St_at (j := 1) (by decide)]
  show fn_in (iI i) 3960 (kk _) = _
  rw [fn_in_ok h (by decide), iI_nat ⟨by omega, by omega⟩, uI_upd _ _ h.1]
  exact congrArg kk (St_up (by decide) rfl (by intro i h1 h2; match i, h2 with | 0, _ => rfl | 1, h2 => exact absurd rfl h2 | 2, _ => rfl | 3, _ => rfl | 4, _ => rfl | 5, _ => rfl | 6, _ => rfl | 7, _ => rfl | 8, _ => rfl | 9, _ => rfl | 10, _ => rfl | 11, _ => rfl | 12, _ => rfl | 13, _ => rfl | 14, _ => rfl | 15, _ => rfl | 16, _ => rfl | n + 17, _ => omega))
theorem md_gA1 {kk : Option Nat → Option β} : fn_gA 31 1 (some b) (St σ b μ) kk = kk (some (b + 2)) := by
  unfold fn_gA fnO; dsimp only; rw [St_ob]; rfl
theorem md_a1 {i : Int} (h : 0 ≤ i ∧ i < 3960) {kk : Int32 → Option β} : fn_aI 0 (some (b + 2)) (iI i) (St σ b μ) kk = kk (iI (μ.1 1 i)) := by
  unfold fn_aI fnA
  dsimp only
  rw [St_at (j := 2) (by decide)]
  show fn_in (iI i) 3960 (kk _) = _
  rw [fn_in_ok h (by decide), iI_nat ⟨by omega, by omega⟩]
  dsimp only
  rw [Int.toNat_of_nonneg h.1]
theorem md_s1 {i x : Int} (h : 0 ≤ i ∧ i < 3960) {kk : mS → Option β} : fn_sI 0 (some (b + 2)) (iI i) (iI x) (St σ b μ) kk = kk (St σ b (mA μ 1 (uI (μ.1 1) i x))) := by
  unfold fn_sI fnA
  dsimp only
  rw [St_at (j := 2) (by decide)]
  show fn_in (iI i) 3960 (kk _) = _
  rw [fn_in_ok h (by decide), iI_nat ⟨by omega, by omega⟩, uI_upd _ _ h.1]
  exact congrArg kk (St_up (by decide) rfl (by intro i h1 h2; match i, h2 with | 0, _ => rfl | 1, _ => rfl | 2, h2 => exact absurd rfl h2 | 3, _ => rfl | 4, _ => rfl | 5, _ => rfl | 6, _ => rfl | 7, _ => rfl | 8, _ => rfl | 9, _ => rfl | 10, _ => rfl | 11, _ => rfl | 12, _ => rfl | 13, _ => rfl | 14, _ => rfl | 15, _ => rfl | 16, _ => rfl | n + 17, _ => omega))
theorem md_gA2 {kk : Option Nat → Option β} : fn_gA 31 2 (some b) (St σ b μ) kk = kk (some (b + 3)) := by
  unfold fn_gA fnO; dsimp only; rw [St_ob]; rfl
theorem md_a2 {i : Int} (h : 0 ≤ i ∧ i < 3960) {kk : Int32 → Option β} : fn_aI 0 (some (b + 3)) (iI i) (St σ b μ) kk = kk (iI (μ.1 2 i)) := by
  unfold fn_aI fnA
  dsimp only
  rw [St_at (j := 3) (by decide)]
  show fn_in (iI i) 3960 (kk _) = _
  rw [fn_in_ok h (by decide), iI_nat ⟨by omega, by omega⟩]
  dsimp only
  rw [Int.toNat_of_nonneg h.1]
theorem md_s2 {i x : Int} (h : 0 ≤ i ∧ i < 3960) {kk : mS → Option β} : fn_sI 0 (some (b + 3)) (iI i) (iI x) (St σ b μ) kk = kk (St σ b (mA μ 2 (uI (μ.1 2) i x))) := by
  unfold fn_sI fnA
  dsimp only
  rw [St_at (j := 3) (by decide)]
  show fn_in (iI i) 3960 (kk _) = _
  rw [fn_in_ok h (by decide), iI_nat ⟨by omega, by omega⟩, uI_upd _ _ h.1]
  exact congrArg kk (St_up (by decide) rfl (by intro i h1 h2; match i, h2 with | 0, _ => rfl | 1, _ => rfl | 2, _ => rfl | 3, h2 => exact absurd rfl h2 | 4, _ => rfl | 5, _ => rfl | 6, _ => rfl | 7, _ => rfl | 8, _ => rfl | 9, _ => rfl | 10, _ => rfl | 11, _ => rfl | 12, _ => rfl | 13, _ => rfl | 14, _ => rfl | 15, _ => rfl | 16, _ => rfl | n + 17, _ => omega))
theorem md_gA3 {kk : Option Nat → Option β} : fn_gA 31 3 (some b) (St σ b μ) kk = kk (some (b + 4)) := by
  unfold fn_gA fnO; dsimp only; rw [St_ob]; rfl
theorem md_a3 {i : Int} (h : 0 ≤ i ∧ i < 3960) {kk : Int32 → Option β} : fn_aI 0 (some (b + 4)) (iI i) (St σ b μ) kk = kk (iI (μ.1 3 i)) := by
  unfold fn_aI fnA
  dsimp only
  rw [St_at (j := 4) (by decide)]
  show fn_in (iI i) 3960 (kk _) = _
  rw [fn_in_ok h (by decide), iI_nat ⟨by omega, by omega⟩]
  dsimp only
  rw [Int.toNat_of_nonneg h.1]
theorem md_s3 {i x : Int} (h : 0 ≤ i ∧ i < 3960) {kk : mS → Option β} : fn_sI 0 (some (b + 4)) (iI i) (iI x) (St σ b μ) kk = kk (St σ b (mA μ 3 (uI (μ.1 3) i x))) := by
  unfold fn_sI fnA
  dsimp only
  rw [St_at (j := 4) (by decide)]
  show fn_in (iI i) 3960 (kk _) = _
  rw [fn_in_ok h (by decide), iI_nat ⟨by omega, by omega⟩, uI_upd _ _ h.1]
  exact congrArg kk (St_up (by decide) rfl (by intro i h1 h2; match i, h2 with | 0, _ => rfl | 1, _ => rfl | 2, _ => rfl | 3, _ => rfl | 4, h2 => exact absurd rfl h2 | 5, _ => rfl | 6, _ => rfl | 7, _ => rfl | 8, _ => rfl | 9, _ => rfl | 10, _ => rfl | 11, _ => rfl | 12, _ => rfl | 13, _ => rfl | 14, _ => rfl | 15, _ => rfl | 16, _ => rfl | n + 17, _ => omega))
theorem md_gA4 {kk : Option Nat → Option β} : fn_gA 31 4 (some b) (St σ b μ) kk = kk (some (b + 5)) := by
  unfold fn_gA fnO; dsimp only; rw [St_ob]; rfl
theorem md_a4 {i : Int} (h : 0 ≤ i ∧ i < 23760) {kk : Int32 → Option β} : fn_aI 0 (some (b + 5)) (iI i) (St σ b μ) kk = kk (iI (μ.1 4 i)) := by
  unfold fn_aI fnA
  dsimp only
  rw [St_at (j := 5) (by decide)]
  show fn_in (iI i) 23760 (kk _) = _
  rw [fn_in_ok h (by decide), iI_nat ⟨by omega, by omega⟩]
  dsimp only
  rw [Int.toNat_of_nonneg h.1]
theorem md_s4 {i x : Int} (h : 0 ≤ i ∧ i < 23760) {kk : mS → Option β} : fn_sI 0 (some (b + 5)) (iI i) (iI x) (St σ b μ) kk = kk (St σ b (mA μ 4 (uI (μ.1 4) i x))) := by
  unfold fn_sI fnA
  dsimp only
  rw [St_at (j := 5) (by decide)]
  show fn_in (iI i) 23760 (kk _) = _
  rw [fn_in_ok h (by decide), iI_nat ⟨by omega, by omega⟩, uI_upd _ _ h.1]
  exact congrArg kk (St_up (by decide) rfl (by intro i h1 h2; match i, h2 with | 0, _ => rfl | 1, _ => rfl | 2, _ => rfl | 3, _ => rfl | 4, _ => rfl | 5, h2 => exact absurd rfl h2 | 6, _ => rfl | 7, _ => rfl | 8, _ => rfl | 9, _ => rfl | 10, _ => rfl | 11, _ => rfl | 12, _ => rfl | 13, _ => rfl | 14, _ => rfl | 15, _ => rfl | 16, _ => rfl | n + 17, _ => omega))
theorem md_g5 {kk : Int32 → Option β} : fn_gI 31 5 (some b) (St σ b μ) kk = kk (iI (μ.2.1 5)) := by
  unfold fn_gI fnO; dsimp only; rw [St_ob]; rfl
theorem md_p5 {x : Int} {kk : mS → Option β} : fn_pI 31 5 (some b) (iI x) (St σ b μ) kk = kk (St σ b (mI μ 5 x)) := by
  unfold fn_pI fn_p fnO
  dsimp only
  rw [St_ob]
  exact congrArg kk (St_up0 rfl (by intro i h1 h2; match i, h2 with | 0, h2 => exact absurd rfl h2 | 1, _ => rfl | 2, _ => rfl | 3, _ => rfl | 4, _ => rfl | 5, _ => rfl | 6, _ => rfl | 7, _ => rfl | 8, _ => rfl | 9, _ => rfl | 10, _ => rfl | 11, _ => rfl | 12, _ => rfl | 13, _ => rfl | 14, _ => rfl | 15, _ => rfl | 16, _ => rfl | n + 17, _ => omega))
theorem md_g6 {kk : Int32 → Option β} : fn_gI 31 6 (some b) (St σ b μ) kk = kk (iI (μ.2.1 6)) := by
  unfold fn_gI fnO; dsimp only; rw [St_ob]; rfl
theorem md_p6 {x : Int} {kk : mS → Option β} : fn_pI 31 6 (some b) (iI x) (St σ b μ) kk = kk (St σ b (mI μ 6 x)) := by
  unfold fn_pI fn_p fnO
  dsimp only
  rw [St_ob]
  exact congrArg kk (St_up0 rfl (by intro i h1 h2; match i, h2 with | 0, h2 => exact absurd rfl h2 | 1, _ => rfl | 2, _ => rfl | 3, _ => rfl | 4, _ => rfl | 5, _ => rfl | 6, _ => rfl | 7, _ => rfl | 8, _ => rfl | 9, _ => rfl | 10, _ => rfl | 11, _ => rfl | 12, _ => rfl | 13, _ => rfl | 14, _ => rfl | 15, _ => rfl | 16, _ => rfl | n + 17, _ => omega))
theorem md_g7 {kk : Int32 → Option β} : fn_gI 31 7 (some b) (St σ b μ) kk = kk (iI (b2 (μ.2.2.1 7))) := by
  unfold fn_gI fnO; dsimp only; rw [St_ob]; rfl
theorem md_p7 {x : Bool} {kk : mS → Option β} : fn_pZ 31 7 (some b) (iI (b2 x)) (St σ b μ) kk = kk (St σ b (mB μ 7 x)) := by
  unfold fn_pZ
  rw [if_pos (by cases x; exact Or.inl rfl; exact Or.inr rfl)]
  unfold fn_p fnO
  dsimp only
  rw [St_ob]
  exact congrArg kk (St_up0 rfl (by intro i h1 h2; match i, h2 with | 0, h2 => exact absurd rfl h2 | 1, _ => rfl | 2, _ => rfl | 3, _ => rfl | 4, _ => rfl | 5, _ => rfl | 6, _ => rfl | 7, _ => rfl | 8, _ => rfl | 9, _ => rfl | 10, _ => rfl | 11, _ => rfl | 12, _ => rfl | 13, _ => rfl | 14, _ => rfl | 15, _ => rfl | 16, _ => rfl | n + 17, _ => omega))
theorem md_g8 {kk : Int32 → Option β} : fn_gI 31 8 (some b) (St σ b μ) kk = kk (iI (μ.2.1 8)) := by
  unfold fn_gI fnO; dsimp only; rw [St_ob]; rfl
theorem md_p8 {x : Int} {kk : mS → Option β} : fn_pI 31 8 (some b) (iI x) (St σ b μ) kk = kk (St σ b (mI μ 8 x)) := by
  unfold fn_pI fn_p fnO
  dsimp only
  rw [St_ob]
  exact congrArg kk (St_up0 rfl (by intro i h1 h2; match i, h2 with | 0, h2 => exact absurd rfl h2 | 1, _ => rfl | 2, _ => rfl | 3, _ => rfl | 4, _ => rfl | 5, _ => rfl | 6, _ => rfl | 7, _ => rfl | 8, _ => rfl | 9, _ => rfl | 10, _ => rfl | 11, _ => rfl | 12, _ => rfl | 13, _ => rfl | 14, _ => rfl | 15, _ => rfl | 16, _ => rfl | n + 17, _ => omega))
theorem md_gA9 {kk : Option Nat → Option β} : fn_gA 31 9 (some b) (St σ b μ) kk = kk (some (b + 6)) := by
  unfold fn_gA fnO; dsimp only; rw [St_ob]; rfl
theorem md_a9 {i : Int} (h : 0 ≤ i ∧ i < 60) {kk : Int32 → Option β} : fn_aI 0 (some (b + 6)) (iI i) (St σ b μ) kk = kk (iI (μ.1 9 i)) := by
  unfold fn_aI fnA
  dsimp only
  rw [St_at (j := 6) (by decide)]
  show fn_in (iI i) 60 (kk _) = _
  rw [fn_in_ok h (by decide), iI_nat ⟨by omega, by omega⟩]
  dsimp only
  rw [Int.toNat_of_nonneg h.1]
theorem md_s9 {i x : Int} (h : 0 ≤ i ∧ i < 60) {kk : mS → Option β} : fn_sI 0 (some (b + 6)) (iI i) (iI x) (St σ b μ) kk = kk (St σ b (mA μ 9 (uI (μ.1 9) i x))) := by
  unfold fn_sI fnA
  dsimp only
  rw [St_at (j := 6) (by decide)]
  show fn_in (iI i) 60 (kk _) = _
  rw [fn_in_ok h (by decide), iI_nat ⟨by omega, by omega⟩, uI_upd _ _ h.1]
  exact congrArg kk (St_up (by decide) rfl (by intro i h1 h2; match i, h2 with | 0, _ => rfl | 1, _ => rfl | 2, _ => rfl | 3, _ => rfl | 4, _ => rfl | 5, _ => rfl | 6, h2 => exact absurd rfl h2 | 7, _ => rfl | 8, _ => rfl | 9, _ => rfl | 10, _ => rfl | 11, _ => rfl | 12, _ => rfl | 13, _ => rfl | 14, _ => rfl | 15, _ => rfl | 16, _ => rfl | n + 17, _ => omega))
theorem md_gA10 {kk : Option Nat → Option β} : fn_gA 31 10 (some b) (St σ b μ) kk = kk (some (b + 7)) := by
  unfold fn_gA fnO; dsimp only; rw [St_ob]; rfl
theorem md_a10 {i : Int} (h : 0 ≤ i ∧ i < 60) {kk : Int32 → Option β} : fn_aI 0 (some (b + 7)) (iI i) (St σ b μ) kk = kk (iI (μ.1 10 i)) := by
  unfold fn_aI fnA
  dsimp only
  rw [St_at (j := 7) (by decide)]
  show fn_in (iI i) 60 (kk _) = _
  rw [fn_in_ok h (by decide), iI_nat ⟨by omega, by omega⟩]
  dsimp only
  rw [Int.toNat_of_nonneg h.1]
theorem md_s10 {i x : Int} (h : 0 ≤ i ∧ i < 60) {kk : mS → Option β} : fn_sI 0 (some (b + 7)) (iI i) (iI x) (St σ b μ) kk = kk (St σ b (mA μ 10 (uI (μ.1 10) i x))) := by
  unfold fn_sI fnA
  dsimp only
  rw [St_at (j := 7) (by decide)]
  show fn_in (iI i) 60 (kk _) = _
  rw [fn_in_ok h (by decide), iI_nat ⟨by omega, by omega⟩, uI_upd _ _ h.1]
  exact congrArg kk (St_up (by decide) rfl (by intro i h1 h2; match i, h2 with | 0, _ => rfl | 1, _ => rfl | 2, _ => rfl | 3, _ => rfl | 4, _ => rfl | 5, _ => rfl | 6, _ => rfl | 7, h2 => exact absurd rfl h2 | 8, _ => rfl | 9, _ => rfl | 10, _ => rfl | 11, _ => rfl | 12, _ => rfl | 13, _ => rfl | 14, _ => rfl | 15, _ => rfl | 16, _ => rfl | n + 17, _ => omega))
theorem md_gA11 {kk : Option Nat → Option β} : fn_gA 31 11 (some b) (St σ b μ) kk = kk (some (b + 8)) := by
  unfold fn_gA fnO; dsimp only; rw [St_ob]; rfl
theorem md_a11 {i : Int} (h : 0 ≤ i ∧ i < 60) {kk : Int32 → Option β} : fn_aI 0 (some (b + 8)) (iI i) (St σ b μ) kk = kk (iI (μ.1 11 i)) := by
  unfold fn_aI fnA
  dsimp only
  rw [St_at (j := 8) (by decide)]
  show fn_in (iI i) 60 (kk _) = _
  rw [fn_in_ok h (by decide), iI_nat ⟨by omega, by omega⟩]
  dsimp only
  rw [Int.toNat_of_nonneg h.1]
theorem md_s11 {i x : Int} (h : 0 ≤ i ∧ i < 60) {kk : mS → Option β} : fn_sI 0 (some (b + 8)) (iI i) (iI x) (St σ b μ) kk = kk (St σ b (mA μ 11 (uI (μ.1 11) i x))) := by
  unfold fn_sI fnA
  dsimp only
  rw [St_at (j := 8) (by decide)]
  show fn_in (iI i) 60 (kk _) = _
  rw [fn_in_ok h (by decide), iI_nat ⟨by omega, by omega⟩, uI_upd _ _ h.1]
  exact congrArg kk (St_up (by decide) rfl (by intro i h1 h2; match i, h2 with | 0, _ => rfl | 1, _ => rfl | 2, _ => rfl | 3, _ => rfl | 4, _ => rfl | 5, _ => rfl | 6, _ => rfl | 7, _ => rfl | 8, h2 => exact absurd rfl h2 | 9, _ => rfl | 10, _ => rfl | 11, _ => rfl | 12, _ => rfl | 13, _ => rfl | 14, _ => rfl | 15, _ => rfl | 16, _ => rfl | n + 17, _ => omega))
theorem md_gA12 {kk : Option Nat → Option β} : fn_gA 31 12 (some b) (St σ b μ) kk = kk (some (b + 9)) := by
  unfold fn_gA fnO; dsimp only; rw [St_ob]; rfl
theorem md_a12 {i : Int} (h : 0 ≤ i ∧ i < 60) {kk : Int32 → Option β} : fn_aI 0 (some (b + 9)) (iI i) (St σ b μ) kk = kk (iI (μ.1 12 i)) := by
  unfold fn_aI fnA
  dsimp only
  rw [St_at (j := 9) (by decide)]
  show fn_in (iI i) 60 (kk _) = _
  rw [fn_in_ok h (by decide), iI_nat ⟨by omega, by omega⟩]
  dsimp only
  rw [Int.toNat_of_nonneg h.1]
theorem md_s12 {i x : Int} (h : 0 ≤ i ∧ i < 60) {kk : mS → Option β} : fn_sI 0 (some (b + 9)) (iI i) (iI x) (St σ b μ) kk = kk (St σ b (mA μ 12 (uI (μ.1 12) i x))) := by
  unfold fn_sI fnA
  dsimp only
  rw [St_at (j := 9) (by decide)]
  show fn_in (iI i) 60 (kk _) = _
  rw [fn_in_ok h (by decide), iI_nat ⟨by omega, by omega⟩, uI_upd _ _ h.1]
  exact congrArg kk (St_up (by decide) rfl (by intro i h1 h2; match i, h2 with | 0, _ => rfl | 1, _ => rfl | 2, _ => rfl | 3, _ => rfl | 4, _ => rfl | 5, _ => rfl | 6, _ => rfl | 7, _ => rfl | 8, _ => rfl | 9, h2 => exact absurd rfl h2 | 10, _ => rfl | 11, _ => rfl | 12, _ => rfl | 13, _ => rfl | 14, _ => rfl | 15, _ => rfl | 16, _ => rfl | n + 17, _ => omega))
theorem md_gA13 {kk : Option Nat → Option β} : fn_gA 31 13 (some b) (St σ b μ) kk = kk (some (b + 10)) := by
  unfold fn_gA fnO; dsimp only; rw [St_ob]; rfl
theorem md_a13 {i : Int} (h : 0 ≤ i ∧ i < 60) {kk : Int32 → Option β} : fn_aI 0 (some (b + 10)) (iI i) (St σ b μ) kk = kk (iI (μ.1 13 i)) := by
  unfold fn_aI fnA
  dsimp only
  rw [St_at (j := 10) (by decide)]
  show fn_in (iI i) 60 (kk _) = _
  rw [fn_in_ok h (by decide), iI_nat ⟨by omega, by omega⟩]
  dsimp only
  rw [Int.toNat_of_nonneg h.1]
theorem md_s13 {i x : Int} (h : 0 ≤ i ∧ i < 60) {kk : mS → Option β} : fn_sI 0 (some (b + 10)) (iI i) (iI x) (St σ b μ) kk = kk (St σ b (mA μ 13 (uI (μ.1 13) i x))) := by
  unfold fn_sI fnA
  dsimp only
  rw [St_at (j := 10) (by decide)]
  show fn_in (iI i) 60 (kk _) = _
  rw [fn_in_ok h (by decide), iI_nat ⟨by omega, by omega⟩, uI_upd _ _ h.1]
  exact congrArg kk (St_up (by decide) rfl (by intro i h1 h2; match i, h2 with | 0, _ => rfl | 1, _ => rfl | 2, _ => rfl | 3, _ => rfl | 4, _ => rfl | 5, _ => rfl | 6, _ => rfl | 7, _ => rfl | 8, _ => rfl | 9, _ => rfl | 10, h2 => exact absurd rfl h2 | 11, _ => rfl | 12, _ => rfl | 13, _ => rfl | 14, _ => rfl | 15, _ => rfl | 16, _ => rfl | n + 17, _ => omega))
theorem md_g14 {kk : Int32 → Option β} : fn_gI 31 14 (some b) (St σ b μ) kk = kk (iI (μ.2.1 14)) := by
  unfold fn_gI fnO; dsimp only; rw [St_ob]; rfl
theorem md_p14 {x : Int} {kk : mS → Option β} : fn_pI 31 14 (some b) (iI x) (St σ b μ) kk = kk (St σ b (mI μ 14 x)) := by
  unfold fn_pI fn_p fnO
  dsimp only
  rw [St_ob]
  exact congrArg kk (St_up0 rfl (by intro i h1 h2; match i, h2 with | 0, h2 => exact absurd rfl h2 | 1, _ => rfl | 2, _ => rfl | 3, _ => rfl | 4, _ => rfl | 5, _ => rfl | 6, _ => rfl | 7, _ => rfl | 8, _ => rfl | 9, _ => rfl | 10, _ => rfl | 11, _ => rfl | 12, _ => rfl | 13, _ => rfl | 14, _ => rfl | 15, _ => rfl | 16, _ => rfl | n + 17, _ => omega))
theorem md_g15 {kk : Int32 → Option β} : fn_gI 31 15 (some b) (St σ b μ) kk = kk (iI (μ.2.1 15)) := by
  unfold fn_gI fnO; dsimp only; rw [St_ob]; rfl
theorem md_p15 {x : Int} {kk : mS → Option β} : fn_pI 31 15 (some b) (iI x) (St σ b μ) kk = kk (St σ b (mI μ 15 x)) := by
  unfold fn_pI fn_p fnO
  dsimp only
  rw [St_ob]
  exact congrArg kk (St_up0 rfl (by intro i h1 h2; match i, h2 with | 0, h2 => exact absurd rfl h2 | 1, _ => rfl | 2, _ => rfl | 3, _ => rfl | 4, _ => rfl | 5, _ => rfl | 6, _ => rfl | 7, _ => rfl | 8, _ => rfl | 9, _ => rfl | 10, _ => rfl | 11, _ => rfl | 12, _ => rfl | 13, _ => rfl | 14, _ => rfl | 15, _ => rfl | 16, _ => rfl | n + 17, _ => omega))
theorem md_g16 {kk : Int32 → Option β} : fn_gI 31 16 (some b) (St σ b μ) kk = kk (iI (b2 (μ.2.2.1 16))) := by
  unfold fn_gI fnO; dsimp only; rw [St_ob]; rfl
theorem md_p16 {x : Bool} {kk : mS → Option β} : fn_pZ 31 16 (some b) (iI (b2 x)) (St σ b μ) kk = kk (St σ b (mB μ 16 x)) := by
  unfold fn_pZ
  rw [if_pos (by cases x; exact Or.inl rfl; exact Or.inr rfl)]
  unfold fn_p fnO
  dsimp only
  rw [St_ob]
  exact congrArg kk (St_up0 rfl (by intro i h1 h2; match i, h2 with | 0, h2 => exact absurd rfl h2 | 1, _ => rfl | 2, _ => rfl | 3, _ => rfl | 4, _ => rfl | 5, _ => rfl | 6, _ => rfl | 7, _ => rfl | 8, _ => rfl | 9, _ => rfl | 10, _ => rfl | 11, _ => rfl | 12, _ => rfl | 13, _ => rfl | 14, _ => rfl | 15, _ => rfl | 16, _ => rfl | n + 17, _ => omega))
theorem md_gA17 {kk : Option Nat → Option β} : fn_gA 31 17 (some b) (St σ b μ) kk = kk (some (b + 11)) := by
  unfold fn_gA fnO; dsimp only; rw [St_ob]; rfl
theorem md_a17 {i : Int} (h : 0 ≤ i ∧ i < 120) {kk : Int32 → Option β} : fn_aI 0 (some (b + 11)) (iI i) (St σ b μ) kk = kk (iI (μ.1 17 i)) := by
  unfold fn_aI fnA
  dsimp only
  rw [St_at (j := 11) (by decide)]
  show fn_in (iI i) 120 (kk _) = _
  rw [fn_in_ok h (by decide), iI_nat ⟨by omega, by omega⟩]
  dsimp only
  rw [Int.toNat_of_nonneg h.1]
theorem md_s17 {i x : Int} (h : 0 ≤ i ∧ i < 120) {kk : mS → Option β} : fn_sI 0 (some (b + 11)) (iI i) (iI x) (St σ b μ) kk = kk (St σ b (mA μ 17 (uI (μ.1 17) i x))) := by
  unfold fn_sI fnA
  dsimp only
  rw [St_at (j := 11) (by decide)]
  show fn_in (iI i) 120 (kk _) = _
  rw [fn_in_ok h (by decide), iI_nat ⟨by omega, by omega⟩, uI_upd _ _ h.1]
  exact congrArg kk (St_up (by decide) rfl (by intro i h1 h2; match i, h2 with | 0, _ => rfl | 1, _ => rfl | 2, _ => rfl | 3, _ => rfl | 4, _ => rfl | 5, _ => rfl | 6, _ => rfl | 7, _ => rfl | 8, _ => rfl | 9, _ => rfl | 10, _ => rfl | 11, h2 => exact absurd rfl h2 | 12, _ => rfl | 13, _ => rfl | 14, _ => rfl | 15, _ => rfl | 16, _ => rfl | n + 17, _ => omega))
theorem md_gA18 {kk : Option Nat → Option β} : fn_gA 31 18 (some b) (St σ b μ) kk = kk (some (b + 12)) := by
  unfold fn_gA fnO; dsimp only; rw [St_ob]; rfl
theorem md_a18 {i : Int} (h : 0 ≤ i ∧ i < 12) {kk : Int32 → Option β} : fn_aI 2 (some (b + 12)) (iI i) (St σ b μ) kk = kk (iI (b2 (μ.2.2.2.1 i))) := by
  unfold fn_aI fnA
  dsimp only
  rw [St_at (j := 12) (by decide)]
  show fn_in (iI i) 12 (kk _) = _
  rw [fn_in_ok h (by decide), iI_nat ⟨by omega, by omega⟩]
  dsimp only
  rw [Int.toNat_of_nonneg h.1]
theorem md_s18 {i : Int} {x : Bool} (h : 0 ≤ i ∧ i < 12) {kk : mS → Option β} : fn_sZ 2 (some (b + 12)) (iI i) (iI (b2 x)) (St σ b μ) kk = kk (St σ b (mT μ i x)) := by
  unfold fn_sZ
  rw [if_pos (by cases x; exact Or.inl rfl; exact Or.inr rfl)]
  unfold fn_sI fnA
  dsimp only
  rw [St_at (j := 12) (by decide)]
  show fn_in (iI i) 12 (kk _) = _
  rw [fn_in_ok h (by decide), iI_nat ⟨by omega, by omega⟩, uB_upd _ _ h.1]
  exact congrArg kk (St_up (by decide) rfl (by intro i h1 h2; match i, h2 with | 0, _ => rfl | 1, _ => rfl | 2, _ => rfl | 3, _ => rfl | 4, _ => rfl | 5, _ => rfl | 6, _ => rfl | 7, _ => rfl | 8, _ => rfl | 9, _ => rfl | 10, _ => rfl | 11, _ => rfl | 12, h2 => exact absurd rfl h2 | 13, _ => rfl | 14, _ => rfl | 15, _ => rfl | 16, _ => rfl | n + 17, _ => omega))
theorem md_g19 {kk : Int64 → Option β} : fn_gL 31 19 (some b) (St σ b μ) kk = kk (lI (μ.2.1 19)) := by
  unfold fn_gL fnO; dsimp only; rw [St_ob]; rfl
theorem md_p19 {x : Int} {kk : mS → Option β} : fn_pL 31 19 (some b) (lI x) (St σ b μ) kk = kk (St σ b (mI μ 19 x)) := by
  unfold fn_pL fn_p fnO
  dsimp only
  rw [St_ob]
  exact congrArg kk (St_up0 rfl (by intro i h1 h2; match i, h2 with | 0, h2 => exact absurd rfl h2 | 1, _ => rfl | 2, _ => rfl | 3, _ => rfl | 4, _ => rfl | 5, _ => rfl | 6, _ => rfl | 7, _ => rfl | 8, _ => rfl | 9, _ => rfl | 10, _ => rfl | 11, _ => rfl | 12, _ => rfl | 13, _ => rfl | 14, _ => rfl | 15, _ => rfl | 16, _ => rfl | n + 17, _ => omega))
theorem md_gA20 {kk : Option Nat → Option β} : fn_gA 31 20 (some b) (St σ b μ) kk = kk (some (b + 13)) := by
  unfold fn_gA fnO; dsimp only; rw [St_ob]; rfl
theorem md_a20 {i : Int} (h : 0 ≤ i ∧ i < 4500) {kk : Int32 → Option β} : fn_aI 0 (some (b + 13)) (iI i) (St σ b μ) kk = kk (iI (μ.1 20 i)) := by
  unfold fn_aI fnA
  dsimp only
  rw [St_at (j := 13) (by decide)]
  show fn_in (iI i) 4500 (kk _) = _
  rw [fn_in_ok h (by decide), iI_nat ⟨by omega, by omega⟩]
  dsimp only
  rw [Int.toNat_of_nonneg h.1]
theorem md_s20 {i x : Int} (h : 0 ≤ i ∧ i < 4500) {kk : mS → Option β} : fn_sI 0 (some (b + 13)) (iI i) (iI x) (St σ b μ) kk = kk (St σ b (mA μ 20 (uI (μ.1 20) i x))) := by
  unfold fn_sI fnA
  dsimp only
  rw [St_at (j := 13) (by decide)]
  show fn_in (iI i) 4500 (kk _) = _
  rw [fn_in_ok h (by decide), iI_nat ⟨by omega, by omega⟩, uI_upd _ _ h.1]
  exact congrArg kk (St_up (by decide) rfl (by intro i h1 h2; match i, h2 with | 0, _ => rfl | 1, _ => rfl | 2, _ => rfl | 3, _ => rfl | 4, _ => rfl | 5, _ => rfl | 6, _ => rfl | 7, _ => rfl | 8, _ => rfl | 9, _ => rfl | 10, _ => rfl | 11, _ => rfl | 12, _ => rfl | 13, h2 => exact absurd rfl h2 | 14, _ => rfl | 15, _ => rfl | 16, _ => rfl | n + 17, _ => omega))
theorem md_g21 {kk : Int32 → Option β} : fn_gI 31 21 (some b) (St σ b μ) kk = kk (iI (μ.2.1 21)) := by
  unfold fn_gI fnO; dsimp only; rw [St_ob]; rfl
theorem md_p21 {x : Int} {kk : mS → Option β} : fn_pI 31 21 (some b) (iI x) (St σ b μ) kk = kk (St σ b (mI μ 21 x)) := by
  unfold fn_pI fn_p fnO
  dsimp only
  rw [St_ob]
  exact congrArg kk (St_up0 rfl (by intro i h1 h2; match i, h2 with | 0, h2 => exact absurd rfl h2 | 1, _ => rfl | 2, _ => rfl | 3, _ => rfl | 4, _ => rfl | 5, _ => rfl | 6, _ => rfl | 7, _ => rfl | 8, _ => rfl | 9, _ => rfl | 10, _ => rfl | 11, _ => rfl | 12, _ => rfl | 13, _ => rfl | 14, _ => rfl | 15, _ => rfl | 16, _ => rfl | n + 17, _ => omega))
theorem md_gA22 {kk : Option Nat → Option β} : fn_gA 31 22 (some b) (St σ b μ) kk = kk (some (b + 14)) := by
  unfold fn_gA fnO; dsimp only; rw [St_ob]; rfl
theorem md_a22 {i : Int} (h : 0 ≤ i ∧ i < 36) {kk : Int32 → Option β} : fn_aI 0 (some (b + 14)) (iI i) (St σ b μ) kk = kk (iI (μ.1 22 i)) := by
  unfold fn_aI fnA
  dsimp only
  rw [St_at (j := 14) (by decide)]
  show fn_in (iI i) 36 (kk _) = _
  rw [fn_in_ok h (by decide), iI_nat ⟨by omega, by omega⟩]
  dsimp only
  rw [Int.toNat_of_nonneg h.1]
theorem md_s22 {i x : Int} (h : 0 ≤ i ∧ i < 36) {kk : mS → Option β} : fn_sI 0 (some (b + 14)) (iI i) (iI x) (St σ b μ) kk = kk (St σ b (mA μ 22 (uI (μ.1 22) i x))) := by
  unfold fn_sI fnA
  dsimp only
  rw [St_at (j := 14) (by decide)]
  show fn_in (iI i) 36 (kk _) = _
  rw [fn_in_ok h (by decide), iI_nat ⟨by omega, by omega⟩, uI_upd _ _ h.1]
  exact congrArg kk (St_up (by decide) rfl (by intro i h1 h2; match i, h2 with | 0, _ => rfl | 1, _ => rfl | 2, _ => rfl | 3, _ => rfl | 4, _ => rfl | 5, _ => rfl | 6, _ => rfl | 7, _ => rfl | 8, _ => rfl | 9, _ => rfl | 10, _ => rfl | 11, _ => rfl | 12, _ => rfl | 13, _ => rfl | 14, h2 => exact absurd rfl h2 | 15, _ => rfl | 16, _ => rfl | n + 17, _ => omega))
theorem md_gA23 {kk : Option Nat → Option β} : fn_gA 31 23 (some b) (St σ b μ) kk = kk (some (b + 15)) := by
  unfold fn_gA fnO; dsimp only; rw [St_ob]; rfl
theorem md_a23 {i : Int} (h : 0 ≤ i ∧ i < 3) {kk : Int32 → Option β} : fn_aI 0 (some (b + 15)) (iI i) (St σ b μ) kk = kk (iI (μ.1 23 i)) := by
  unfold fn_aI fnA
  dsimp only
  rw [St_at (j := 15) (by decide)]
  show fn_in (iI i) 3 (kk _) = _
  rw [fn_in_ok h (by decide), iI_nat ⟨by omega, by omega⟩]
  dsimp only
  rw [Int.toNat_of_nonneg h.1]
theorem md_s23 {i x : Int} (h : 0 ≤ i ∧ i < 3) {kk : mS → Option β} : fn_sI 0 (some (b + 15)) (iI i) (iI x) (St σ b μ) kk = kk (St σ b (mA μ 23 (uI (μ.1 23) i x))) := by
  unfold fn_sI fnA
  dsimp only
  rw [St_at (j := 15) (by decide)]
  show fn_in (iI i) 3 (kk _) = _
  rw [fn_in_ok h (by decide), iI_nat ⟨by omega, by omega⟩, uI_upd _ _ h.1]
  exact congrArg kk (St_up (by decide) rfl (by intro i h1 h2; match i, h2 with | 0, _ => rfl | 1, _ => rfl | 2, _ => rfl | 3, _ => rfl | 4, _ => rfl | 5, _ => rfl | 6, _ => rfl | 7, _ => rfl | 8, _ => rfl | 9, _ => rfl | 10, _ => rfl | 11, _ => rfl | 12, _ => rfl | 13, _ => rfl | 14, _ => rfl | 15, h2 => exact absurd rfl h2 | 16, _ => rfl | n + 17, _ => omega))
theorem md_gA24 {kk : Option Nat → Option β} : fn_gA 31 24 (some b) (St σ b μ) kk = kk (some (b + 16)) := by
  unfold fn_gA fnO; dsimp only; rw [St_ob]; rfl
theorem md_a24 {i : Int} (h : 0 ≤ i ∧ i < 36) {kk : UInt32 → Option β} : fn_aF 3 (some (b + 16)) (iI i) (St σ b μ) kk = kk (μ.2.2.2.2 i) := by
  unfold fn_aF fnA
  dsimp only
  rw [St_at (j := 16) (by decide)]
  show fn_in (iI i) 36 (kk _) = _
  rw [fn_in_ok h (by decide), iI_nat ⟨by omega, by omega⟩]
  dsimp only
  rw [Int.toNat_of_nonneg h.1]
theorem md_s24 {i : Int} {x : UInt32} (h : 0 ≤ i ∧ i < 36) {kk : mS → Option β} : fn_sF 3 (some (b + 16)) (iI i) x (St σ b μ) kk = kk (St σ b (mF μ i x)) := by
  unfold fn_sF fnA
  dsimp only
  rw [St_at (j := 16) (by decide)]
  show fn_in (iI i) 36 (kk _) = _
  rw [fn_in_ok h (by decide), iI_nat ⟨by omega, by omega⟩, uF_upd _ _ h.1]
  exact congrArg kk (St_up (by decide) rfl (by intro i h1 h2; match i, h2 with | 0, _ => rfl | 1, _ => rfl | 2, _ => rfl | 3, _ => rfl | 4, _ => rfl | 5, _ => rfl | 6, _ => rfl | 7, _ => rfl | 8, _ => rfl | 9, _ => rfl | 10, _ => rfl | 11, _ => rfl | 12, _ => rfl | 13, _ => rfl | 14, _ => rfl | 15, _ => rfl | 16, h2 => exact absurd rfl h2 | n + 17, _ => omega))
end MD
