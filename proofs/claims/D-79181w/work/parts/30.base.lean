/-! PURE LAW: arithmetic. All numbers of the programs are iI or lI of an integer -/
theorem iI_add (a b : Int) : iI a + iI b = iI (a + b) := (Int32.ofInt_add a b).symm
theorem iI_sub (a b : Int) : iI a - iI b = iI (a - b) := (Int32.ofInt_sub a b).symm
theorem iI_mul (a b : Int) : iI a * iI b = iI (a * b) := (Int32.ofInt_mul a b).symm
theorem iI_neg (a : Int) : -iI a = iI (-a) := (Int32.ofInt_neg a).symm
theorem lI_add (a b : Int) : lI a + lI b = lI (a + b) := (Int64.ofInt_add a b).symm
theorem lI_sub (a b : Int) : lI a - lI b = lI (a - b) := (Int64.ofInt_sub a b).symm
theorem lI_mul (a b : Int) : lI a * lI b = lI (a * b) := (Int64.ofInt_mul a b).symm
theorem iI_toInt (x : Int32) : iI x.toInt = x := Int32.ofInt_toInt x
theorem lI_toInt (x : Int64) : lI x.toInt = x := Int64.ofInt_toInt x
abbrev r32 (a : Int) : Prop := -2147483648 ≤ a ∧ a < 2147483648
abbrev r64 (a : Int) : Prop := -9223372036854775808 ≤ a ∧ a < 9223372036854775808
theorem iI_int {a : Int} (h : r32 a) : (iI a).toInt = a := Int32.toInt_ofInt_of_le h.1 h.2
theorem lI_int {a : Int} (h : r64 a) : (lI a).toInt = a := Int64.toInt_ofInt_of_le h.1 h.2
theorem i32_r (x : Int32) : r32 x.toInt := ⟨Int32.le_toInt x, Int32.toInt_lt x⟩
theorem iI_lt {a b : Int} (ha : r32 a) (hb : r32 b) : (iI a < iI b) ↔ a < b := by rw [Int32.lt_iff_toInt_lt, iI_int ha, iI_int hb]
theorem iI_le {a b : Int} (ha : r32 a) (hb : r32 b) : (iI a ≤ iI b) ↔ a ≤ b := by rw [Int32.le_iff_toInt_le, iI_int ha, iI_int hb]
theorem iI_eq {a b : Int} (ha : r32 a) (hb : r32 b) : (iI a = iI b) ↔ a = b := ⟨fun h => by rw [← iI_int ha, ← iI_int hb, h], fun h => by rw [h]⟩
theorem lI_lt {a b : Int} (ha : r64 a) (hb : r64 b) : (lI a < lI b) ↔ a < b := by rw [Int64.lt_iff_toInt_lt, lI_int ha, lI_int hb]
theorem lI_eq {a b : Int} (ha : r64 a) (hb : r64 b) : (lI a = lI b) ↔ a = b := ⟨fun h => by rw [← lI_int ha, ← lI_int hb, h], fun h => by rw [h]⟩
theorem i32_z : (0 : Int32) = iI 0 := rfl
theorem nI_iI (n : Nat) : nI n = iI n := by
  show Int32.ofNat n = Int32.ofInt (n : Int)
  rw [Int32.ofInt_eq_ofNat]
theorem iI_nat {a : Int} (h : r32 a) : (iI a).toNatClampNeg = a.toNat := by
  show (iI a).toInt.toNat = a.toNat
  rw [iI_int h]
theorem iI_to64 {a : Int} (h : r32 a) : (iI a).toInt64 = lI a := by
  apply Int64.toInt_inj.mp
  rw [Int32.toInt_toInt64, iI_int h, lI_int ⟨by omega, by omega⟩]
theorem lI_to32 {a : Int} (h : r32 a) : (lI a).toInt32 = iI a := by
  apply Int32.toInt_inj.mp
  rw [Int64.toInt_toInt32, lI_int ⟨by omega, by omega⟩, iI_int h]
  exact Int.bmod_eq_of_le (by omega) (by omega)
theorem iI_div {a b : Int} (ha : r32 a) (hb : 0 < b ∧ b < 2147483648) : iI a / iI b = iI (a.tdiv b) := by
  apply Int32.toInt_inj.mp
  have h1 : r32 (a.tdiv b) := by
    rcases Int.le_total 0 a with h | h
    · have := Int.tdiv_le_self b h
      have := Int.tdiv_nonneg h (Int.le_of_lt hb.1)
      omega
    · have h2 := Int.neg_tdiv (a := -a) (b := b)
      rw [Int.neg_neg] at h2
      have := Int.tdiv_le_self (a := -a) b (by omega)
      have := Int.tdiv_nonneg (a := -a) (b := b) (by omega) (Int.le_of_lt hb.1)
      omega
  rw [Int32.toInt_div, iI_int ha, iI_int ⟨by omega, by omega⟩, iI_int h1]
  exact Int.bmod_eq_of_le (by omega) (by omega)
theorem lI_div {a b : Int} (ha : r64 a) (hb : 0 < b ∧ b < 9223372036854775808) : lI a / lI b = lI (a.tdiv b) := by
  apply Int64.toInt_inj.mp
  have h1 : r64 (a.tdiv b) := by
    rcases Int.le_total 0 a with h | h
    · have := Int.tdiv_le_self b h
      have := Int.tdiv_nonneg h (Int.le_of_lt hb.1)
      omega
    · have h2 := Int.neg_tdiv (a := -a) (b := b)
      rw [Int.neg_neg] at h2
      have := Int.tdiv_le_self (a := -a) b (by omega)
      have := Int.tdiv_nonneg (a := -a) (b := b) (by omega) (Int.le_of_lt hb.1)
      omega
  rw [Int64.toInt_div, lI_int ha, lI_int ⟨by omega, by omega⟩, lI_int h1]
  exact Int.bmod_eq_of_le (by omega) (by omega)
theorem lI_cmp_lt {a b : Int} (ha : r64 a) (hb : r64 b) : (lg_cmp (lI a) (lI b) < iI 0) ↔ a < b := by
  unfold lg_cmp
  rcases Int.lt_trichotomy a b with h | h | h
  · rw [if_neg (fun q => absurd ((lI_lt hb ha).mp q) (by omega)), if_neg (fun q => absurd ((lI_eq ha hb).mp q) (by omega))]
    exact ⟨fun _ => h, fun _ => by decide⟩
  · rw [if_neg (fun q => absurd ((lI_lt hb ha).mp q) (by omega)), if_pos ((lI_eq ha hb).mpr h)]
    exact ⟨fun q => absurd q (by decide), fun q => by omega⟩
  · rw [if_pos ((lI_lt hb ha).mpr h)]
    exact ⟨fun q => absurd q (by decide), fun q => by omega⟩
theorem lI_cmp_gt {a b : Int} (ha : r64 a) (hb : r64 b) : (iI 0 < lg_cmp (lI a) (lI b)) ↔ b < a := by
  unfold lg_cmp
  rcases Int.lt_trichotomy a b with h | h | h
  · rw [if_neg (fun q => absurd ((lI_lt hb ha).mp q) (by omega)), if_neg (fun q => absurd ((lI_eq ha hb).mp q) (by omega))]
    exact ⟨fun q => absurd q (by decide), fun q => by omega⟩
  · rw [if_neg (fun q => absurd ((lI_lt hb ha).mp q) (by omega)), if_pos ((lI_eq ha hb).mpr h)]
    exact ⟨fun q => absurd q (by decide), fun q => by omega⟩
  · rw [if_pos ((lI_lt hb ha).mpr h)]
    exact ⟨fun _ => h, fun _ => by decide⟩
theorem i32_not_lt {x y : Int32} : (y ≤ x) ↔ ¬ x < y := by rw [Int32.le_iff_toInt_le, Int32.lt_iff_toInt_lt]; omega
theorem lI_cmp_ge {a b : Int} (ha : r64 a) (hb : r64 b) : (iI 0 ≤ lg_cmp (lI a) (lI b)) ↔ b ≤ a := by
  rw [i32_not_lt, lI_cmp_lt ha hb]
  omega
theorem lI_cmp_le {a b : Int} (ha : r64 a) (hb : r64 b) : (lg_cmp (lI a) (lI b) ≤ iI 0) ↔ a ≤ b := by
  rw [i32_not_lt, lI_cmp_gt ha hb]
  omega
theorem lI_cmp_eq {a b : Int} (ha : r64 a) (hb : r64 b) : (lg_cmp (lI a) (lI b) = iI 0) ↔ a = b := by
  have h1 := lI_cmp_ge ha hb
  have h2 := lI_cmp_le ha hb
  constructor
  · intro h
    rw [h] at h1 h2
    have := h1.mp (by decide)
    have := h2.mp (by decide)
    omega
  · intro h
    unfold lg_cmp
    rw [if_neg (fun q => absurd ((lI_lt hb ha).mp q) (by omega)), if_pos ((lI_eq ha hb).mpr h)]
    rfl
/-- booleans -/
def b2 (b : Bool) : Int := if b = true then 1 else 0
theorem b2_r (b : Bool) : 0 ≤ b2 b ∧ b2 b ≤ 1 := by cases b <;> decide
theorem b2_z (b : Bool) : (iI (b2 b) = iI 0) ↔ b = false := by cases b <;> decide
theorem b2_1 (b : Bool) : (iI (b2 b) = iI 1) ↔ b = true := by cases b <;> decide
theorem b2_or (a b : Bool) : iI (b2 a) ||| iI (b2 b) = iI (b2 (a || b)) := by cases a <;> cases b <;> decide
theorem b2_or0 (a : Bool) : iI (b2 a) ||| iI 0 = iI (b2 a) := by cases a <;> decide
theorem b2_or1 (a : Bool) : iI (b2 a) ||| iI 1 = iI (b2 true) := by cases a <;> decide
theorem rZ_0 (s : mS) : fn_rZ (iI 0) s = some (iI (b2 false), s) := rfl
theorem rZ_1 (s : mS) : fn_rZ (iI 1) s = some (iI (b2 true), s) := rfl
theorem rZ_b (b : Bool) (s : mS) : fn_rZ (iI (b2 b)) s = some (iI (b2 b), s) := by cases b <;> rfl
theorem fn_B_some {α β : Type} (v : α) (s : mS) (kk : α → mS → Option β) : fn_B (some (v, s)) kk = kk v s := rfl
theorem fn_nn_none {β : Type} (x y : Option β) : fn_nn none x y = x := rfl
theorem fn_nn_some {β : Type} (q : Nat) (x y : Option β) : fn_nn (some q) x y = y := rfl
theorem fn_in_ok {β : Type} {i : Int} {n : Nat} (h : 0 ≤ i ∧ i < n) (hn : n ≤ 2147483647) (kk : Option β) : fn_in (iI i) n kk = kk := by
  unfold fn_in
  rw [if_neg]
  rintro (q | q)
  · rw [i32_z, iI_lt ⟨by omega, by omega⟩ ⟨by omega, by omega⟩] at q
    omega
  · rw [iI_nat ⟨by omega, by omega⟩] at q
    omega
theorem fnFix_s {F : Type} (bot : F) (body : F → F) (n : Nat) : fnFix bot body (n + 1) = body (fnFix bot body n) := rfl
def uI (f : Int → Int) (k x : Int) : Int → Int := fun j => if j = k then x else f j
theorem uI_s (f : Int → Int) (k x : Int) : uI f k x k = x := if_pos rfl
theorem uI_o (f : Int → Int) {k x j : Int} (h : j ≠ k) : uI f k x j = f j := if_neg h
theorem uI_upd (f : Int → Int) {i : Int} (x : Int) (h : 0 ≤ i) : upd (fun k : Nat => iI (f k)) i.toNat (iI x) = fun k : Nat => iI (uI f i x k) := by
  funext j
  unfold upd uI
  by_cases hj : j = i.toNat
  · rw [if_pos hj, if_pos (by omega)]
  · rw [if_neg hj, if_neg (by omega)]
theorem fn_Bt {β : Type} {x : Option (Int32 × mS)} {s : mS} {A C : Int32 → mS → Option β} (h : x = some (iI (b2 true), s)) : fn_B x (fun v a1 => if v = iI 0 then A v a1 else C v a1) = C (iI (b2 true)) s := by rw [h]; rfl
theorem fn_Bf {β : Type} {x : Option (Int32 × mS)} {s : mS} {A C : Int32 → mS → Option β} (h : x = some (iI (b2 false), s)) : fn_B x (fun v a1 => if v = iI 0 then A v a1 else C v a1) = A (iI (b2 false)) s := by rw [h]; rfl
