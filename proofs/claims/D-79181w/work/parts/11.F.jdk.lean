set_option maxRecDepth 100000
def gJ0_init (ρ : Nat → Nat) (this : Nat) (a : mS) : Option (Unit × mS) :=
  some ((), a)
def gJ13_hasNext (ρ : Nat → Nat) (this : Nat) (a : mS) : Option (Int32 × mS) :=
  fn_gA 9 0 (some this) a fun v1 => fn_nn v1 (fn_rZ (iI 0) a) (fn_rZ (iI 1) a)
def gJ13_init (ρ : Nat → Nat) (this : Nat) (x1 : Option Nat) (x2 : Option Nat) (a : mS) : Option (Unit × mS) :=
  fn_pA 9 3 (some this) x1 a fun a1 => fn_gI 4 5 x1 a1 fun v2 => fn_pI 9 2 (some this) v2 a1 fun a3 => fn_pA 9 1 (some this) none a3 fun a4 => fn_pA 9 0 (some this) x2 a4 fun a5 => some ((), a5)
def gJ15_init (ρ : Nat → Nat) (this : Nat) (a : mS) : Option (Unit × mS) :=
  some ((), a)
def gJ16_compare (ρ : Nat → Nat) (x0 : Int32) (x1 : Int32) (a : mS) : Option (Int32 × mS) :=
  if x1 ≤ x0 then (if x0 = x1 then (some ((iI 0), a)) else some ((iI 1), a)) else some ((iI (-1)), a)
def gJ16_intValue (ρ : Nat → Nat) (this : Nat) (a : mS) : Option (Int32 × mS) :=
  fn_gI 11 0 (some this) a fun v1 => some (v1, a)
def gJ17_getKey (ρ : Nat → Nat) (this : Nat) (a : mS) : Option (Option Nat × mS) :=
  fn_gA 10 0 (some this) a fun v1 => some (v1, a)
def gJ17_getValue (ρ : Nat → Nat) (this : Nat) (a : mS) : Option (Option Nat × mS) :=
  fn_gA 10 1 (some this) a fun v1 => some (v1, a)
def gJ17_init (ρ : Nat → Nat) (this : Nat) (x1 : Option Nat) (x2 : Option Nat) (x3 : Option Nat) (a : mS) : Option (Unit × mS) :=
  fn_pZ 10 5 (some this) (iI 1) a fun a1 => fn_pA 10 0 (some this) x1 a1 fun a2 => fn_pA 10 1 (some this) x2 a2 fun a3 => fn_pA 10 4 (some this) x3 a3 fun a4 => some ((), a4)
def gJ18_getKey (ρ : Nat → Nat) (this : Nat) (a : mS) : Option (Option Nat × mS) :=
  fn_gA 12 0 (some this) a fun v1 => some (v1, a)
def gJ18_getValue (ρ : Nat → Nat) (this : Nat) (a : mS) : Option (Option Nat × mS) :=
  fn_gA 12 1 (some this) a fun v1 => some (v1, a)
def gJ19_init_2 (ρ : Nat → Nat) (this : Nat) (x1 : Option Nat) (x2 : Option Nat) (x3 : Int32) (x4 : Int32) (a : mS) : Option (Unit × mS) :=
  fn_pA 15 0 (some this) (some this) a fun a1 => fn_pA 15 1 (some this) (kOp (ρ 302)) a1 fun a2 => fn_pA 15 2 (some this) (kOp (ρ 303)) a2 fun a3 => if x4 = iI 0 then (fn_pA 15 1 (some this) none a3 fun a4 => fn_pA 15 3 (some this) x1 a4 fun a5 => fn_pA 15 0 (some this) x2 a5 fun a6 => if x3 = iI 0 then (fn_pA 15 2 (some this) none a6 fun a7 => some ((), a7)) else some ((), a6)) else none
def gJ26_isNaN (ρ : Nat → Nat) (x0 : UInt32) (a : mS) : Option (Int32 × mS) :=
  if (Op.cmpValue (FP.fcmp x0 x0) .l) = iI 0 then (fn_rZ (iI 0) a) else fn_rZ (iI 1) a
def gJ2_clear_b27 (ρ : Nat → Nat) (this : Nat) (k27 : Option Nat → Int32 → Int32 → mS → Option (Unit × mS)) (x1 : Option Nat) (x2 : Int32) (x3 : Int32) (a : mS) : Option (Unit × mS) :=
  if x2 ≤ x3 then (some ((), a)) else fn_sA 4 [] x1 x3 none a fun a1 => k27 x1 x2 (x3 + iI 1) a1
def gJ2_clear (ρ : Nat → Nat) (this : Nat) (a : mS) : Option (Unit × mS) :=
  fn_gI 2 0 (some this) a fun v1 => fn_pI 2 0 (some this) (v1 + (iI 1)) a fun a2 => fn_gA 2 1 (some this) a2 fun v3 => fn_gI 2 2 (some this) a2 fun v4 => fn_pI 2 2 (some this) (iI 0) a2 fun a5 => fnFix (fun _ _ _ _ => none) (gJ2_clear_b27 ρ this) fnGas v3 v4 (iI 0) a5
def gJ2_elementData (ρ : Nat → Nat) (this : Nat) (x1 : Int32) (a : mS) : Option (Option Nat × mS) :=
  fn_gA 2 1 (some this) a fun v1 => fn_aA 4 v1 x1 a fun v2 => some (v2, a)
def gJ2_fastRemove_b34 (ρ : Nat → Nat) (this : Nat) (x1 : Option Nat) (x3 : Int32) (a : mS) : Option (Unit × mS) :=
  fn_pI 2 2 (some this) x3 a fun a1 => fn_sA 4 [] x1 x3 none a1 fun a2 => some ((), a2)
def gJ2_fastRemove (ρ : Nat → Nat) (this : Nat) (x1 : Option Nat) (x2 : Int32) (a : mS) : Option (Unit × mS) :=
  fn_gI 2 0 (some this) a fun v1 => fn_pI 2 0 (some this) (v1 + (iI 1)) a fun a2 => fn_gI 2 2 (some this) a2 fun v3 => if (v3 - (iI 1)) ≤ x2 then (gJ2_fastRemove_b34 ρ this x1 (v3 - (iI 1)) a2) else fn_B (fn_acopy ρ x1 (x2 + (iI 1)) x1 x2 ((v3 - (iI 1)) - x2) a2) fun _ a4 => gJ2_fastRemove_b34 ρ this x1 (v3 - (iI 1)) a4
def gJ2_isEmpty (ρ : Nat → Nat) (this : Nat) (a : mS) : Option (Int32 × mS) :=
  fn_gI 2 2 (some this) a fun v1 => if v1 = iI 0 then (fn_rZ (iI 1) a) else fn_rZ (iI 0) a
def gJ2_size (ρ : Nat → Nat) (this : Nat) (a : mS) : Option (Int32 × mS) :=
  fn_gI 2 2 (some this) a fun v1 => some (v1, a)
def gJ3_init (ρ : Nat → Nat) (this : Nat) (a : mS) : Option (Unit × mS) :=
  some ((), a)
def gJ4_colorOf (ρ : Nat → Nat) (x0 : Option Nat) (a : mS) : Option (Int32 × mS) :=
  fn_nn x0 (fn_rZ (iI 1) a) (fn_gI 10 5 x0 a fun v1 => fn_rZ v1 a)
def gJ4_getFirstEntry_b9 (ρ : Nat → Nat) (this : Nat) (k9 : Option Nat → mS → Option (Option Nat × mS)) (x1 : Option Nat) (a : mS) : Option (Option Nat × mS) :=
  fn_gA 10 2 x1 a fun v1 => fn_nn v1 (some (x1, a)) (fn_gA 10 2 x1 a fun v2 => k9 v2 a)
def gJ4_getFirstEntry (ρ : Nat → Nat) (this : Nat) (a : mS) : Option (Option Nat × mS) :=
  fn_gA 4 3 (some this) a fun v1 => fn_nn v1 (some (v1, a)) (fnFix (fun _ _ => none) (gJ4_getFirstEntry_b9 ρ this) fnGas v1 a)
def gJ4_leftOf (ρ : Nat → Nat) (x0 : Option Nat) (a : mS) : Option (Option Nat × mS) :=
  fn_nn x0 (some (none, a)) (fn_gA 10 2 x0 a fun v1 => some (v1, a))
def gJ4_parentOf (ρ : Nat → Nat) (x0 : Option Nat) (a : mS) : Option (Option Nat × mS) :=
  fn_nn x0 (some (none, a)) (fn_gA 10 4 x0 a fun v1 => some (v1, a))
def gJ4_rightOf (ρ : Nat → Nat) (x0 : Option Nat) (a : mS) : Option (Option Nat × mS) :=
  fn_nn x0 (some (none, a)) (fn_gA 10 3 x0 a fun v1 => some (v1, a))
def gJ4_rotateLeft_b85 (ρ : Nat → Nat) (this : Nat) (x1 : Option Nat) (x2 : Option Nat) (a : mS) : Option (Unit × mS) :=
  fn_pA 10 2 x2 x1 a fun a1 => fn_pA 10 4 x1 x2 a1 fun a2 => some ((), a2)
def gJ4_rotateLeft_b32 (ρ : Nat → Nat) (this : Nat) (x1 : Option Nat) (x2 : Option Nat) (a : mS) : Option (Unit × mS) :=
  fn_gA 10 4 x1 a fun v1 => fn_pA 10 4 x2 v1 a fun a2 => fn_gA 10 4 x1 a2 fun v3 => fn_nn v3 (fn_pA 4 3 (some this) x2 a2 fun a4 => gJ4_rotateLeft_b85 ρ this x1 x2 a4) (fn_gA 10 4 x1 a2 fun v5 => fn_gA 10 2 v5 a2 fun v6 => if v6 = x1 then (fn_gA 10 4 x1 a2 fun v7 => fn_pA 10 2 v7 x2 a2 fun a8 => gJ4_rotateLeft_b85 ρ this x1 x2 a8) else fn_gA 10 4 x1 a2 fun v9 => fn_pA 10 3 v9 x2 a2 fun a10 => gJ4_rotateLeft_b85 ρ this x1 x2 a10)
def gJ4_rotateLeft (ρ : Nat → Nat) (this : Nat) (x1 : Option Nat) (a : mS) : Option (Unit × mS) :=
  fn_nn x1 (some ((), a)) (fn_gA 10 3 x1 a fun v1 => fn_gA 10 2 v1 a fun v2 => fn_pA 10 3 x1 v2 a fun a3 => fn_gA 10 2 v1 a3 fun v4 => fn_nn v4 (gJ4_rotateLeft_b32 ρ this x1 v1 a3) (fn_gA 10 2 v1 a3 fun v5 => fn_pA 10 4 v5 x1 a3 fun a6 => gJ4_rotateLeft_b32 ρ this x1 v1 a6))
def gJ4_rotateRight_b85 (ρ : Nat → Nat) (this : Nat) (x1 : Option Nat) (x2 : Option Nat) (a : mS) : Option (Unit × mS) :=
  fn_pA 10 3 x2 x1 a fun a1 => fn_pA 10 4 x1 x2 a1 fun a2 => some ((), a2)
def gJ4_rotateRight_b32 (ρ : Nat → Nat) (this : Nat) (x1 : Option Nat) (x2 : Option Nat) (a : mS) : Option (Unit × mS) :=
  fn_gA 10 4 x1 a fun v1 => fn_pA 10 4 x2 v1 a fun a2 => fn_gA 10 4 x1 a2 fun v3 => fn_nn v3 (fn_pA 4 3 (some this) x2 a2 fun a4 => gJ4_rotateRight_b85 ρ this x1 x2 a4) (fn_gA 10 4 x1 a2 fun v5 => fn_gA 10 3 v5 a2 fun v6 => if v6 = x1 then (fn_gA 10 4 x1 a2 fun v7 => fn_pA 10 3 v7 x2 a2 fun a8 => gJ4_rotateRight_b85 ρ this x1 x2 a8) else fn_gA 10 4 x1 a2 fun v9 => fn_pA 10 2 v9 x2 a2 fun a10 => gJ4_rotateRight_b85 ρ this x1 x2 a10)
def gJ4_rotateRight (ρ : Nat → Nat) (this : Nat) (x1 : Option Nat) (a : mS) : Option (Unit × mS) :=
  fn_nn x1 (some ((), a)) (fn_gA 10 2 x1 a fun v1 => fn_gA 10 3 v1 a fun v2 => fn_pA 10 2 x1 v2 a fun a3 => fn_gA 10 3 v1 a3 fun v4 => fn_nn v4 (gJ4_rotateRight_b32 ρ this x1 v1 a3) (fn_gA 10 3 v1 a3 fun v5 => fn_pA 10 4 v5 x1 a3 fun a6 => gJ4_rotateRight_b32 ρ this x1 v1 a6))
def gJ4_setColor (ρ : Nat → Nat) (x0 : Option Nat) (x1 : Int32) (a : mS) : Option (Unit × mS) :=
  fn_nn x0 (some ((), a)) (fn_pZ 10 5 x0 x1 a fun a1 => some ((), a1))
def gJ4_size (ρ : Nat → Nat) (this : Nat) (a : mS) : Option (Int32 × mS) :=
  fn_gI 4 4 (some this) a fun v1 => some (v1, a)
def gJ4_successor_b42 (ρ : Nat → Nat) (k42 : Option Nat → Option Nat → mS → Option (Option Nat × mS)) (x1 : Option Nat) (x2 : Option Nat) (a : mS) : Option (Option Nat × mS) :=
  fn_nn x1 (some (x1, a)) (fn_gA 10 3 x1 a fun v1 => if x2 = v1 then (fn_gA 10 4 x1 a fun v2 => k42 v2 x1 a) else some (x1, a))
def gJ4_successor_b18 (ρ : Nat → Nat) (k18 : Option Nat → mS → Option (Option Nat × mS)) (x1 : Option Nat) (a : mS) : Option (Option Nat × mS) :=
  fn_gA 10 2 x1 a fun v1 => fn_nn v1 (some (x1, a)) (fn_gA 10 2 x1 a fun v2 => k18 v2 a)
def gJ4_successor (ρ : Nat → Nat) (x0 : Option Nat) (a : mS) : Option (Option Nat × mS) :=
  fn_nn x0 (some (none, a)) (fn_gA 10 3 x0 a fun v1 => fn_nn v1 (fn_gA 10 4 x0 a fun v2 => fnFix (fun _ _ _ => none) (gJ4_successor_b42 ρ) fnGas v2 x0 a) (fn_gA 10 3 x0 a fun v3 => fnFix (fun _ _ => none) (gJ4_successor_b18 ρ) fnGas v3 a))
def gJ5_checkForComodification (ρ : Nat → Nat) (this : Nat) (a : mS) : Option (Unit × mS) :=
  fn_gA 5 3 (some this) a fun v1 => fn_gI 2 0 v1 a fun v2 => fn_gI 5 2 (some this) a fun v3 => if v2 = v3 then (some ((), a)) else none
def gJ5_hasNext (ρ : Nat → Nat) (this : Nat) (a : mS) : Option (Int32 × mS) :=
  fn_gI 5 0 (some this) a fun v1 => fn_gA 5 3 (some this) a fun v2 => fn_gI 2 2 v2 a fun v3 => if v1 = v3 then (fn_rZ (iI 0) a) else fn_rZ (iI 1) a
def gJ5_init (ρ : Nat → Nat) (this : Nat) (x1 : Option Nat) (a : mS) : Option (Unit × mS) :=
  fn_pA 5 3 (some this) x1 a fun a1 => fn_pI 5 1 (some this) (iI (-1)) a1 fun a2 => fn_gA 5 3 (some this) a2 fun v3 => fn_gI 2 0 v3 a2 fun v4 => fn_pI 5 2 (some this) v4 a2 fun a5 => some ((), a5)
def gJ6_requireNonNull (ρ : Nat → Nat) (x0 : Option Nat) (a : mS) : Option (Option Nat × mS) :=
  fn_nn x0 (none) (some (x0, a))
def gJ7_checkIndex (ρ : Nat → Nat) (x0 : Int32) (x1 : Int32) (x2 : Option Nat) (a : mS) : Option (Int32 × mS) :=
  if x0 < iI 0 then (none) else if x0 < x1 then (some (x0, a)) else none
def gJ9_abs (ρ : Nat → Nat) (x0 : Int32) (a : mS) : Option (Int32 × mS) :=
  if iI 0 ≤ x0 then (some (x0, a)) else some ((-x0), a)
def gJ9_floorDiv (ρ : Nat → Nat) (x0 : Int64) (x2 : Int64) (a : mS) : Option (Int64 × mS) :=
  if x2 = lI 0 then none else if iI 0 ≤ (lg_cmp (x0 ^^^ x2) (lI 0)) then (some ((x0 / x2), a)) else if (lg_cmp ((x0 / x2) * x2) x0) = iI 0 then (some ((x0 / x2), a)) else some (((x0 / x2) - (lI 1)), a)
def gJ9_max (ρ : Nat → Nat) (x0 : Int32) (x1 : Int32) (a : mS) : Option (Int32 × mS) :=
  if x0 < x1 then (some (x1, a)) else some (x0, a)
def gJ9_max_2 (ρ : Nat → Nat) (x0 : Int64) (x2 : Int64) (a : mS) : Option (Int64 × mS) :=
  if (lg_cmp x0 x2) < iI 0 then (some (x2, a)) else some (x0, a)
def gJ9_min (ρ : Nat → Nat) (x0 : Int32) (x1 : Int32) (a : mS) : Option (Int32 × mS) :=
  if x1 < x0 then (some (x1, a)) else some (x0, a)
def gJ9_min_2 (ρ : Nat → Nat) (x0 : Int64) (x2 : Int64) (a : mS) : Option (Int64 × mS) :=
  if iI 0 < (lg_cmp x0 x2) then (some (x2, a)) else some (x0, a)
def gJ10_copyOf_2 (ρ : Nat → Nat) (x0 : Option Nat) (x1 : Int32) (x2 : Option Nat) (a : mS) : Option (Option Nat × mS) :=
  if x2 = (some (ρ 300)) then (fn_nA 4 x1 a fun v1 a2 => fn_len x0 a2 fun v3 => fn_B (gJ9_min ρ v3 x1 a2) fun v5 a4 => fn_B (fn_acopy ρ x0 (iI 0) (some v1) (iI 0) v5 a4) fun _ a6 => some ((some v1), a6)) else none
def gJ11_init (ρ : Nat → Nat) (this : Nat) (a : mS) : Option (Unit × mS) :=
  fn_B (gJ0_init ρ this a) fun _ a1 => some ((), a1)
def gJ13_nextEntry (ρ : Nat → Nat) (this : Nat) (a : mS) : Option (Option Nat × mS) :=
  fn_gA 9 0 (some this) a fun v1 => fn_nn v1 (none) (fn_gA 9 3 (some this) a fun v2 => fn_gI 4 5 v2 a fun v3 => fn_gI 9 2 (some this) a fun v4 => if v3 = v4 then (fn_B (gJ4_successor ρ v1 a) fun v6 a5 => fn_pA 9 0 (some this) v6 a5 fun a7 => fn_pA 9 1 (some this) v1 a7 fun a8 => some (v1, a8)) else none)
def gJ14_init (ρ : Nat → Nat) (this : Nat) (x1 : Option Nat) (x2 : Option Nat) (a : mS) : Option (Unit × mS) :=
  fn_B (gJ13_init ρ this x1 x2 a) fun _ a1 => some ((), a1)
def gJ16_compareTo_2 (ρ : Nat → Nat) (this : Nat) (x1 : Option Nat) (a : mS) : Option (Int32 × mS) :=
  fn_gI 11 0 (some this) a fun v1 => fn_gI 11 0 x1 a fun v2 => fn_B (gJ16_compare ρ v1 v2 a) fun v4 a3 => some (v4, a3)
def gJ16_init (ρ : Nat → Nat) (this : Nat) (x1 : Int32) (a : mS) : Option (Unit × mS) :=
  fn_B (gJ15_init ρ this a) fun _ a1 => fn_pB ρ 0 (some this) x1 a1 fun a2 => some ((), a2)
def gJ18_init (ρ : Nat → Nat) (this : Nat) (x1 : Option Nat) (a : mS) : Option (Unit × mS) :=
  fn_cls x1 a fun c o => fn_B (if c = 10 then gJ17_getKey ρ o a else none) fun v2 a1 => fn_pA 12 0 (some this) v2 a1 fun a3 => fn_cls x1 a3 fun c o => fn_B (if c = 10 then gJ17_getValue ρ o a3 else none) fun v5 a4 => fn_pA 12 1 (some this) v5 a4 fun a6 => some ((), a6)
def gJ1_init (ρ : Nat → Nat) (this : Nat) (a : mS) : Option (Unit × mS) :=
  fn_B (gJ0_init ρ this a) fun _ a1 => fn_pI 2 0 (some this) (iI 0) a1 fun a2 => some ((), a2)
def gJ20_init (ρ : Nat → Nat) (this : Nat) (x1 : Option Nat) (x2 : Option Nat) (x3 : Int32) (x4 : Int32) (a : mS) : Option (Unit × mS) :=
  fn_B (gJ19_init_2 ρ this x1 x2 x3 x4 a) fun _ a1 => some ((), a1)
def gJ26_floatToIntBits (ρ : Nat → Nat) (x0 : UInt32) (a : mS) : Option (Int32 × mS) :=
  fn_B (gJ26_isNaN ρ x0 a) fun v2 a1 => if v2 = iI 0 then (fn_B (fn_f2i ρ x0 a1) fun v4 a3 => some (v4, a3)) else some ((iI 2143289344), a1)
def gJ2_iterator (ρ : Nat → Nat) (this : Nat) (a : mS) : Option (Option Nat × mS) :=
  fn_new 5 [Value.int (iI 0), Value.int (iI 0), Value.int (iI 0), va_rf none] a fun v1 a2 => fn_B (gJ5_init ρ v1 (some this) a2) fun _ a3 => some ((some v1), a3)
def gJ4_fixAfterInsertion_b255 (ρ : Nat → Nat) (this : Nat) (k5 : Option Nat → mS → Option (Unit × mS)) (x1 : Option Nat) (a : mS) : Option (Unit × mS) :=
  k5 x1 a
def gJ4_fixAfterInsertion_b225 (ρ : Nat → Nat) (this : Nat) (k5 : Option Nat → mS → Option (Unit × mS)) (x1 : Option Nat) (a : mS) : Option (Unit × mS) :=
  fn_B (gJ4_parentOf ρ x1 a) fun v2 a1 => fn_B (gJ4_setColor ρ v2 (iI 1) a1) fun _ a3 => fn_B (gJ4_parentOf ρ x1 a3) fun v5 a4 => fn_B (gJ4_parentOf ρ v5 a4) fun v7 a6 => fn_B (gJ4_setColor ρ v7 (iI 0) a6) fun _ a8 => fn_B (gJ4_parentOf ρ x1 a8) fun v10 a9 => fn_B (gJ4_parentOf ρ v10 a9) fun v12 a11 => fn_rc 4 (some this) a11 fun o => fn_B (gJ4_rotateLeft ρ o v12 a11) fun _ a13 => gJ4_fixAfterInsertion_b255 ρ this k5 x1 a13
def gJ4_fixAfterInsertion_b148 (ρ : Nat → Nat) (this : Nat) (k5 : Option Nat → mS → Option (Unit × mS)) (x1 : Option Nat) (a : mS) : Option (Unit × mS) :=
  k5 x1 a
def gJ4_fixAfterInsertion_b118 (ρ : Nat → Nat) (this : Nat) (k5 : Option Nat → mS → Option (Unit × mS)) (x1 : Option Nat) (a : mS) : Option (Unit × mS) :=
  fn_B (gJ4_parentOf ρ x1 a) fun v2 a1 => fn_B (gJ4_setColor ρ v2 (iI 1) a1) fun _ a3 => fn_B (gJ4_parentOf ρ x1 a3) fun v5 a4 => fn_B (gJ4_parentOf ρ v5 a4) fun v7 a6 => fn_B (gJ4_setColor ρ v7 (iI 0) a6) fun _ a8 => fn_B (gJ4_parentOf ρ x1 a8) fun v10 a9 => fn_B (gJ4_parentOf ρ v10 a9) fun v12 a11 => fn_rc 4 (some this) a11 fun o => fn_B (gJ4_rotateRight ρ o v12 a11) fun _ a13 => gJ4_fixAfterInsertion_b148 ρ this k5 x1 a13
def gJ4_fixAfterInsertion_b5 (ρ : Nat → Nat) (this : Nat) (k5 : Option Nat → mS → Option (Unit × mS)) (x1 : Option Nat) (a : mS) : Option (Unit × mS) :=
  fn_nn x1 (fn_gA 4 3 (some this) a fun v1 => fn_pZ 10 5 v1 (iI 1) a fun a2 => some ((), a2)) (fn_gA 4 3 (some this) a fun v3 => if x1 = v3 then (fn_gA 4 3 (some this) a fun v4 => fn_pZ 10 5 v4 (iI 1) a fun a5 => some ((), a5)) else fn_gA 10 4 x1 a fun v6 => fn_gI 10 5 v6 a fun v7 => if v7 = iI 0 then (fn_B (gJ4_parentOf ρ x1 a) fun v9 a8 => fn_B (gJ4_parentOf ρ x1 a8) fun v11 a10 => fn_B (gJ4_parentOf ρ v11 a10) fun v13 a12 => fn_B (gJ4_leftOf ρ v13 a12) fun v15 a14 => if v9 = v15 then (fn_B (gJ4_parentOf ρ x1 a14) fun v17 a16 => fn_B (gJ4_parentOf ρ v17 a16) fun v19 a18 => fn_B (gJ4_rightOf ρ v19 a18) fun v21 a20 => fn_B (gJ4_colorOf ρ v21 a20) fun v23 a22 => if v23 = iI 0 then (fn_B (gJ4_parentOf ρ x1 a22) fun v25 a24 => fn_B (gJ4_setColor ρ v25 (iI 1) a24) fun _ a26 => fn_B (gJ4_setColor ρ v21 (iI 1) a26) fun _ a27 => fn_B (gJ4_parentOf ρ x1 a27) fun v29 a28 => fn_B (gJ4_parentOf ρ v29 a28) fun v31 a30 => fn_B (gJ4_setColor ρ v31 (iI 0) a30) fun _ a32 => fn_B (gJ4_parentOf ρ x1 a32) fun v34 a33 => fn_B (gJ4_parentOf ρ v34 a33) fun v36 a35 => gJ4_fixAfterInsertion_b148 ρ this k5 v36 a35) else fn_B (gJ4_parentOf ρ x1 a22) fun v38 a37 => fn_B (gJ4_rightOf ρ v38 a37) fun v40 a39 => if x1 = v40 then (fn_B (gJ4_parentOf ρ x1 a39) fun v42 a41 => fn_rc 4 (some this) a41 fun o => fn_B (gJ4_rotateLeft ρ o v42 a41) fun _ a43 => gJ4_fixAfterInsertion_b118 ρ this k5 v42 a43) else gJ4_fixAfterInsertion_b118 ρ this k5 x1 a39) else fn_B (gJ4_parentOf ρ x1 a14) fun v45 a44 => fn_B (gJ4_parentOf ρ v45 a44) fun v47 a46 => fn_B (gJ4_leftOf ρ v47 a46) fun v49 a48 => fn_B (gJ4_colorOf ρ v49 a48) fun v51 a50 => if v51 = iI 0 then (fn_B (gJ4_parentOf ρ x1 a50) fun v53 a52 => fn_B (gJ4_setColor ρ v53 (iI 1) a52) fun _ a54 => fn_B (gJ4_setColor ρ v49 (iI 1) a54) fun _ a55 => fn_B (gJ4_parentOf ρ x1 a55) fun v57 a56 => fn_B (gJ4_parentOf ρ v57 a56) fun v59 a58 => fn_B (gJ4_setColor ρ v59 (iI 0) a58) fun _ a60 => fn_B (gJ4_parentOf ρ x1 a60) fun v62 a61 => fn_B (gJ4_parentOf ρ v62 a61) fun v64 a63 => gJ4_fixAfterInsertion_b255 ρ this k5 v64 a63) else fn_B (gJ4_parentOf ρ x1 a50) fun v66 a65 => fn_B (gJ4_leftOf ρ v66 a65) fun v68 a67 => if x1 = v68 then (fn_B (gJ4_parentOf ρ x1 a67) fun v70 a69 => fn_rc 4 (some this) a69 fun o => fn_B (gJ4_rotateRight ρ o v70 a69) fun _ a71 => gJ4_fixAfterInsertion_b225 ρ this k5 v70 a71) else gJ4_fixAfterInsertion_b225 ρ this k5 x1 a67) else fn_gA 4 3 (some this) a fun v72 => fn_pZ 10 5 v72 (iI 1) a fun a73 => some ((), a73))
def gJ4_fixAfterInsertion (ρ : Nat → Nat) (this : Nat) (x1 : Option Nat) (a : mS) : Option (Unit × mS) :=
  fn_pZ 10 5 x1 (iI 0) a fun a1 => fnFix (fun _ _ => none) (gJ4_fixAfterInsertion_b5 ρ this) fnGas x1 a1
def gJ4_init (ρ : Nat → Nat) (this : Nat) (a : mS) : Option (Unit × mS) :=
  fn_B (gJ3_init ρ this a) fun _ a1 => fn_pI 4 4 (some this) (iI 0) a1 fun a2 => fn_pI 4 5 (some this) (iI 0) a2 fun a3 => fn_pA 4 2 (some this) none a3 fun a4 => some ((), a4)
def gJ5_next (ρ : Nat → Nat) (this : Nat) (a : mS) : Option (Option Nat × mS) :=
  fn_rc 5 (some this) a fun o => fn_B (gJ5_checkForComodification ρ o a) fun _ a1 => fn_gI 5 0 (some this) a1 fun v2 => fn_gA 5 3 (some this) a1 fun v3 => fn_gI 2 2 v3 a1 fun v4 => if v2 < v4 then (fn_gA 5 3 (some this) a1 fun v5 => fn_gA 2 1 v5 a1 fun v6 => fn_len v6 a1 fun v7 => if v2 < v7 then (fn_pI 5 0 (some this) (v2 + (iI 1)) a1 fun a8 => fn_pI 5 1 (some this) v2 a8 fun a9 => fn_aA 4 v6 v2 a9 fun v10 => some (v10, a9)) else none) else none
def gJ6_checkIndex (ρ : Nat → Nat) (x0 : Int32) (x1 : Int32) (a : mS) : Option (Int32 × mS) :=
  fn_B (gJ7_checkIndex ρ x0 x1 none a) fun v2 a1 => some (v2, a1)
def gJ8_newLength (ρ : Nat → Nat) (x0 : Int32) (x1 : Int32) (x2 : Int32) (a : mS) : Option (Int32 × mS) :=
  fn_B (gJ9_max ρ x1 x2 a) fun v2 a1 => if (x0 + v2) ≤ (iI 0) then (none) else if (iI 2147483639) < (x0 + v2) then (none) else some ((x0 + v2), a1)
def gJ10_copyOf (ρ : Nat → Nat) (x0 : Option Nat) (x1 : Int32) (a : mS) : Option (Option Nat × mS) :=
  fn_B (fn_getC ρ x0 a) fun v2 a1 => fn_B (gJ10_copyOf_2 ρ x0 x1 v2 a1) fun v4 a3 => some (v4, a3)
def gJ12_init (ρ : Nat → Nat) (this : Nat) (x1 : Option Nat) (a : mS) : Option (Unit × mS) :=
  fn_pA 8 0 (some this) x1 a fun a1 => fn_B (gJ11_init ρ this a1) fun _ a2 => some ((), a2)
def gJ12_iterator (ρ : Nat → Nat) (this : Nat) (a : mS) : Option (Option Nat × mS) :=
  fn_new 9 [va_rf none, va_rf none, Value.int (iI 0), va_rf none] a fun v1 a2 => fn_gA 8 0 (some this) a2 fun v3 => fn_gA 8 0 (some this) a2 fun v4 => fn_rc 4 v4 a2 fun o => fn_B (gJ4_getFirstEntry ρ o a2) fun v6 a5 => fn_B (gJ14_init ρ v1 v3 v6 a5) fun _ a7 => some ((some v1), a7)
def gJ14_next_2 (ρ : Nat → Nat) (this : Nat) (a : mS) : Option (Option Nat × mS) :=
  fn_cls (some this) a fun c o => fn_B (if c = 9 then gJ13_nextEntry ρ o a else none) fun v2 a1 => some (v2, a1)
def gJ16_compareTo (ρ : Nat → Nat) (this : Nat) (x1 : Option Nat) (a : mS) : Option (Int32 × mS) :=
  fn_cast [11] x1 a (fn_rc 11 (some this) a fun o => fn_B (gJ16_compareTo_2 ρ o x1 a) fun v2 a1 => some (v2, a1))
def gJ16_valueOf (ρ : Nat → Nat) (x0 : Int32) (a : mS) : Option (Option Nat × mS) :=
  if x0 < (iI (-128)) then (fn_new 11 [Value.int (iI 0)] a fun v1 a2 => fn_B (gJ16_init ρ v1 x0 a2) fun _ a3 => some ((some v1), a3)) else if (iI 127) < x0 then (fn_new 11 [Value.int (iI 0)] a fun v4 a5 => fn_B (gJ16_init ρ v4 x0 a5) fun _ a6 => some ((some v4), a6)) else fn_cache ρ (x0 + (iI 128)) fun v7 => some (v7, a)
def gJ2_get (ρ : Nat → Nat) (this : Nat) (x1 : Int32) (a : mS) : Option (Option Nat × mS) :=
  fn_gI 2 2 (some this) a fun v1 => fn_B (gJ6_checkIndex ρ x1 v1 a) fun v3 a2 => fn_rc 2 (some this) a2 fun o => fn_B (gJ2_elementData ρ o x1 a2) fun v5 a4 => some (v5, a4)
def gJ2_init (ρ : Nat → Nat) (this : Nat) (a : mS) : Option (Unit × mS) :=
  fn_B (gJ1_init ρ this a) fun _ a1 => fn_pA 2 1 (some this) (some (ρ 0)) a1 fun a2 => some ((), a2)
def gJ2_remove (ρ : Nat → Nat) (this : Nat) (x1 : Int32) (a : mS) : Option (Option Nat × mS) :=
  fn_gI 2 2 (some this) a fun v1 => fn_B (gJ6_checkIndex ρ x1 v1 a) fun v3 a2 => fn_gA 2 1 (some this) a2 fun v4 => fn_aA 4 v4 x1 a2 fun v5 => fn_rc 2 (some this) a2 fun o => fn_B (gJ2_fastRemove ρ o v4 x1 a2) fun _ a6 => some (v5, a6)
def gJ4_addEntry_b32 (ρ : Nat → Nat) (this : Nat) (x5 : Option Nat) (a : mS) : Option (Unit × mS) :=
  fn_rc 4 (some this) a fun o => fn_B (gJ4_fixAfterInsertion ρ o x5 a) fun _ a1 => fn_gI 4 4 (some this) a1 fun v2 => fn_pI 4 4 (some this) (v2 + (iI 1)) a1 fun a3 => fn_gI 4 5 (some this) a3 fun v4 => fn_pI 4 5 (some this) (v4 + (iI 1)) a3 fun a5 => some ((), a5)
def gJ4_addEntry (ρ : Nat → Nat) (this : Nat) (x1 : Option Nat) (x2 : Option Nat) (x3 : Option Nat) (x4 : Int32) (a : mS) : Option (Unit × mS) :=
  fn_new 10 [va_rf none, va_rf none, va_rf none, va_rf none, va_rf none, Value.int (iI 0)] a fun v1 a2 => fn_B (gJ17_init ρ v1 x1 x2 x3 a2) fun _ a3 => if x4 = iI 0 then (fn_pA 10 3 x3 (some v1) a3 fun a4 => gJ4_addEntry_b32 ρ this (some v1) a4) else fn_pA 10 2 x3 (some v1) a3 fun a5 => gJ4_addEntry_b32 ρ this (some v1) a5
def gJ4_exportEntry (ρ : Nat → Nat) (x0 : Option Nat) (a : mS) : Option (Option Nat × mS) :=
  fn_nn x0 (some (none, a)) (fn_new 12 [va_rf none, va_rf none] a fun v1 a2 => fn_B (gJ18_init ρ v1 x0 a2) fun _ a3 => some ((some v1), a3))
def gJ14_next (ρ : Nat → Nat) (this : Nat) (a : mS) : Option (Option Nat × mS) :=
  fn_rc 9 (some this) a fun o => fn_B (gJ14_next_2 ρ o a) fun v2 a1 => some (v2, a1)
def gJ2_grow_2_b20 (ρ : Nat → Nat) (this : Nat) (x1 : Int32) (x2 : Int32) (a : mS) : Option (Option Nat × mS) :=
  fn_B (gJ8_newLength ρ x2 (x1 - x2) (x2 >>> ((iI 1) &&& 31)) a) fun v2 a1 => fn_gA 2 1 (some this) a1 fun v3 => fn_B (gJ10_copyOf ρ v3 v2 a1) fun v5 a4 => fn_pA 2 1 (some this) v5 a4 fun a6 => some (v5, a6)
def gJ2_grow_2 (ρ : Nat → Nat) (this : Nat) (x1 : Int32) (a : mS) : Option (Option Nat × mS) :=
  fn_gA 2 1 (some this) a fun v1 => fn_len v1 a fun v2 => if iI 0 < v2 then (gJ2_grow_2_b20 ρ this x1 v2 a) else fn_gA 2 1 (some this) a fun v3 => if v3 = (some (ρ 0)) then (fn_B (gJ9_max ρ (iI 10) x1 a) fun v5 a4 => fn_nA 4 v5 a4 fun v6 a7 => fn_pA 2 1 (some this) (some v6) a7 fun a8 => some ((some v6), a8)) else gJ2_grow_2_b20 ρ this x1 v2 a
def gJ4_compare (ρ : Nat → Nat) (this : Nat) (x1 : Option Nat) (x2 : Option Nat) (a : mS) : Option (Int32 × mS) :=
  fn_gA 4 2 (some this) a fun v1 => fn_nn v1 (fn_cast [11] x1 a (fn_cls x1 a fun c o => fn_B (if c = 11 then gJ16_compareTo ρ o x2 a else none) fun v3 a2 => some (v3, a2))) (fn_gA 4 2 (some this) a fun v4 => none)
def gJ4_entrySet (ρ : Nat → Nat) (this : Nat) (a : mS) : Option (Option Nat × mS) :=
  fn_gA 4 6 (some this) a fun v1 => fn_nn v1 (fn_new 8 [va_rf none] a fun v2 a3 => fn_B (gJ12_init ρ v2 (some this) a3) fun _ a4 => fn_pA 4 6 (some this) (some v2) a4 fun a5 => some ((some v2), a5)) (some (v1, a))
def gJ5_remove (ρ : Nat → Nat) (this : Nat) (a : mS) : Option (Unit × mS) :=
  fn_gI 5 1 (some this) a fun v1 => if iI 0 ≤ v1 then (fn_rc 5 (some this) a fun o => fn_B (gJ5_checkForComodification ρ o a) fun _ a2 => fn_gA 5 3 (some this) a2 fun v3 => fn_gI 5 1 (some this) a2 fun v4 => fn_rc 2 v3 a2 fun o => fn_B (gJ2_remove ρ o v4 a2) fun v6 a5 => fn_gI 5 1 (some this) a5 fun v7 => fn_pI 5 0 (some this) v7 a5 fun a8 => fn_pI 5 1 (some this) (iI (-1)) a8 fun a9 => fn_gA 5 3 (some this) a9 fun v10 => fn_gI 2 0 v10 a9 fun v11 => fn_pI 5 2 (some this) v11 a9 fun a12 => some ((), a12)) else none
def gJ2_grow (ρ : Nat → Nat) (this : Nat) (a : mS) : Option (Option Nat × mS) :=
  fn_gI 2 2 (some this) a fun v1 => fn_rc 2 (some this) a fun o => fn_B (gJ2_grow_2 ρ o (v1 + (iI 1)) a) fun v3 a2 => some (v3, a2)
def gJ4_addEntryToEmptyMap (ρ : Nat → Nat) (this : Nat) (x1 : Option Nat) (x2 : Option Nat) (a : mS) : Option (Unit × mS) :=
  fn_rc 4 (some this) a fun o => fn_B (gJ4_compare ρ o x1 x1 a) fun v2 a1 => fn_new 10 [va_rf none, va_rf none, va_rf none, va_rf none, va_rf none, Value.int (iI 0)] a1 fun v3 a4 => fn_B (gJ17_init ρ v3 x1 x2 none a4) fun _ a5 => fn_pA 4 3 (some this) (some v3) a5 fun a6 => fn_pI 4 4 (some this) (iI 1) a6 fun a7 => fn_gI 4 5 (some this) a7 fun v8 => fn_pI 4 5 (some this) (v8 + (iI 1)) a7 fun a9 => some ((), a9)
def gJ4_getFloorEntry_b68 (ρ : Nat → Nat) (this : Nat) (k68 : Option Nat → Option Nat → mS → Option (Option Nat × mS)) (x4 : Option Nat) (x5 : Option Nat) (a : mS) : Option (Option Nat × mS) :=
  fn_nn x4 (some (x4, a)) (fn_gA 10 2 x4 a fun v1 => if x5 = v1 then (fn_gA 10 4 x4 a fun v2 => k68 v2 x4 a) else some (x4, a))
def gJ4_getFloorEntry_b102 (ρ : Nat → Nat) (this : Nat) (k5 : Option Nat → Option Nat → mS → Option (Option Nat × mS)) (x1 : Option Nat) (x2 : Option Nat) (a : mS) : Option (Option Nat × mS) :=
  k5 x1 x2 a
def gJ4_getFloorEntry_b5 (ρ : Nat → Nat) (this : Nat) (k5 : Option Nat → Option Nat → mS → Option (Option Nat × mS)) (x1 : Option Nat) (x2 : Option Nat) (a : mS) : Option (Option Nat × mS) :=
  fn_nn x2 (some (none, a)) (fn_gA 10 0 x2 a fun v1 => fn_rc 4 (some this) a fun o => fn_B (gJ4_compare ρ o x1 v1 a) fun v3 a2 => if v3 ≤ iI 0 then (if iI 0 ≤ v3 then (some (x2, a2)) else fn_gA 10 2 x2 a2 fun v4 => fn_nn v4 (fn_gA 10 4 x2 a2 fun v5 => fnFix (fun _ _ _ => none) (gJ4_getFloorEntry_b68 ρ this) fnGas v5 x2 a2) (fn_gA 10 2 x2 a2 fun v6 => gJ4_getFloorEntry_b102 ρ this k5 x1 v6 a2)) else fn_gA 10 3 x2 a2 fun v7 => fn_nn v7 (some (x2, a2)) (fn_gA 10 3 x2 a2 fun v8 => gJ4_getFloorEntry_b102 ρ this k5 x1 v8 a2))
def gJ4_getFloorEntry (ρ : Nat → Nat) (this : Nat) (x1 : Option Nat) (a : mS) : Option (Option Nat × mS) :=
  fn_gA 4 3 (some this) a fun v1 => fnFix (fun _ _ _ => none) (gJ4_getFloorEntry_b5 ρ this) fnGas x1 v1 a
def gJ2_add_2_b11 (ρ : Nat → Nat) (this : Nat) (x1 : Option Nat) (x2 : Option Nat) (x3 : Int32) (a : mS) : Option (Unit × mS) :=
  fn_sA 4 [] x2 x3 x1 a fun a1 => fn_pI 2 2 (some this) (x3 + (iI 1)) a1 fun a2 => some ((), a2)
def gJ2_add_2 (ρ : Nat → Nat) (this : Nat) (x1 : Option Nat) (x2 : Option Nat) (x3 : Int32) (a : mS) : Option (Unit × mS) :=
  fn_len x2 a fun v1 => if x3 = v1 then (fn_rc 2 (some this) a fun o => fn_B (gJ2_grow ρ o a) fun v3 a2 => gJ2_add_2_b11 ρ this x1 v3 x3 a2) else gJ2_add_2_b11 ρ this x1 x2 x3 a
def gJ4_floorEntry (ρ : Nat → Nat) (this : Nat) (x1 : Option Nat) (a : mS) : Option (Option Nat × mS) :=
  fn_rc 4 (some this) a fun o => fn_B (gJ4_getFloorEntry ρ o x1 a) fun v2 a1 => fn_B (gJ4_exportEntry ρ v2 a1) fun v4 a3 => some (v4, a3)
def gJ4_put_2_b196 (ρ : Nat → Nat) (this : Nat) (k123 : Option Nat → Option Nat → Int32 → Option Nat → Option Nat → mS → Option (Option Nat × mS)) (x1 : Option Nat) (x2 : Option Nat) (x3 : Int32) (x4 : Option Nat) (x5 : Int32) (x6 : Option Nat) (x8 : Option Nat) (a : mS) : Option (Option Nat × mS) :=
  fn_nn x4 (if iI 0 ≤ x5 then (fn_rc 4 (some this) a fun o => fn_B (gJ4_addEntry ρ o x1 x2 x6 (iI 0) a) fun _ a1 => some (none, a1)) else fn_rc 4 (some this) a fun o => fn_B (gJ4_addEntry ρ o x1 x2 x6 (iI 1) a) fun _ a2 => some (none, a2)) (k123 x1 x2 x3 x4 x8 a)
def gJ4_put_2_b123 (ρ : Nat → Nat) (this : Nat) (k123 : Option Nat → Option Nat → Int32 → Option Nat → Option Nat → mS → Option (Option Nat × mS)) (x1 : Option Nat) (x2 : Option Nat) (x3 : Int32) (x4 : Option Nat) (x8 : Option Nat) (a : mS) : Option (Option Nat × mS) :=
  fn_gA 10 0 x4 a fun v1 => fn_cls x8 a fun c o => fn_B (if c = 11 then gJ16_compareTo ρ o v1 a else none) fun v3 a2 => if iI 0 ≤ v3 then (if v3 ≤ iI 0 then (fn_gA 10 1 x4 a2 fun v4 => if x3 = iI 0 then (fn_nn v4 (fn_pA 10 1 x4 x2 a2 fun a5 => some (v4, a5)) (some (v4, a2))) else fn_pA 10 1 x4 x2 a2 fun a6 => some (v4, a6)) else fn_gA 10 3 x4 a2 fun v7 => gJ4_put_2_b196 ρ this k123 x1 x2 x3 v7 v3 x4 x8 a2) else fn_gA 10 2 x4 a2 fun v8 => gJ4_put_2_b196 ρ this k123 x1 x2 x3 v8 v3 x4 x8 a2
def gJ4_put_2 (ρ : Nat → Nat) (this : Nat) (x1 : Option Nat) (x2 : Option Nat) (x3 : Int32) (a : mS) : Option (Option Nat × mS) :=
  fn_gA 4 3 (some this) a fun v1 => fn_nn v1 (fn_rc 4 (some this) a fun o => fn_B (gJ4_addEntryToEmptyMap ρ o x1 x2 a) fun _ a2 => some (none, a2)) (fn_gA 4 2 (some this) a fun v3 => fn_nn v3 (fn_B (gJ6_requireNonNull ρ x1 a) fun v5 a4 => fn_cast [11] x1 a4 (fnFix (fun _ _ _ _ _ _ => none) (gJ4_put_2_b123 ρ this) fnGas x1 x2 x3 v1 x1 a4)) (fn_gA 10 0 v1 a fun v6 => none))
def gJ2_add (ρ : Nat → Nat) (this : Nat) (x1 : Option Nat) (a : mS) : Option (Int32 × mS) :=
  fn_gI 2 0 (some this) a fun v1 => fn_pI 2 0 (some this) (v1 + (iI 1)) a fun a2 => fn_gA 2 1 (some this) a2 fun v3 => fn_gI 2 2 (some this) a2 fun v4 => fn_rc 2 (some this) a2 fun o => fn_B (gJ2_add_2 ρ o x1 v3 v4 a2) fun _ a5 => fn_rZ (iI 1) a5
def gJ4_put (ρ : Nat → Nat) (this : Nat) (x1 : Option Nat) (x2 : Option Nat) (a : mS) : Option (Option Nat × mS) :=
  fn_rc 4 (some this) a fun o => fn_B (gJ4_put_2 ρ o x1 x2 (iI 1) a) fun v2 a1 => some (v2, a1)
