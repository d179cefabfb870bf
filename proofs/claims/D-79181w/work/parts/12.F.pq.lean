set_option maxRecDepth 100000
def gJ25_size (ρ : Nat → Nat) (this : Nat) (a : mS) : Option (Int32 × mS) :=
  fn_gI 27 1 (some this) a fun v1 => some (v1, a)
def gX19_compare_2 (ρ : Nat → Nat) (this : Nat) (x1 : Option Nat) (x2 : Option Nat) (a : mS) : Option (Int32 × mS) :=
  fn_gI 24 0 x1 a fun v1 => fn_gI 24 0 x2 a fun v2 => if v1 = v2 then (fn_gI 24 1 x1 a fun v3 => fn_gI 24 1 x2 a fun v4 => if v3 = v4 then (fn_gI 24 2 x1 a fun v5 => fn_gI 24 2 x2 a fun v6 => some ((v5 - v6), a)) else fn_gI 24 1 x1 a fun v7 => fn_gI 24 1 x2 a fun v8 => some ((v7 - v8), a)) else fn_gI 24 0 x1 a fun v9 => fn_gI 24 0 x2 a fun v10 => some ((v9 - v10), a)
def gX19_init (ρ : Nat → Nat) (this : Nat) (a : mS) : Option (Unit × mS) :=
  some ((), a)
def gJ0_isEmpty (ρ : Nat → Nat) (this : Nat) (a : mS) : Option (Int32 × mS) :=
  fn_cls (some this) a fun c o => fn_B (if c = 27 then gJ25_size ρ o a else none) fun v2 a1 => if v2 = iI 0 then (fn_rZ (iI 1) a1) else fn_rZ (iI 0) a1
def gJ24_init (ρ : Nat → Nat) (this : Nat) (a : mS) : Option (Unit × mS) :=
  fn_B (gJ0_init ρ this a) fun _ a1 => some ((), a1)
def gX19_compare (ρ : Nat → Nat) (this : Nat) (x1 : Option Nat) (x2 : Option Nat) (a : mS) : Option (Int32 × mS) :=
  fn_cast [24] x1 a (fn_cast [24] x2 a (fn_rc 28 (some this) a fun o => fn_B (gX19_compare_2 ρ o x1 x2 a) fun v2 a1 => some (v2, a1)))
def gJ25_init (ρ : Nat → Nat) (this : Nat) (x1 : Int32) (x2 : Option Nat) (a : mS) : Option (Unit × mS) :=
  fn_B (gJ24_init ρ this a) fun _ a1 => if (iI 1) ≤ x1 then (fn_nA 4 x1 a1 fun v2 a3 => fn_pA 27 0 (some this) (some v2) a3 fun a4 => fn_pA 27 2 (some this) x2 a4 fun a5 => some ((), a5)) else none
def gJ25_siftDownUsingComparator_b61 (ρ : Nat → Nat) (k5 : Int32 → Option Nat → Option Nat → Int32 → Option Nat → Int32 → mS → Option (Unit × mS)) (x0 : Int32) (x1 : Option Nat) (x2 : Option Nat) (x3 : Int32) (x4 : Option Nat) (x5 : Int32) (x6 : Int32) (x7 : Option Nat) (a : mS) : Option (Unit × mS) :=
  fn_cls x4 a fun c o => fn_B (if c = 28 then gX19_compare ρ o x1 x7 a else none) fun v2 a1 => if iI 0 < v2 then (fn_sA 4 [] x2 x0 x7 a1 fun a3 => k5 x6 x1 x2 x3 x4 x5 a3) else fn_sA 4 [] x2 x0 x1 a1 fun a4 => some ((), a4)
def gJ25_siftDownUsingComparator_b5 (ρ : Nat → Nat) (k5 : Int32 → Option Nat → Option Nat → Int32 → Option Nat → Int32 → mS → Option (Unit × mS)) (x0 : Int32) (x1 : Option Nat) (x2 : Option Nat) (x3 : Int32) (x4 : Option Nat) (x5 : Int32) (a : mS) : Option (Unit × mS) :=
  if x5 ≤ x0 then (fn_sA 4 [] x2 x0 x1 a fun a1 => some ((), a1)) else fn_aA 4 x2 ((x0 <<< ((iI 1) &&& 31)) + (iI 1)) a fun v2 => if x3 ≤ (((x0 <<< ((iI 1) &&& 31)) + (iI 1)) + (iI 1)) then (gJ25_siftDownUsingComparator_b61 ρ k5 x0 x1 x2 x3 x4 x5 ((x0 <<< ((iI 1) &&& 31)) + (iI 1)) v2 a) else fn_aA 4 x2 (((x0 <<< ((iI 1) &&& 31)) + (iI 1)) + (iI 1)) a fun v3 => fn_cls x4 a fun c o => fn_B (if c = 28 then gX19_compare ρ o v2 v3 a else none) fun v5 a4 => if v5 ≤ iI 0 then (gJ25_siftDownUsingComparator_b61 ρ k5 x0 x1 x2 x3 x4 x5 ((x0 <<< ((iI 1) &&& 31)) + (iI 1)) v2 a4) else fn_aA 4 x2 (((x0 <<< ((iI 1) &&& 31)) + (iI 1)) + (iI 1)) a4 fun v6 => gJ25_siftDownUsingComparator_b61 ρ k5 x0 x1 x2 x3 x4 x5 (((x0 <<< ((iI 1) &&& 31)) + (iI 1)) + (iI 1)) v6 a4
def gJ25_siftDownUsingComparator (ρ : Nat → Nat) (x0 : Int32) (x1 : Option Nat) (x2 : Option Nat) (x3 : Int32) (x4 : Option Nat) (a : mS) : Option (Unit × mS) :=
  fnFix (fun _ _ _ _ _ _ _ => none) (gJ25_siftDownUsingComparator_b5 ρ) fnGas x0 x1 x2 x3 x4 ((x3.toUInt32 >>> ((iI 1).toUInt32 &&& Int32.toUInt32 31)).toInt32) a
def gJ25_siftUpUsingComparator_b0 (ρ : Nat → Nat) (k0 : Int32 → Option Nat → Option Nat → Option Nat → mS → Option (Unit × mS)) (x0 : Int32) (x1 : Option Nat) (x2 : Option Nat) (x3 : Option Nat) (a : mS) : Option (Unit × mS) :=
  if x0 ≤ iI 0 then (fn_sA 4 [] x2 x0 x1 a fun a1 => some ((), a1)) else fn_aA 4 x2 (((x0 - (iI 1)).toUInt32 >>> ((iI 1).toUInt32 &&& Int32.toUInt32 31)).toInt32) a fun v2 => fn_cls x3 a fun c o => fn_B (if c = 28 then gX19_compare ρ o x1 v2 a else none) fun v4 a3 => if v4 < iI 0 then (fn_sA 4 [] x2 x0 v2 a3 fun a5 => k0 (((x0 - (iI 1)).toUInt32 >>> ((iI 1).toUInt32 &&& Int32.toUInt32 31)).toInt32) x1 x2 x3 a5) else fn_sA 4 [] x2 x0 x1 a3 fun a6 => some ((), a6)
def gJ25_siftUpUsingComparator (ρ : Nat → Nat) (x0 : Int32) (x1 : Option Nat) (x2 : Option Nat) (x3 : Option Nat) (a : mS) : Option (Unit × mS) :=
  fnFix (fun _ _ _ _ _ => none) (gJ25_siftUpUsingComparator_b0 ρ) fnGas x0 x1 x2 x3 a
def gJ25_poll (ρ : Nat → Nat) (this : Nat) (a : mS) : Option (Option Nat × mS) :=
  fn_gA 27 0 (some this) a fun v1 => fn_aA 4 v1 (iI 0) a fun v2 => fn_nn v2 (some (v2, a)) (fn_gI 27 3 (some this) a fun v3 => fn_pI 27 3 (some this) (v3 + (iI 1)) a fun a4 => fn_gI 27 1 (some this) a4 fun v5 => fn_pI 27 1 (some this) (v5 - (iI 1)) a4 fun a6 => fn_aA 4 v1 (v5 - (iI 1)) a6 fun v7 => fn_sA 4 [] v1 (v5 - (iI 1)) none a6 fun a8 => if (v5 - (iI 1)) ≤ iI 0 then (some (v2, a8)) else fn_gA 27 2 (some this) a8 fun v9 => fn_nn v9 (none) (fn_B (gJ25_siftDownUsingComparator ρ (iI 0) v7 v1 (v5 - (iI 1)) v9 a8) fun _ a10 => some (v2, a10)))
def gJ25_siftUp (ρ : Nat → Nat) (this : Nat) (x1 : Int32) (x2 : Option Nat) (a : mS) : Option (Unit × mS) :=
  fn_gA 27 2 (some this) a fun v1 => fn_nn v1 (fn_gA 27 0 (some this) a fun v2 => none) (fn_gA 27 0 (some this) a fun v3 => fn_gA 27 2 (some this) a fun v4 => fn_B (gJ25_siftUpUsingComparator ρ x1 x2 v3 v4 a) fun _ a5 => some ((), a5))
def gJ24_remove (ρ : Nat → Nat) (this : Nat) (a : mS) : Option (Option Nat × mS) :=
  fn_rc 27 (some this) a fun o => fn_B (gJ25_poll ρ o a) fun v2 a1 => fn_nn v2 (none) (some (v2, a1))
def gJ25_offer (ρ : Nat → Nat) (this : Nat) (x1 : Option Nat) (a : mS) : Option (Int32 × mS) :=
  fn_nn x1 (none) (fn_gI 27 3 (some this) a fun v1 => fn_pI 27 3 (some this) (v1 + (iI 1)) a fun a2 => fn_gI 27 1 (some this) a2 fun v3 => fn_gA 27 0 (some this) a2 fun v4 => fn_len v4 a2 fun v5 => if v3 < v5 then (fn_rc 27 (some this) a2 fun o => fn_B (gJ25_siftUp ρ o v3 x1 a2) fun _ a6 => fn_pI 27 1 (some this) (v3 + (iI 1)) a6 fun a7 => fn_rZ (iI 1) a7) else none)
def gJ25_add (ρ : Nat → Nat) (this : Nat) (x1 : Option Nat) (a : mS) : Option (Int32 × mS) :=
  fn_rc 27 (some this) a fun o => fn_B (gJ25_offer ρ o x1 a) fun v2 a1 => fn_rZ v2 a1
