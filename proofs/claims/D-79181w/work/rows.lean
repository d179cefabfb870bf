section
/-! FUNCTIONAL PROGRAMS over an abstract heap: what the generator (gen/gen.py) turns the bytecode into; no machine in sight -/
set_option maxRecDepth 100000
/-- a cell: an array (kind, length, contents), or an object (class number, fields) -/
abbrev mE : Type := (Nat × vp_A) ⊕ (Nat × List Value)
/-- cells, how many cells there are, how many slots were made -/
abbrev mS : Type := (Nat → Option mE) × Nat × Nat
def iI (z : Int) : Int32 := Int32.ofInt z
def lI (z : Int) : Int64 := Int64.ofInt z
def mUp (s : mS) (a : Nat) (e : mE) : mS := (fun q => if q = a then some e else s.1 q, s.2)
def mNw (s : mS) (e : mE) (n : Nat) : mS := (fun q => if q = s.2.1 then some e else s.1 q, s.2.1 + 1, s.2.2 + n)
abbrev aI (f : Nat → Int32) : (Nat → Int32) ⊕ (Nat → Int64) ⊕ (Nat → UInt32) ⊕ (Nat → UInt64) ⊕ (Nat → Option Nat) := .inl f
abbrev aF (f : Nat → UInt32) : (Nat → Int32) ⊕ (Nat → Int64) ⊕ (Nat → UInt32) ⊕ (Nat → UInt64) ⊕ (Nat → Option Nat) := .inr (.inr (.inl f))
abbrev aQ (f : Nat → Option Nat) : (Nat → Int32) ⊕ (Nat → Int64) ⊕ (Nat → UInt32) ⊕ (Nat → UInt64) ⊕ (Nat → Option Nat) := .inr (.inr (.inr (.inr f)))
/-- an object of class ci at a: its fields -/
def fnO {β : Type} (ci : Nat) (r : Option Nat) (s : mS) (kk : Nat → List Value → Option β) : Option β := match r with
  | none => none
  | some a => match s.1 a with
    | some (.inr (c, fs)) => if c = ci then kk a fs else none
    | _ => none
def fn_vI {β : Type} (v : Option Value) (kk : Int32 → Option β) : Option β := match v with
  | some (.int x) => kk x
  | _ => none
def fn_vL {β : Type} (v : Option Value) (kk : Int64 → Option β) : Option β := match v with
  | some (.long x) => kk x
  | _ => none
def fn_vA {β : Type} (v : Option Value) (kk : Option Nat → Option β) : Option β := match v with
  | some (.ref x) => kk (some x)
  | some .null => kk none
  | _ => none
def fn_gI {β : Type} (ci k : Nat) (r : Option Nat) (s : mS) (kk : Int32 → Option β) : Option β := fnO ci r s fun _ fs => fn_vI fs[k]? kk
def fn_gL {β : Type} (ci k : Nat) (r : Option Nat) (s : mS) (kk : Int64 → Option β) : Option β := fnO ci r s fun _ fs => fn_vL fs[k]? kk
def fn_gA {β : Type} (ci k : Nat) (r : Option Nat) (s : mS) (kk : Option Nat → Option β) : Option β := fnO ci r s fun _ fs => fn_vA fs[k]? kk
def fn_p {β : Type} (ci k : Nat) (r : Option Nat) (v : Value) (s : mS) (kk : mS → Option β) : Option β := fnO ci r s fun a fs => if k < fs.length then kk (mUp s a (.inr (ci, fs.set k v))) else none
def fn_pI {β : Type} (ci k : Nat) (r : Option Nat) (x : Int32) (s : mS) (kk : mS → Option β) : Option β := fn_p ci k r (.int x) s kk
def fn_pL {β : Type} (ci k : Nat) (r : Option Nat) (x : Int64) (s : mS) (kk : mS → Option β) : Option β := fn_p ci k r (.long x) s kk
def fn_pA {β : Type} (ci k : Nat) (r : Option Nat) (x : Option Nat) (s : mS) (kk : mS → Option β) : Option β := fn_p ci k r (va_rf x) s kk
/-- a boolean: 0 or 1 -/
def fn_pZ {β : Type} (ci k : Nat) (r : Option Nat) (x : Int32) (s : mS) (kk : mS → Option β) : Option β := if x = iI 0 ∨ x = iI 1 then fn_p ci k r (.int x) s kk else none
def fn_rZ (x : Int32) (s : mS) : Option (Int32 × mS) := if x = iI 0 ∨ x = iI 1 then some (x, s) else none
def fn_new {β : Type} (ci : Nat) (fs : List Value) (s : mS) (kk : Nat → mS → Option β) : Option β := kk s.2.1 (mNw s (.inr (ci, fs)) fs.length)
/-- an array of kind k at r -/
def fnA {β : Type} (r : Option Nat) (s : mS) (kk : Nat → Nat → vp_A → Option β) : Option β := match r with
  | none => none
  | some a => match s.1 a with
    | some (.inl (k, x)) => kk a k x
    | _ => none
def fn_len {β : Type} (r : Option Nat) (s : mS) (kk : Int32 → Option β) : Option β := fnA r s fun _ _ x => kk (nI x.1)
def fn_in {β : Type} (i : Int32) (n : Nat) (kk : Option β) : Option β := if i < 0 ∨ n ≤ i.toNatClampNeg then none else kk
def fn_aI {β : Type} (k : Nat) (r : Option Nat) (i : Int32) (s : mS) (kk : Int32 → Option β) : Option β := fnA r s fun _ c x => match x with
  | (n, .inl f) => if c = k then fn_in i n (kk (f i.toNatClampNeg)) else none
  | _ => none
def fn_aF {β : Type} (k : Nat) (r : Option Nat) (i : Int32) (s : mS) (kk : UInt32 → Option β) : Option β := fnA r s fun _ c x => match x with
  | (n, .inr (.inr (.inl f))) => if c = k then fn_in i n (kk (f i.toNatClampNeg)) else none
  | _ => none
def fn_aA {β : Type} (k : Nat) (r : Option Nat) (i : Int32) (s : mS) (kk : Option Nat → Option β) : Option β := fnA r s fun _ c x => match x with
  | (n, .inr (.inr (.inr (.inr f)))) => if c = k then fn_in i n (kk (f i.toNatClampNeg)) else none
  | _ => none
def fn_sI {β : Type} (k : Nat) (r : Option Nat) (i x : Int32) (s : mS) (kk : mS → Option β) : Option β := fnA r s fun a c y => match y with
  | (n, .inl f) => if c = k then fn_in i n (kk (mUp s a (.inl (k, n, aI (upd f i.toNatClampNeg x))))) else none
  | _ => none
def fn_sZ {β : Type} (k : Nat) (r : Option Nat) (i x : Int32) (s : mS) (kk : mS → Option β) : Option β := if x = iI 0 ∨ x = iI 1 then fn_sI k r i x s kk else none
def fn_sB {β : Type} (k : Nat) (r : Option Nat) (i x : Int32) (s : mS) (kk : mS → Option β) : Option β := fn_sI k r i x.toInt8.toInt32 s kk
def fn_sF {β : Type} (k : Nat) (r : Option Nat) (i : Int32) (x : UInt32) (s : mS) (kk : mS → Option β) : Option β := fnA r s fun a c y => match y with
  | (n, .inr (.inr (.inl f))) => if c = k then fn_in i n (kk (mUp s a (.inl (k, n, aF (vf_upd f i.toNatClampNeg x))))) else none
  | _ => none
/-- what may be stored in an array of references: null, or an object of one of these classes ([]: of any) -/
def fn_ok (cs : List Nat) (x : Option Nat) (s : mS) : Bool := match x with
  | none => true
  | some a => match s.1 a with
    | some (.inr (c, _)) => cs.isEmpty || cs.contains c
    | _ => false
def fn_sA {β : Type} (k : Nat) (cs : List Nat) (r : Option Nat) (i : Int32) (x : Option Nat) (s : mS) (kk : mS → Option β) : Option β := if fn_ok cs x s = true then (fnA r s fun a c y => match y with
  | (n, .inr (.inr (.inr (.inr f)))) => if c = k then fn_in i n (kk (mUp s a (.inl (k, n, aQ (va_up f i.toNatClampNeg x))))) else none
  | _ => none) else none
def fn_nI {β : Type} (k : Nat) (n : Int32) (s : mS) (kk : Nat → mS → Option β) : Option β := if n < 0 ∨ 100000 < n.toNatClampNeg then none else kk s.2.1 (mNw s (.inl (k, n.toNatClampNeg, aI (fun _ => 0))) n.toNatClampNeg)
def fn_nF {β : Type} (k : Nat) (n : Int32) (s : mS) (kk : Nat → mS → Option β) : Option β := if n < 0 ∨ 100000 < n.toNatClampNeg then none else kk s.2.1 (mNw s (.inl (k, n.toNatClampNeg, aF (fun _ => 0))) n.toNatClampNeg)
def fn_nA {β : Type} (k : Nat) (n : Int32) (s : mS) (kk : Nat → mS → Option β) : Option β := if n < 0 ∨ 100000 < n.toNatClampNeg then none else kk s.2.1 (mNw s (.inl (k, n.toNatClampNeg, aQ (fun _ => none))) n.toNatClampNeg)
/-- a cast that goes well: null, or an object of one of these classes -/
def fn_cast {β : Type} (cs : List Nat) (r : Option Nat) (s : mS) (kk : Option β) : Option β := match r with
  | none => kk
  | some a => match s.1 a with
    | some (.inr (c, _)) => if cs.contains c then kk else none
    | _ => none
/-- the receiver: an object of class ci -/
def fn_rc {β : Type} (ci : Nat) (r : Option Nat) (s : mS) (kk : Nat → Option β) : Option β := fnO ci r s fun a _ => kk a
/-- the receiver's class -/
def fn_cls {β : Type} (r : Option Nat) (s : mS) (kk : Nat → Nat → Option β) : Option β := match r with
  | none => none
  | some a => match s.1 a with
    | some (.inr (c, _)) => kk c a
    | _ => none
def fn_nn {β : Type} (r : Option Nat) (kn : Option β) (ks : Option β) : Option β := match r with
  | none => kn
  | some _ => ks
def fn_B {α β : Type} (x : Option (α × mS)) (kk : α → mS → Option β) : Option β := match x with
  | none => none
  | some (r, s) => kk r s
/-- a loop's head -/
def fnFix {F : Type} (bot : F) (body : F → F) : Nat → F
  | 0 => bot
  | n + 1 => body (fnFix bot body n)
def fnGas : Nat := 20001
/-! the JDK's own -/
def fn_acopy (_ρ : Nat → Nat) (src : Option Nat) (sp : Int32) (dst : Option Nat) (dp n : Int32) (s : mS) : Option (Unit × mS) := fnA src s fun _ k0 x0 => fnA dst s fun b k1 x1 => match x0, x1 with
  | (n0, .inr (.inr (.inr (.inr f)))), (n1, .inr (.inr (.inr (.inr g)))) => if (k0 = 4 ∧ k1 = 4 ∧ n0 ≠ 0 ∧ n1 ≠ 0) ∧ (¬ sp < 0 ∧ ¬ dp < 0 ∧ ¬ n < 0) ∧ (sp.toNatClampNeg + n.toNatClampNeg ≤ n0 ∧ dp.toNatClampNeg + n.toNatClampNeg ≤ n1) ∧ (List.range n.toNatClampNeg).all (fun i => fn_ok [] (f (sp.toNatClampNeg + i)) s) = true then some ((), mUp s b (.inl (4, n1, aQ (va_cpy f g sp.toNatClampNeg dp.toNatClampNeg n.toNatClampNeg)))) else none
  | _, _ => none
def fn_cloneI (_ρ : Nat → Nat) (r : Option Nat) (s : mS) : Option (Option Nat × mS) := fnA r s fun _ k x => match x with
  | (n, .inl f) => if k = 0 ∧ n ≠ 0 then some (some s.2.1, mNw s (.inl (0, n, aI f)) n) else none
  | _ => none
def fn_cloneF (_ρ : Nat → Nat) (r : Option Nat) (s : mS) : Option (Option Nat × mS) := fnA r s fun _ k x => match x with
  | (n, .inr (.inr (.inl f))) => if k = 3 ∧ n ≠ 0 then some (some s.2.1, mNw s (.inl (3, n, aF f)) n) else none
  | _ => none
def fn_getC (ρ : Nat → Nat) (r : Option Nat) (s : mS) : Option (Option Nat × mS) := fnA r s fun _ k _ => if k = 4 then some (some (ρ 300), s) else none
def fn_f2i (_ρ : Nat → Nat) (x : UInt32) (s : mS) : Option (Int32 × mS) := some (x.toInt32, s)
/-- the cache of small Integers -/
def fn_cache {β : Type} (ρ : Nat → Nat) (i : Int32) (kk : Option Nat → Option β) : Option β := fn_in i 256 (kk (some (ρ (i.toNatClampNeg + 2))))
/-- a new Integer's field -/
def fn_pB {β : Type} (ρ : Nat → Nat) (k : Nat) (r : Option Nat) (x : Int32) (s : mS) (kk : mS → Option β) : Option β := fnO 11 r s fun a fs => if ρ 301 ≤ a ∧ k < fs.length then kk (mUp s a (.inr (11, fs.set k (.int x)))) else none
def fn_castP {β : Type} (k0 : Nat) (r : Option Nat) (s : mS) (kk : Option β) : Option β := match r with
  | none => kk
  | some a => match s.1 a with
    | some (.inl (k, x)) => if k = k0 ∧ x.1 ≠ 0 then kk else none
    | _ => none
def fn_n32 (r : UInt32) : Bool := decide (r &&& 0x7fffffff ≤ 0x7f800000)
/-- a reference or null, by a number -/
def kOp (n : Nat) : Option Nat := match n with
  | 0 => none
  | n + 1 => some n
/-- calls that may throw -/
def fn_BX {α γ : Type} (x : Option ((α ⊕ Nat) × mS)) (kk : α → mS → Option ((γ ⊕ Nat) × mS)) : Option ((γ ⊕ Nat) × mS) := match x with
  | none => none
  | some (.inl r, s) => kk r s
  | some (.inr q, s) => some (.inr q, s)
def fn_BC {α β : Type} (x : Option ((α ⊕ Nat) × mS)) (kk : α → mS → Option β) (kh : Nat → mS → Option β) : Option β := match x with
  | none => none
  | some (.inl r, s) => kk r s
  | some (.inr q, s) => kh q s
def fn_throw {γ : Type} (r : Option Nat) (s : mS) : Option ((γ ⊕ Nat) × mS) := fn_rc 15 r s fun q => some (.inr q, s)
end
section
set_option maxRecDepth 100000
def gJ0_init (ρ : Nat → Nat) (this : Nat) (a : mS) : Option (Unit × mS) :=
  some ((), a)
def gJ13_hasNext (ρ : Nat → Nat) (this : Nat) (a : mS) : Option (Int32 × mS) :=
  fn_gA 9 0 (some this) a fun v1 => fn_nn v1 (fn_rZ (iI 0) a) (fn_rZ (iI 1) a)
def gJ13_init (ρ : Nat → Nat) (this : Nat) (x1 : Option Nat) (x2 : Option Nat) (a : mS) : Option (Unit × mS) :=
  fn_pA 9 3 (some this) x1 a fun a1 => fn_gI 4 5 x1 a1 fun v2 => fn_pI 9 2 (some this) v2 a1 fun a3 => fn_pA 9 1 (some this) none a3 fun a4 => fn_pA 9 0 (some this) x2 a4 fun a5 => some ((), a5)
def gJ15_init (ρ : Nat → Nat) (this : Nat) (a : mS) : Option (Unit × mS) :=
  some ((), a)
def gJ16_compare (ρ : Nat → Nat) (x0 : Int32) (x1 : Int32) (a : mS) : Option (Int32 × mS) :=
  if x1 ≤ x0 then (if x0 = x1 then (some ((iI 0), a)) else some ((iI 1), a)) else some ((iI (-1)), a)
def gJ16_intValue (ρ : Nat → Nat) (this : Nat) (a : mS) : Option (Int32 × mS) :=
  fn_gI 11 0 (some this) a fun v1 => some (v1, a)
def gJ17_getKey (ρ : Nat → Nat) (this : Nat) (a : mS) : Option (Option Nat × mS) :=
  fn_gA 10 0 (some this) a fun v1 => some (v1, a)
def gJ17_getValue (ρ : Nat → Nat) (this : Nat) (a : mS) : Option (Option Nat × mS) :=
  fn_gA 10 1 (some this) a fun v1 => some (v1, a)
def gJ17_init (ρ : Nat → Nat) (this : Nat) (x1 : Option Nat) (x2 : Option Nat) (x3 : Option Nat) (a : mS) : Option (Unit × mS) :=
  fn_pZ 10 5 (some this) (iI 1) a fun a1 => fn_pA 10 0 (some this) x1 a1 fun a2 => fn_pA 10 1 (some this) x2 a2 fun a3 => fn_pA 10 4 (some this) x3 a3 fun a4 => some ((), a4)
def gJ18_getKey (ρ : Nat → Nat) (this : Nat) (a : mS) : Option (Option Nat × mS) :=
  fn_gA 12 0 (some this) a fun v1 => some (v1, a)
def gJ18_getValue (ρ : Nat → Nat) (this : Nat) (a : mS) : Option (Option Nat × mS) :=
  fn_gA 12 1 (some this) a fun v1 => some (v1, a)
def gJ19_init_2 (ρ : Nat → Nat) (this : Nat) (x1 : Option Nat) (x2 : Option Nat) (x3 : Int32) (x4 : Int32) (a : mS) : Option (Unit × mS) :=
  fn_pA 15 0 (some this) (some this) a fun a1 => fn_pA 15 1 (some this) (kOp (ρ 302)) a1 fun a2 => fn_pA 15 2 (some this) (kOp (ρ 303)) a2 fun a3 => if x4 = iI 0 then (fn_pA 15 1 (some this) none a3 fun a4 => fn_pA 15 3 (some this) x1 a4 fun a5 => fn_pA 15 0 (some this) x2 a5 fun a6 => if x3 = iI 0 then (fn_pA 15 2 (some this) none a6 fun a7 => some ((), a7)) else some ((), a6)) else none
def gJ26_isNaN (ρ : Nat → Nat) (x0 : UInt32) (a : mS) : Option (Int32 × mS) :=
  if (Op.cmpValue (FP.fcmp x0 x0) .l) = iI 0 then (fn_rZ (iI 0) a) else fn_rZ (iI 1) a
def gJ2_clear_b27 (ρ : Nat → Nat) (this : Nat) (k27 : Option Nat → Int32 → Int32 → mS → Option (Unit × mS)) (x1 : Option Nat) (x2 : Int32) (x3 : Int32) (a : mS) : Option (Unit × mS) :=
  if x2 ≤ x3 then (some ((), a)) else fn_sA 4 [] x1 x3 none a fun a1 => k27 x1 x2 (x3 + iI 1) a1
def gJ2_clear (ρ : Nat → Nat) (this : Nat) (a : mS) : Option (Unit × mS) :=
  fn_gI 2 0 (some this) a fun v1 => fn_pI 2 0 (some this) (v1 + (iI 1)) a fun a2 => fn_gA 2 1 (some this) a2 fun v3 => fn_gI 2 2 (some this) a2 fun v4 => fn_pI 2 2 (some this) (iI 0) a2 fun a5 => fnFix (fun _ _ _ _ => none) (gJ2_clear_b27 ρ this) fnGas v3 v4 (iI 0) a5
def gJ2_elementData (ρ : Nat → Nat) (this : Nat) (x1 : Int32) (a : mS) : Option (Option Nat × mS) :=
  fn_gA 2 1 (some this) a fun v1 => fn_aA 4 v1 x1 a fun v2 => some (v2, a)
def gJ2_fastRemove_b34 (ρ : Nat → Nat) (this : Nat) (x1 : Option Nat) (x3 : Int32) (a : mS) : Option (Unit × mS) :=
  fn_pI 2 2 (some this) x3 a fun a1 => fn_sA 4 [] x1 x3 none a1 fun a2 => some ((), a2)
def gJ2_fastRemove (ρ : Nat → Nat) (this : Nat) (x1 : Option Nat) (x2 : Int32) (a : mS) : Option (Unit × mS) :=
  fn_gI 2 0 (some this) a fun v1 => fn_pI 2 0 (some this) (v1 + (iI 1)) a fun a2 => fn_gI 2 2 (some this) a2 fun v3 => if (v3 - (iI 1)) ≤ x2 then (gJ2_fastRemove_b34 ρ this x1 (v3 - (iI 1)) a2) else fn_B (fn_acopy ρ x1 (x2 + (iI 1)) x1 x2 ((v3 - (iI 1)) - x2) a2) fun _ a4 => gJ2_fastRemove_b34 ρ this x1 (v3 - (iI 1)) a4
def gJ2_isEmpty (ρ : Nat → Nat) (this : Nat) (a : mS) : Option (Int32 × mS) :=
  fn_gI 2 2 (some this) a fun v1 => if v1 = iI 0 then (fn_rZ (iI 1) a) else fn_rZ (iI 0) a
def gJ2_size (ρ : Nat → Nat) (this : Nat) (a : mS) : Option (Int32 × mS) :=
  fn_gI 2 2 (some this) a fun v1 => some (v1, a)
def gJ3_init (ρ : Nat → Nat) (this : Nat) (a : mS) : Option (Unit × mS) :=
  some ((), a)
def gJ4_colorOf (ρ : Nat → Nat) (x0 : Option Nat) (a : mS) : Option (Int32 × mS) :=
  fn_nn x0 (fn_rZ (iI 1) a) (fn_gI 10 5 x0 a fun v1 => fn_rZ v1 a)
def gJ4_getFirstEntry_b9 (ρ : Nat → Nat) (this : Nat) (k9 : Option Nat → mS → Option (Option Nat × mS)) (x1 : Option Nat) (a : mS) : Option (Option Nat × mS) :=
  fn_gA 10 2 x1 a fun v1 => fn_nn v1 (some (x1, a)) (fn_gA 10 2 x1 a fun v2 => k9 v2 a)
def gJ4_getFirstEntry (ρ : Nat → Nat) (this : Nat) (a : mS) : Option (Option Nat × mS) :=
  fn_gA 4 3 (some this) a fun v1 => fn_nn v1 (some (v1, a)) (fnFix (fun _ _ => none) (gJ4_getFirstEntry_b9 ρ this) fnGas v1 a)
def gJ4_leftOf (ρ : Nat → Nat) (x0 : Option Nat) (a : mS) : Option (Option Nat × mS) :=
  fn_nn x0 (some (none, a)) (fn_gA 10 2 x0 a fun v1 => some (v1, a))
def gJ4_parentOf (ρ : Nat → Nat) (x0 : Option Nat) (a : mS) : Option (Option Nat × mS) :=
  fn_nn x0 (some (none, a)) (fn_gA 10 4 x0 a fun v1 => some (v1, a))
def gJ4_rightOf (ρ : Nat → Nat) (x0 : Option Nat) (a : mS) : Option (Option Nat × mS) :=
  fn_nn x0 (some (none, a)) (fn_gA 10 3 x0 a fun v1 => some (v1, a))
def gJ4_rotateLeft_b85 (ρ : Nat → Nat) (this : Nat) (x1 : Option Nat) (x2 : Option Nat) (a : mS) : Option (Unit × mS) :=
  fn_pA 10 2 x2 x1 a fun a1 => fn_pA 10 4 x1 x2 a1 fun a2 => some ((), a2)
def gJ4_rotateLeft_b32 (ρ : Nat → Nat) (this : Nat) (x1 : Option Nat) (x2 : Option Nat) (a : mS) : Option (Unit × mS) :=
  fn_gA 10 4 x1 a fun v1 => fn_pA 10 4 x2 v1 a fun a2 => fn_gA 10 4 x1 a2 fun v3 => fn_nn v3 (fn_pA 4 3 (some this) x2 a2 fun a4 => gJ4_rotateLeft_b85 ρ this x1 x2 a4) (fn_gA 10 4 x1 a2 fun v5 => fn_gA 10 2 v5 a2 fun v6 => if v6 = x1 then (fn_gA 10 4 x1 a2 fun v7 => fn_pA 10 2 v7 x2 a2 fun a8 => gJ4_rotateLeft_b85 ρ this x1 x2 a8) else fn_gA 10 4 x1 a2 fun v9 => fn_pA 10 3 v9 x2 a2 fun a10 => gJ4_rotateLeft_b85 ρ this x1 x2 a10)
def gJ4_rotateLeft (ρ : Nat → Nat) (this : Nat) (x1 : Option Nat) (a : mS) : Option (Unit × mS) :=
  fn_nn x1 (some ((), a)) (fn_gA 10 3 x1 a fun v1 => fn_gA 10 2 v1 a fun v2 => fn_pA 10 3 x1 v2 a fun a3 => fn_gA 10 2 v1 a3 fun v4 => fn_nn v4 (gJ4_rotateLeft_b32 ρ this x1 v1 a3) (fn_gA 10 2 v1 a3 fun v5 => fn_pA 10 4 v5 x1 a3 fun a6 => gJ4_rotateLeft_b32 ρ this x1 v1 a6))
def gJ4_rotateRight_b85 (ρ : Nat → Nat) (this : Nat) (x1 : Option Nat) (x2 : Option Nat) (a : mS) : Option (Unit × mS) :=
  fn_pA 10 3 x2 x1 a fun a1 => fn_pA 10 4 x1 x2 a1 fun a2 => some ((), a2)
def gJ4_rotateRight_b32 (ρ : Nat → Nat) (this : Nat) (x1 : Option Nat) (x2 : Option Nat) (a : mS) : Option (Unit × mS) :=
  fn_gA 10 4 x1 a fun v1 => fn_pA 10 4 x2 v1 a fun a2 => fn_gA 10 4 x1 a2 fun v3 => fn_nn v3 (fn_pA 4 3 (some this) x2 a2 fun a4 => gJ4_rotateRight_b85 ρ this x1 x2 a4) (fn_gA 10 4 x1 a2 fun v5 => fn_gA 10 3 v5 a2 fun v6 => if v6 = x1 then (fn_gA 10 4 x1 a2 fun v7 => fn_pA 10 3 v7 x2 a2 fun a8 => gJ4_rotateRight_b85 ρ this x1 x2 a8) else fn_gA 10 4 x1 a2 fun v9 => fn_pA 10 2 v9 x2 a2 fun a10 => gJ4_rotateRight_b85 ρ this x1 x2 a10)
def gJ4_rotateRight (ρ : Nat → Nat) (this : Nat) (x1 : Option Nat) (a : mS) : Option (Unit × mS) :=
  fn_nn x1 (some ((), a)) (fn_gA 10 2 x1 a fun v1 => fn_gA 10 3 v1 a fun v2 => fn_pA 10 2 x1 v2 a fun a3 => fn_gA 10 3 v1 a3 fun v4 => fn_nn v4 (gJ4_rotateRight_b32 ρ this x1 v1 a3) (fn_gA 10 3 v1 a3 fun v5 => fn_pA 10 4 v5 x1 a3 fun a6 => gJ4_rotateRight_b32 ρ this x1 v1 a6))
def gJ4_setColor (ρ : Nat → Nat) (x0 : Option Nat) (x1 : Int32) (a : mS) : Option (Unit × mS) :=
  fn_nn x0 (some ((), a)) (fn_pZ 10 5 x0 x1 a fun a1 => some ((), a1))
def gJ4_size (ρ : Nat → Nat) (this : Nat) (a : mS) : Option (Int32 × mS) :=
  fn_gI 4 4 (some this) a fun v1 => some (v1, a)
def gJ4_successor_b42 (ρ : Nat → Nat) (k42 : Option Nat → Option Nat → mS → Option (Option Nat × mS)) (x1 : Option Nat) (x2 : Option Nat) (a : mS) : Option (Option Nat × mS) :=
  fn_nn x1 (some (x1, a)) (fn_gA 10 3 x1 a fun v1 => if x2 = v1 then (fn_gA 10 4 x1 a fun v2 => k42 v2 x1 a) else some (x1, a))
def gJ4_successor_b18 (ρ : Nat → Nat) (k18 : Option Nat → mS → Option (Option Nat × mS)) (x1 : Option Nat) (a : mS) : Option (Option Nat × mS) :=
  fn_gA 10 2 x1 a fun v1 => fn_nn v1 (some (x1, a)) (fn_gA 10 2 x1 a fun v2 => k18 v2 a)
def gJ4_successor (ρ : Nat → Nat) (x0 : Option Nat) (a : mS) : Option (Option Nat × mS) :=
  fn_nn x0 (some (none, a)) (fn_gA 10 3 x0 a fun v1 => fn_nn v1 (fn_gA 10 4 x0 a fun v2 => fnFix (fun _ _ _ => none) (gJ4_successor_b42 ρ) fnGas v2 x0 a) (fn_gA 10 3 x0 a fun v3 => fnFix (fun _ _ => none) (gJ4_successor_b18 ρ) fnGas v3 a))
def gJ5_checkForComodification (ρ : Nat → Nat) (this : Nat) (a : mS) : Option (Unit × mS) :=
  fn_gA 5 3 (some this) a fun v1 => fn_gI 2 0 v1 a fun v2 => fn_gI 5 2 (some this) a fun v3 => if v2 = v3 then (some ((), a)) else none
def gJ5_hasNext (ρ : Nat → Nat) (this : Nat) (a : mS) : Option (Int32 × mS) :=
  fn_gI 5 0 (some this) a fun v1 => fn_gA 5 3 (some this) a fun v2 => fn_gI 2 2 v2 a fun v3 => if v1 = v3 then (fn_rZ (iI 0) a) else fn_rZ (iI 1) a
def gJ5_init (ρ : Nat → Nat) (this : Nat) (x1 : Option Nat) (a : mS) : Option (Unit × mS) :=
  fn_pA 5 3 (some this) x1 a fun a1 => fn_pI 5 1 (some this) (iI (-1)) a1 fun a2 => fn_gA 5 3 (some this) a2 fun v3 => fn_gI 2 0 v3 a2 fun v4 => fn_pI 5 2 (some this) v4 a2 fun a5 => some ((), a5)
def gJ6_requireNonNull (ρ : Nat → Nat) (x0 : Option Nat) (a : mS) : Option (Option Nat × mS) :=
  fn_nn x0 (none) (some (x0, a))
def gJ7_checkIndex (ρ : Nat → Nat) (x0 : Int32) (x1 : Int32) (x2 : Option Nat) (a : mS) : Option (Int32 × mS) :=
  if x0 < iI 0 then (none) else if x0 < x1 then (some (x0, a)) else none
def gJ9_abs (ρ : Nat → Nat) (x0 : Int32) (a : mS) : Option (Int32 × mS) :=
  if iI 0 ≤ x0 then (some (x0, a)) else some ((-x0), a)
def gJ9_floorDiv (ρ : Nat → Nat) (x0 : Int64) (x2 : Int64) (a : mS) : Option (Int64 × mS) :=
  if x2 = lI 0 then none else if iI 0 ≤ (lg_cmp (x0 ^^^ x2) (lI 0)) then (some ((x0 / x2), a)) else if (lg_cmp ((x0 / x2) * x2) x0) = iI 0 then (some ((x0 / x2), a)) else some (((x0 / x2) - (lI 1)), a)
def gJ9_max (ρ : Nat → Nat) (x0 : Int32) (x1 : Int32) (a : mS) : Option (Int32 × mS) :=
  if x0 < x1 then (some (x1, a)) else some (x0, a)
def gJ9_max_2 (ρ : Nat → Nat) (x0 : Int64) (x2 : Int64) (a : mS) : Option (Int64 × mS) :=
  if (lg_cmp x0 x2) < iI 0 then (some (x2, a)) else some (x0, a)
def gJ9_min (ρ : Nat → Nat) (x0 : Int32) (x1 : Int32) (a : mS) : Option (Int32 × mS) :=
  if x1 < x0 then (some (x1, a)) else some (x0, a)
def gJ9_min_2 (ρ : Nat → Nat) (x0 : Int64) (x2 : Int64) (a : mS) : Option (Int64 × mS) :=
  if iI 0 < (lg_cmp x0 x2) then (some (x2, a)) else some (x0, a)
def gJ10_copyOf_2 (ρ : Nat → Nat) (x0 : Option Nat) (x1 : Int32) (x2 : Option Nat) (a : mS) : Option (Option Nat × mS) :=
  if x2 = (some (ρ 300)) then (fn_nA 4 x1 a fun v1 a2 => fn_len x0 a2 fun v3 => fn_B (gJ9_min ρ v3 x1 a2) fun v5 a4 => fn_B (fn_acopy ρ x0 (iI 0) (some v1) (iI 0) v5 a4) fun _ a6 => some ((some v1), a6)) else none
def gJ11_init (ρ : Nat → Nat) (this : Nat) (a : mS) : Option (Unit × mS) :=
  fn_B (gJ0_init ρ this a) fun _ a1 => some ((), a1)
def gJ13_nextEntry (ρ : Nat → Nat) (this : Nat) (a : mS) : Option (Option Nat × mS) :=
  fn_gA 9 0 (some this) a fun v1 => fn_nn v1 (none) (fn_gA 9 3 (some this) a fun v2 => fn_gI 4 5 v2 a fun v3 => fn_gI 9 2 (some this) a fun v4 => if v3 = v4 then (fn_B (gJ4_successor ρ v1 a) fun v6 a5 => fn_pA 9 0 (some this) v6 a5 fun a7 => fn_pA 9 1 (some this) v1 a7 fun a8 => some (v1, a8)) else none)
def gJ14_init (ρ : Nat → Nat) (this : Nat) (x1 : Option Nat) (x2 : Option Nat) (a : mS) : Option (Unit × mS) :=
  fn_B (gJ13_init ρ this x1 x2 a) fun _ a1 => some ((), a1)
def gJ16_compareTo_2 (ρ : Nat → Nat) (this : Nat) (x1 : Option Nat) (a : mS) : Option (Int32 × mS) :=
  fn_gI 11 0 (some this) a fun v1 => fn_gI 11 0 x1 a fun v2 => fn_B (gJ16_compare ρ v1 v2 a) fun v4 a3 => some (v4, a3)
def gJ16_init (ρ : Nat → Nat) (this : Nat) (x1 : Int32) (a : mS) : Option (Unit × mS) :=
  fn_B (gJ15_init ρ this a) fun _ a1 => fn_pB ρ 0 (some this) x1 a1 fun a2 => some ((), a2)
def gJ18_init (ρ : Nat → Nat) (this : Nat) (x1 : Option Nat) (a : mS) : Option (Unit × mS) :=
  fn_cls x1 a fun c o => fn_B (if c = 10 then gJ17_getKey ρ o a else none) fun v2 a1 => fn_pA 12 0 (some this) v2 a1 fun a3 => fn_cls x1 a3 fun c o => fn_B (if c = 10 then gJ17_getValue ρ o a3 else none) fun v5 a4 => fn_pA 12 1 (some this) v5 a4 fun a6 => some ((), a6)
def gJ1_init (ρ : Nat → Nat) (this : Nat) (a : mS) : Option (Unit × mS) :=
  fn_B (gJ0_init ρ this a) fun _ a1 => fn_pI 2 0 (some this) (iI 0) a1 fun a2 => some ((), a2)
def gJ20_init (ρ : Nat → Nat) (this : Nat) (x1 : Option Nat) (x2 : Option Nat) (x3 : Int32) (x4 : Int32) (a : mS) : Option (Unit × mS) :=
  fn_B (gJ19_init_2 ρ this x1 x2 x3 x4 a) fun _ a1 => some ((), a1)
def gJ26_floatToIntBits (ρ : Nat → Nat) (x0 : UInt32) (a : mS) : Option (Int32 × mS) :=
  fn_B (gJ26_isNaN ρ x0 a) fun v2 a1 => if v2 = iI 0 then (fn_B (fn_f2i ρ x0 a1) fun v4 a3 => some (v4, a3)) else some ((iI 2143289344), a1)
def gJ2_iterator (ρ : Nat → Nat) (this : Nat) (a : mS) : Option (Option Nat × mS) :=
  fn_new 5 [Value.int (iI 0), Value.int (iI 0), Value.int (iI 0), va_rf none] a fun v1 a2 => fn_B (gJ5_init ρ v1 (some this) a2) fun _ a3 => some ((some v1), a3)
def gJ4_fixAfterInsertion_b255 (ρ : Nat → Nat) (this : Nat) (k5 : Option Nat → mS → Option (Unit × mS)) (x1 : Option Nat) (a : mS) : Option (Unit × mS) :=
  k5 x1 a
def gJ4_fixAfterInsertion_b225 (ρ : Nat → Nat) (this : Nat) (k5 : Option Nat → mS → Option (Unit × mS)) (x1 : Option Nat) (a : mS) : Option (Unit × mS) :=
  fn_B (gJ4_parentOf ρ x1 a) fun v2 a1 => fn_B (gJ4_setColor ρ v2 (iI 1) a1) fun _ a3 => fn_B (gJ4_parentOf ρ x1 a3) fun v5 a4 => fn_B (gJ4_parentOf ρ v5 a4) fun v7 a6 => fn_B (gJ4_setColor ρ v7 (iI 0) a6) fun _ a8 => fn_B (gJ4_parentOf ρ x1 a8) fun v10 a9 => fn_B (gJ4_parentOf ρ v10 a9) fun v12 a11 => fn_rc 4 (some this) a11 fun o => fn_B (gJ4_rotateLeft ρ o v12 a11) fun _ a13 => gJ4_fixAfterInsertion_b255 ρ this k5 x1 a13
def gJ4_fixAfterInsertion_b148 (ρ : Nat → Nat) (this : Nat) (k5 : Option Nat → mS → Option (Unit × mS)) (x1 : Option Nat) (a : mS) : Option (Unit × mS) :=
  k5 x1 a
def gJ4_fixAfterInsertion_b118 (ρ : Nat → Nat) (this : Nat) (k5 : Option Nat → mS → Option (Unit × mS)) (x1 : Option Nat) (a : mS) : Option (Unit × mS) :=
  fn_B (gJ4_parentOf ρ x1 a) fun v2 a1 => fn_B (gJ4_setColor ρ v2 (iI 1) a1) fun _ a3 => fn_B (gJ4_parentOf ρ x1 a3) fun v5 a4 => fn_B (gJ4_parentOf ρ v5 a4) fun v7 a6 => fn_B (gJ4_setColor ρ v7 (iI 0) a6) fun _ a8 => fn_B (gJ4_parentOf ρ x1 a8) fun v10 a9 => fn_B (gJ4_parentOf ρ v10 a9) fun v12 a11 => fn_rc 4 (some this) a11 fun o => fn_B (gJ4_rotateRight ρ o v12 a11) fun _ a13 => gJ4_fixAfterInsertion_b148 ρ this k5 x1 a13
def gJ4_fixAfterInsertion_b5 (ρ : Nat → Nat) (this : Nat) (k5 : Option Nat → mS → Option (Unit × mS)) (x1 : Option Nat) (a : mS) : Option (Unit × mS) :=
  fn_nn x1 (fn_gA 4 3 (some this) a fun v1 => fn_pZ 10 5 v1 (iI 1) a fun a2 => some ((), a2)) (fn_gA 4 3 (some this) a fun v3 => if x1 = v3 then (fn_gA 4 3 (some this) a fun v4 => fn_pZ 10 5 v4 (iI 1) a fun a5 => some ((), a5)) else fn_gA 10 4 x1 a fun v6 => fn_gI 10 5 v6 a fun v7 => if v7 = iI 0 then (fn_B (gJ4_parentOf ρ x1 a) fun v9 a8 => fn_B (gJ4_parentOf ρ x1 a8) fun v11 a10 => fn_B (gJ4_parentOf ρ v11 a10) fun v13 a12 => fn_B (gJ4_leftOf ρ v13 a12) fun v15 a14 => if v9 = v15 then (fn_B (gJ4_parentOf ρ x1 a14) fun v17 a16 => fn_B (gJ4_parentOf ρ v17 a16) fun v19 a18 => fn_B (gJ4_rightOf ρ v19 a18) fun v21 a20 => fn_B (gJ4_colorOf ρ v21 a20) fun v23 a22 => if v23 = iI 0 then (fn_B (gJ4_parentOf ρ x1 a22) fun v25 a24 => fn_B (gJ4_setColor ρ v25 (iI 1) a24) fun _ a26 => fn_B (gJ4_setColor ρ v21 (iI 1) a26) fun _ a27 => fn_B (gJ4_parentOf ρ x1 a27) fun v29 a28 => fn_B (gJ4_parentOf ρ v29 a28) fun v31 a30 => fn_B (gJ4_setColor ρ v31 (iI 0) a30) fun _ a32 => fn_B (gJ4_parentOf ρ x1 a32) fun v34 a33 => fn_B (gJ4_parentOf ρ v34 a33) fun v36 a35 => gJ4_fixAfterInsertion_b148 ρ this k5 v36 a35) else fn_B (gJ4_parentOf ρ x1 a22) fun v38 a37 => fn_B (gJ4_rightOf ρ v38 a37) fun v40 a39 => if x1 = v40 then (fn_B (gJ4_parentOf ρ x1 a39) fun v42 a41 => fn_rc 4 (some this) a41 fun o => fn_B (gJ4_rotateLeft ρ o v42 a41) fun _ a43 => gJ4_fixAfterInsertion_b118 ρ this k5 v42 a43) else gJ4_fixAfterInsertion_b118 ρ this k5 x1 a39) else fn_B (gJ4_parentOf ρ x1 a14) fun v45 a44 => fn_B (gJ4_parentOf ρ v45 a44) fun v47 a46 => fn_B (gJ4_leftOf ρ v47 a46) fun v49 a48 => fn_B (gJ4_colorOf ρ v49 a48) fun v51 a50 => if v51 = iI 0 then (fn_B (gJ4_parentOf ρ x1 a50) fun v53 a52 => fn_B (gJ4_setColor ρ v53 (iI 1) a52) fun _ a54 => fn_B (gJ4_setColor ρ v49 (iI 1) a54) fun _ a55 => fn_B (gJ4_parentOf ρ x1 a55) fun v57 a56 => fn_B (gJ4_parentOf ρ v57 a56) fun v59 a58 => fn_B (gJ4_setColor ρ v59 (iI 0) a58) fun _ a60 => fn_B (gJ4_parentOf ρ x1 a60) fun v62 a61 => fn_B (gJ4_parentOf ρ v62 a61) fun v64 a63 => gJ4_fixAfterInsertion_b255 ρ this k5 v64 a63) else fn_B (gJ4_parentOf ρ x1 a50) fun v66 a65 => fn_B (gJ4_leftOf ρ v66 a65) fun v68 a67 => if x1 = v68 then (fn_B (gJ4_parentOf ρ x1 a67) fun v70 a69 => fn_rc 4 (some this) a69 fun o => fn_B (gJ4_rotateRight ρ o v70 a69) fun _ a71 => gJ4_fixAfterInsertion_b225 ρ this k5 v70 a71) else gJ4_fixAfterInsertion_b225 ρ this k5 x1 a67) else fn_gA 4 3 (some this) a fun v72 => fn_pZ 10 5 v72 (iI 1) a fun a73 => some ((), a73))
def gJ4_fixAfterInsertion (ρ : Nat → Nat) (this : Nat) (x1 : Option Nat) (a : mS) : Option (Unit × mS) :=
  fn_pZ 10 5 x1 (iI 0) a fun a1 => fnFix (fun _ _ => none) (gJ4_fixAfterInsertion_b5 ρ this) fnGas x1 a1
def gJ4_init (ρ : Nat → Nat) (this : Nat) (a : mS) : Option (Unit × mS) :=
  fn_B (gJ3_init ρ this a) fun _ a1 => fn_pI 4 4 (some this) (iI 0) a1 fun a2 => fn_pI 4 5 (some this) (iI 0) a2 fun a3 => fn_pA 4 2 (some this) none a3 fun a4 => some ((), a4)
def gJ5_next (ρ : Nat → Nat) (this : Nat) (a : mS) : Option (Option Nat × mS) :=
  fn_rc 5 (some this) a fun o => fn_B (gJ5_checkForComodification ρ o a) fun _ a1 => fn_gI 5 0 (some this) a1 fun v2 => fn_gA 5 3 (some this) a1 fun v3 => fn_gI 2 2 v3 a1 fun v4 => if v2 < v4 then (fn_gA 5 3 (some this) a1 fun v5 => fn_gA 2 1 v5 a1 fun v6 => fn_len v6 a1 fun v7 => if v2 < v7 then (fn_pI 5 0 (some this) (v2 + (iI 1)) a1 fun a8 => fn_pI 5 1 (some this) v2 a8 fun a9 => fn_aA 4 v6 v2 a9 fun v10 => some (v10, a9)) else none) else none
def gJ6_checkIndex (ρ : Nat → Nat) (x0 : Int32) (x1 : Int32) (a : mS) : Option (Int32 × mS) :=
  fn_B (gJ7_checkIndex ρ x0 x1 none a) fun v2 a1 => some (v2, a1)
def gJ8_newLength (ρ : Nat → Nat) (x0 : Int32) (x1 : Int32) (x2 : Int32) (a : mS) : Option (Int32 × mS) :=
  fn_B (gJ9_max ρ x1 x2 a) fun v2 a1 => if (x0 + v2) ≤ (iI 0) then (none) else if (iI 2147483639) < (x0 + v2) then (none) else some ((x0 + v2), a1)
def gJ10_copyOf (ρ : Nat → Nat) (x0 : Option Nat) (x1 : Int32) (a : mS) : Option (Option Nat × mS) :=
  fn_B (fn_getC ρ x0 a) fun v2 a1 => fn_B (gJ10_copyOf_2 ρ x0 x1 v2 a1) fun v4 a3 => some (v4, a3)
def gJ12_init (ρ : Nat → Nat) (this : Nat) (x1 : Option Nat) (a : mS) : Option (Unit × mS) :=
  fn_pA 8 0 (some this) x1 a fun a1 => fn_B (gJ11_init ρ this a1) fun _ a2 => some ((), a2)
def gJ12_iterator (ρ : Nat → Nat) (this : Nat) (a : mS) : Option (Option Nat × mS) :=
  fn_new 9 [va_rf none, va_rf none, Value.int (iI 0), va_rf none] a fun v1 a2 => fn_gA 8 0 (some this) a2 fun v3 => fn_gA 8 0 (some this) a2 fun v4 => fn_rc 4 v4 a2 fun o => fn_B (gJ4_getFirstEntry ρ o a2) fun v6 a5 => fn_B (gJ14_init ρ v1 v3 v6 a5) fun _ a7 => some ((some v1), a7)
def gJ14_next_2 (ρ : Nat → Nat) (this : Nat) (a : mS) : Option (Option Nat × mS) :=
  fn_cls (some this) a fun c o => fn_B (if c = 9 then gJ13_nextEntry ρ o a else none) fun v2 a1 => some (v2, a1)
def gJ16_compareTo (ρ : Nat → Nat) (this : Nat) (x1 : Option Nat) (a : mS) : Option (Int32 × mS) :=
  fn_cast [11] x1 a (fn_rc 11 (some this) a fun o => fn_B (gJ16_compareTo_2 ρ o x1 a) fun v2 a1 => some (v2, a1))
def gJ16_valueOf (ρ : Nat → Nat) (x0 : Int32) (a : mS) : Option (Option Nat × mS) :=
  if x0 < (iI (-128)) then (fn_new 11 [Value.int (iI 0)] a fun v1 a2 => fn_B (gJ16_init ρ v1 x0 a2) fun _ a3 => some ((some v1), a3)) else if (iI 127) < x0 then (fn_new 11 [Value.int (iI 0)] a fun v4 a5 => fn_B (gJ16_init ρ v4 x0 a5) fun _ a6 => some ((some v4), a6)) else fn_cache ρ (x0 + (iI 128)) fun v7 => some (v7, a)
def gJ2_get (ρ : Nat → Nat) (this : Nat) (x1 : Int32) (a : mS) : Option (Option Nat × mS) :=
  fn_gI 2 2 (some this) a fun v1 => fn_B (gJ6_checkIndex ρ x1 v1 a) fun v3 a2 => fn_rc 2 (some this) a2 fun o => fn_B (gJ2_elementData ρ o x1 a2) fun v5 a4 => some (v5, a4)
def gJ2_init (ρ : Nat → Nat) (this : Nat) (a : mS) : Option (Unit × mS) :=
  fn_B (gJ1_init ρ this a) fun _ a1 => fn_pA 2 1 (some this) (some (ρ 0)) a1 fun a2 => some ((), a2)
def gJ2_remove (ρ : Nat → Nat) (this : Nat) (x1 : Int32) (a : mS) : Option (Option Nat × mS) :=
  fn_gI 2 2 (some this) a fun v1 => fn_B (gJ6_checkIndex ρ x1 v1 a) fun v3 a2 => fn_gA 2 1 (some this) a2 fun v4 => fn_aA 4 v4 x1 a2 fun v5 => fn_rc 2 (some this) a2 fun o => fn_B (gJ2_fastRemove ρ o v4 x1 a2) fun _ a6 => some (v5, a6)
def gJ4_addEntry_b32 (ρ : Nat → Nat) (this : Nat) (x5 : Option Nat) (a : mS) : Option (Unit × mS) :=
  fn_rc 4 (some this) a fun o => fn_B (gJ4_fixAfterInsertion ρ o x5 a) fun _ a1 => fn_gI 4 4 (some this) a1 fun v2 => fn_pI 4 4 (some this) (v2 + (iI 1)) a1 fun a3 => fn_gI 4 5 (some this) a3 fun v4 => fn_pI 4 5 (some this) (v4 + (iI 1)) a3 fun a5 => some ((), a5)
def gJ4_addEntry (ρ : Nat → Nat) (this : Nat) (x1 : Option Nat) (x2 : Option Nat) (x3 : Option Nat) (x4 : Int32) (a : mS) : Option (Unit × mS) :=
  fn_new 10 [va_rf none, va_rf none, va_rf none, va_rf none, va_rf none, Value.int (iI 0)] a fun v1 a2 => fn_B (gJ17_init ρ v1 x1 x2 x3 a2) fun _ a3 => if x4 = iI 0 then (fn_pA 10 3 x3 (some v1) a3 fun a4 => gJ4_addEntry_b32 ρ this (some v1) a4) else fn_pA 10 2 x3 (some v1) a3 fun a5 => gJ4_addEntry_b32 ρ this (some v1) a5
def gJ4_exportEntry (ρ : Nat → Nat) (x0 : Option Nat) (a : mS) : Option (Option Nat × mS) :=
  fn_nn x0 (some (none, a)) (fn_new 12 [va_rf none, va_rf none] a fun v1 a2 => fn_B (gJ18_init ρ v1 x0 a2) fun _ a3 => some ((some v1), a3))
def gJ14_next (ρ : Nat → Nat) (this : Nat) (a : mS) : Option (Option Nat × mS) :=
  fn_rc 9 (some this) a fun o => fn_B (gJ14_next_2 ρ o a) fun v2 a1 => some (v2, a1)
def gJ2_grow_2_b20 (ρ : Nat → Nat) (this : Nat) (x1 : Int32) (x2 : Int32) (a : mS) : Option (Option Nat × mS) :=
  fn_B (gJ8_newLength ρ x2 (x1 - x2) (x2 >>> ((iI 1) &&& 31)) a) fun v2 a1 => fn_gA 2 1 (some this) a1 fun v3 => fn_B (gJ10_copyOf ρ v3 v2 a1) fun v5 a4 => fn_pA 2 1 (some this) v5 a4 fun a6 => some (v5, a6)
def gJ2_grow_2 (ρ : Nat → Nat) (this : Nat) (x1 : Int32) (a : mS) : Option (Option Nat × mS) :=
  fn_gA 2 1 (some this) a fun v1 => fn_len v1 a fun v2 => if iI 0 < v2 then (gJ2_grow_2_b20 ρ this x1 v2 a) else fn_gA 2 1 (some this) a fun v3 => if v3 = (some (ρ 0)) then (fn_B (gJ9_max ρ (iI 10) x1 a) fun v5 a4 => fn_nA 4 v5 a4 fun v6 a7 => fn_pA 2 1 (some this) (some v6) a7 fun a8 => some ((some v6), a8)) else gJ2_grow_2_b20 ρ this x1 v2 a
def gJ4_compare (ρ : Nat → Nat) (this : Nat) (x1 : Option Nat) (x2 : Option Nat) (a : mS) : Option (Int32 × mS) :=
  fn_gA 4 2 (some this) a fun v1 => fn_nn v1 (fn_cast [11] x1 a (fn_cls x1 a fun c o => fn_B (if c = 11 then gJ16_compareTo ρ o x2 a else none) fun v3 a2 => some (v3, a2))) (fn_gA 4 2 (some this) a fun v4 => none)
def gJ4_entrySet (ρ : Nat → Nat) (this : Nat) (a : mS) : Option (Option Nat × mS) :=
  fn_gA 4 6 (some this) a fun v1 => fn_nn v1 (fn_new 8 [va_rf none] a fun v2 a3 => fn_B (gJ12_init ρ v2 (some this) a3) fun _ a4 => fn_pA 4 6 (some this) (some v2) a4 fun a5 => some ((some v2), a5)) (some (v1, a))
def gJ5_remove (ρ : Nat → Nat) (this : Nat) (a : mS) : Option (Unit × mS) :=
  fn_gI 5 1 (some this) a fun v1 => if iI 0 ≤ v1 then (fn_rc 5 (some this) a fun o => fn_B (gJ5_checkForComodification ρ o a) fun _ a2 => fn_gA 5 3 (some this) a2 fun v3 => fn_gI 5 1 (some this) a2 fun v4 => fn_rc 2 v3 a2 fun o => fn_B (gJ2_remove ρ o v4 a2) fun v6 a5 => fn_gI 5 1 (some this) a5 fun v7 => fn_pI 5 0 (some this) v7 a5 fun a8 => fn_pI 5 1 (some this) (iI (-1)) a8 fun a9 => fn_gA 5 3 (some this) a9 fun v10 => fn_gI 2 0 v10 a9 fun v11 => fn_pI 5 2 (some this) v11 a9 fun a12 => some ((), a12)) else none
def gJ2_grow (ρ : Nat → Nat) (this : Nat) (a : mS) : Option (Option Nat × mS) :=
  fn_gI 2 2 (some this) a fun v1 => fn_rc 2 (some this) a fun o => fn_B (gJ2_grow_2 ρ o (v1 + (iI 1)) a) fun v3 a2 => some (v3, a2)
def gJ4_addEntryToEmptyMap (ρ : Nat → Nat) (this : Nat) (x1 : Option Nat) (x2 : Option Nat) (a : mS) : Option (Unit × mS) :=
  fn_rc 4 (some this) a fun o => fn_B (gJ4_compare ρ o x1 x1 a) fun v2 a1 => fn_new 10 [va_rf none, va_rf none, va_rf none, va_rf none, va_rf none, Value.int (iI 0)] a1 fun v3 a4 => fn_B (gJ17_init ρ v3 x1 x2 none a4) fun _ a5 => fn_pA 4 3 (some this) (some v3) a5 fun a6 => fn_pI 4 4 (some this) (iI 1) a6 fun a7 => fn_gI 4 5 (some this) a7 fun v8 => fn_pI 4 5 (some this) (v8 + (iI 1)) a7 fun a9 => some ((), a9)
def gJ4_getFloorEntry_b68 (ρ : Nat → Nat) (this : Nat) (k68 : Option Nat → Option Nat → mS → Option (Option Nat × mS)) (x4 : Option Nat) (x5 : Option Nat) (a : mS) : Option (Option Nat × mS) :=
  fn_nn x4 (some (x4, a)) (fn_gA 10 2 x4 a fun v1 => if x5 = v1 then (fn_gA 10 4 x4 a fun v2 => k68 v2 x4 a) else some (x4, a))
def gJ4_getFloorEntry_b102 (ρ : Nat → Nat) (this : Nat) (k5 : Option Nat → Option Nat → mS → Option (Option Nat × mS)) (x1 : Option Nat) (x2 : Option Nat) (a : mS) : Option (Option Nat × mS) :=
  k5 x1 x2 a
def gJ4_getFloorEntry_b5 (ρ : Nat → Nat) (this : Nat) (k5 : Option Nat → Option Nat → mS → Option (Option Nat × mS)) (x1 : Option Nat) (x2 : Option Nat) (a : mS) : Option (Option Nat × mS) :=
  fn_nn x2 (some (none, a)) (fn_gA 10 0 x2 a fun v1 => fn_rc 4 (some this) a fun o => fn_B (gJ4_compare ρ o x1 v1 a) fun v3 a2 => if v3 ≤ iI 0 then (if iI 0 ≤ v3 then (some (x2, a2)) else fn_gA 10 2 x2 a2 fun v4 => fn_nn v4 (fn_gA 10 4 x2 a2 fun v5 => fnFix (fun _ _ _ => none) (gJ4_getFloorEntry_b68 ρ this) fnGas v5 x2 a2) (fn_gA 10 2 x2 a2 fun v6 => gJ4_getFloorEntry_b102 ρ this k5 x1 v6 a2)) else fn_gA 10 3 x2 a2 fun v7 => fn_nn v7 (some (x2, a2)) (fn_gA 10 3 x2 a2 fun v8 => gJ4_getFloorEntry_b102 ρ this k5 x1 v8 a2))
def gJ4_getFloorEntry (ρ : Nat → Nat) (this : Nat) (x1 : Option Nat) (a : mS) : Option (Option Nat × mS) :=
  fn_gA 4 3 (some this) a fun v1 => fnFix (fun _ _ _ => none) (gJ4_getFloorEntry_b5 ρ this) fnGas x1 v1 a
def gJ2_add_2_b11 (ρ : Nat → Nat) (this : Nat) (x1 : Option Nat) (x2 : Option Nat) (x3 : Int32) (a : mS) : Option (Unit × mS) :=
  fn_sA 4 [] x2 x3 x1 a fun a1 => fn_pI 2 2 (some this) (x3 + (iI 1)) a1 fun a2 => some ((), a2)
def gJ2_add_2 (ρ : Nat → Nat) (this : Nat) (x1 : Option Nat) (x2 : Option Nat) (x3 : Int32) (a : mS) : Option (Unit × mS) :=
  fn_len x2 a fun v1 => if x3 = v1 then (fn_rc 2 (some this) a fun o => fn_B (gJ2_grow ρ o a) fun v3 a2 => gJ2_add_2_b11 ρ this x1 v3 x3 a2) else gJ2_add_2_b11 ρ this x1 x2 x3 a
def gJ4_floorEntry (ρ : Nat → Nat) (this : Nat) (x1 : Option Nat) (a : mS) : Option (Option Nat × mS) :=
  fn_rc 4 (some this) a fun o => fn_B (gJ4_getFloorEntry ρ o x1 a) fun v2 a1 => fn_B (gJ4_exportEntry ρ v2 a1) fun v4 a3 => some (v4, a3)
def gJ4_put_2_b196 (ρ : Nat → Nat) (this : Nat) (k123 : Option Nat → Option Nat → Int32 → Option Nat → Option Nat → mS → Option (Option Nat × mS)) (x1 : Option Nat) (x2 : Option Nat) (x3 : Int32) (x4 : Option Nat) (x5 : Int32) (x6 : Option Nat) (x8 : Option Nat) (a : mS) : Option (Option Nat × mS) :=
  fn_nn x4 (if iI 0 ≤ x5 then (fn_rc 4 (some this) a fun o => fn_B (gJ4_addEntry ρ o x1 x2 x6 (iI 0) a) fun _ a1 => some (none, a1)) else fn_rc 4 (some this) a fun o => fn_B (gJ4_addEntry ρ o x1 x2 x6 (iI 1) a) fun _ a2 => some (none, a2)) (k123 x1 x2 x3 x4 x8 a)
def gJ4_put_2_b123 (ρ : Nat → Nat) (this : Nat) (k123 : Option Nat → Option Nat → Int32 → Option Nat → Option Nat → mS → Option (Option Nat × mS)) (x1 : Option Nat) (x2 : Option Nat) (x3 : Int32) (x4 : Option Nat) (x8 : Option Nat) (a : mS) : Option (Option Nat × mS) :=
  fn_gA 10 0 x4 a fun v1 => fn_cls x8 a fun c o => fn_B (if c = 11 then gJ16_compareTo ρ o v1 a else none) fun v3 a2 => if iI 0 ≤ v3 then (if v3 ≤ iI 0 then (fn_gA 10 1 x4 a2 fun v4 => if x3 = iI 0 then (fn_nn v4 (fn_pA 10 1 x4 x2 a2 fun a5 => some (v4, a5)) (some (v4, a2))) else fn_pA 10 1 x4 x2 a2 fun a6 => some (v4, a6)) else fn_gA 10 3 x4 a2 fun v7 => gJ4_put_2_b196 ρ this k123 x1 x2 x3 v7 v3 x4 x8 a2) else fn_gA 10 2 x4 a2 fun v8 => gJ4_put_2_b196 ρ this k123 x1 x2 x3 v8 v3 x4 x8 a2
def gJ4_put_2 (ρ : Nat → Nat) (this : Nat) (x1 : Option Nat) (x2 : Option Nat) (x3 : Int32) (a : mS) : Option (Option Nat × mS) :=
  fn_gA 4 3 (some this) a fun v1 => fn_nn v1 (fn_rc 4 (some this) a fun o => fn_B (gJ4_addEntryToEmptyMap ρ o x1 x2 a) fun _ a2 => some (none, a2)) (fn_gA 4 2 (some this) a fun v3 => fn_nn v3 (fn_B (gJ6_requireNonNull ρ x1 a) fun v5 a4 => fn_cast [11] x1 a4 (fnFix (fun _ _ _ _ _ _ => none) (gJ4_put_2_b123 ρ this) fnGas x1 x2 x3 v1 x1 a4)) (fn_gA 10 0 v1 a fun v6 => none))
def gJ2_add (ρ : Nat → Nat) (this : Nat) (x1 : Option Nat) (a : mS) : Option (Int32 × mS) :=
  fn_gI 2 0 (some this) a fun v1 => fn_pI 2 0 (some this) (v1 + (iI 1)) a fun a2 => fn_gA 2 1 (some this) a2 fun v3 => fn_gI 2 2 (some this) a2 fun v4 => fn_rc 2 (some this) a2 fun o => fn_B (gJ2_add_2 ρ o x1 v3 v4 a2) fun _ a5 => fn_rZ (iI 1) a5
def gJ4_put (ρ : Nat → Nat) (this : Nat) (x1 : Option Nat) (x2 : Option Nat) (a : mS) : Option (Option Nat × mS) :=
  fn_rc 4 (some this) a fun o => fn_B (gJ4_put_2 ρ o x1 x2 (iI 1) a) fun v2 a1 => some (v2, a1)
end
section
set_option maxRecDepth 100000
def gJ25_size (ρ : Nat → Nat) (this : Nat) (a : mS) : Option (Int32 × mS) :=
  fn_gI 27 1 (some this) a fun v1 => some (v1, a)
def gX19_compare_2 (ρ : Nat → Nat) (this : Nat) (x1 : Option Nat) (x2 : Option Nat) (a : mS) : Option (Int32 × mS) :=
  fn_gI 24 0 x1 a fun v1 => fn_gI 24 0 x2 a fun v2 => if v1 = v2 then (fn_gI 24 1 x1 a fun v3 => fn_gI 24 1 x2 a fun v4 => if v3 = v4 then (fn_gI 24 2 x1 a fun v5 => fn_gI 24 2 x2 a fun v6 => some ((v5 - v6), a)) else fn_gI 24 1 x1 a fun v7 => fn_gI 24 1 x2 a fun v8 => some ((v7 - v8), a)) else fn_gI 24 0 x1 a fun v9 => fn_gI 24 0 x2 a fun v10 => some ((v9 - v10), a)
def gX19_init (ρ : Nat → Nat) (this : Nat) (a : mS) : Option (Unit × mS) :=
  some ((), a)
def gJ0_isEmpty (ρ : Nat → Nat) (this : Nat) (a : mS) : Option (Int32 × mS) :=
  fn_cls (some this) a fun c o => fn_B (if c = 27 then gJ25_size ρ o a else none) fun v2 a1 => if v2 = iI 0 then (fn_rZ (iI 1) a1) else fn_rZ (iI 0) a1
def gJ24_init (ρ : Nat → Nat) (this : Nat) (a : mS) : Option (Unit × mS) :=
  fn_B (gJ0_init ρ this a) fun _ a1 => some ((), a1)
def gX19_compare (ρ : Nat → Nat) (this : Nat) (x1 : Option Nat) (x2 : Option Nat) (a : mS) : Option (Int32 × mS) :=
  fn_cast [24] x1 a (fn_cast [24] x2 a (fn_rc 28 (some this) a fun o => fn_B (gX19_compare_2 ρ o x1 x2 a) fun v2 a1 => some (v2, a1)))
def gJ25_init (ρ : Nat → Nat) (this : Nat) (x1 : Int32) (x2 : Option Nat) (a : mS) : Option (Unit × mS) :=
  fn_B (gJ24_init ρ this a) fun _ a1 => if (iI 1) ≤ x1 then (fn_nA 4 x1 a1 fun v2 a3 => fn_pA 27 0 (some this) (some v2) a3 fun a4 => fn_pA 27 2 (some this) x2 a4 fun a5 => some ((), a5)) else none
def gJ25_siftDownUsingComparator_b61 (ρ : Nat → Nat) (k5 : Int32 → Option Nat → Option Nat → Int32 → Option Nat → Int32 → mS → Option (Unit × mS)) (x0 : Int32) (x1 : Option Nat) (x2 : Option Nat) (x3 : Int32) (x4 : Option Nat) (x5 : Int32) (x6 : Int32) (x7 : Option Nat) (a : mS) : Option (Unit × mS) :=
  fn_cls x4 a fun c o => fn_B (if c = 28 then gX19_compare ρ o x1 x7 a else none) fun v2 a1 => if iI 0 < v2 then (fn_sA 4 [] x2 x0 x7 a1 fun a3 => k5 x6 x1 x2 x3 x4 x5 a3) else fn_sA 4 [] x2 x0 x1 a1 fun a4 => some ((), a4)
def gJ25_siftDownUsingComparator_b5 (ρ : Nat → Nat) (k5 : Int32 → Option Nat → Option Nat → Int32 → Option Nat → Int32 → mS → Option (Unit × mS)) (x0 : Int32) (x1 : Option Nat) (x2 : Option Nat) (x3 : Int32) (x4 : Option Nat) (x5 : Int32) (a : mS) : Option (Unit × mS) :=
  if x5 ≤ x0 then (fn_sA 4 [] x2 x0 x1 a fun a1 => some ((), a1)) else fn_aA 4 x2 ((x0 <<< ((iI 1) &&& 31)) + (iI 1)) a fun v2 => if x3 ≤ (((x0 <<< ((iI 1) &&& 31)) + (iI 1)) + (iI 1)) then (gJ25_siftDownUsingComparator_b61 ρ k5 x0 x1 x2 x3 x4 x5 ((x0 <<< ((iI 1) &&& 31)) + (iI 1)) v2 a) else fn_aA 4 x2 (((x0 <<< ((iI 1) &&& 31)) + (iI 1)) + (iI 1)) a fun v3 => fn_cls x4 a fun c o => fn_B (if c = 28 then gX19_compare ρ o v2 v3 a else none) fun v5 a4 => if v5 ≤ iI 0 then (gJ25_siftDownUsingComparator_b61 ρ k5 x0 x1 x2 x3 x4 x5 ((x0 <<< ((iI 1) &&& 31)) + (iI 1)) v2 a4) else fn_aA 4 x2 (((x0 <<< ((iI 1) &&& 31)) + (iI 1)) + (iI 1)) a4 fun v6 => gJ25_siftDownUsingComparator_b61 ρ k5 x0 x1 x2 x3 x4 x5 (((x0 <<< ((iI 1) &&& 31)) + (iI 1)) + (iI 1)) v6 a4
def gJ25_siftDownUsingComparator (ρ : Nat → Nat) (x0 : Int32) (x1 : Option Nat) (x2 : Option Nat) (x3 : Int32) (x4 : Option Nat) (a : mS) : Option (Unit × mS) :=
  fnFix (fun _ _ _ _ _ _ _ => none) (gJ25_siftDownUsingComparator_b5 ρ) fnGas x0 x1 x2 x3 x4 ((x3.toUInt32 >>> ((iI 1).toUInt32 &&& Int32.toUInt32 31)).toInt32) a
def gJ25_siftUpUsingComparator_b0 (ρ : Nat → Nat) (k0 : Int32 → Option Nat → Option Nat → Option Nat → mS → Option (Unit × mS)) (x0 : Int32) (x1 : Option Nat) (x2 : Option Nat) (x3 : Option Nat) (a : mS) : Option (Unit × mS) :=
  if x0 ≤ iI 0 then (fn_sA 4 [] x2 x0 x1 a fun a1 => some ((), a1)) else fn_aA 4 x2 (((x0 - (iI 1)).toUInt32 >>> ((iI 1).toUInt32 &&& Int32.toUInt32 31)).toInt32) a fun v2 => fn_cls x3 a fun c o => fn_B (if c = 28 then gX19_compare ρ o x1 v2 a else none) fun v4 a3 => if v4 < iI 0 then (fn_sA 4 [] x2 x0 v2 a3 fun a5 => k0 (((x0 - (iI 1)).toUInt32 >>> ((iI 1).toUInt32 &&& Int32.toUInt32 31)).toInt32) x1 x2 x3 a5) else fn_sA 4 [] x2 x0 x1 a3 fun a6 => some ((), a6)
def gJ25_siftUpUsingComparator (ρ : Nat → Nat) (x0 : Int32) (x1 : Option Nat) (x2 : Option Nat) (x3 : Option Nat) (a : mS) : Option (Unit × mS) :=
  fnFix (fun _ _ _ _ _ => none) (gJ25_siftUpUsingComparator_b0 ρ) fnGas x0 x1 x2 x3 a
def gJ25_poll (ρ : Nat → Nat) (this : Nat) (a : mS) : Option (Option Nat × mS) :=
  fn_gA 27 0 (some this) a fun v1 => fn_aA 4 v1 (iI 0) a fun v2 => fn_nn v2 (some (v2, a)) (fn_gI 27 3 (some this) a fun v3 => fn_pI 27 3 (some this) (v3 + (iI 1)) a fun a4 => fn_gI 27 1 (some this) a4 fun v5 => fn_pI 27 1 (some this) (v5 - (iI 1)) a4 fun a6 => fn_aA 4 v1 (v5 - (iI 1)) a6 fun v7 => fn_sA 4 [] v1 (v5 - (iI 1)) none a6 fun a8 => if (v5 - (iI 1)) ≤ iI 0 then (some (v2, a8)) else fn_gA 27 2 (some this) a8 fun v9 => fn_nn v9 (none) (fn_B (gJ25_siftDownUsingComparator ρ (iI 0) v7 v1 (v5 - (iI 1)) v9 a8) fun _ a10 => some (v2, a10)))
def gJ25_siftUp (ρ : Nat → Nat) (this : Nat) (x1 : Int32) (x2 : Option Nat) (a : mS) : Option (Unit × mS) :=
  fn_gA 27 2 (some this) a fun v1 => fn_nn v1 (fn_gA 27 0 (some this) a fun v2 => none) (fn_gA 27 0 (some this) a fun v3 => fn_gA 27 2 (some this) a fun v4 => fn_B (gJ25_siftUpUsingComparator ρ x1 x2 v3 v4 a) fun _ a5 => some ((), a5))
def gJ24_remove (ρ : Nat → Nat) (this : Nat) (a : mS) : Option (Option Nat × mS) :=
  fn_rc 27 (some this) a fun o => fn_B (gJ25_poll ρ o a) fun v2 a1 => fn_nn v2 (none) (some (v2, a1))
def gJ25_offer (ρ : Nat → Nat) (this : Nat) (x1 : Option Nat) (a : mS) : Option (Int32 × mS) :=
  fn_nn x1 (none) (fn_gI 27 3 (some this) a fun v1 => fn_pI 27 3 (some this) (v1 + (iI 1)) a fun a2 => fn_gI 27 1 (some this) a2 fun v3 => fn_gA 27 0 (some this) a2 fun v4 => fn_len v4 a2 fun v5 => if v3 < v5 then (fn_rc 27 (some this) a2 fun o => fn_B (gJ25_siftUp ρ o v3 x1 a2) fun _ a6 => fn_pI 27 1 (some this) (v3 + (iI 1)) a6 fun a7 => fn_rZ (iI 1) a7) else none)
def gJ25_add (ρ : Nat → Nat) (this : Nat) (x1 : Option Nat) (a : mS) : Option (Int32 × mS) :=
  fn_rc 27 (some this) a fun o => fn_B (gJ25_offer ρ o x1 a) fun v2 a1 => fn_rZ v2 a1
end
section
set_option maxRecDepth 100000
def gX3_back_b22 (ρ : Nat → Nat) (this : Nat) (k22 : Int32 → mS → Option (Int32 × mS)) (x1 : Int32) (a : mS) : Option (Int32 × mS) :=
  if (iI 3960) ≤ x1 then (fn_gI 31 5 (some this) a fun v1 => some (v1, a)) else fn_gA 31 0 (some this) a fun v2 => fn_gA 31 4 (some this) a fun v3 => fn_gI 31 5 (some this) a fun v4 => fn_aI 0 v3 ((v4 * (iI 3960)) + x1) a fun v5 => fn_sI 0 v2 x1 v5 a fun a6 => k22 (x1 + iI 1) a6
def gX3_back (ρ : Nat → Nat) (this : Nat) (a : mS) : Option (Int32 × mS) :=
  fn_gI 31 5 (some this) a fun v1 => if v1 = iI 0 then (some ((iI (-3)), a)) else fn_gI 31 5 (some this) a fun v2 => fn_pI 31 5 (some this) (v2 - (iI 1)) a fun a3 => fnFix (fun _ _ => none) (gX3_back_b22 ρ this) fnGas (iI 0) a3
def gX3_copies_b2 (ρ : Nat → Nat) (this : Nat) (k2 : Option Nat → Option Nat → Int32 → mS → Option (Unit × mS)) (x1 : Option Nat) (x2 : Option Nat) (x3 : Int32) (a : mS) : Option (Unit × mS) :=
  if (iI 3960) ≤ x3 then (some ((), a)) else fn_aI 0 x1 x3 a fun v1 => fn_sI 0 x2 x3 v1 a fun a2 => k2 x1 x2 (x3 + iI 1) a2
def gX3_copies (ρ : Nat → Nat) (this : Nat) (x1 : Option Nat) (x2 : Option Nat) (a : mS) : Option (Unit × mS) :=
  fnFix (fun _ _ _ _ => none) (gX3_copies_b2 ρ this) fnGas x1 x2 (iI 0) a
def gX3_count_b118 (ρ : Nat → Nat) (this : Nat) (k93 : Int32 → Int32 → mS → Option (Int32 × mS)) (x3 : Int32) (s0 : Int32) (s1 : Int32) (a : mS) : Option (Int32 × mS) :=
  k93 (s0 + s1) (x3 + iI 1) a
def gX3_count_b93 (ρ : Nat → Nat) (this : Nat) (k93 : Int32 → Int32 → mS → Option (Int32 × mS)) (x2 : Int32) (x3 : Int32) (a : mS) : Option (Int32 × mS) :=
  if (iI 120) ≤ x3 then (some (x2, a)) else fn_gA 31 0 (some this) a fun v1 => fn_aI 0 v1 ((iI 240) + x3) a fun v2 => if v2 ≤ iI 0 then (gX3_count_b118 ρ this k93 x3 x2 (iI 0) a) else gX3_count_b118 ρ this k93 x3 x2 (iI 1) a
def gX3_count_b156 (ρ : Nat → Nat) (this : Nat) (k130 : Int32 → Int32 → mS → Option (Int32 × mS)) (x3 : Int32) (s0 : Int32) (s1 : Int32) (a : mS) : Option (Int32 × mS) :=
  k130 (s0 + s1) (x3 + iI 1) a
def gX3_count_b130 (ρ : Nat → Nat) (this : Nat) (k130 : Int32 → Int32 → mS → Option (Int32 × mS)) (x2 : Int32) (x3 : Int32) (a : mS) : Option (Int32 × mS) :=
  if (iI 3600) ≤ x3 then (some (x2, a)) else fn_gA 31 0 (some this) a fun v1 => fn_aI 0 v1 ((iI 360) + x3) a fun v2 => if v2 < iI 0 then (gX3_count_b156 ρ this k130 x3 x2 (iI 0) a) else gX3_count_b156 ρ this k130 x3 x2 (iI 1) a
def gX3_count (ρ : Nat → Nat) (this : Nat) (x1 : Int32) (a : mS) : Option (Int32 × mS) :=
  if x1 = iI 0 then (fn_gA 31 0 (some this) a fun v2 => fn_aI 0 v2 (iI 0) a fun v3 => some (v3, a)) else if x1 = iI 1 then (fn_gA 31 0 (some this) a fun v5 => fn_aI 0 v5 (iI 81) a fun v6 => some (v6, a)) else if x1 = iI 2 then (fn_gA 31 0 (some this) a fun v8 => fn_aI 0 v8 (iI 130) a fun v9 => some (v9, a)) else if x1 = iI 3 then (fn_gA 31 0 (some this) a fun v11 => fn_aI 0 v11 (iI 203) a fun v12 => some (v12, a)) else if x1 = iI 4 then (fn_gI 31 14 (some this) a fun v14 => some (v14, a)) else if x1 = iI 5 then (fn_gI 31 5 (some this) a fun v16 => some (v16, a)) else if x1 = iI 6 then (fnFix (fun _ _ _ => none) (gX3_count_b93 ρ this) fnGas (iI 0) (iI 0) a) else if x1 = iI 7 then (fnFix (fun _ _ _ => none) (gX3_count_b130 ρ this) fnGas (iI 0) (iI 0) a) else some ((iI (-1)), a)
def gX3_down (ρ : Nat → Nat) (x0 : Int64) (x2 : Int64) (a : mS) : Option (Int32 × mS) :=
  if x2 = lI 0 then none else if iI 0 ≤ (lg_cmp x0 (lI 0)) then (some (((x0 / x2).toInt32), a)) else if (lg_cmp ((x0 / x2) * x2) x0) = iI 0 then (some (((x0 / x2).toInt32), a)) else some ((((x0 / x2) - (lI 1)).toInt32), a)
def gX3_ends_b52 (ρ : Nat → Nat) (this : Nat) (k52 : Int32 → Int32 → mS → Option (Int32 × mS)) (x1 : Int32) (x2 : Int32) (a : mS) : Option (Int32 × mS) :=
  if (iI 3960) ≤ x2 then (fn_gI 31 5 (some this) a fun v1 => fn_pI 31 5 (some this) (v1 + (iI 1)) a fun a2 => some (x1, a2)) else fn_gA 31 4 (some this) a fun v3 => fn_gI 31 5 (some this) a fun v4 => fn_gA 31 1 (some this) a fun v5 => fn_aI 0 v5 x2 a fun v6 => fn_sI 0 v3 ((v4 * (iI 3960)) + x2) v6 a fun a7 => k52 x1 (x2 + iI 1) a7
def gX3_ends_b50 (ρ : Nat → Nat) (this : Nat) (x1 : Int32) (a : mS) : Option (Int32 × mS) :=
  fnFix (fun _ _ _ => none) (gX3_ends_b52 ρ this) fnGas x1 (iI 0) a
def gX3_ends_b11 (ρ : Nat → Nat) (this : Nat) (k11 : Int32 → Int32 → mS → Option (Int32 × mS)) (x1 : Int32) (x2 : Int32) (a : mS) : Option (Int32 × mS) :=
  if (iI 19800) ≤ x2 then (fn_gI 31 5 (some this) a fun v1 => fn_pI 31 5 (some this) (v1 - (iI 1)) a fun a2 => gX3_ends_b50 ρ this x1 a2) else fn_gA 31 4 (some this) a fun v3 => fn_gA 31 4 (some this) a fun v4 => fn_aI 0 v4 (x2 + (iI 3960)) a fun v5 => fn_sI 0 v3 x2 v5 a fun a6 => k11 x1 (x2 + iI 1) a6
def gX3_ends (ρ : Nat → Nat) (this : Nat) (x1 : Int32) (a : mS) : Option (Int32 × mS) :=
  fn_gI 31 5 (some this) a fun v1 => if v1 = (iI 6) then (fnFix (fun _ _ _ => none) (gX3_ends_b11 ρ this) fnGas x1 (iI 0) a) else gX3_ends_b50 ρ this x1 a
def gX3_here (ρ : Nat → Nat) (this : Nat) (a : mS) : Option (Int32 × mS) :=
  fn_gI 31 15 (some this) a fun v1 => fn_gI 31 14 (some this) a fun v2 => if v2 ≤ v1 then (some ((iI (-1)), a)) else fn_gA 31 9 (some this) a fun v3 => fn_gI 31 15 (some this) a fun v4 => fn_aI 0 v3 v4 a fun v5 => some (v5, a)
def gX3_holds (ρ : Nat → Nat) (this : Nat) (x1 : Int32) (x2 : Int32) (a : mS) : Option (Int32 × mS) :=
  fn_gA 31 0 (some this) a fun v1 => fn_aI 0 v1 (((iI 82) + ((iI 4) * x1)) + (iI 2)) a fun v2 => if x2 < v2 then (fn_rZ (iI 0) a) else fn_gA 31 0 (some this) a fun v3 => fn_aI 0 v3 (((iI 82) + ((iI 4) * x1)) + (iI 3)) a fun v4 => if v4 ≤ x2 then (fn_rZ (iI 0) a) else fn_rZ (iI 1) a
def gX3_indexOf_b2 (ρ : Nat → Nat) (this : Nat) (k2 : Int32 → mS → Option (Int32 × mS)) (x2 : Int32) (a : mS) : Option (Int32 × mS) :=
  if x2 < iI 0 then (some ((iI 1000), a)) else fn_gA 31 0 (some this) a fun v1 => fn_aI 0 v1 ((iI 240) + x2) a fun v2 => if v2 ≤ iI 0 then (k2 (x2 + iI (-1)) a) else fn_gA 31 0 (some this) a fun v3 => fn_aI 0 v3 ((iI 240) + x2) a fun v4 => some (v4, a)
def gX3_indexOf (ρ : Nat → Nat) (this : Nat) (x1 : Int32) (a : mS) : Option (Int32 × mS) :=
  fnFix (fun _ _ => none) (gX3_indexOf_b2 ρ this) fnGas x1 a
def gX3_init_b151 (ρ : Nat → Nat) (this : Nat) (k151 : Int32 → mS → Option (Unit × mS)) (x1 : Int32) (a : mS) : Option (Unit × mS) :=
  if (iI 3600) ≤ x1 then (some ((), a)) else fn_gA 31 0 (some this) a fun v1 => fn_sI 0 v1 ((iI 360) + x1) (iI (-1)) a fun a2 => k151 (x1 + iI 1) a2
def gX3_init (ρ : Nat → Nat) (this : Nat) (a : mS) : Option (Unit × mS) :=
  fn_nI 0 (iI 3960) a fun v1 a2 => fn_pA 31 0 (some this) (some v1) a2 fun a3 => fn_nI 0 (iI 3960) a3 fun v4 a5 => fn_pA 31 1 (some this) (some v4) a5 fun a6 => fn_nI 0 (iI 3960) a6 fun v7 a8 => fn_pA 31 2 (some this) (some v7) a8 fun a9 => fn_nI 0 (iI 3960) a9 fun v10 a11 => fn_pA 31 3 (some this) (some v10) a11 fun a12 => fn_nI 0 (iI 23760) a12 fun v13 a14 => fn_pA 31 4 (some this) (some v13) a14 fun a15 => fn_nI 0 (iI 60) a15 fun v16 a17 => fn_pA 31 9 (some this) (some v16) a17 fun a18 => fn_nI 0 (iI 60) a18 fun v19 a20 => fn_pA 31 10 (some this) (some v19) a20 fun a21 => fn_nI 0 (iI 60) a21 fun v22 a23 => fn_pA 31 11 (some this) (some v22) a23 fun a24 => fn_nI 0 (iI 60) a24 fun v25 a26 => fn_pA 31 12 (some this) (some v25) a26 fun a27 => fn_nI 0 (iI 60) a27 fun v28 a29 => fn_pA 31 13 (some this) (some v28) a29 fun a30 => fn_nI 0 (iI 120) a30 fun v31 a32 => fn_pA 31 17 (some this) (some v31) a32 fun a33 => fn_nI 2 (iI 12) a33 fun v34 a35 => fn_pA 31 18 (some this) (some v34) a35 fun a36 => fn_nI 0 (iI 4500) a36 fun v37 a38 => fn_pA 31 20 (some this) (some v37) a38 fun a39 => fn_nI 0 (iI 36) a39 fun v40 a41 => fn_pA 31 22 (some this) (some v40) a41 fun a42 => fn_nI 0 (iI 3) a42 fun v43 a44 => fn_sI 0 (some v43) (iI 0) (iI (-1)) a44 fun a45 => fn_sI 0 (some v43) (iI 1) (iI (-1)) a45 fun a46 => fn_sI 0 (some v43) (iI 2) (iI (-1)) a46 fun a47 => fn_pA 31 23 (some this) (some v43) a47 fun a48 => fn_nF 3 (iI 36) a48 fun v49 a50 => fn_pA 31 24 (some this) (some v49) a50 fun a51 => fnFix (fun _ _ => none) (gX3_init_b151 ρ this) fnGas (iI 0) a51
def gX3_isIn (ρ : Nat → Nat) (x0 : Int32) (x1 : Int32) (x2 : Int32) (a : mS) : Option (Int32 × mS) :=
  if x0 < x1 then (fn_rZ (iI 0) a) else if x2 < x0 then (fn_rZ (iI 0) a) else fn_rZ (iI 1) a
def gX3_no (ρ : Nat → Nat) (this : Nat) (x1 : Int32) (a : mS) : Option (Int32 × mS) :=
  fn_pI 31 8 (some this) x1 a fun a1 => some ((iI 0), a1)
def gX3_paid_b75 (ρ : Nat → Nat) (this : Nat) (k5 : Int32 → Int32 → Int64 → Int32 → mS → Option (Int64 × mS)) (x1 : Int32) (x2 : Int32) (x5 : Int32) (s0 : Int64) (s1 : Int64) (a : mS) : Option (Int64 × mS) :=
  k5 x1 x2 (s0 + s1) (x5 + iI 1) a
def gX3_paid_b74 (ρ : Nat → Nat) (this : Nat) (k5 : Int32 → Int32 → Int64 → Int32 → mS → Option (Int64 × mS)) (x1 : Int32) (x2 : Int32) (x5 : Int32) (s0 : Int64) (a : mS) : Option (Int64 × mS) :=
  gX3_paid_b75 ρ this k5 x1 x2 x5 s0 (lI 0) a
def gX3_paid_b5 (ρ : Nat → Nat) (this : Nat) (k5 : Int32 → Int32 → Int64 → Int32 → mS → Option (Int64 × mS)) (x1 : Int32) (x2 : Int32) (x3 : Int64) (x5 : Int32) (a : mS) : Option (Int64 × mS) :=
  fn_gA 31 0 (some this) a fun v1 => fn_aI 0 v1 (iI 130) a fun v2 => if v2 ≤ x5 then (some (x3, a)) else fn_gA 31 0 (some this) a fun v3 => fn_aI 0 v3 ((iI 131) + ((iI 3) * x5)) a fun v4 => if v4 = x1 then (fn_gA 31 0 (some this) a fun v5 => fn_aI 0 v5 (((iI 131) + ((iI 3) * x5)) + (iI 1)) a fun v6 => if x2 < v6 then (gX3_paid_b74 ρ this k5 x1 x2 x5 x3 a) else fn_gA 31 0 (some this) a fun v7 => fn_aI 0 v7 (((iI 131) + ((iI 3) * x5)) + (iI 2)) a fun v8 => gX3_paid_b75 ρ this k5 x1 x2 x5 x3 (v8.toInt64) a) else gX3_paid_b74 ρ this k5 x1 x2 x5 x3 a
def gX3_paid (ρ : Nat → Nat) (this : Nat) (x1 : Int32) (x2 : Int32) (a : mS) : Option (Int64 × mS) :=
  fnFix (fun _ _ _ _ _ => none) (gX3_paid_b5 ρ this) fnGas x1 x2 (lI 0) (iI 0) a
def gX3_puts (ρ : Nat → Nat) (this : Nat) (x1 : Int32) (x2 : Int32) (x3 : Int32) (a : mS) : Option (Unit × mS) :=
  fn_gA 31 0 (some this) a fun v1 => fn_sI 0 v1 (((iI 1) + ((iI 8) * x1)) + x2) x3 a fun a2 => some ((), a2)
def gX3_rank (ρ : Nat → Nat) (this : Nat) (x1 : Int32) (a : mS) : Option (Int32 × mS) :=
  fn_gA 31 20 (some this) a fun v1 => fn_aI 0 v1 ((iI 3) * x1) a fun v2 => fn_gA 31 20 (some this) a fun v3 => fn_aI 0 v3 (((iI 3) * x1) + (iI 1)) a fun v4 => fn_gA 31 20 (some this) a fun v5 => fn_aI 0 v5 (((iI 3) * x1) + (iI 2)) a fun v6 => some ((((iI 100) * (((iI 10) * v2) + v4)) + v6), a)
def gX3_rateOn_b2 (ρ : Nat → Nat) (this : Nat) (k2 : Int32 → mS → Option (Int32 × mS)) (x2 : Int32) (a : mS) : Option (Int32 × mS) :=
  if x2 < iI 0 then (some ((iI 0), a)) else fn_gA 31 0 (some this) a fun v1 => fn_aI 0 v1 ((iI 360) + x2) a fun v2 => if v2 < iI 0 then (k2 (x2 + iI (-1)) a) else fn_gA 31 0 (some this) a fun v3 => fn_aI 0 v3 ((iI 360) + x2) a fun v4 => some (v4, a)
def gX3_rateOn (ρ : Nat → Nat) (this : Nat) (x1 : Int32) (a : mS) : Option (Int32 × mS) :=
  fnFix (fun _ _ => none) (gX3_rateOn_b2 ρ this) fnGas x1 a
def gX3_reason (ρ : Nat → Nat) (this : Nat) (a : mS) : Option (Int32 × mS) :=
  fn_gI 31 6 (some this) a fun v1 => if v1 = iI 0 then (some ((iI (-5)), a)) else fn_gI 31 6 (some this) a fun v2 => some (v2, a)
def gX3_told (ρ : Nat → Nat) (this : Nat) (x1 : Int32) (x2 : Int32) (a : mS) : Option (Int32 × mS) :=
  fn_gA 31 0 (some this) a fun v1 => fn_aI 0 v1 (((iI 1) + ((iI 8) * x1)) + x2) a fun v2 => some (v2, a)
def gX3_begins (ρ : Nat → Nat) (this : Nat) (a : mS) : Option (Unit × mS) :=
  fn_gA 31 0 (some this) a fun v1 => fn_gA 31 1 (some this) a fun v2 => fn_rc 31 (some this) a fun o => fn_B (gX3_copies ρ o v1 v2 a) fun _ a3 => some ((), a3)
def gX3_closes (ρ : Nat → Nat) (this : Nat) (x1 : Int32) (a : mS) : Option (Int32 × mS) :=
  fn_gI 31 8 (some this) a fun v1 => if v1 = iI 0 then (fn_rc 31 (some this) a fun o => fn_B (gX3_ends ρ o x1 a) fun v3 a2 => some (v3, a2)) else fn_gI 31 8 (some this) a fun v4 => fn_pI 31 6 (some this) v4 a fun a5 => some ((iI (-3)), a5)
def gX3_endOf_b31 (ρ : Nat → Nat) (this : Nat) (k5 : Int32 → Int32 → mS → Option (Int32 × mS)) (x3 : Int32) (s0 : Int32) (a : mS) : Option (Int32 × mS) :=
  fn_rc 31 (some this) a fun o => fn_B (gX3_told ρ o x3 (iI 0) a) fun v2 a1 => k5 s0 v2 a1
def gX3_endOf_b5 (ρ : Nat → Nat) (this : Nat) (k5 : Int32 → Int32 → mS → Option (Int32 × mS)) (x2 : Int32) (x3 : Int32) (a : mS) : Option (Int32 × mS) :=
  if x3 < iI 0 then (some (x2, a)) else fn_rc 31 (some this) a fun o => fn_B (gX3_told ρ o x3 (iI 7) a) fun v2 a1 => if x2 ≤ v2 then (gX3_endOf_b31 ρ this k5 x3 x2 a1) else fn_rc 31 (some this) a1 fun o => fn_B (gX3_told ρ o x3 (iI 7) a1) fun v4 a3 => gX3_endOf_b31 ρ this k5 x3 v4 a3
def gX3_endOf (ρ : Nat → Nat) (this : Nat) (x1 : Int32) (a : mS) : Option (Int32 × mS) :=
  fnFix (fun _ _ _ => none) (gX3_endOf_b5 ρ this) fnGas (iI 1000000) x1 a
def gX3_feed_b142 (ρ : Nat → Nat) (this : Nat) (k82 : Int32 → Int32 → Int32 → Int32 → Int32 → Int32 → Int32 → mS → Option (Int32 × mS)) (x1 : Int32) (x2 : Int32) (x3 : Int32) (x4 : Int32) (x5 : Int32) (x6 : Int32) (x7 : Int32) (s0 : Option Nat) (s1 : Int32) (s2 : Int32) (a : mS) : Option (Int32 × mS) :=
  fn_sI 0 s0 s1 s2 a fun a1 => k82 x1 x2 x3 x4 x5 x6 (x7 + iI 1) a1
def gX3_feed_b82 (ρ : Nat → Nat) (this : Nat) (k82 : Int32 → Int32 → Int32 → Int32 → Int32 → Int32 → Int32 → mS → Option (Int32 × mS)) (x1 : Int32) (x2 : Int32) (x3 : Int32) (x4 : Int32) (x5 : Int32) (x6 : Int32) (x7 : Int32) (a : mS) : Option (Int32 × mS) :=
  if x1 ≤ x7 then (fn_gI 31 14 (some this) a fun v1 => fn_pI 31 14 (some this) (v1 + x1) a fun a2 => fn_gI 31 14 (some this) a2 fun v3 => some (v3, a2)) else fn_gA 31 9 (some this) a fun v4 => fn_gI 31 14 (some this) a fun v5 => if x7 = iI 0 then (gX3_feed_b142 ρ this k82 x1 x2 x3 x4 x5 x6 x7 v4 (v5 + x7) x2 a) else if x7 = (iI 1) then (gX3_feed_b142 ρ this k82 x1 x2 x3 x4 x5 x6 x7 v4 (v5 + x7) x3 a) else if x7 = (iI 2) then (gX3_feed_b142 ρ this k82 x1 x2 x3 x4 x5 x6 x7 v4 (v5 + x7) x4 a) else if x7 = (iI 3) then (gX3_feed_b142 ρ this k82 x1 x2 x3 x4 x5 x6 x7 v4 (v5 + x7) x5 a) else gX3_feed_b142 ρ this k82 x1 x2 x3 x4 x5 x6 x7 v4 (v5 + x7) x6 a
def gX3_feed (ρ : Nat → Nat) (this : Nat) (x1 : Int32) (x2 : Int32) (x3 : Int32) (x4 : Int32) (x5 : Int32) (x6 : Int32) (a : mS) : Option (Int32 × mS) :=
  fn_B (gX3_isIn ρ x1 (iI 1) (iI 5) a) fun v2 a1 => if v2 = iI 0 then (some ((iI (-2)), a1)) else fn_B (gX3_isIn ρ x2 (iI 0) (iI 127) a1) fun v4 a3 => if v4 = iI 0 then (some ((iI (-2)), a3)) else fn_B (gX3_isIn ρ x3 (iI 0) (iI 127) a3) fun v6 a5 => if v6 = iI 0 then (some ((iI (-2)), a5)) else fn_B (gX3_isIn ρ x4 (iI 0) (iI 127) a5) fun v8 a7 => if v8 = iI 0 then (some ((iI (-2)), a7)) else fn_B (gX3_isIn ρ x5 (iI 0) (iI 127) a7) fun v10 a9 => if v10 = iI 0 then (some ((iI (-2)), a9)) else fn_B (gX3_isIn ρ x6 (iI 0) (iI 127) a9) fun v12 a11 => if v12 = iI 0 then (some ((iI (-2)), a11)) else fn_gI 31 14 (some this) a11 fun v13 => if (v13 + x1) ≤ (iI 60) then (fnFix (fun _ _ _ _ _ _ _ _ => none) (gX3_feed_b82 ρ this) fnGas x1 x2 x3 x4 x5 x6 (iI 0) a11) else some ((iI (-4)), a11)
def gX3_findsDefects_b53 (ρ : Nat → Nat) (this : Nat) (k2 : Int32 → Int32 → mS → Option (Unit × mS)) (k22 : Int32 → Int32 → Int32 → mS → Option (Unit × mS)) (x1 : Int32) (x2 : Int32) (x3 : Int32) (s0 : Option Nat) (s1 : Int32) (s2 : Int32) (s3 : Int32) (a : mS) : Option (Unit × mS) :=
  fn_sZ 2 s0 s1 (s2 ||| s3) a fun a1 => fn_rc 31 (some this) a1 fun o => fn_B (gX3_told ρ o x3 (iI 0) a1) fun v3 a2 => k22 x1 x2 v3 a2
def gX3_findsDefects_b22 (ρ : Nat → Nat) (this : Nat) (k2 : Int32 → Int32 → mS → Option (Unit × mS)) (k22 : Int32 → Int32 → Int32 → mS → Option (Unit × mS)) (x1 : Int32) (x2 : Int32) (x3 : Int32) (a : mS) : Option (Unit × mS) :=
  if x3 < iI 0 then (k2 x1 (x2 + iI 1) a) else fn_gA 31 18 (some this) a fun v1 => fn_aI 2 v1 x2 a fun v2 => fn_gA 31 0 (some this) a fun v3 => fn_aI 0 v3 ((iI 82) + ((iI 4) * x2)) a fun v4 => if v4 = x3 then (gX3_findsDefects_b53 ρ this k2 k22 x1 x2 x3 v1 x2 v2 (iI 1) a) else gX3_findsDefects_b53 ρ this k2 k22 x1 x2 x3 v1 x2 v2 (iI 0) a
def gX3_findsDefects_b2 (ρ : Nat → Nat) (this : Nat) (k2 : Int32 → Int32 → mS → Option (Unit × mS)) (x1 : Int32) (x2 : Int32) (a : mS) : Option (Unit × mS) :=
  fn_gA 31 0 (some this) a fun v1 => fn_aI 0 v1 (iI 81) a fun v2 => if v2 ≤ x2 then (some ((), a)) else fn_gA 31 18 (some this) a fun v3 => fn_sZ 2 v3 x2 (iI 0) a fun a4 => fnFix (fun _ _ _ _ => none) (gX3_findsDefects_b22 ρ this k2) fnGas x1 x2 x1 a4
def gX3_findsDefects (ρ : Nat → Nat) (this : Nat) (x1 : Int32) (a : mS) : Option (Unit × mS) :=
  fnFix (fun _ _ _ => none) (gX3_findsDefects_b2 ρ this) fnGas x1 (iI 0) a
def gX3_image (ρ : Nat → Nat) (this : Nat) (a : mS) : Option (Int32 × mS) :=
  fn_gA 31 0 (some this) a fun v1 => fn_gA 31 3 (some this) a fun v2 => fn_rc 31 (some this) a fun o => fn_B (gX3_copies ρ o v1 v2 a) fun _ a3 => fn_pZ 31 7 (some this) (iI 1) a3 fun a4 => fn_gA 31 0 (some this) a4 fun v5 => fn_aI 0 v5 (iI 0) a4 fun v6 => some (v6, a4)
def gX3_isDay (ρ : Nat → Nat) (x0 : Int32) (a : mS) : Option (Int32 × mS) :=
  fn_B (gX3_isIn ρ x0 (iI 0) (iI 3599) a) fun v2 a1 => fn_rZ v2 a1
def gX3_isLease (ρ : Nat → Nat) (this : Nat) (x1 : Int32) (a : mS) : Option (Int32 × mS) :=
  fn_gA 31 0 (some this) a fun v1 => fn_aI 0 v1 (iI 0) a fun v2 => fn_B (gX3_isIn ρ x1 (iI 0) (v2 - (iI 1)) a) fun v4 a3 => fn_rZ v4 a3
def gX3_isRow (ρ : Nat → Nat) (x0 : Int32) (a : mS) : Option (Int32 × mS) :=
  fn_B (gX3_isIn ρ x0 (iI 0) (iI 2) a) fun v2 a1 => fn_rZ v2 a1
def gX3_laysRents_b177 (ρ : Nat → Nat) (this : Nat) (k40 : Int32 → Int32 → Int32 → Int32 → Int32 → mS → Option (Unit × mS)) (x1 : Int32) (x3 : Int32) (x4 : Int32) (x5 : Int32) (x6 : Int32) (a : mS) : Option (Unit × mS) :=
  fn_gA 31 17 (some this) a fun v1 => fn_sI 0 v1 x6 x3 a fun a2 => k40 x1 x3 x4 x5 (x6 + iI 1) a2
def gX3_laysRents_b172 (ρ : Nat → Nat) (this : Nat) (k40 : Int32 → Int32 → Int32 → Int32 → Int32 → mS → Option (Unit × mS)) (x1 : Int32) (x5 : Int32) (x6 : Int32) (s0 : Int32) (a : mS) : Option (Unit × mS) :=
  gX3_laysRents_b177 ρ this k40 x1 s0 x5 x5 x6 a
def gX3_laysRents_b108 (ρ : Nat → Nat) (this : Nat) (k40 : Int32 → Int32 → Int32 → Int32 → Int32 → mS → Option (Unit × mS)) (x1 : Int32) (x3 : Int32) (x4 : Int32) (x5 : Int32) (x6 : Int32) (x7 : Int32) (s0 : Int32) (a : mS) : Option (Unit × mS) :=
  fn_rc 31 (some this) a fun o => fn_B (gX3_told ρ o x1 (iI 3) a) fun v2 a1 => if (s0 * (iI 1000)) < (v2 * x4) then (gX3_laysRents_b177 ρ this k40 x1 x3 x4 x5 x6 a1) else fn_rc 31 (some this) a1 fun o => fn_B (gX3_told ρ o x1 (iI 4) a1) fun v4 a3 => fn_B (gX3_down ρ (((x3.toInt64) * (x7.toInt64)) * (v4.toInt64)) ((lI 100) * (x4.toInt64)) a3) fun v6 a5 => if (iI 1) ≤ (x3 + v6) then (if (x3 + v6) ≤ (iI 9999999) then (gX3_laysRents_b172 ρ this k40 x1 x5 x6 (x3 + v6) a5) else gX3_laysRents_b172 ρ this k40 x1 x5 x6 (iI 9999999) a5) else gX3_laysRents_b172 ρ this k40 x1 x5 x6 (iI 1) a5
def gX3_laysRents_b77 (ρ : Nat → Nat) (this : Nat) (k40 : Int32 → Int32 → Int32 → Int32 → Int32 → mS → Option (Unit × mS)) (x1 : Int32) (x3 : Int32) (x4 : Int32) (x6 : Int32) (s0 : Int32) (a : mS) : Option (Unit × mS) :=
  fn_rc 31 (some this) a fun o => fn_B (gX3_told ρ o x1 (iI 3) a) fun v2 a1 => if v2 ≤ iI 0 then (gX3_laysRents_b177 ρ this k40 x1 x3 x4 s0 x6 a1) else if iI 0 ≤ (s0 - x4) then (gX3_laysRents_b108 ρ this k40 x1 x3 x4 s0 x6 (s0 - x4) (s0 - x4) a1) else gX3_laysRents_b108 ρ this k40 x1 x3 x4 s0 x6 (s0 - x4) (-(s0 - x4)) a1
def gX3_laysRents_b40 (ρ : Nat → Nat) (this : Nat) (k40 : Int32 → Int32 → Int32 → Int32 → Int32 → mS → Option (Unit × mS)) (x1 : Int32) (x3 : Int32) (x4 : Int32) (x5 : Int32) (x6 : Int32) (a : mS) : Option (Unit × mS) :=
  if (iI 120) ≤ x6 then (some ((), a)) else fn_gA 31 0 (some this) a fun v1 => fn_aI 0 v1 ((iI 240) + x6) a fun v2 => if v2 ≤ iI 0 then (gX3_laysRents_b77 ρ this k40 x1 x3 x4 x6 x5 a) else fn_gA 31 0 (some this) a fun v3 => fn_aI 0 v3 ((iI 240) + x6) a fun v4 => gX3_laysRents_b77 ρ this k40 x1 x3 x4 x6 v4 a
def gX3_laysRents (ρ : Nat → Nat) (this : Nat) (x1 : Int32) (a : mS) : Option (Unit × mS) :=
  fn_rc 31 (some this) a fun o => fn_B (gX3_told ρ o x1 (iI 1) a) fun v2 a1 => if (iI 30) = iI 0 then none else fn_rc 31 (some this) a1 fun o => fn_B (gX3_told ρ o x1 (iI 2) a1) fun v5 a4 => fn_rc 31 (some this) a4 fun o => fn_B (gX3_indexOf ρ o (v2 / (iI 30)) a4) fun v7 a6 => fn_gA 31 17 (some this) a6 fun v8 => fn_sI 0 v8 (v2 / (iI 30)) v5 a6 fun a9 => fnFix (fun _ _ _ _ _ _ => none) (gX3_laysRents_b40 ρ this) fnGas x1 v5 v7 v7 ((v2 / (iI 30)) + (iI 1)) a9
def gX3_number_b59 (ρ : Nat → Nat) (this : Nat) (x2 : Int32) (x3 : Int32) (a : mS) : Option (Int32 × mS) :=
  fn_gI 31 16 (some this) a fun v1 => if x3 = iI 0 then (fn_pZ 31 16 (some this) (v1 ||| (iI 1)) a fun a2 => some (x2, a2)) else fn_pZ 31 16 (some this) (v1 ||| (iI 0)) a fun a3 => some (x2, a3)
def gX3_number_b4 (ρ : Nat → Nat) (this : Nat) (k4 : Int32 → Int32 → Int32 → mS → Option (Int32 × mS)) (x1 : Int32) (x2 : Int32) (x3 : Int32) (a : mS) : Option (Int32 × mS) :=
  fn_gI 31 16 (some this) a fun v1 => if v1 = iI 0 then (if x1 ≤ x3 then (gX3_number_b59 ρ this x2 x3 a) else fn_rc 31 (some this) a fun o => fn_B (gX3_here ρ o a) fun v3 a2 => fn_B (gX3_isIn ρ v3 (iI 48) (iI 57) a2) fun v5 a4 => if v5 = iI 0 then (gX3_number_b59 ρ this x2 x3 a4) else fn_rc 31 (some this) a4 fun o => fn_B (gX3_here ρ o a4) fun v7 a6 => fn_gI 31 15 (some this) a6 fun v8 => fn_pI 31 15 (some this) (v8 + (iI 1)) a6 fun a9 => k4 x1 ((((iI 10) * x2) + v7) - (iI 48)) (x3 + iI 1) a9) else gX3_number_b59 ρ this x2 x3 a
def gX3_number (ρ : Nat → Nat) (this : Nat) (x1 : Int32) (a : mS) : Option (Int32 × mS) :=
  fnFix (fun _ _ _ _ => none) (gX3_number_b4 ρ this) fnGas x1 (iI 0) (iI 0) a
def gX3_reductionOn_b51 (ρ : Nat → Nat) (this : Nat) (k4 : Int32 → Int32 → Int32 → mS → Option (Int32 × mS)) (x1 : Int32) (x3 : Int32) (s0 : Int32) (s1 : Int32) (a : mS) : Option (Int32 × mS) :=
  k4 x1 (s0 + s1) (x3 + iI 1) a
def gX3_reductionOn_b50 (ρ : Nat → Nat) (this : Nat) (k4 : Int32 → Int32 → Int32 → mS → Option (Int32 × mS)) (x1 : Int32) (x3 : Int32) (s0 : Int32) (a : mS) : Option (Int32 × mS) :=
  gX3_reductionOn_b51 ρ this k4 x1 x3 s0 (iI 0) a
def gX3_reductionOn_b4 (ρ : Nat → Nat) (this : Nat) (k4 : Int32 → Int32 → Int32 → mS → Option (Int32 × mS)) (x1 : Int32) (x2 : Int32) (x3 : Int32) (a : mS) : Option (Int32 × mS) :=
  fn_gA 31 0 (some this) a fun v1 => fn_aI 0 v1 (iI 81) a fun v2 => if v2 ≤ x3 then (if x2 ≤ (iI 100) then (some (x2, a)) else some ((iI 100), a)) else fn_gA 31 18 (some this) a fun v3 => fn_aI 2 v3 x3 a fun v4 => if v4 = iI 0 then (gX3_reductionOn_b50 ρ this k4 x1 x3 x2 a) else fn_rc 31 (some this) a fun o => fn_B (gX3_holds ρ o x3 x1 a) fun v6 a5 => if v6 = iI 0 then (gX3_reductionOn_b50 ρ this k4 x1 x3 x2 a5) else fn_gA 31 0 (some this) a5 fun v7 => fn_aI 0 v7 (((iI 82) + ((iI 4) * x3)) + (iI 1)) a5 fun v8 => gX3_reductionOn_b51 ρ this k4 x1 x3 x2 v8 a5
def gX3_reductionOn (ρ : Nat → Nat) (this : Nat) (x1 : Int32) (a : mS) : Option (Int32 × mS) :=
  fnFix (fun _ _ _ _ => none) (gX3_reductionOn_b4 ρ this) fnGas x1 (iI 0) (iI 0) a
def gX3_sign_b18 (ρ : Nat → Nat) (this : Nat) (s0 : Option Nat) (s1 : Int32) (s2 : Int32) (a : mS) : Option (Unit × mS) :=
  fn_pZ 31 16 s0 (s1 ||| s2) a fun a1 => fn_gI 31 15 (some this) a1 fun v2 => fn_gI 31 16 (some this) a1 fun v3 => if v3 = iI 0 then (fn_pI 31 15 (some this) (v2 + (iI 1)) a1 fun a4 => some ((), a4)) else fn_pI 31 15 (some this) (v2 + (iI 0)) a1 fun a5 => some ((), a5)
def gX3_sign (ρ : Nat → Nat) (this : Nat) (x1 : Int32) (a : mS) : Option (Unit × mS) :=
  fn_gI 31 16 (some this) a fun v1 => fn_rc 31 (some this) a fun o => fn_B (gX3_here ρ o a) fun v3 a2 => if v3 = x1 then (gX3_sign_b18 ρ this (some this) v1 (iI 0) a2) else gX3_sign_b18 ρ this (some this) v1 (iI 1) a2
def gX3_stand_b94 (ρ : Nat → Nat) (this : Nat) (x1 : Int32) (x2 : Int32) (x3 : Int32) (x5 : Int32) (a : mS) : Option (Unit × mS) :=
  fn_gA 31 20 (some this) a fun v1 => fn_sI 0 v1 ((iI 3) * x5) x1 a fun a2 => fn_gA 31 20 (some this) a2 fun v3 => fn_sI 0 v3 (((iI 3) * x5) + (iI 1)) x2 a2 fun a4 => fn_gA 31 20 (some this) a4 fun v5 => fn_sI 0 v5 (((iI 3) * x5) + (iI 2)) x3 a4 fun a6 => fn_gI 31 21 (some this) a6 fun v7 => fn_pI 31 21 (some this) (v7 + (iI 1)) a6 fun a8 => some ((), a8)
def gX3_stand_b50 (ρ : Nat → Nat) (this : Nat) (k20 : Int32 → Int32 → Int32 → Int32 → mS → Option (Unit × mS)) (k50 : Int32 → Int32 → Int32 → Int32 → Int32 → mS → Option (Unit × mS)) (x1 : Int32) (x2 : Int32) (x3 : Int32) (x5 : Int32) (x6 : Int32) (a : mS) : Option (Unit × mS) :=
  if (iI 3) ≤ x6 then (k20 x1 x2 x3 (x5 + iI (-1)) a) else fn_gA 31 20 (some this) a fun v1 => fn_gA 31 20 (some this) a fun v2 => fn_aI 0 v2 ((((iI 3) * x5) - (iI 3)) + x6) a fun v3 => fn_sI 0 v1 (((iI 3) * x5) + x6) v3 a fun a4 => k50 x1 x2 x3 x5 (x6 + iI 1) a4
def gX3_stand_b20 (ρ : Nat → Nat) (this : Nat) (k20 : Int32 → Int32 → Int32 → Int32 → mS → Option (Unit × mS)) (x1 : Int32) (x2 : Int32) (x3 : Int32) (x5 : Int32) (a : mS) : Option (Unit × mS) :=
  if x5 ≤ iI 0 then (gX3_stand_b94 ρ this x1 x2 x3 x5 a) else fn_rc 31 (some this) a fun o => fn_B (gX3_rank ρ o (x5 - (iI 1)) a) fun v2 a1 => if v2 ≤ (((iI 100) * (((iI 10) * x1) + x2)) + x3) then (gX3_stand_b94 ρ this x1 x2 x3 x5 a1) else fnFix (fun _ _ _ _ _ _ => none) (gX3_stand_b50 ρ this k20) fnGas x1 x2 x3 x5 (iI 0) a1
def gX3_stand (ρ : Nat → Nat) (this : Nat) (x1 : Int32) (x2 : Int32) (x3 : Int32) (x4 : Int32) (a : mS) : Option (Unit × mS) :=
  if x1 < x4 then (some ((), a)) else if x1 < (iI 3600) then (fn_gI 31 21 (some this) a fun v1 => fnFix (fun _ _ _ _ _ => none) (gX3_stand_b20 ρ this) fnGas x1 x2 x3 v1 a) else some ((), a)
def gX3_tells (ρ : Nat → Nat) (this : Nat) (x1 : Int32) (x2 : Int32) (a : mS) : Option (Int32 × mS) :=
  fn_B (gX3_isIn ρ x1 (iI 0) (iI 119) a) fun v2 a1 => if v2 = iI 0 then (fn_rc 31 (some this) a1 fun o => fn_B (gX3_no ρ o (iI 2) a1) fun v4 a3 => some (v4, a3)) else fn_B (gX3_isIn ρ x2 (iI 100) (iI 9999) a1) fun v6 a5 => if v6 = iI 0 then (fn_rc 31 (some this) a5 fun o => fn_B (gX3_no ρ o (iI 2) a5) fun v8 a7 => some (v8, a7)) else fn_rc 31 (some this) a5 fun o => fn_B (gX3_indexOf ρ o x1 a5) fun v10 a9 => fn_gA 31 0 (some this) a9 fun v11 => fn_sI 0 v11 ((iI 240) + x1) x2 a9 fun a12 => some (v10, a12)
def gX3_undo (ρ : Nat → Nat) (this : Nat) (a : mS) : Option (Int32 × mS) :=
  fn_gI 31 7 (some this) a fun v1 => if v1 = iI 0 then (some ((iI (-3)), a)) else fn_gA 31 3 (some this) a fun v2 => fn_gA 31 0 (some this) a fun v3 => fn_rc 31 (some this) a fun o => fn_B (gX3_copies ρ o v2 v3 a) fun _ a4 => fn_pI 31 5 (some this) (iI 0) a4 fun a5 => fn_gA 31 0 (some this) a5 fun v6 => fn_aI 0 v6 (iI 0) a5 fun v7 => some (v7, a5)
def gX3_clauses (ρ : Nat → Nat) (this : Nat) (x1 : Int32) (x2 : Int32) (x3 : Int32) (a : mS) : Option (Int32 × mS) :=
  fn_rc 31 (some this) a fun o => fn_B (gX3_isLease ρ o x1 a) fun v2 a1 => if v2 = iI 0 then (fn_rc 31 (some this) a1 fun o => fn_B (gX3_no ρ o (iI 1) a1) fun v4 a3 => some (v4, a3)) else fn_B (gX3_isIn ρ x2 (iI 0) (iI 500) a1) fun v6 a5 => if v6 = iI 0 then (fn_rc 31 (some this) a5 fun o => fn_B (gX3_no ρ o (iI 2) a5) fun v8 a7 => some (v8, a7)) else fn_B (gX3_isIn ρ x3 (iI 0) (iI 100) a5) fun v10 a9 => if v10 = iI 0 then (fn_rc 31 (some this) a9 fun o => fn_B (gX3_no ρ o (iI 2) a9) fun v12 a11 => some (v12, a11)) else fn_rc 31 (some this) a9 fun o => fn_B (gX3_told ρ o x1 (iI 3) a9) fun v14 a13 => fn_rc 31 (some this) a13 fun o => fn_B (gX3_puts ρ o x1 (iI 3) x2 a13) fun _ a15 => if x2 = iI 0 then (fn_rc 31 (some this) a15 fun o => fn_B (gX3_puts ρ o x1 (iI 4) (iI 0) a15) fun _ a16 => some (v14, a16)) else fn_rc 31 (some this) a15 fun o => fn_B (gX3_puts ρ o x1 (iI 4) x3 a15) fun _ a17 => some (v14, a17)
def gX3_draws (ρ : Nat → Nat) (this : Nat) (x1 : Int32) (a : mS) : Option (Int32 × mS) :=
  fn_rc 31 (some this) a fun o => fn_B (gX3_isLease ρ o x1 a) fun v2 a1 => if v2 = iI 0 then (fn_rc 31 (some this) a1 fun o => fn_B (gX3_no ρ o (iI 1) a1) fun v4 a3 => some (v4, a3)) else fn_rc 31 (some this) a1 fun o => fn_B (gX3_told ρ o x1 (iI 5) a1) fun v6 a5 => if iI 0 ≤ v6 then (fn_rc 31 (some this) a5 fun o => fn_B (gX3_told ρ o x1 (iI 7) a5) fun v8 a7 => fn_rc 31 (some this) a7 fun o => fn_B (gX3_puts ρ o x1 (iI 5) (iI (-1)) a7) fun _ a9 => fn_rc 31 (some this) a9 fun o => fn_B (gX3_puts ρ o x1 (iI 6) (iI (-1)) a9) fun _ a10 => fn_rc 31 (some this) a10 fun o => fn_B (gX3_puts ρ o x1 (iI 7) (iI 1000000) a10) fun _ a11 => some (v8, a11)) else fn_rc 31 (some this) a5 fun o => fn_B (gX3_no ρ o (iI 5) a5) fun v13 a12 => some (v13, a12)
def gX3_faults (ρ : Nat → Nat) (this : Nat) (x1 : Int32) (x2 : Int32) (x3 : Int32) (a : mS) : Option (Int32 × mS) :=
  fn_rc 31 (some this) a fun o => fn_B (gX3_isLease ρ o x1 a) fun v2 a1 => if v2 = iI 0 then (fn_rc 31 (some this) a1 fun o => fn_B (gX3_no ρ o (iI 1) a1) fun v4 a3 => some (v4, a3)) else fn_B (gX3_isDay ρ x2 a1) fun v6 a5 => if v6 = iI 0 then (fn_rc 31 (some this) a5 fun o => fn_B (gX3_no ρ o (iI 2) a5) fun v8 a7 => some (v8, a7)) else fn_B (gX3_isIn ρ x3 (iI 1) (iI 100) a5) fun v10 a9 => if v10 = iI 0 then (fn_rc 31 (some this) a9 fun o => fn_B (gX3_no ρ o (iI 2) a9) fun v12 a11 => some (v12, a11)) else fn_gA 31 0 (some this) a9 fun v13 => fn_aI 0 v13 (iI 81) a9 fun v14 => if v14 = (iI 12) then (fn_rc 31 (some this) a9 fun o => fn_B (gX3_no ρ o (iI 3) a9) fun v16 a15 => some (v16, a15)) else fn_gA 31 0 (some this) a9 fun v17 => fn_aI 0 v17 (iI 81) a9 fun v18 => fn_gA 31 0 (some this) a9 fun v19 => fn_sI 0 v19 ((iI 82) + ((iI 4) * v18)) x1 a9 fun a20 => fn_gA 31 0 (some this) a20 fun v21 => fn_sI 0 v21 (((iI 82) + ((iI 4) * v18)) + (iI 1)) x3 a20 fun a22 => fn_gA 31 0 (some this) a22 fun v23 => fn_sI 0 v23 (((iI 82) + ((iI 4) * v18)) + (iI 2)) x2 a22 fun a24 => fn_gA 31 0 (some this) a24 fun v25 => fn_sI 0 v25 (((iI 82) + ((iI 4) * v18)) + (iI 3)) (iI 1000000) a24 fun a26 => fn_gA 31 0 (some this) a26 fun v27 => fn_aI 0 v27 (iI 81) a26 fun v28 => fn_sI 0 v27 (iI 81) (v28 + (iI 1)) a26 fun a29 => fn_gA 31 0 (some this) a29 fun v30 => fn_aI 0 v30 (iI 81) a29 fun v31 => some ((v31 - (iI 1)), a29)
def gX3_index (ρ : Nat → Nat) (this : Nat) (x1 : Int32) (x2 : Int32) (a : mS) : Option (Int32 × mS) :=
  fn_rc 31 (some this) a fun o => fn_B (gX3_begins ρ o a) fun _ a1 => fn_pI 31 8 (some this) (iI 0) a1 fun a2 => fn_rc 31 (some this) a2 fun o => fn_B (gX3_tells ρ o x1 x2 a2) fun v4 a3 => fn_rc 31 (some this) a3 fun o => fn_B (gX3_closes ρ o v4 a3) fun v6 a5 => some (v6, a5)
def gX3_lay_b105 (ρ : Nat → Nat) (this : Nat) (k55 : Int32 → Int32 → Int32 → Int32 → mS → Option (Int32 × mS)) (x1 : Int32) (x4 : Int32) (x6 : Int32) (x7 : Int32) (s0 : Int32) (s1 : Int32) (a : mS) : Option (Int32 × mS) :=
  fn_gA 31 22 (some this) a fun v1 => fn_sI 0 v1 (((iI 12) * x1) + x6) x7 a fun a2 => fn_gA 31 24 (some this) a2 fun v3 => if fn_n32 (FP.fdiv (FP.i2f x7) (1120403456 : UInt32)) = true then (fn_sF 3 v3 (((iI 12) * x1) + x6) (FP.fdiv (FP.i2f x7) (1120403456 : UInt32)) a2 fun a5 => k55 x1 x4 (s0 + s1) (x6 + iI 1) a5) else none
def gX3_lay_b86 (ρ : Nat → Nat) (this : Nat) (k55 : Int32 → Int32 → Int32 → Int32 → mS → Option (Int32 × mS)) (x1 : Int32) (x4 : Int32) (x5 : Int32) (x6 : Int32) (s0 : Int32) (a : mS) : Option (Int32 × mS) :=
  if (iI 120) ≤ (x4 + x6) then (gX3_lay_b105 ρ this k55 x1 x4 x6 s0 x5 (iI 0) a) else gX3_lay_b105 ρ this k55 x1 x4 x6 s0 x5 (iI 1) a
def gX3_lay_b55 (ρ : Nat → Nat) (this : Nat) (k55 : Int32 → Int32 → Int32 → Int32 → mS → Option (Int32 × mS)) (x1 : Int32) (x4 : Int32) (x5 : Int32) (x6 : Int32) (a : mS) : Option (Int32 × mS) :=
  if (iI 12) ≤ x6 then (some (x5, a)) else if (iI 120) ≤ (x4 + x6) then (gX3_lay_b86 ρ this k55 x1 x4 x5 x6 (iI 0) a) else fn_gA 31 17 (some this) a fun v1 => fn_aI 0 v1 (x4 + x6) a fun v2 => gX3_lay_b86 ρ this k55 x1 x4 x5 x6 v2 a
def gX3_lay (ρ : Nat → Nat) (this : Nat) (x1 : Int32) (x2 : Int32) (x3 : Int32) (a : mS) : Option (Int32 × mS) :=
  fn_B (gX3_isRow ρ x1 a) fun v2 a1 => if v2 = iI 0 then (some ((iI (-1)), a1)) else fn_rc 31 (some this) a1 fun o => fn_B (gX3_isLease ρ o x2 a1) fun v4 a3 => if v4 = iI 0 then (some ((iI (-1)), a3)) else fn_B (gX3_isIn ρ x3 (iI 0) (iI 1) a3) fun v6 a5 => if v6 = iI 0 then (some ((iI (-1)), a5)) else fn_rc 31 (some this) a5 fun o => fn_B (gX3_laysRents ρ o x2 a5) fun _ a7 => fn_rc 31 (some this) a7 fun o => fn_B (gX3_told ρ o x2 (iI 1) a7) fun v9 a8 => if (iI 30) = iI 0 then none else fn_gA 31 23 (some this) a8 fun v11 => fn_sI 0 v11 x1 x3 a8 fun a12 => fnFix (fun _ _ _ _ _ => none) (gX3_lay_b55 ρ this) fnGas x1 (v9 / (iI 30)) (iI 0) (iI 0) a12
def gX3_laysAgenda_b206 (ρ : Nat → Nat) (this : Nat) (k206 : Int32 → Int32 → mS → Option (Unit × mS)) (x1 : Int32) (x2 : Int32) (a : mS) : Option (Unit × mS) :=
  fn_gA 31 0 (some this) a fun v1 => fn_aI 0 v1 (iI 203) a fun v2 => if v2 ≤ x2 then (some ((), a)) else fn_gA 31 0 (some this) a fun v3 => fn_aI 0 v3 (((iI 204) + ((iI 3) * x2)) + (iI 1)) a fun v4 => fn_rc 31 (some this) a fun o => fn_B (gX3_stand ρ o v4 (iI 4) x2 x1 a) fun _ a5 => k206 x1 (x2 + iI 1) a5
def gX3_laysAgenda_b198 (ρ : Nat → Nat) (this : Nat) (k129 : Int32 → Int32 → mS → Option (Unit × mS)) (x1 : Int32) (x2 : Int32) (a : mS) : Option (Unit × mS) :=
  k129 x1 (x2 + iI 1) a
def gX3_laysAgenda_b129 (ρ : Nat → Nat) (this : Nat) (k129 : Int32 → Int32 → mS → Option (Unit × mS)) (x1 : Int32) (x2 : Int32) (a : mS) : Option (Unit × mS) :=
  fn_gA 31 0 (some this) a fun v1 => fn_aI 0 v1 (iI 81) a fun v2 => if v2 ≤ x2 then (fnFix (fun _ _ _ => none) (gX3_laysAgenda_b206 ρ this) fnGas x1 (iI 0) a) else fn_gA 31 0 (some this) a fun v3 => fn_aI 0 v3 (((iI 82) + ((iI 4) * x2)) + (iI 2)) a fun v4 => fn_rc 31 (some this) a fun o => fn_B (gX3_stand ρ o v4 (iI 1) x2 x1 a) fun _ a5 => fn_gA 31 0 (some this) a5 fun v6 => fn_aI 0 v6 (((iI 82) + ((iI 4) * x2)) + (iI 3)) a5 fun v7 => if (iI 1000000) ≤ v7 then (gX3_laysAgenda_b198 ρ this k129 x1 x2 a5) else fn_gA 31 0 (some this) a5 fun v8 => fn_aI 0 v8 (((iI 82) + ((iI 4) * x2)) + (iI 3)) a5 fun v9 => fn_rc 31 (some this) a5 fun o => fn_B (gX3_stand ρ o v9 (iI 2) x2 x1 a5) fun _ a10 => gX3_laysAgenda_b198 ρ this k129 x1 x2 a10
def gX3_laysAgenda_b121 (ρ : Nat → Nat) (this : Nat) (k7 : Int32 → Int32 → mS → Option (Unit × mS)) (x1 : Int32) (x2 : Int32) (a : mS) : Option (Unit × mS) :=
  k7 x1 (x2 + iI 1) a
def gX3_laysAgenda_b107 (ρ : Nat → Nat) (this : Nat) (k7 : Int32 → Int32 → mS → Option (Unit × mS)) (x1 : Int32) (x2 : Int32) (x3 : Int32) (a : mS) : Option (Unit × mS) :=
  if (iI 1000000) ≤ x3 then (gX3_laysAgenda_b121 ρ this k7 x1 x2 a) else fn_rc 31 (some this) a fun o => fn_B (gX3_stand ρ o x3 (iI 3) x2 x1 a) fun _ a1 => gX3_laysAgenda_b121 ρ this k7 x1 x2 a1
def gX3_laysAgenda_b101 (ρ : Nat → Nat) (this : Nat) (k7 : Int32 → Int32 → mS → Option (Unit × mS)) (k54 : Int32 → Int32 → Int32 → Int32 → mS → Option (Unit × mS)) (x1 : Int32) (x2 : Int32) (x3 : Int32) (x4 : Int32) (a : mS) : Option (Unit × mS) :=
  k54 x1 x2 x3 (x4 + iI 1) a
def gX3_laysAgenda_b54 (ρ : Nat → Nat) (this : Nat) (k7 : Int32 → Int32 → mS → Option (Unit × mS)) (k54 : Int32 → Int32 → Int32 → Int32 → mS → Option (Unit × mS)) (x1 : Int32) (x2 : Int32) (x3 : Int32) (x4 : Int32) (a : mS) : Option (Unit × mS) :=
  if (iI 120) ≤ x4 then (gX3_laysAgenda_b107 ρ this k7 x1 x2 x3 a) else if x3 < ((iI 30) * x4) then (gX3_laysAgenda_b107 ρ this k7 x1 x2 x3 a) else fn_gA 31 17 (some this) a fun v1 => fn_aI 0 v1 x4 a fun v2 => fn_gA 31 17 (some this) a fun v3 => fn_aI 0 v3 (x4 - (iI 1)) a fun v4 => if v2 = v4 then (gX3_laysAgenda_b101 ρ this k7 k54 x1 x2 x3 x4 a) else fn_rc 31 (some this) a fun o => fn_B (gX3_stand ρ o ((iI 30) * x4) (iI 0) x2 x1 a) fun _ a5 => gX3_laysAgenda_b101 ρ this k7 k54 x1 x2 x3 x4 a5
def gX3_laysAgenda_b7 (ρ : Nat → Nat) (this : Nat) (k7 : Int32 → Int32 → mS → Option (Unit × mS)) (x1 : Int32) (x2 : Int32) (a : mS) : Option (Unit × mS) :=
  fn_gA 31 0 (some this) a fun v1 => fn_aI 0 v1 (iI 0) a fun v2 => if v2 ≤ x2 then (fnFix (fun _ _ _ => none) (gX3_laysAgenda_b129 ρ this) fnGas x1 (iI 0) a) else fn_rc 31 (some this) a fun o => fn_B (gX3_endOf ρ o x2 a) fun v4 a3 => fn_rc 31 (some this) a3 fun o => fn_B (gX3_told ρ o x2 (iI 1) a3) fun v6 a5 => if v6 ≤ v4 then (fn_rc 31 (some this) a5 fun o => fn_B (gX3_laysRents ρ o x2 a5) fun _ a7 => fn_rc 31 (some this) a7 fun o => fn_B (gX3_told ρ o x2 (iI 1) a7) fun v9 a8 => if (iI 30) = iI 0 then none else fnFix (fun _ _ _ _ _ => none) (gX3_laysAgenda_b54 ρ this k7) fnGas x1 x2 v4 ((v9 / (iI 30)) + (iI 1)) a8) else gX3_laysAgenda_b121 ρ this k7 x1 x2 a5
def gX3_laysAgenda (ρ : Nat → Nat) (this : Nat) (x1 : Int32) (a : mS) : Option (Unit × mS) :=
  fn_pI 31 21 (some this) (iI 0) a fun a1 => fnFix (fun _ _ _ => none) (gX3_laysAgenda_b7 ρ this) fnGas x1 (iI 0) a1
def gX3_lies_b194 (ρ : Nat → Nat) (this : Nat) (k33 : Int32 → Int64 → Int32 → Int32 → Int32 → mS → Option (Int64 × mS)) (x1 : Int32) (x3 : Int64) (x5 : Int32) (x6 : Int32) (x7 : Int32) (a : mS) : Option (Int64 × mS) :=
  k33 x1 x3 x5 x6 (x7 + iI 1) a
def gX3_lies_b146 (ρ : Nat → Nat) (this : Nat) (k33 : Int32 → Int64 → Int32 → Int32 → Int32 → mS → Option (Int64 × mS)) (k75 : Int32 → Int64 → Int32 → Int32 → Int32 → Int32 → mS → Option (Int64 × mS)) (x1 : Int32) (x5 : Int32) (x6 : Int32) (x7 : Int32) (x8 : Int32) (s0 : Int64) (s1 : Int64) (a : mS) : Option (Int64 × mS) :=
  k75 x1 (s0 + s1) x5 x6 x7 (x8 + iI 1) a
def gX3_lies_b145 (ρ : Nat → Nat) (this : Nat) (k33 : Int32 → Int64 → Int32 → Int32 → Int32 → mS → Option (Int64 × mS)) (k75 : Int32 → Int64 → Int32 → Int32 → Int32 → Int32 → mS → Option (Int64 × mS)) (x1 : Int32) (x5 : Int32) (x6 : Int32) (x7 : Int32) (x8 : Int32) (s0 : Int64) (a : mS) : Option (Int64 × mS) :=
  gX3_lies_b146 ρ this k33 k75 x1 x5 x6 x7 x8 s0 (lI 0) a
def gX3_lies_b75 (ρ : Nat → Nat) (this : Nat) (k33 : Int32 → Int64 → Int32 → Int32 → Int32 → mS → Option (Int64 × mS)) (k75 : Int32 → Int64 → Int32 → Int32 → Int32 → Int32 → mS → Option (Int64 × mS)) (x1 : Int32) (x3 : Int64) (x5 : Int32) (x6 : Int32) (x7 : Int32) (x8 : Int32) (a : mS) : Option (Int64 × mS) :=
  fn_gA 31 0 (some this) a fun v1 => fn_aI 0 v1 (iI 203) a fun v2 => if v2 ≤ x8 then (if (iI 30) = iI 0 then none else if (x7 - x7 / (iI 30) * (iI 30)) = (iI 29) then (if (lI 120000) = lI 0 then none else fn_gL 31 19 (some this) a fun v5 => fn_pL 31 19 (some this) (v5 + ((x3 * (x5.toInt64)) / (lI 120000))) a fun a6 => gX3_lies_b194 ρ this k33 x1 (x3 + ((x3 * (x5.toInt64)) / (lI 120000))) x5 x6 x7 a6) else gX3_lies_b194 ρ this k33 x1 x3 x5 x6 x7 a) else fn_gA 31 0 (some this) a fun v7 => fn_aI 0 v7 ((iI 204) + ((iI 3) * x8)) a fun v8 => if v8 = x1 then (fn_gA 31 0 (some this) a fun v9 => fn_aI 0 v9 (((iI 204) + ((iI 3) * x8)) + (iI 1)) a fun v10 => if v10 = x7 then (fn_gA 31 0 (some this) a fun v11 => fn_aI 0 v11 (((iI 204) + ((iI 3) * x8)) + (iI 2)) a fun v12 => gX3_lies_b146 ρ this k33 k75 x1 x5 x6 x7 x8 x3 (v12.toInt64) a) else gX3_lies_b145 ρ this k33 k75 x1 x5 x6 x7 x8 x3 a) else gX3_lies_b145 ρ this k33 k75 x1 x5 x6 x7 x8 x3 a
def gX3_lies_b70 (ρ : Nat → Nat) (this : Nat) (k33 : Int32 → Int64 → Int32 → Int32 → Int32 → mS → Option (Int64 × mS)) (x1 : Int32) (x3 : Int64) (x6 : Int32) (x7 : Int32) (s0 : Int32) (a : mS) : Option (Int64 × mS) :=
  fnFix (fun _ _ _ _ _ _ _ => none) (gX3_lies_b75 ρ this k33) fnGas x1 x3 s0 x6 x7 (iI 0) a
def gX3_lies_b33 (ρ : Nat → Nat) (this : Nat) (k33 : Int32 → Int64 → Int32 → Int32 → Int32 → mS → Option (Int64 × mS)) (x1 : Int32) (x3 : Int64) (x5 : Int32) (x6 : Int32) (x7 : Int32) (a : mS) : Option (Int64 × mS) :=
  if x6 < x7 then (some (x3, a)) else fn_gA 31 0 (some this) a fun v1 => fn_aI 0 v1 ((iI 360) + x7) a fun v2 => if v2 < iI 0 then (gX3_lies_b70 ρ this k33 x1 x3 x6 x7 x5 a) else fn_gA 31 0 (some this) a fun v3 => fn_aI 0 v3 ((iI 360) + x7) a fun v4 => gX3_lies_b70 ρ this k33 x1 x3 x6 x7 v4 a
def gX3_lies_b28 (ρ : Nat → Nat) (this : Nat) (x1 : Int32) (x3 : Int64) (x5 : Int32) (s0 : Int32) (a : mS) : Option (Int64 × mS) :=
  fnFix (fun _ _ _ _ _ _ => none) (gX3_lies_b33 ρ this) fnGas x1 x3 x5 s0 (iI 0) a
def gX3_lies (ρ : Nat → Nat) (this : Nat) (x1 : Int32) (x2 : Int32) (a : mS) : Option (Int64 × mS) :=
  fn_pL 31 19 (some this) (lI 0) a fun a1 => fn_rc 31 (some this) a1 fun o => fn_B (gX3_endOf ρ o x1 a1) fun v3 a2 => if v3 ≤ x2 then (fn_rc 31 (some this) a2 fun o => fn_B (gX3_endOf ρ o x1 a2) fun v5 a4 => gX3_lies_b28 ρ this x1 (lI 0) (iI 0) v5 a4) else gX3_lies_b28 ρ this x1 (lI 0) (iI 0) x2 a2
def gX3_like_b42 (ρ : Nat → Nat) (this : Nat) (k42 : Int32 → Int32 → Int32 → mS → Option (Int32 × mS)) (x1 : Int32) (x2 : Int32) (x3 : Int32) (a : mS) : Option (Int32 × mS) :=
  if (iI 12) ≤ x3 then (fn_gA 31 23 (some this) a fun v1 => fn_aI 0 v1 x2 a fun v2 => some (v2, a)) else fn_gA 31 22 (some this) a fun v3 => fn_gA 31 22 (some this) a fun v4 => fn_aI 0 v4 (((iI 12) * x1) + x3) a fun v5 => fn_sI 0 v3 (((iI 12) * x2) + x3) v5 a fun a6 => fn_gA 31 24 (some this) a6 fun v7 => fn_gA 31 24 (some this) a6 fun v8 => fn_aF 3 v8 (((iI 12) * x1) + x3) a6 fun v9 => fn_sF 3 v7 (((iI 12) * x2) + x3) v9 a6 fun a10 => k42 x1 x2 (x3 + iI 1) a10
def gX3_like (ρ : Nat → Nat) (this : Nat) (x1 : Int32) (x2 : Int32) (a : mS) : Option (Int32 × mS) :=
  fn_B (gX3_isRow ρ x1 a) fun v2 a1 => if v2 = iI 0 then (some ((iI (-1)), a1)) else fn_B (gX3_isRow ρ x2 a1) fun v4 a3 => if v4 = iI 0 then (some ((iI (-1)), a3)) else fn_gA 31 23 (some this) a3 fun v5 => fn_aI 0 v5 x1 a3 fun v6 => if iI 0 ≤ v6 then (fn_gA 31 23 (some this) a3 fun v7 => fn_gA 31 23 (some this) a3 fun v8 => fn_aI 0 v8 x1 a3 fun v9 => fn_sI 0 v7 x2 v9 a3 fun a10 => fnFix (fun _ _ _ _ => none) (gX3_like_b42 ρ this) fnGas x1 x2 (iI 0) a10) else some ((iI (-3)), a3)
def gX3_look (ρ : Nat → Nat) (this : Nat) (x1 : Int32) (x2 : Int32) (a : mS) : Option (Int32 × mS) :=
  fn_B (gX3_isRow ρ x1 a) fun v2 a1 => if v2 = iI 0 then (some ((iI (-1)), a1)) else fn_B (gX3_isIn ρ x2 (iI 0) (iI 11) a1) fun v4 a3 => if v4 = iI 0 then (some ((iI (-1)), a3)) else fn_gA 31 23 (some this) a3 fun v5 => fn_aI 0 v5 x1 a3 fun v6 => if iI 0 ≤ v6 then (fn_gA 31 23 (some this) a3 fun v7 => fn_aI 0 v7 x1 a3 fun v8 => if v8 = iI 0 then (fn_gA 31 22 (some this) a3 fun v9 => fn_aI 0 v9 (((iI 12) * x1) + x2) a3 fun v10 => some (v10, a3)) else fn_gA 31 24 (some this) a3 fun v11 => fn_aF 3 v11 (((iI 12) * x1) + x2) a3 fun v12 => fn_B (gJ26_floatToIntBits ρ v12 a3) fun v14 a13 => some (v14, a13)) else some ((iI (-3)), a3)
def gX3_mends (ρ : Nat → Nat) (this : Nat) (x1 : Int32) (x2 : Int32) (a : mS) : Option (Int32 × mS) :=
  fn_B (gX3_isDay ρ x2 a) fun v2 a1 => if v2 = iI 0 then (fn_rc 31 (some this) a1 fun o => fn_B (gX3_no ρ o (iI 2) a1) fun v4 a3 => some (v4, a3)) else fn_gA 31 0 (some this) a1 fun v5 => fn_aI 0 v5 (iI 81) a1 fun v6 => fn_B (gX3_isIn ρ x1 (iI 0) (v6 - (iI 1)) a1) fun v8 a7 => if v8 = iI 0 then (fn_rc 31 (some this) a7 fun o => fn_B (gX3_no ρ o (iI 6) a7) fun v10 a9 => some (v10, a9)) else fn_gA 31 0 (some this) a7 fun v11 => fn_aI 0 v11 (((iI 82) + ((iI 4) * x1)) + (iI 3)) a7 fun v12 => if v12 = (iI 1000000) then (fn_gA 31 0 (some this) a7 fun v13 => fn_aI 0 v13 (((iI 82) + ((iI 4) * x1)) + (iI 2)) a7 fun v14 => if v14 ≤ x2 then (fn_gA 31 0 (some this) a7 fun v15 => fn_sI 0 v15 (((iI 82) + ((iI 4) * x1)) + (iI 3)) x2 a7 fun a16 => fn_gA 31 0 (some this) a16 fun v17 => fn_aI 0 v17 (((iI 82) + ((iI 4) * x1)) + (iI 2)) a16 fun v18 => some ((x2 - v18), a16)) else fn_rc 31 (some this) a7 fun o => fn_B (gX3_no ρ o (iI 6) a7) fun v20 a19 => some (v20, a19)) else fn_rc 31 (some this) a7 fun o => fn_B (gX3_no ρ o (iI 6) a7) fun v22 a21 => some (v22, a21)
def gX3_of_b175 (ρ : Nat → Nat) (this : Nat) (k147 : Int32 → Int32 → Int32 → mS → Option (Int32 × mS)) (x1 : Int32) (x4 : Int32) (s0 : Int32) (s1 : Int32) (a : mS) : Option (Int32 × mS) :=
  k147 x1 (s0 + s1) (x4 + iI 1) a
def gX3_of_b147 (ρ : Nat → Nat) (this : Nat) (k147 : Int32 → Int32 → Int32 → mS → Option (Int32 × mS)) (x1 : Int32) (x3 : Int32) (x4 : Int32) (a : mS) : Option (Int32 × mS) :=
  fn_gA 31 0 (some this) a fun v1 => fn_aI 0 v1 (iI 0) a fun v2 => if v2 ≤ x4 then (some (x3, a)) else fn_rc 31 (some this) a fun o => fn_B (gX3_told ρ o x4 (iI 0) a) fun v4 a3 => if v4 = x1 then (gX3_of_b175 ρ this k147 x1 x4 x3 (iI 1) a3) else gX3_of_b175 ρ this k147 x1 x4 x3 (iI 0) a3
def gX3_of_b193 (ρ : Nat → Nat) (this : Nat) (k193 : Int32 → Int32 → mS → Option (Int32 × mS)) (x3 : Int32) (x4 : Int32) (a : mS) : Option (Int32 × mS) :=
  if x4 < iI 0 then (some (x3, a)) else fn_rc 31 (some this) a fun o => fn_B (gX3_told ρ o x4 (iI 0) a) fun v2 a1 => k193 (x3 + iI 1) v2 a1
def gX3_of (ρ : Nat → Nat) (this : Nat) (x1 : Int32) (x2 : Int32) (a : mS) : Option (Int32 × mS) :=
  fn_rc 31 (some this) a fun o => fn_B (gX3_isLease ρ o x1 a) fun v2 a1 => if v2 = iI 0 then (some ((iI (-1)), a1)) else fn_B (gX3_isIn ρ x2 (iI 0) (iI 9) a1) fun v4 a3 => if v4 = iI 0 then (some ((iI (-1)), a3)) else if x2 = iI 0 then (fn_rc 31 (some this) a3 fun o => fn_B (gX3_told ρ o x1 (iI 0) a3) fun v11 a10 => if iI 0 ≤ v11 then (fn_rc 31 (some this) a10 fun o => fn_B (gX3_told ρ o x1 (iI 0) a10) fun v13 a12 => some (v13, a12)) else some ((iI (-5)), a10)) else if x2 = iI 1 then (fn_rc 31 (some this) a3 fun o => fn_B (gX3_told ρ o x1 x2 a3) fun v16 a15 => some (v16, a15)) else if x2 = iI 2 then (fn_rc 31 (some this) a3 fun o => fn_B (gX3_told ρ o x1 x2 a3) fun v19 a18 => some (v19, a18)) else if x2 = iI 3 then (fn_rc 31 (some this) a3 fun o => fn_B (gX3_told ρ o x1 x2 a3) fun v22 a21 => some (v22, a21)) else if x2 = iI 4 then (fn_rc 31 (some this) a3 fun o => fn_B (gX3_told ρ o x1 x2 a3) fun v25 a24 => some (v25, a24)) else if x2 = iI 5 then (fn_rc 31 (some this) a3 fun o => fn_B (gX3_endOf ρ o x1 a3) fun v28 a27 => if v28 = (iI 1000000) then (some ((iI (-5)), a27)) else fn_rc 31 (some this) a27 fun o => fn_B (gX3_endOf ρ o x1 a27) fun v30 a29 => some (v30, a29)) else if x2 = iI 6 then (fn_rc 31 (some this) a3 fun o => fn_B (gX3_told ρ o x1 (iI 6) a3) fun v33 a32 => if iI 0 ≤ v33 then (fn_rc 31 (some this) a32 fun o => fn_B (gX3_told ρ o x1 (iI 6) a32) fun v35 a34 => some (v35, a34)) else some ((iI (-5)), a32)) else if x2 = iI 7 then (fnFix (fun _ _ _ _ => none) (gX3_of_b147 ρ this) fnGas x1 (iI 0) (iI 0) a3) else if x2 = iI 8 then (fn_rc 31 (some this) a3 fun o => fn_B (gX3_told ρ o x1 (iI 0) a3) fun v39 a38 => fnFix (fun _ _ _ => none) (gX3_of_b193 ρ this) fnGas (iI 0) v39 a38) else fn_rc 31 (some this) a3 fun o => fn_B (gX3_told ρ o x1 (iI 5) a3) fun v6 a5 => if iI 0 ≤ v6 then (fn_rc 31 (some this) a5 fun o => fn_B (gX3_told ρ o x1 (iI 5) a5) fun v8 a7 => some (v8, a7)) else some ((iI (-5)), a5)
def gX3_pays (ρ : Nat → Nat) (this : Nat) (x1 : Int32) (x2 : Int32) (x3 : Int32) (a : mS) : Option (Int32 × mS) :=
  fn_rc 31 (some this) a fun o => fn_B (gX3_isLease ρ o x1 a) fun v2 a1 => if v2 = iI 0 then (fn_rc 31 (some this) a1 fun o => fn_B (gX3_no ρ o (iI 1) a1) fun v4 a3 => some (v4, a3)) else fn_B (gX3_isDay ρ x2 a1) fun v6 a5 => if v6 = iI 0 then (fn_rc 31 (some this) a5 fun o => fn_B (gX3_no ρ o (iI 2) a5) fun v8 a7 => some (v8, a7)) else fn_B (gX3_isIn ρ x3 (iI 1) (iI 9999999) a5) fun v10 a9 => if v10 = iI 0 then (fn_rc 31 (some this) a9 fun o => fn_B (gX3_no ρ o (iI 2) a9) fun v12 a11 => some (v12, a11)) else fn_gA 31 0 (some this) a9 fun v13 => fn_aI 0 v13 (iI 130) a9 fun v14 => if v14 = (iI 24) then (fn_rc 31 (some this) a9 fun o => fn_B (gX3_no ρ o (iI 3) a9) fun v16 a15 => some (v16, a15)) else fn_gA 31 0 (some this) a9 fun v17 => fn_aI 0 v17 (iI 130) a9 fun v18 => fn_gA 31 0 (some this) a9 fun v19 => fn_sI 0 v19 ((iI 131) + ((iI 3) * v18)) x1 a9 fun a20 => fn_gA 31 0 (some this) a20 fun v21 => fn_sI 0 v21 (((iI 131) + ((iI 3) * v18)) + (iI 1)) x2 a20 fun a22 => fn_gA 31 0 (some this) a22 fun v23 => fn_sI 0 v23 (((iI 131) + ((iI 3) * v18)) + (iI 2)) x3 a22 fun a24 => fn_gA 31 0 (some this) a24 fun v25 => fn_aI 0 v25 (iI 130) a24 fun v26 => fn_sI 0 v25 (iI 130) (v26 + (iI 1)) a24 fun a27 => fn_gA 31 0 (some this) a27 fun v28 => fn_aI 0 v28 (iI 130) a27 fun v29 => some (v29, a27)
def gX3_put_b85 (ρ : Nat → Nat) (this : Nat) (x1 : Int32) (x2 : Int32) (x3 : Int32) (s0 : Int32) (a : mS) : Option (Int32 × mS) :=
  fn_gA 31 22 (some this) a fun v1 => fn_sI 0 v1 (((iI 12) * x1) + x2) x3 a fun a2 => fn_gA 31 24 (some this) a2 fun v3 => fn_sF 3 v3 (((iI 12) * x1) + x2) (FP.i2f x3) a2 fun a4 => if s0 = iI 0 then (some ((iI 0), a4)) else some ((iI 1), a4)
def gX3_put (ρ : Nat → Nat) (this : Nat) (x1 : Int32) (x2 : Int32) (x3 : Int32) (a : mS) : Option (Int32 × mS) :=
  fn_B (gX3_isRow ρ x1 a) fun v2 a1 => if v2 = iI 0 then (some ((iI (-1)), a1)) else fn_B (gX3_isIn ρ x2 (iI 0) (iI 11) a1) fun v4 a3 => if v4 = iI 0 then (some ((iI (-1)), a3)) else fn_gA 31 23 (some this) a3 fun v5 => fn_aI 0 v5 x1 a3 fun v6 => if iI 0 ≤ v6 then (fn_gA 31 23 (some this) a3 fun v7 => fn_aI 0 v7 x1 a3 fun v8 => if v8 = iI 0 then (fn_gA 31 22 (some this) a3 fun v9 => fn_aI 0 v9 (((iI 12) * x1) + x2) a3 fun v10 => if v10 = x3 then (gX3_put_b85 ρ this x1 x2 x3 (iI 0) a3) else gX3_put_b85 ρ this x1 x2 x3 (iI 1) a3) else fn_gA 31 24 (some this) a3 fun v11 => fn_aF 3 v11 (((iI 12) * x1) + x2) a3 fun v12 => if (Op.cmpValue (FP.fcmp v12 (FP.i2f x3)) .l) = iI 0 then (gX3_put_b85 ρ this x1 x2 x3 (iI 0) a3) else gX3_put_b85 ρ this x1 x2 x3 (iI 1) a3) else some ((iI (-3)), a3)
def gX3_rate_b28 (ρ : Nat → Nat) (this : Nat) (x1 : Int32) (x2 : Int32) (s0 : Option Nat) (s1 : Int32) (a : mS) : Option (Int32 × mS) :=
  fn_pI 31 8 s0 s1 a fun a1 => fn_gI 31 8 (some this) a1 fun v2 => if v2 ≤ iI 0 then (fn_rc 31 (some this) a1 fun o => fn_B (gX3_rateOn ρ o x1 a1) fun v4 a3 => fn_gA 31 0 (some this) a3 fun v5 => fn_sI 0 v5 ((iI 360) + x1) x2 a3 fun a6 => fn_rc 31 (some this) a6 fun o => fn_B (gX3_closes ρ o v4 a6) fun v8 a7 => some (v8, a7)) else fn_rc 31 (some this) a1 fun o => fn_B (gX3_closes ρ o (iI 0) a1) fun v10 a9 => some (v10, a9)
def gX3_rate_b27 (ρ : Nat → Nat) (this : Nat) (x1 : Int32) (x2 : Int32) (s0 : Option Nat) (a : mS) : Option (Int32 × mS) :=
  gX3_rate_b28 ρ this x1 x2 s0 (iI 2) a
def gX3_rate (ρ : Nat → Nat) (this : Nat) (x1 : Int32) (x2 : Int32) (a : mS) : Option (Int32 × mS) :=
  fn_rc 31 (some this) a fun o => fn_B (gX3_begins ρ o a) fun _ a1 => fn_B (gX3_isDay ρ x1 a1) fun v3 a2 => if v3 = iI 0 then (gX3_rate_b27 ρ this x1 x2 (some this) a2) else fn_B (gX3_isIn ρ x2 (iI 0) (iI 2000) a2) fun v5 a4 => if v5 = iI 0 then (gX3_rate_b27 ρ this x1 x2 (some this) a4) else gX3_rate_b28 ρ this x1 x2 (some this) (iI 0) a4
def gX3_reads_b258 (ρ : Nat → Nat) (this : Nat) (x1 : Int32) (s0 : Option Nat) (s1 : Int32) (a : mS) : Option (Unit × mS) :=
  fn_rc 31 s0 a fun o => fn_B (gX3_sign ρ o s1 a) fun _ a1 => fn_gA 31 13 (some this) a1 fun v2 => fn_rc 31 (some this) a1 fun o => fn_B (gX3_number ρ o (iI 7) a1) fun v4 a3 => fn_sI 0 v2 x1 v4 a3 fun a5 => some ((), a5)
def gX3_reads_b218 (ρ : Nat → Nat) (this : Nat) (s0 : Option Nat) (s1 : Int32) (s2 : Int32) (a : mS) : Option (Unit × mS) :=
  fn_pZ 31 16 s0 (s1 ||| s2) a fun a1 => fn_gI 31 15 (some this) a1 fun v2 => fn_gI 31 16 (some this) a1 fun v3 => if v3 = iI 0 then (fn_pI 31 15 (some this) (v2 + (iI 1)) a1 fun a4 => some ((), a4)) else fn_pI 31 15 (some this) (v2 + (iI 0)) a1 fun a5 => some ((), a5)
def gX3_reads_b217 (ρ : Nat → Nat) (this : Nat) (s0 : Option Nat) (s1 : Int32) (a : mS) : Option (Unit × mS) :=
  gX3_reads_b218 ρ this s0 s1 (iI 0) a
def gX3_reads_b189 (ρ : Nat → Nat) (this : Nat) (s0 : Option Nat) (s1 : Int32) (s2 : Int32) (a : mS) : Option (Unit × mS) :=
  fn_sI 0 s0 s1 s2 a fun a1 => fn_gI 31 16 (some this) a1 fun v2 => fn_rc 31 (some this) a1 fun o => fn_B (gX3_here ρ o a1) fun v4 a3 => if v4 = (iI 116) then (gX3_reads_b217 ρ this (some this) v2 a3) else fn_rc 31 (some this) a3 fun o => fn_B (gX3_here ρ o a3) fun v6 a5 => if v6 = (iI 108) then (gX3_reads_b217 ρ this (some this) v2 a5) else gX3_reads_b218 ρ this (some this) v2 (iI 1) a5
def gX3_reads_b129 (ρ : Nat → Nat) (this : Nat) (x1 : Int32) (x2 : Int32) (s0 : Option Nat) (s1 : Int32) (a : mS) : Option (Unit × mS) :=
  fn_rc 31 s0 a fun o => fn_B (gX3_sign ρ o s1 a) fun _ a1 => fn_gA 31 12 (some this) a1 fun v2 => fn_rc 31 (some this) a1 fun o => fn_B (gX3_number ρ o (iI 7) a1) fun v4 a3 => fn_sI 0 v2 x1 v4 a3 fun a5 => if x2 = (iI 105) then (some ((), a5)) else if x2 = (iI 114) then (some ((), a5)) else fn_gI 31 16 (some this) a5 fun v6 => if v6 = iI 0 then (if x2 = (iI 110) then (fn_gA 31 13 (some this) a5 fun v7 => fn_rc 31 (some this) a5 fun o => fn_B (gX3_here ρ o a5) fun v9 a8 => if v9 = (iI 108) then (gX3_reads_b189 ρ this v7 x1 (iI 1) a8) else gX3_reads_b189 ρ this v7 x1 (iI 0) a8) else if x2 = (iI 112) then (gX3_reads_b258 ρ this x1 (some this) (iI 43) a5) else gX3_reads_b258 ρ this x1 (some this) (iI 45) a5) else some ((), a5)
def gX3_reads_b104 (ρ : Nat → Nat) (this : Nat) (x1 : Int32) (x2 : Int32) (s0 : Option Nat) (s1 : Int32) (s2 : Option Nat) (s3 : Int32) (a : mS) : Option (Unit × mS) :=
  fn_rc 31 s2 a fun o => fn_B (gX3_number ρ o s3 a) fun v2 a1 => fn_sI 0 s0 s1 v2 a1 fun a3 => if x2 = (iI 119) then (some ((), a3)) else if x2 = (iI 105) then (gX3_reads_b129 ρ this x1 x2 (some this) (iI 61) a3) else gX3_reads_b129 ρ this x1 x2 (some this) (iI 64) a3
def gX3_reads_b98 (ρ : Nat → Nat) (this : Nat) (x1 : Int32) (x2 : Int32) (s0 : Option Nat) (s1 : Int32) (s2 : Option Nat) (a : mS) : Option (Unit × mS) :=
  gX3_reads_b104 ρ this x1 x2 s0 s1 s2 (iI 7) a
def gX3_reads_b51 (ρ : Nat → Nat) (this : Nat) (x1 : Int32) (x2 : Int32) (s0 : Option Nat) (s1 : Int32) (s2 : Int32) (a : mS) : Option (Unit × mS) :=
  fn_pZ 31 16 s0 (s1 ||| s2) a fun a1 => fn_gI 31 16 (some this) a1 fun v2 => if v2 = iI 0 then (fn_gI 31 15 (some this) a1 fun v3 => fn_pI 31 15 (some this) (v3 + (iI 1)) a1 fun a4 => fn_gA 31 10 (some this) a4 fun v5 => fn_sI 0 v5 x1 x2 a4 fun a6 => fn_gA 31 11 (some this) a6 fun v7 => if x2 = (iI 105) then (gX3_reads_b98 ρ this x1 x2 v7 x1 (some this) a6) else if x2 = (iI 114) then (gX3_reads_b98 ρ this x1 x2 v7 x1 (some this) a6) else gX3_reads_b104 ρ this x1 x2 v7 x1 (some this) (iI 1) a6) else some ((), a1)
def gX3_reads_b50 (ρ : Nat → Nat) (this : Nat) (x1 : Int32) (x2 : Int32) (s0 : Option Nat) (s1 : Int32) (a : mS) : Option (Unit × mS) :=
  gX3_reads_b51 ρ this x1 x2 s0 s1 (iI 0) a
def gX3_reads (ρ : Nat → Nat) (this : Nat) (x1 : Int32) (a : mS) : Option (Unit × mS) :=
  fn_rc 31 (some this) a fun o => fn_B (gX3_here ρ o a) fun v2 a1 => fn_gI 31 16 (some this) a1 fun v3 => if v2 = (iI 105) then (gX3_reads_b50 ρ this x1 v2 (some this) v3 a1) else if v2 = (iI 112) then (gX3_reads_b50 ρ this x1 v2 (some this) v3 a1) else if v2 = (iI 100) then (gX3_reads_b50 ρ this x1 v2 (some this) v3 a1) else if v2 = (iI 114) then (gX3_reads_b50 ρ this x1 v2 (some this) v3 a1) else if v2 = (iI 110) then (gX3_reads_b50 ρ this x1 v2 (some this) v3 a1) else if v2 = (iI 119) then (gX3_reads_b50 ρ this x1 v2 (some this) v3 a1) else gX3_reads_b51 ρ this x1 v2 (some this) v3 (iI 1) a1
def gX3_reduction (ρ : Nat → Nat) (this : Nat) (x1 : Int32) (x2 : Int32) (a : mS) : Option (Int32 × mS) :=
  fn_rc 31 (some this) a fun o => fn_B (gX3_isLease ρ o x1 a) fun v2 a1 => if v2 = iI 0 then (some ((iI (-1)), a1)) else fn_B (gX3_isDay ρ x2 a1) fun v4 a3 => if v4 = iI 0 then (some ((iI (-2)), a3)) else fn_rc 31 (some this) a3 fun o => fn_B (gX3_findsDefects ρ o x1 a3) fun _ a5 => fn_rc 31 (some this) a5 fun o => fn_B (gX3_reductionOn ρ o x2 a5) fun v7 a6 => some (v7, a6)
def gX3_rent (ρ : Nat → Nat) (this : Nat) (x1 : Int32) (x2 : Int32) (a : mS) : Option (Int32 × mS) :=
  fn_rc 31 (some this) a fun o => fn_B (gX3_isLease ρ o x1 a) fun v2 a1 => if v2 = iI 0 then (some ((iI (-1)), a1)) else fn_B (gX3_isIn ρ x2 (iI 0) (iI 119) a1) fun v4 a3 => if v4 = iI 0 then (some ((iI (-2)), a3)) else fn_rc 31 (some this) a3 fun o => fn_B (gX3_told ρ o x1 (iI 1) a3) fun v6 a5 => if (iI 30) = iI 0 then none else if (v6 / (iI 30)) ≤ x2 then (fn_rc 31 (some this) a5 fun o => fn_B (gX3_laysRents ρ o x1 a5) fun _ a8 => fn_gA 31 17 (some this) a8 fun v9 => fn_aI 0 v9 x2 a8 fun v10 => some (v10, a8)) else some ((iI (-5)), a5)
def gX3_runs (ρ : Nat → Nat) (this : Nat) (x1 : Int32) (x2 : Int32) (a : mS) : Option (Int32 × mS) :=
  fn_rc 31 (some this) a fun o => fn_B (gX3_told ρ o x1 (iI 1) a) fun v2 a1 => if x2 < v2 then (fn_rZ (iI 0) a1) else fn_rc 31 (some this) a1 fun o => fn_B (gX3_endOf ρ o x1 a1) fun v4 a3 => if v4 < x2 then (fn_rZ (iI 0) a3) else fn_rZ (iI 1) a3
def gX3_units_b98 (ρ : Nat → Nat) (this : Nat) (k59 : Int32 → Int32 → Int64 → Int32 → mS → Option (Int64 × mS)) (x4 : Int32) (x6 : Int32) (x9 : Int32) (s0 : Int64) (s1 : Int64) (s2 : Int32) (a : mS) : Option (Int64 × mS) :=
  k59 x4 x6 (s0 + (s1 * (s2.toInt64))) (x9 + iI 1) a
def gX3_units_b59 (ρ : Nat → Nat) (this : Nat) (k59 : Int32 → Int32 → Int64 → Int32 → mS → Option (Int64 × mS)) (x4 : Int32) (x6 : Int32) (x7 : Int64) (x9 : Int32) (a : mS) : Option (Int64 × mS) :=
  if x6 < x9 then (some (x7, a)) else fn_gA 31 17 (some this) a fun v1 => if (iI 30) = iI 0 then none else fn_aI 0 v1 (x9 / (iI 30)) a fun v3 => if x4 = iI 0 then (fn_rc 31 (some this) a fun o => fn_B (gX3_reductionOn ρ o x9 a) fun v5 a4 => gX3_units_b98 ρ this k59 x4 x6 x9 x7 (v3.toInt64) ((iI 100) - v5) a4) else gX3_units_b98 ρ this k59 x4 x6 x9 x7 (v3.toInt64) (iI 100) a
def gX3_units_b50 (ρ : Nat → Nat) (this : Nat) (x4 : Int32) (x5 : Int32) (s0 : Int32) (a : mS) : Option (Int64 × mS) :=
  fnFix (fun _ _ _ _ _ => none) (gX3_units_b59 ρ this) fnGas x4 s0 (lI 0) x5 a
def gX3_units_b30 (ρ : Nat → Nat) (this : Nat) (x1 : Int32) (x3 : Int32) (x4 : Int32) (s0 : Int32) (a : mS) : Option (Int64 × mS) :=
  fn_rc 31 (some this) a fun o => fn_B (gX3_endOf ρ o x1 a) fun v2 a1 => if v2 ≤ x3 then (fn_rc 31 (some this) a1 fun o => fn_B (gX3_endOf ρ o x1 a1) fun v4 a3 => gX3_units_b50 ρ this x4 s0 v4 a3) else gX3_units_b50 ρ this x4 s0 x3 a1
def gX3_units (ρ : Nat → Nat) (this : Nat) (x1 : Int32) (x2 : Int32) (x3 : Int32) (x4 : Int32) (a : mS) : Option (Int64 × mS) :=
  fn_rc 31 (some this) a fun o => fn_B (gX3_laysRents ρ o x1 a) fun _ a1 => fn_rc 31 (some this) a1 fun o => fn_B (gX3_findsDefects ρ o x1 a1) fun _ a2 => fn_rc 31 (some this) a2 fun o => fn_B (gX3_told ρ o x1 (iI 1) a2) fun v4 a3 => if x2 ≤ v4 then (fn_rc 31 (some this) a3 fun o => fn_B (gX3_told ρ o x1 (iI 1) a3) fun v6 a5 => gX3_units_b30 ρ this x1 x3 x4 v6 a5) else gX3_units_b30 ρ this x1 x3 x4 x2 a3
def gX3_agenda_b20 (ρ : Nat → Nat) (this : Nat) (x1 : Int32) (x2 : Int32) (x3 : Int32) (a : mS) : Option (Int32 × mS) :=
  fn_B (gX3_isDay ρ x1 a) fun v2 a1 => if v2 = iI 0 then (some ((iI (-2)), a1)) else fn_rc 31 (some this) a1 fun o => fn_B (gX3_laysAgenda ρ o x1 a1) fun _ a3 => if iI 0 ≤ x2 then (fn_gI 31 21 (some this) a3 fun v4 => if v4 ≤ x2 then (some ((iI (-5)), a3)) else fn_gA 31 20 (some this) a3 fun v5 => fn_aI 0 v5 (((iI 3) * x2) + x3) a3 fun v6 => some (v6, a3)) else fn_gI 31 21 (some this) a3 fun v7 => some (v7, a3)
def gX3_agenda (ρ : Nat → Nat) (this : Nat) (x1 : Int32) (x2 : Int32) (x3 : Int32) (a : mS) : Option (Int32 × mS) :=
  if x2 < (iI (-1)) then (some ((iI (-1)), a)) else if x2 < iI 0 then (gX3_agenda_b20 ρ this x1 x2 x3 a) else fn_B (gX3_isIn ρ x3 (iI 0) (iI 2) a) fun v2 a1 => if v2 = iI 0 then (some ((iI (-1)), a1)) else gX3_agenda_b20 ρ this x1 x2 x3 a1
def gX3_clause (ρ : Nat → Nat) (this : Nat) (x1 : Int32) (x2 : Int32) (x3 : Int32) (a : mS) : Option (Int32 × mS) :=
  fn_rc 31 (some this) a fun o => fn_B (gX3_begins ρ o a) fun _ a1 => fn_pI 31 8 (some this) (iI 0) a1 fun a2 => fn_rc 31 (some this) a2 fun o => fn_B (gX3_clauses ρ o x1 x2 x3 a2) fun v4 a3 => fn_rc 31 (some this) a3 fun o => fn_B (gX3_closes ρ o v4 a3) fun v6 a5 => some (v6, a5)
def gX3_defect (ρ : Nat → Nat) (this : Nat) (x1 : Int32) (x2 : Int32) (x3 : Int32) (a : mS) : Option (Int32 × mS) :=
  fn_rc 31 (some this) a fun o => fn_B (gX3_begins ρ o a) fun _ a1 => fn_pI 31 8 (some this) (iI 0) a1 fun a2 => fn_rc 31 (some this) a2 fun o => fn_B (gX3_faults ρ o x1 x2 x3 a2) fun v4 a3 => fn_rc 31 (some this) a3 fun o => fn_B (gX3_closes ρ o v4 a3) fun v6 a5 => some (v6, a5)
def gX3_deposited (ρ : Nat → Nat) (this : Nat) (x1 : Int32) (x2 : Int32) (x3 : Int32) (a : mS) : Option (Int64 × mS) :=
  fn_rc 31 (some this) a fun o => fn_B (gX3_isLease ρ o x1 a) fun v2 a1 => if v2 = iI 0 then (some ((lI (-9223372036854775808)), a1)) else fn_B (gX3_isDay ρ x2 a1) fun v4 a3 => if v4 = iI 0 then (some ((lI (-9223372036854775808)), a3)) else fn_B (gX3_isIn ρ x3 (iI 0) (iI 1) a3) fun v6 a5 => if v6 = iI 0 then (some ((lI (-9223372036854775808)), a5)) else fn_rc 31 (some this) a5 fun o => fn_B (gX3_lies ρ o x1 x2 a5) fun v8 a7 => if x3 = (iI 1) then (fn_gL 31 19 (some this) a7 fun v9 => some (v9, a7)) else some (v8, a7)
def gX3_dueUntil (ρ : Nat → Nat) (this : Nat) (x1 : Int32) (x2 : Int32) (a : mS) : Option (Int32 × mS) :=
  fn_rc 31 (some this) a fun o => fn_B (gX3_units ρ o x1 (iI 0) x2 (iI 0) a) fun v2 a1 => if (lI 3000) = lI 0 then none else some (((v2 / (lI 3000)).toInt32), a1)
def gX3_gives_b133 (ρ : Nat → Nat) (this : Nat) (x1 : Int32) (x2 : Int32) (x3 : Int32) (s0 : Int32) (s1 : Int32) (a : mS) : Option (Int32 × mS) :=
  fn_rc 31 (some this) a fun o => fn_B (gX3_puts ρ o x1 (iI 5) x2 a) fun _ a1 => fn_rc 31 (some this) a1 fun o => fn_B (gX3_puts ρ o x1 (iI 6) x3 a1) fun _ a2 => fn_rc 31 (some this) a2 fun o => fn_B (gX3_puts ρ o x1 (iI 7) (((iI 30) * (s0 - s1)) + (iI 29)) a2) fun _ a3 => fn_rc 31 (some this) a3 fun o => fn_B (gX3_told ρ o x1 (iI 7) a3) fun v5 a4 => some (v5, a4)
def gX3_gives_b111 (ρ : Nat → Nat) (this : Nat) (x1 : Int32) (x2 : Int32) (x3 : Int32) (s0 : Int32) (a : mS) : Option (Int32 × mS) :=
  if (iI 30) = iI 0 then none else if (iI 30) = iI 0 then none else if (iI 3) ≤ (x2 - x2 / (iI 30) * (iI 30)) then (gX3_gives_b133 ρ this x1 x2 x3 ((x2 / (iI 30)) + s0) (iI 0) a) else gX3_gives_b133 ρ this x1 x2 x3 ((x2 / (iI 30)) + s0) (iI 1) a
def gX3_gives_b93 (ρ : Nat → Nat) (this : Nat) (x1 : Int32) (x2 : Int32) (x3 : Int32) (a : mS) : Option (Int32 × mS) :=
  gX3_gives_b111 ρ this x1 x2 x3 (iI 3) a
def gX3_gives (ρ : Nat → Nat) (this : Nat) (x1 : Int32) (x2 : Int32) (x3 : Int32) (a : mS) : Option (Int32 × mS) :=
  fn_rc 31 (some this) a fun o => fn_B (gX3_isLease ρ o x1 a) fun v2 a1 => if v2 = iI 0 then (fn_rc 31 (some this) a1 fun o => fn_B (gX3_no ρ o (iI 1) a1) fun v4 a3 => some (v4, a3)) else fn_B (gX3_isDay ρ x2 a1) fun v6 a5 => if v6 = iI 0 then (fn_rc 31 (some this) a5 fun o => fn_B (gX3_no ρ o (iI 2) a5) fun v8 a7 => some (v8, a7)) else fn_B (gX3_isIn ρ x3 (iI 0) (iI 1) a5) fun v10 a9 => if v10 = iI 0 then (fn_rc 31 (some this) a9 fun o => fn_B (gX3_no ρ o (iI 2) a9) fun v12 a11 => some (v12, a11)) else fn_rc 31 (some this) a9 fun o => fn_B (gX3_runs ρ o x1 x2 a9) fun v14 a13 => if v14 = iI 0 then (fn_rc 31 (some this) a13 fun o => fn_B (gX3_no ρ o (iI 4) a13) fun v16 a15 => some (v16, a15)) else fn_rc 31 (some this) a13 fun o => fn_B (gX3_told ρ o x1 (iI 5) a13) fun v18 a17 => if v18 < iI 0 then (if (iI 30) = iI 0 then none else fn_rc 31 (some this) a17 fun o => fn_B (gX3_told ρ o x1 (iI 1) a17) fun v21 a20 => if (iI 30) = iI 0 then none else if x3 = iI 0 then (gX3_gives_b93 ρ this x1 x2 x3 a20) else if (iI 60) ≤ ((x2 / (iI 30)) - (v21 / (iI 30))) then (if (iI 96) ≤ ((x2 / (iI 30)) - (v21 / (iI 30))) then (gX3_gives_b111 ρ this x1 x2 x3 (iI 9) a20) else gX3_gives_b111 ρ this x1 x2 x3 (iI 6) a20) else gX3_gives_b93 ρ this x1 x2 x3 a20) else fn_rc 31 (some this) a17 fun o => fn_B (gX3_no ρ o (iI 5) a17) fun v24 a23 => some (v24, a23)
def gX3_lays (ρ : Nat → Nat) (this : Nat) (x1 : Int32) (x2 : Int32) (x3 : Int32) (a : mS) : Option (Int32 × mS) :=
  fn_rc 31 (some this) a fun o => fn_B (gX3_isLease ρ o x1 a) fun v2 a1 => if v2 = iI 0 then (fn_rc 31 (some this) a1 fun o => fn_B (gX3_no ρ o (iI 1) a1) fun v4 a3 => some (v4, a3)) else fn_B (gX3_isDay ρ x2 a1) fun v6 a5 => if v6 = iI 0 then (fn_rc 31 (some this) a5 fun o => fn_B (gX3_no ρ o (iI 2) a5) fun v8 a7 => some (v8, a7)) else fn_B (gX3_isIn ρ x3 (iI 1) (iI 9999999) a5) fun v10 a9 => if v10 = iI 0 then (fn_rc 31 (some this) a9 fun o => fn_B (gX3_no ρ o (iI 2) a9) fun v12 a11 => some (v12, a11)) else fn_gA 31 0 (some this) a9 fun v13 => fn_aI 0 v13 (iI 203) a9 fun v14 => if v14 = (iI 12) then (fn_rc 31 (some this) a9 fun o => fn_B (gX3_no ρ o (iI 3) a9) fun v16 a15 => some (v16, a15)) else fn_rc 31 (some this) a9 fun o => fn_B (gX3_runs ρ o x1 x2 a9) fun v18 a17 => if v18 = iI 0 then (fn_rc 31 (some this) a17 fun o => fn_B (gX3_no ρ o (iI 4) a17) fun v20 a19 => some (v20, a19)) else fn_gA 31 0 (some this) a17 fun v21 => fn_aI 0 v21 (iI 203) a17 fun v22 => fn_gA 31 0 (some this) a17 fun v23 => fn_sI 0 v23 ((iI 204) + ((iI 3) * v22)) x1 a17 fun a24 => fn_gA 31 0 (some this) a24 fun v25 => fn_sI 0 v25 (((iI 204) + ((iI 3) * v22)) + (iI 1)) x2 a24 fun a26 => fn_gA 31 0 (some this) a26 fun v27 => fn_sI 0 v27 (((iI 204) + ((iI 3) * v22)) + (iI 2)) x3 a26 fun a28 => fn_gA 31 0 (some this) a28 fun v29 => fn_aI 0 v29 (iI 203) a28 fun v30 => fn_sI 0 v29 (iI 203) (v30 + (iI 1)) a28 fun a31 => fn_gA 31 0 (some this) a31 fun v32 => fn_aI 0 v32 (iI 203) a31 fun v33 => some ((v33 - (iI 1)), a31)
def gX3_left (ρ : Nat → Nat) (this : Nat) (x1 : Int32) (x2 : Int32) (x3 : Int32) (a : mS) : Option (Int32 × mS) :=
  fn_rc 31 (some this) a fun o => fn_B (gX3_isLease ρ o x1 a) fun v2 a1 => if v2 = iI 0 then (some ((iI (-1)), a1)) else fn_B (gX3_isDay ρ x2 a1) fun v4 a3 => if v4 = iI 0 then (some ((iI (-2)), a3)) else fn_B (gX3_isDay ρ x3 a3) fun v6 a5 => if v6 = iI 0 then (some ((iI (-2)), a5)) else if x2 ≤ x3 then (fn_rc 31 (some this) a5 fun o => fn_B (gX3_units ρ o x1 x2 x3 (iI 1) a5) fun v8 a7 => if (lg_cmp v8 (lI 0)) = iI 0 then (some ((iI (-5)), a7)) else fn_rc 31 (some this) a7 fun o => fn_B (gX3_units ρ o x1 x2 x3 (iI 0) a7) fun v10 a9 => if fn_n32 (FP.fdiv (FP.l2f v10) (FP.l2f v8)) = true then (fn_B (gJ26_floatToIntBits ρ (FP.fdiv (FP.l2f v10) (FP.l2f v8)) a9) fun v13 a12 => some (v13, a12)) else none) else some ((iI (-2)), a5)
def gX3_makes_b99 (ρ : Nat → Nat) (this : Nat) (k99 : Int32 → Int32 → Int32 → Int32 → Int32 → mS → Option (Int32 × mS)) (x1 : Int32) (x2 : Int32) (x3 : Int32) (x4 : Int32) (x5 : Int32) (a : mS) : Option (Int32 × mS) :=
  if (iI 8) ≤ x5 then (fn_rc 31 (some this) a fun o => fn_B (gX3_puts ρ o x4 (iI 0) x1 a) fun _ a1 => fn_rc 31 (some this) a1 fun o => fn_B (gX3_puts ρ o x4 (iI 1) x2 a1) fun _ a2 => fn_rc 31 (some this) a2 fun o => fn_B (gX3_puts ρ o x4 (iI 2) x3 a2) fun _ a3 => fn_rc 31 (some this) a3 fun o => fn_B (gX3_puts ρ o x4 (iI 5) (iI (-1)) a3) fun _ a4 => fn_rc 31 (some this) a4 fun o => fn_B (gX3_puts ρ o x4 (iI 6) (iI (-1)) a4) fun _ a5 => fn_rc 31 (some this) a5 fun o => fn_B (gX3_puts ρ o x4 (iI 7) (iI 1000000) a5) fun _ a6 => some (x4, a6)) else fn_rc 31 (some this) a fun o => fn_B (gX3_puts ρ o x4 x5 (iI 0) a) fun _ a7 => k99 x1 x2 x3 x4 (x5 + iI 1) a7
def gX3_makes_b78 (ρ : Nat → Nat) (this : Nat) (x1 : Int32) (x2 : Int32) (x3 : Int32) (a : mS) : Option (Int32 × mS) :=
  fn_gA 31 0 (some this) a fun v1 => fn_aI 0 v1 (iI 0) a fun v2 => fn_gA 31 0 (some this) a fun v3 => fn_aI 0 v3 (iI 0) a fun v4 => fn_sI 0 v3 (iI 0) (v4 + (iI 1)) a fun a5 => fnFix (fun _ _ _ _ _ _ => none) (gX3_makes_b99 ρ this) fnGas x1 x2 x3 v2 (iI 0) a5
def gX3_makes_b19 (ρ : Nat → Nat) (this : Nat) (x1 : Int32) (x2 : Int32) (x3 : Int32) (a : mS) : Option (Int32 × mS) :=
  fn_B (gX3_isDay ρ x2 a) fun v2 a1 => if v2 = iI 0 then (fn_rc 31 (some this) a1 fun o => fn_B (gX3_no ρ o (iI 2) a1) fun v4 a3 => some (v4, a3)) else fn_B (gX3_isIn ρ x3 (iI 1) (iI 1000000) a1) fun v6 a5 => if v6 = iI 0 then (fn_rc 31 (some this) a5 fun o => fn_B (gX3_no ρ o (iI 2) a5) fun v8 a7 => some (v8, a7)) else fn_gA 31 0 (some this) a5 fun v9 => fn_aI 0 v9 (iI 0) a5 fun v10 => if v10 = (iI 10) then (fn_rc 31 (some this) a5 fun o => fn_B (gX3_no ρ o (iI 3) a5) fun v12 a11 => some (v12, a11)) else if x1 < iI 0 then (gX3_makes_b78 ρ this x1 x2 x3 a5) else fn_rc 31 (some this) a5 fun o => fn_B (gX3_runs ρ o x1 x2 a5) fun v14 a13 => if v14 = iI 0 then (fn_rc 31 (some this) a13 fun o => fn_B (gX3_no ρ o (iI 4) a13) fun v16 a15 => some (v16, a15)) else gX3_makes_b78 ρ this x1 x2 x3 a13
def gX3_makes (ρ : Nat → Nat) (this : Nat) (x1 : Int32) (x2 : Int32) (x3 : Int32) (a : mS) : Option (Int32 × mS) :=
  if x1 = (iI (-1)) then (gX3_makes_b19 ρ this x1 x2 x3 a) else fn_rc 31 (some this) a fun o => fn_B (gX3_isLease ρ o x1 a) fun v2 a1 => if v2 = iI 0 then (fn_rc 31 (some this) a1 fun o => fn_B (gX3_no ρ o (iI 1) a1) fun v4 a3 => some (v4, a3)) else gX3_makes_b19 ρ this x1 x2 x3 a1
def gX3_pay (ρ : Nat → Nat) (this : Nat) (x1 : Int32) (x2 : Int32) (x3 : Int32) (a : mS) : Option (Int32 × mS) :=
  fn_rc 31 (some this) a fun o => fn_B (gX3_begins ρ o a) fun _ a1 => fn_pI 31 8 (some this) (iI 0) a1 fun a2 => fn_rc 31 (some this) a2 fun o => fn_B (gX3_pays ρ o x1 x2 x3 a2) fun v4 a3 => fn_rc 31 (some this) a3 fun o => fn_B (gX3_closes ρ o v4 a3) fun v6 a5 => some (v6, a5)
def gX3_repair (ρ : Nat → Nat) (this : Nat) (x1 : Int32) (x2 : Int32) (a : mS) : Option (Int32 × mS) :=
  fn_rc 31 (some this) a fun o => fn_B (gX3_begins ρ o a) fun _ a1 => fn_pI 31 8 (some this) (iI 0) a1 fun a2 => fn_rc 31 (some this) a2 fun o => fn_B (gX3_mends ρ o x1 x2 a2) fun v4 a3 => fn_rc 31 (some this) a3 fun o => fn_B (gX3_closes ρ o v4 a3) fun v6 a5 => some (v6, a5)
def gX3_withdraw (ρ : Nat → Nat) (this : Nat) (x1 : Int32) (a : mS) : Option (Int32 × mS) :=
  fn_rc 31 (some this) a fun o => fn_B (gX3_begins ρ o a) fun _ a1 => fn_pI 31 8 (some this) (iI 0) a1 fun a2 => fn_rc 31 (some this) a2 fun o => fn_B (gX3_draws ρ o x1 a2) fun v4 a3 => fn_rc 31 (some this) a3 fun o => fn_B (gX3_closes ρ o v4 a3) fun v6 a5 => some (v6, a5)
def gX3_account_b219 (ρ : Nat → Nat) (this : Nat) (k99 : Int32 → Int32 → Int64 → Int32 → mS → Option (Int64 × mS)) (x1 : Int32) (x2 : Int32) (x3 : Int64) (x5 : Int32) (a : mS) : Option (Int64 × mS) :=
  k99 x1 x2 x3 (x5 + iI 1) a
def gX3_account_b217 (ρ : Nat → Nat) (this : Nat) (k99 : Int32 → Int32 → Int64 → Int32 → mS → Option (Int64 × mS)) (x1 : Int32) (x2 : Int32) (x5 : Int32) (s0 : Int64) (s1 : Int64) (a : mS) : Option (Int64 × mS) :=
  gX3_account_b219 ρ this k99 x1 x2 (s0 + s1) x5 a
def gX3_account_b130 (ρ : Nat → Nat) (this : Nat) (k99 : Int32 → Int32 → Int64 → Int32 → mS → Option (Int64 × mS)) (x1 : Int32) (x2 : Int32) (x5 : Int32) (s0 : Int64) (s1 : Int64) (a : mS) : Option (Int64 × mS) :=
  gX3_account_b219 ρ this k99 x1 x2 (s0 + s1) x5 a
def gX3_account_b99 (ρ : Nat → Nat) (this : Nat) (k99 : Int32 → Int32 → Int64 → Int32 → mS → Option (Int64 × mS)) (x1 : Int32) (x2 : Int32) (x3 : Int64) (x5 : Int32) (a : mS) : Option (Int64 × mS) :=
  fn_gA 31 0 (some this) a fun v1 => fn_aI 0 v1 (iI 0) a fun v2 => if v2 ≤ x5 then (some (x3, a)) else if x2 = iI 0 then (fn_rc 31 (some this) a fun o => fn_B (gX3_runs ρ o x5 x1 a) fun v4 a3 => if v4 = iI 0 then (gX3_account_b130 ρ this k99 x1 x2 x5 x3 (lI 0) a3) else gX3_account_b130 ρ this k99 x1 x2 x5 x3 (lI 1) a3) else if x2 = (iI 2) then (fn_rc 31 (some this) a fun o => fn_B (gX3_dueUntil ρ o x5 x1 a) fun v6 a5 => gX3_account_b219 ρ this k99 x1 x2 (x3 + (v6.toInt64)) x5 a5) else if x2 = (iI 3) then (fn_rc 31 (some this) a fun o => fn_B (gX3_paid ρ o x5 x1 a) fun v8 a7 => gX3_account_b219 ρ this k99 x1 x2 (x3 + v8) x5 a7) else if x2 = (iI 4) then (fn_rc 31 (some this) a fun o => fn_B (gX3_lies ρ o x5 x1 a) fun v10 a9 => gX3_account_b219 ρ this k99 x1 x2 (x3 + v10) x5 a9) else if x2 = (iI 5) then (fn_rc 31 (some this) a fun o => fn_B (gX3_endOf ρ o x5 a) fun v12 a11 => fn_rc 31 (some this) a11 fun o => fn_B (gX3_told ρ o x5 (iI 1) a11) fun v14 a13 => if v14 ≤ v12 then (gX3_account_b217 ρ this k99 x1 x2 x5 x3 (lI 0) a13) else gX3_account_b217 ρ this k99 x1 x2 x5 x3 (lI 1) a13) else gX3_account_b219 ρ this k99 x1 x2 x3 x5 a
def gX3_account_b96 (ρ : Nat → Nat) (this : Nat) (x1 : Int32) (x2 : Int32) (x3 : Int64) (a : mS) : Option (Int64 × mS) :=
  fnFix (fun _ _ _ _ _ => none) (gX3_account_b99 ρ this) fnGas x1 x2 x3 (iI 0) a
def gX3_account_b83 (ρ : Nat → Nat) (this : Nat) (x1 : Int32) (x2 : Int32) (x3 : Int64) (a : mS) : Option (Int64 × mS) :=
  if x2 = (iI 7) then (fn_rc 31 (some this) a fun o => fn_B (gX3_rateOn ρ o x1 a) fun v2 a1 => gX3_account_b96 ρ this x1 x2 (v2.toInt64) a1) else gX3_account_b96 ρ this x1 x2 x3 a
def gX3_account_b67 (ρ : Nat → Nat) (this : Nat) (x1 : Int32) (x2 : Int32) (x3 : Int64) (a : mS) : Option (Int64 × mS) :=
  if x2 = (iI 6) then (if (iI 30) = iI 0 then none else fn_rc 31 (some this) a fun o => fn_B (gX3_indexOf ρ o (x1 / (iI 30)) a) fun v3 a2 => gX3_account_b83 ρ this x1 x2 (v3.toInt64) a2) else gX3_account_b83 ρ this x1 x2 x3 a
def gX3_account_b59 (ρ : Nat → Nat) (this : Nat) (k31 : Int32 → Int32 → Int64 → Int32 → mS → Option (Int64 × mS)) (x1 : Int32) (x2 : Int32) (x5 : Int32) (s0 : Int64) (s1 : Int64) (a : mS) : Option (Int64 × mS) :=
  k31 x1 x2 (s0 + s1) (x5 + iI 1) a
def gX3_account_b31 (ρ : Nat → Nat) (this : Nat) (k31 : Int32 → Int32 → Int64 → Int32 → mS → Option (Int64 × mS)) (x1 : Int32) (x2 : Int32) (x3 : Int64) (x5 : Int32) (a : mS) : Option (Int64 × mS) :=
  fn_gA 31 0 (some this) a fun v1 => fn_aI 0 v1 (iI 81) a fun v2 => if v2 ≤ x5 then (gX3_account_b67 ρ this x1 x2 x3 a) else fn_rc 31 (some this) a fun o => fn_B (gX3_holds ρ o x5 x1 a) fun v4 a3 => if v4 = iI 0 then (gX3_account_b59 ρ this k31 x1 x2 x5 x3 (lI 0) a3) else gX3_account_b59 ρ this k31 x1 x2 x5 x3 (lI 1) a3
def gX3_account (ρ : Nat → Nat) (this : Nat) (x1 : Int32) (x2 : Int32) (a : mS) : Option (Int64 × mS) :=
  fn_B (gX3_isDay ρ x1 a) fun v2 a1 => if v2 = iI 0 then (some ((lI (-9223372036854775808)), a1)) else fn_B (gX3_isIn ρ x2 (iI 0) (iI 7) a1) fun v4 a3 => if v4 = iI 0 then (some ((lI (-9223372036854775808)), a3)) else if x2 = (iI 1) then (fnFix (fun _ _ _ _ _ => none) (gX3_account_b31 ρ this) fnGas x1 x2 (lI 0) (iI 0) a3) else gX3_account_b67 ρ this x1 x2 (lI 0) a3
def gX3_balance (ρ : Nat → Nat) (this : Nat) (x1 : Int32) (x2 : Int32) (a : mS) : Option (Int64 × mS) :=
  fn_rc 31 (some this) a fun o => fn_B (gX3_isLease ρ o x1 a) fun v2 a1 => if v2 = iI 0 then (some ((lI (-9223372036854775808)), a1)) else fn_B (gX3_isDay ρ x2 a1) fun v4 a3 => if v4 = iI 0 then (some ((lI (-9223372036854775808)), a3)) else fn_rc 31 (some this) a3 fun o => fn_B (gX3_dueUntil ρ o x1 x2 a3) fun v6 a5 => fn_rc 31 (some this) a5 fun o => fn_B (gX3_paid ρ o x1 x2 a5) fun v8 a7 => some (((v6.toInt64) - v8), a7)
def gX3_deposit (ρ : Nat → Nat) (this : Nat) (x1 : Int32) (x2 : Int32) (x3 : Int32) (a : mS) : Option (Int32 × mS) :=
  fn_rc 31 (some this) a fun o => fn_B (gX3_begins ρ o a) fun _ a1 => fn_pI 31 8 (some this) (iI 0) a1 fun a2 => fn_rc 31 (some this) a2 fun o => fn_B (gX3_lays ρ o x1 x2 x3 a2) fun v4 a3 => fn_rc 31 (some this) a3 fun o => fn_B (gX3_closes ρ o v4 a3) fun v6 a5 => some (v6, a5)
def gX3_does (ρ : Nat → Nat) (this : Nat) (x1 : Int32) (a : mS) : Option (Int32 × mS) :=
  fn_gA 31 10 (some this) a fun v1 => fn_aI 0 v1 x1 a fun v2 => if v2 = iI 100 then (fn_gA 31 11 (some this) a fun v8 => fn_aI 0 v8 x1 a fun v9 => fn_gA 31 12 (some this) a fun v10 => fn_aI 0 v10 x1 a fun v11 => fn_gA 31 13 (some this) a fun v12 => fn_aI 0 v12 x1 a fun v13 => fn_rc 31 (some this) a fun o => fn_B (gX3_faults ρ o v9 v11 v13 a) fun v15 a14 => some (v15, a14)) else if v2 = iI 105 then (fn_gA 31 11 (some this) a fun v17 => fn_aI 0 v17 x1 a fun v18 => fn_gA 31 12 (some this) a fun v19 => fn_aI 0 v19 x1 a fun v20 => fn_rc 31 (some this) a fun o => fn_B (gX3_tells ρ o v18 v20 a) fun v22 a21 => some (v22, a21)) else if v2 = iI 110 then (fn_gA 31 11 (some this) a fun v24 => fn_aI 0 v24 x1 a fun v25 => fn_gA 31 12 (some this) a fun v26 => fn_aI 0 v26 x1 a fun v27 => fn_gA 31 13 (some this) a fun v28 => fn_aI 0 v28 x1 a fun v29 => fn_rc 31 (some this) a fun o => fn_B (gX3_gives ρ o v25 v27 v29 a) fun v31 a30 => some (v31, a30)) else if v2 = iI 112 then (fn_gA 31 11 (some this) a fun v33 => fn_aI 0 v33 x1 a fun v34 => fn_gA 31 12 (some this) a fun v35 => fn_aI 0 v35 x1 a fun v36 => fn_gA 31 13 (some this) a fun v37 => fn_aI 0 v37 x1 a fun v38 => fn_rc 31 (some this) a fun o => fn_B (gX3_pays ρ o v34 v36 v38 a) fun v40 a39 => some (v40, a39)) else if v2 = iI 114 then (fn_gA 31 11 (some this) a fun v42 => fn_aI 0 v42 x1 a fun v43 => fn_gA 31 12 (some this) a fun v44 => fn_aI 0 v44 x1 a fun v45 => fn_rc 31 (some this) a fun o => fn_B (gX3_mends ρ o v43 v45 a) fun v47 a46 => some (v47, a46)) else fn_gA 31 11 (some this) a fun v3 => fn_aI 0 v3 x1 a fun v4 => fn_rc 31 (some this) a fun o => fn_B (gX3_draws ρ o v4 a) fun v6 a5 => some (v6, a5)
def gX3_due (ρ : Nat → Nat) (this : Nat) (x1 : Int32) (x2 : Int32) (a : mS) : Option (Int32 × mS) :=
  fn_rc 31 (some this) a fun o => fn_B (gX3_isLease ρ o x1 a) fun v2 a1 => if v2 = iI 0 then (some ((iI (-1)), a1)) else fn_B (gX3_isDay ρ x2 a1) fun v4 a3 => if v4 = iI 0 then (some ((iI (-2)), a3)) else fn_rc 31 (some this) a3 fun o => fn_B (gX3_dueUntil ρ o x1 x2 a3) fun v6 a5 => some (v6, a5)
def gX3_lease (ρ : Nat → Nat) (this : Nat) (x1 : Int32) (x2 : Int32) (x3 : Int32) (a : mS) : Option (Int32 × mS) :=
  fn_rc 31 (some this) a fun o => fn_B (gX3_begins ρ o a) fun _ a1 => fn_pI 31 8 (some this) (iI 0) a1 fun a2 => fn_rc 31 (some this) a2 fun o => fn_B (gX3_makes ρ o x1 x2 x3 a2) fun v4 a3 => fn_rc 31 (some this) a3 fun o => fn_B (gX3_closes ρ o v4 a3) fun v6 a5 => some (v6, a5)
def gX3_monthly (ρ : Nat → Nat) (this : Nat) (x1 : Int32) (x2 : Int32) (a : mS) : Option (Int32 × mS) :=
  fn_rc 31 (some this) a fun o => fn_B (gX3_isLease ρ o x1 a) fun v2 a1 => if v2 = iI 0 then (some ((iI (-1)), a1)) else fn_B (gX3_isIn ρ x2 (iI 0) (iI 119) a1) fun v4 a3 => if v4 = iI 0 then (some ((iI (-2)), a3)) else fn_rc 31 (some this) a3 fun o => fn_B (gX3_dueUntil ρ o x1 (((iI 30) * x2) + (iI 29)) a3) fun v6 a5 => if x2 = iI 0 then (some ((v6 - (iI 0)), a5)) else fn_rc 31 (some this) a5 fun o => fn_B (gX3_dueUntil ρ o x1 (((iI 30) * x2) - (iI 1)) a5) fun v8 a7 => some ((v6 - v8), a7)
def gX3_notice (ρ : Nat → Nat) (this : Nat) (x1 : Int32) (x2 : Int32) (x3 : Int32) (a : mS) : Option (Int32 × mS) :=
  fn_rc 31 (some this) a fun o => fn_B (gX3_begins ρ o a) fun _ a1 => fn_pI 31 8 (some this) (iI 0) a1 fun a2 => fn_rc 31 (some this) a2 fun o => fn_B (gX3_gives ρ o x1 x2 x3 a2) fun v4 a3 => fn_rc 31 (some this) a3 fun o => fn_B (gX3_closes ρ o v4 a3) fun v6 a5 => some (v6, a5)
def gX3_settlement_b94 (ρ : Nat → Nat) (this : Nat) (x2 : Int32) (x4 : Int64) (x6 : Int64) (s0 : Int64) (a : mS) : Option (Int64 × mS) :=
  if x2 = iI 0 then (some ((x6 - s0), a)) else if x2 = (iI 2) then (some (s0, a)) else if (lg_cmp x4 s0) ≤ iI 0 then (some ((lI 0), a)) else some ((x4 - s0), a)
def gX3_settlement_b43 (ρ : Nat → Nat) (this : Nat) (x1 : Int32) (x2 : Int32) (s0 : Int32) (a : mS) : Option (Int64 × mS) :=
  fn_rc 31 (some this) a fun o => fn_B (gX3_dueUntil ρ o x1 s0 a) fun v2 a1 => fn_rc 31 (some this) a1 fun o => fn_B (gX3_paid ρ o x1 s0 a1) fun v4 a3 => fn_rc 31 (some this) a3 fun o => fn_B (gX3_lies ρ o x1 s0 a3) fun v6 a5 => if iI 0 < (lg_cmp ((v2.toInt64) - v4) (lI 0)) then (if iI 0 ≤ (lg_cmp ((v2.toInt64) - v4) v6) then (gX3_settlement_b94 ρ this x2 ((v2.toInt64) - v4) v6 v6 a5) else gX3_settlement_b94 ρ this x2 ((v2.toInt64) - v4) v6 ((v2.toInt64) - v4) a5) else gX3_settlement_b94 ρ this x2 ((v2.toInt64) - v4) v6 (lI 0) a5
def gX3_settlement (ρ : Nat → Nat) (this : Nat) (x1 : Int32) (x2 : Int32) (a : mS) : Option (Int64 × mS) :=
  fn_rc 31 (some this) a fun o => fn_B (gX3_isLease ρ o x1 a) fun v2 a1 => if v2 = iI 0 then (some ((lI (-9223372036854775808)), a1)) else fn_B (gX3_isIn ρ x2 (iI 0) (iI 2) a1) fun v4 a3 => if v4 = iI 0 then (some ((lI (-9223372036854775808)), a3)) else fn_rc 31 (some this) a3 fun o => fn_B (gX3_endOf ρ o x1 a3) fun v6 a5 => if (iI 3599) ≤ v6 then (gX3_settlement_b43 ρ this x1 x2 (iI 3599) a5) else fn_rc 31 (some this) a5 fun o => fn_B (gX3_endOf ρ o x1 a5) fun v8 a7 => gX3_settlement_b43 ρ this x1 x2 v8 a7
def gX3_again (ρ : Nat → Nat) (this : Nat) (x1 : Int32) (x2 : Int32) (a : mS) : Option (Int32 × mS) :=
  fn_rc 31 (some this) a fun o => fn_B (gX3_due ρ o x1 x2 a) fun v2 a1 => some (v2, a1)
def gX3_run_b137 (ρ : Nat → Nat) (this : Nat) (k137 : Int32 → Int32 → mS → Option (Int32 × mS)) (x1 : Int32) (x3 : Int32) (a : mS) : Option (Int32 × mS) :=
  if x1 ≤ x3 then (fn_rc 31 (some this) a fun o => fn_B (gX3_ends ρ o x1 a) fun v2 a1 => some (v2, a1)) else fn_rc 31 (some this) a fun o => fn_B (gX3_does ρ o x3 a) fun v4 a3 => fn_gI 31 8 (some this) a3 fun v5 => if v5 = iI 0 then (k137 x1 (x3 + iI 1) a3) else fn_gI 31 8 (some this) a3 fun v6 => fn_pI 31 6 (some this) v6 a3 fun a7 => fn_gA 31 2 (some this) a7 fun v8 => fn_gA 31 0 (some this) a7 fun v9 => fn_rc 31 (some this) a7 fun o => fn_B (gX3_copies ρ o v8 v9 a7) fun _ a10 => some (((iI (-200)) - x3), a10)
def gX3_run_b90 (ρ : Nat → Nat) (this : Nat) (x1 : Int32) (s0 : Option Nat) (s1 : Int32) (s2 : Int32) (a : mS) : Option (Int32 × mS) :=
  fn_pZ 31 16 s0 (s1 ||| s2) a fun a1 => fn_pI 31 14 (some this) (iI 0) a1 fun a2 => fn_gI 31 16 (some this) a2 fun v3 => if v3 = iI 0 then (fn_rc 31 (some this) a2 fun o => fn_B (gX3_begins ρ o a2) fun _ a4 => fn_gA 31 0 (some this) a4 fun v5 => fn_gA 31 2 (some this) a4 fun v6 => fn_rc 31 (some this) a4 fun o => fn_B (gX3_copies ρ o v5 v6 a4) fun _ a7 => fn_pI 31 8 (some this) (iI 0) a7 fun a8 => fnFix (fun _ _ _ => none) (gX3_run_b137 ρ this) fnGas x1 (iI 0) a8) else fn_gI 31 15 (some this) a2 fun v9 => some (((iI (-100)) - v9), a2)
def gX3_run_b62 (ρ : Nat → Nat) (this : Nat) (k14 : Int32 → Int32 → mS → Option (Int32 × mS)) (x1 : Int32) (x2 : Int32) (s0 : Option Nat) (s1 : Int32) (s2 : Int32) (a : mS) : Option (Int32 × mS) :=
  fn_pI 31 15 s0 (s1 + s2) a fun a1 => k14 x1 x2 a1
def gX3_run_b47 (ρ : Nat → Nat) (this : Nat) (k14 : Int32 → Int32 → mS → Option (Int32 × mS)) (x1 : Int32) (s0 : Int32) (a : mS) : Option (Int32 × mS) :=
  fn_gI 31 15 (some this) a fun v1 => if s0 = iI 0 then (gX3_run_b62 ρ this k14 x1 s0 (some this) v1 (iI 0) a) else gX3_run_b62 ρ this k14 x1 s0 (some this) v1 (iI 1) a
def gX3_run_b46 (ρ : Nat → Nat) (this : Nat) (k14 : Int32 → Int32 → mS → Option (Int32 × mS)) (x1 : Int32) (a : mS) : Option (Int32 × mS) :=
  gX3_run_b47 ρ this k14 x1 (iI 0) a
def gX3_run_b14 (ρ : Nat → Nat) (this : Nat) (k14 : Int32 → Int32 → mS → Option (Int32 × mS)) (x1 : Int32) (x2 : Int32) (a : mS) : Option (Int32 × mS) :=
  if x2 = iI 0 then (fn_gI 31 16 (some this) a fun v1 => fn_gI 31 15 (some this) a fun v2 => fn_gI 31 14 (some this) a fun v3 => if v3 ≤ v2 then (gX3_run_b90 ρ this x1 (some this) v1 (iI 0) a) else gX3_run_b90 ρ this x1 (some this) v1 (iI 1) a) else fn_rc 31 (some this) a fun o => fn_B (gX3_reads ρ o x1 a) fun _ a4 => fn_gI 31 16 (some this) a4 fun v5 => if v5 = iI 0 then (fn_rc 31 (some this) a4 fun o => fn_B (gX3_here ρ o a4) fun v7 a6 => if v7 = (iI 59) then (gX3_run_b47 ρ this k14 (x1 + iI 1) (iI 1) a6) else gX3_run_b46 ρ this k14 (x1 + iI 1) a6) else gX3_run_b46 ρ this k14 (x1 + iI 1) a4
def gX3_run (ρ : Nat → Nat) (this : Nat) (a : mS) : Option (Int32 × mS) :=
  fn_pI 31 15 (some this) (iI 0) a fun a1 => fn_pZ 31 16 (some this) (iI 0) a1 fun a2 => fnFix (fun _ _ _ => none) (gX3_run_b14 ρ this) fnGas (iI 0) (iI 1) a2
end
section
set_option maxRecDepth 100000
def gX0_bit (ρ : Nat → Nat) (x0 : Int32) (a : mS) : Option (Int32 × mS) :=
  if x0 = iI 0 then (some ((iI 0), a)) else some ((iI 1), a)
def gX0_in (ρ : Nat → Nat) (x0 : Int64) (x2 : Int64) (x4 : Int64) (a : mS) : Option (Int32 × mS) :=
  if (lg_cmp x0 x2) < iI 0 then (fn_rZ (iI 0) a) else if iI 0 < (lg_cmp x0 x4) then (fn_rZ (iI 0) a) else fn_rZ (iI 1) a
def gX0_reason (ρ : Nat → Nat) (this : Nat) (a : mS) : Option (Int32 × mS) :=
  fn_gI 0 1 (some this) a fun v1 => some (v1, a)
def gX0_refuses (ρ : Nat → Nat) (this : Nat) (x1 : Int32) (a : mS) : Option (Int32 × mS) :=
  fn_pI 0 1 (some this) x1 a fun a1 => some ((iI (-3)), a1)
def gX10_init (ρ : Nat → Nat) (this : Nat) (a : mS) : Option (Unit × mS) :=
  some ((), a)
def gX18_init (ρ : Nat → Nat) (this : Nat) (x1 : Int32) (x2 : Int32) (x3 : Int32) (a : mS) : Option (Unit × mS) :=
  fn_pI 24 0 (some this) x1 a fun a1 => fn_pI 24 1 (some this) x2 a1 fun a2 => fn_pI 24 2 (some this) x3 a2 fun a3 => some ((), a3)
def gX18_part (ρ : Nat → Nat) (this : Nat) (x1 : Int32) (a : mS) : Option (Int32 × mS) :=
  if x1 = iI 0 then (fn_gI 24 0 (some this) a fun v1 => some (v1, a)) else if x1 = (iI 1) then (fn_gI 24 1 (some this) a fun v2 => some (v2, a)) else fn_gI 24 2 (some this) a fun v3 => some (v3, a)
def gX20_init (ρ : Nat → Nat) (this : Nat) (a : mS) : Option (Unit × mS) :=
  some ((), a)
def gX21_look (ρ : Nat → Nat) (this : Nat) (x1 : Int32) (a : mS) : Option (Int32 × mS) :=
  fn_gA 29 0 (some this) a fun v1 => fn_aI 0 v1 x1 a fun v2 => some (v2, a)
def gX21_put (ρ : Nat → Nat) (this : Nat) (x1 : Int32) (x2 : Int32) (a : mS) : Option (Int32 × mS) :=
  fn_gA 29 0 (some this) a fun v1 => fn_aI 0 v1 x1 a fun v2 => fn_gA 29 0 (some this) a fun v3 => fn_sI 0 v3 x1 x2 a fun a4 => if v2 = x2 then (fn_rZ (iI 0) a4) else fn_rZ (iI 1) a4
def gX21_sort (ρ : Nat → Nat) (this : Nat) (a : mS) : Option (Int32 × mS) :=
  some ((iI 0), a)
def gX22_put (ρ : Nat → Nat) (this : Nat) (x1 : Int32) (x2 : Int32) (a : mS) : Option (Int32 × mS) :=
  fn_gA 30 0 (some this) a fun v1 => fn_aF 3 v1 x1 a fun v2 => fn_gA 30 0 (some this) a fun v3 => fn_sF 3 v3 x1 (FP.i2f x2) a fun a4 => fn_gA 30 0 (some this) a4 fun v5 => fn_aF 3 v5 x1 a4 fun v6 => if (Op.cmpValue (FP.fcmp v2 v6) .l) = iI 0 then (fn_rZ (iI 0) a4) else fn_rZ (iI 1) a4
def gX22_sort (ρ : Nat → Nat) (this : Nat) (a : mS) : Option (Int32 × mS) :=
  some ((iI 1), a)
def gX4_depth_r (ρ : Nat → Nat) (rec : Nat → mS → Option (Int32 × mS)) (this : Nat) (a : mS) : Option (Int32 × mS) :=
  fn_gA 6 1 (some this) a fun v1 => fn_nn v1 (some ((iI 0), a)) (fn_gA 6 1 (some this) a fun v2 => fn_rc 6 v2 a fun o => fn_B (rec o a) fun v4 a3 => some (((iI 1) + v4), a3))
def gX4_depth (ρ : Nat → Nat) (this : Nat) (a : mS) : Option (Int32 × mS) := fnFix (fun _ _ => none) (gX4_depth_r ρ) 12 this a
def gX4_hasNotice (ρ : Nat → Nat) (this : Nat) (a : mS) : Option (Int32 × mS) :=
  fn_gI 6 7 (some this) a fun v1 => if v1 < iI 0 then (fn_rZ (iI 0) a) else fn_rZ (iI 1) a
def gX4_init_2 (ρ : Nat → Nat) (this : Nat) (x1 : Int32) (x2 : Option Nat) (x3 : Int32) (x4 : Int32) (a : mS) : Option (Unit × mS) :=
  fn_pI 6 6 (some this) (iI (-5)) a fun a1 => fn_pI 6 7 (some this) (iI (-5)) a1 fun a2 => fn_pI 6 8 (some this) (iI (-5)) a2 fun a3 => fn_pI 6 0 (some this) x1 a3 fun a4 => fn_pA 6 1 (some this) x2 a4 fun a5 => fn_pI 6 2 (some this) x3 a5 fun a6 => fn_pI 6 3 (some this) x4 a6 fun a7 => some ((), a7)
def gX4_isUnder_b2 (ρ : Nat → Nat) (this : Nat) (k2 : Option Nat → Option Nat → mS → Option (Int32 × mS)) (x1 : Option Nat) (x2 : Option Nat) (a : mS) : Option (Int32 × mS) :=
  fn_nn x2 (fn_rZ (iI 0) a) (if x2 = x1 then (fn_rZ (iI 1) a) else fn_gA 6 1 x2 a fun v1 => k2 x1 v1 a)
def gX4_isUnder (ρ : Nat → Nat) (this : Nat) (x1 : Option Nat) (a : mS) : Option (Int32 × mS) :=
  fnFix (fun _ _ _ => none) (gX4_isUnder_b2 ρ this) fnGas x1 (some this) a
def gX5_holds (ρ : Nat → Nat) (this : Nat) (x1 : Int32) (a : mS) : Option (Int32 × mS) :=
  fn_gI 7 1 (some this) a fun v1 => if x1 < v1 then (fn_rZ (iI 0) a) else fn_gI 7 3 (some this) a fun v2 => if v2 < iI 0 then (fn_rZ (iI 1) a) else fn_gI 7 3 (some this) a fun v3 => if v3 ≤ x1 then (fn_rZ (iI 0) a) else fn_rZ (iI 1) a
def gX5_init_2 (ρ : Nat → Nat) (this : Nat) (x1 : Int32) (x2 : Int32) (x3 : Int32) (a : mS) : Option (Unit × mS) :=
  fn_pI 7 3 (some this) (iI (-5)) a fun a1 => fn_pI 7 0 (some this) x1 a1 fun a2 => fn_pI 7 1 (some this) x2 a2 fun a3 => fn_pI 7 2 (some this) x3 a3 fun a4 => some ((), a4)
def gX6_firstOf (ρ : Nat → Nat) (x0 : Int32) (a : mS) : Option (Int32 × mS) :=
  some (((iI 30) * x0), a)
def gX6_isLast (ρ : Nat → Nat) (x0 : Int32) (a : mS) : Option (Int32 × mS) :=
  if (iI 30) = iI 0 then none else if (x0 - x0 / (iI 30) * (iI 30)) = (iI 29) then (fn_rZ (iI 1) a) else fn_rZ (iI 0) a
def gX6_lastOf (ρ : Nat → Nat) (x0 : Int32) (a : mS) : Option (Int32 × mS) :=
  some (((((iI 30) * x0) + (iI 30)) - (iI 1)), a)
def gX6_monthOf (ρ : Nat → Nat) (x0 : Int32) (a : mS) : Option (Int32 × mS) :=
  if (iI 30) = iI 0 then none else some ((x0 / (iI 30)), a)
def gX7_init (ρ : Nat → Nat) (this : Nat) (x1 : Int32) (x2 : Int32) (x3 : Int32) (a : mS) : Option (Unit × mS) :=
  fn_pI 13 0 (some this) x1 a fun a1 => fn_pI 13 1 (some this) x2 a1 fun a2 => fn_pI 13 2 (some this) x3 a2 fun a3 => some ((), a3)
def gX8_init (ρ : Nat → Nat) (this : Nat) (x1 : Option Nat) (a : mS) : Option (Unit × mS) :=
  fn_pA 14 1 (some this) x1 a fun a1 => some ((), a1)
def gX8_sign (ρ : Nat → Nat) (this : Nat) (a : mS) : Option (Int32 × mS) :=
  fn_gI 14 0 (some this) a fun v1 => fn_gA 14 1 (some this) a fun v2 => fn_gI 0 4 v2 a fun v3 => if v3 ≤ v1 then (some ((iI (-1)), a)) else fn_gA 14 1 (some this) a fun v4 => fn_gA 0 3 v4 a fun v5 => fn_gI 14 0 (some this) a fun v6 => fn_aI 1 v5 v6 a fun v7 => some (v7, a)
def gX0_count (ρ : Nat → Nat) (this : Nat) (x1 : Int32) (a : mS) : Option (Int32 × mS) :=
  if x1 = iI 0 then (fn_gA 0 0 (some this) a fun v2 => fn_gA 1 0 v2 a fun v3 => fn_rc 2 v3 a fun o => fn_B (gJ2_size ρ o a) fun v5 a4 => some (v5, a4)) else if x1 = iI 1 then (fn_gA 0 0 (some this) a fun v7 => fn_gA 1 1 v7 a fun v8 => fn_rc 2 v8 a fun o => fn_B (gJ2_size ρ o a) fun v10 a9 => some (v10, a9)) else if x1 = iI 2 then (fn_gA 0 0 (some this) a fun v12 => fn_gA 1 2 v12 a fun v13 => fn_rc 2 v13 a fun o => fn_B (gJ2_size ρ o a) fun v15 a14 => some (v15, a14)) else if x1 = iI 3 then (fn_gA 0 0 (some this) a fun v17 => fn_gA 1 3 v17 a fun v18 => fn_rc 2 v18 a fun o => fn_B (gJ2_size ρ o a) fun v20 a19 => some (v20, a19)) else if x1 = iI 4 then (fn_gI 0 4 (some this) a fun v22 => some (v22, a)) else if x1 = iI 5 then (fn_gA 0 2 (some this) a fun v24 => fn_rc 2 v24 a fun o => fn_B (gJ2_size ρ o a) fun v26 a25 => some (v26, a25)) else if x1 = iI 6 then (fn_gA 0 0 (some this) a fun v28 => fn_gA 1 4 v28 a fun v29 => fn_gA 3 0 v29 a fun v30 => fn_rc 4 v30 a fun o => fn_B (gJ4_size ρ o a) fun v32 a31 => some (v32, a31)) else if x1 = iI 7 then (fn_gA 0 0 (some this) a fun v34 => fn_gA 1 5 v34 a fun v35 => fn_gA 3 0 v35 a fun v36 => fn_rc 4 v36 a fun o => fn_B (gJ4_size ρ o a) fun v38 a37 => some (v38, a37)) else some ((iI (-1)), a)
def gX0_isRow (ρ : Nat → Nat) (x0 : Int32) (a : mS) : Option (Int32 × mS) :=
  fn_B (gX0_in ρ (x0.toInt64) (lI 0) (lI 2) a) fun v2 a1 => fn_rZ v2 a1
def gX0_isSign (ρ : Nat → Nat) (x0 : Int32) (a : mS) : Option (Int32 × mS) :=
  fn_B (gX0_in ρ (x0.toInt64) (lI 0) (lI 127) a) fun v2 a1 => fn_rZ v2 a1
def gX11_init (ρ : Nat → Nat) (this : Nat) (x1 : Option Nat) (x2 : Int32) (x3 : Int32) (a : mS) : Option (Unit × mS) :=
  fn_pA 17 2 (some this) x1 a fun a1 => fn_pI 17 0 (some this) x2 a1 fun a2 => fn_pI 17 1 (some this) x3 a2 fun a3 => fn_B (gX10_init ρ this a3) fun _ a4 => some ((), a4)
def gX12_init (ρ : Nat → Nat) (this : Nat) (x1 : Option Nat) (x2 : Int32) (x3 : Int32) (x4 : Int32) (a : mS) : Option (Unit × mS) :=
  fn_pA 18 3 (some this) x1 a fun a1 => fn_pI 18 0 (some this) x2 a1 fun a2 => fn_pI 18 1 (some this) x3 a2 fun a3 => fn_pI 18 2 (some this) x4 a3 fun a4 => fn_B (gX10_init ρ this a4) fun _ a5 => some ((), a5)
def gX13_init (ρ : Nat → Nat) (this : Nat) (x1 : Option Nat) (x2 : Int32) (x3 : Int32) (x4 : Int32) (a : mS) : Option (Unit × mS) :=
  fn_pA 19 3 (some this) x1 a fun a1 => fn_pI 19 0 (some this) x2 a1 fun a2 => fn_pI 19 1 (some this) x3 a2 fun a3 => fn_pI 19 2 (some this) x4 a3 fun a4 => fn_B (gX10_init ρ this a4) fun _ a5 => some ((), a5)
def gX14_init (ρ : Nat → Nat) (this : Nat) (x1 : Option Nat) (x2 : Int32) (x3 : Int32) (a : mS) : Option (Unit × mS) :=
  fn_pA 20 2 (some this) x1 a fun a1 => fn_pI 20 0 (some this) x2 a1 fun a2 => fn_pI 20 1 (some this) x3 a2 fun a3 => fn_B (gX10_init ρ this a3) fun _ a4 => some ((), a4)
def gX15_init (ρ : Nat → Nat) (this : Nat) (x1 : Option Nat) (x2 : Int32) (x3 : Int32) (x4 : Int32) (a : mS) : Option (Unit × mS) :=
  fn_pA 21 3 (some this) x1 a fun a1 => fn_pI 21 0 (some this) x2 a1 fun a2 => fn_pI 21 1 (some this) x3 a2 fun a3 => fn_pI 21 2 (some this) x4 a3 fun a4 => fn_B (gX10_init ρ this a4) fun _ a5 => some ((), a5)
def gX16_init (ρ : Nat → Nat) (this : Nat) (x1 : Option Nat) (x2 : Int32) (a : mS) : Option (Unit × mS) :=
  fn_pA 22 1 (some this) x1 a fun a1 => fn_pI 22 0 (some this) x2 a1 fun a2 => fn_B (gX10_init ρ this a2) fun _ a3 => some ((), a3)
def gX1_increased (ρ : Nat → Nat) (this : Nat) (x1 : Option Nat) (x2 : Int32) (x3 : Int32) (x4 : Int32) (a : mS) : Option (Int32 × mS) :=
  fn_gI 6 5 x1 a fun v1 => fn_B (gJ9_floorDiv ρ (((x2.toInt64) * ((x4 - x3).toInt64)) * (v1.toInt64)) ((lI 100) * (x3.toInt64)) a) fun v3 a2 => fn_B (gJ9_min_2 ρ (lI 9999999) ((x2.toInt64) + v3) a2) fun v5 a4 => fn_B (gJ9_max_2 ρ (lI 1) v5 a4) fun v7 a6 => some ((v7.toInt32), a6)
def gX1_isLease (ρ : Nat → Nat) (this : Nat) (x1 : Int32) (a : mS) : Option (Int32 × mS) :=
  fn_gA 1 0 (some this) a fun v1 => fn_rc 2 v1 a fun o => fn_B (gJ2_size ρ o a) fun v3 a2 => fn_B (gX0_in ρ (x1.toInt64) (lI 0) ((v3 - (iI 1)).toInt64) a2) fun v5 a4 => fn_rZ v5 a4
def gX21_init (ρ : Nat → Nat) (this : Nat) (x1 : Option Nat) (a : mS) : Option (Unit × mS) :=
  fn_B (gX20_init ρ this a) fun _ a1 => fn_pA 29 0 (some this) x1 a1 fun a2 => some ((), a2)
def gX22_init (ρ : Nat → Nat) (this : Nat) (x1 : Option Nat) (a : mS) : Option (Unit × mS) :=
  fn_B (gX20_init ρ this a) fun _ a1 => fn_pA 30 0 (some this) x1 a1 fun a2 => some ((), a2)
def gX4_earlier (ρ : Nat → Nat) (x0 : Int32) (x1 : Int32) (a : mS) : Option (Int32 × mS) :=
  if iI 0 ≤ x0 then (if iI 0 ≤ x1 then (fn_B (gJ9_min ρ x0 x1 a) fun v2 a1 => some (v2, a1)) else some (x0, a)) else some (x1, a)
def gX4_init (ρ : Nat → Nat) (this : Nat) (x1 : Option Nat) (x2 : Option Nat) (a : mS) : Option (Unit × mS) :=
  fn_gI 6 0 x1 a fun v1 => fn_gI 6 2 x1 a fun v2 => fn_gI 6 3 x1 a fun v3 => fn_B (gX4_init_2 ρ this v1 x2 v2 v3 a) fun _ a4 => fn_gI 6 4 x1 a4 fun v5 => fn_pI 6 4 (some this) v5 a4 fun a6 => fn_gI 6 5 x1 a6 fun v7 => fn_pI 6 5 (some this) v7 a6 fun a8 => fn_gI 6 6 x1 a8 fun v9 => fn_pI 6 6 (some this) v9 a8 fun a10 => fn_gI 6 7 x1 a10 fun v11 => fn_pI 6 7 (some this) v11 a10 fun a12 => fn_gI 6 8 x1 a12 fun v13 => fn_pI 6 8 (some this) v13 a12 fun a14 => some ((), a14)
def gX4_period (ρ : Nat → Nat) (this : Nat) (x1 : Int32) (x2 : Int32) (a : mS) : Option (Int32 × mS) :=
  fn_B (gX6_monthOf ρ x1 a) fun v2 a1 => fn_gI 6 2 (some this) a1 fun v3 => fn_B (gX6_monthOf ρ v3 a1) fun v5 a4 => if x2 = iI 0 then (some ((iI 3), a4)) else if (iI 60) ≤ (v2 - v5) then (if (iI 96) ≤ (v2 - v5) then (some ((iI 9), a4)) else some ((iI 6), a4)) else some ((iI 3), a4)
def gX5_init (ρ : Nat → Nat) (this : Nat) (x1 : Option Nat) (a : mS) : Option (Unit × mS) :=
  fn_gI 7 0 x1 a fun v1 => fn_gI 7 1 x1 a fun v2 => fn_gI 7 2 x1 a fun v3 => fn_B (gX5_init_2 ρ this v1 v2 v3 a) fun _ a4 => fn_gI 7 3 x1 a4 fun v5 => fn_pI 7 3 (some this) v5 a4 fun a6 => some ((), a6)
def gX6_isDay (ρ : Nat → Nat) (x0 : Int32) (a : mS) : Option (Int32 × mS) :=
  fn_B (gX0_in ρ (x0.toInt64) (lI 0) (lI 3599) a) fun v2 a1 => fn_rZ v2 a1
def gX6_isMonth (ρ : Nat → Nat) (x0 : Int32) (a : mS) : Option (Int32 × mS) :=
  fn_B (gX0_in ρ (x0.toInt64) (lI 0) (lI 119) a) fun v2 a1 => fn_rZ v2 a1
def gX0_feed_b98 (ρ : Nat → Nat) (this : Nat) (k98 : Int32 → Option Nat → Int32 → mS → Option (Int32 × mS)) (x1 : Int32) (x7 : Option Nat) (x8 : Int32) (a : mS) : Option (Int32 × mS) :=
  if x1 ≤ x8 then (fn_gI 0 4 (some this) a fun v1 => some (v1, a)) else fn_gA 0 3 (some this) a fun v2 => fn_gI 0 4 (some this) a fun v3 => fn_aI 0 x7 x8 a fun v4 => fn_sB 1 v2 v3 (v4.toInt8.toInt32) a fun a5 => fn_gI 0 4 (some this) a5 fun v6 => fn_pI 0 4 (some this) (v6 + (iI 1)) a5 fun a7 => k98 x1 x7 (x8 + iI 1) a7
def gX0_feed (ρ : Nat → Nat) (this : Nat) (x1 : Int32) (x2 : Int32) (x3 : Int32) (x4 : Int32) (x5 : Int32) (x6 : Int32) (a : mS) : Option (Int32 × mS) :=
  fn_B (gX0_in ρ (x1.toInt64) (lI 1) (lI 5) a) fun v2 a1 => if v2 = iI 0 then (some ((iI (-2)), a1)) else fn_B (gX0_isSign ρ x2 a1) fun v4 a3 => if v4 = iI 0 then (some ((iI (-2)), a3)) else fn_B (gX0_isSign ρ x3 a3) fun v6 a5 => if v6 = iI 0 then (some ((iI (-2)), a5)) else fn_B (gX0_isSign ρ x4 a5) fun v8 a7 => if v8 = iI 0 then (some ((iI (-2)), a7)) else fn_B (gX0_isSign ρ x5 a7) fun v10 a9 => if v10 = iI 0 then (some ((iI (-2)), a9)) else fn_B (gX0_isSign ρ x6 a9) fun v12 a11 => if v12 = iI 0 then (some ((iI (-2)), a11)) else fn_gI 0 4 (some this) a11 fun v13 => if (v13 + x1) ≤ (iI 60) then (fn_nI 0 (iI 5) a11 fun v14 a15 => fn_sI 0 (some v14) (iI 0) x2 a15 fun a16 => fn_sI 0 (some v14) (iI 1) x3 a16 fun a17 => fn_sI 0 (some v14) (iI 2) x4 a17 fun a18 => fn_sI 0 (some v14) (iI 3) x5 a18 fun a19 => fn_sI 0 (some v14) (iI 4) x6 a19 fun a20 => fnFix (fun _ _ _ _ => none) (gX0_feed_b98 ρ this) fnGas x1 (some v14) (iI 0) a20) else some ((iI (-4)), a11)
def gX0_holding_b13 (ρ : Nat → Nat) (this : Nat) (k13 : Int32 → Int32 → Option Nat → mS → Option (Int32 × mS)) (x1 : Int32) (x2 : Int32) (x3 : Option Nat) (a : mS) : Option (Int32 × mS) :=
  fn_cls x3 a fun c o => fn_B (if c = 5 then gJ5_hasNext ρ o a else none) fun v2 a1 => if v2 = iI 0 then (some (x2, a1)) else fn_cls x3 a1 fun c o => fn_B (if c = 5 then gJ5_next ρ o a1 else none) fun v4 a3 => fn_cast [7] v4 a3 (fn_rc 7 v4 a3 fun o => fn_B (gX5_holds ρ o x1 a3) fun v6 a5 => fn_B (gX0_bit ρ v6 a5) fun v8 a7 => k13 x1 (x2 + v8) x3 a7)
def gX0_holding (ρ : Nat → Nat) (this : Nat) (x1 : Int32) (a : mS) : Option (Int32 × mS) :=
  fn_gA 0 0 (some this) a fun v1 => fn_gA 1 1 v1 a fun v2 => fn_rc 2 v2 a fun o => fn_B (gJ2_iterator ρ o a) fun v4 a3 => fnFix (fun _ _ _ _ => none) (gX0_holding_b13 ρ this) fnGas x1 (iI 0) v4 a3
def gX0_isPlace (ρ : Nat → Nat) (x0 : Int32) (x1 : Int32) (a : mS) : Option (Int32 × mS) :=
  fn_B (gX0_isRow ρ x0 a) fun v2 a1 => if v2 = iI 0 then (fn_rZ (iI 0) a1) else fn_B (gX0_in ρ (x1.toInt64) (lI 0) (lI 11) a1) fun v4 a3 => if v4 = iI 0 then (fn_rZ (iI 0) a3) else fn_rZ (iI 1) a3
def gX0_sublets_b48 (ρ : Nat → Nat) (this : Nat) (k13 : Option Nat → Int32 → Option Nat → mS → Option (Int32 × mS)) (x1 : Option Nat) (x3 : Option Nat) (s0 : Int32) (s1 : Int32) (a : mS) : Option (Int32 × mS) :=
  fn_B (gX0_bit ρ s1 a) fun v2 a1 => k13 x1 (s0 + v2) x3 a1
def gX0_sublets_b13 (ρ : Nat → Nat) (this : Nat) (k13 : Option Nat → Int32 → Option Nat → mS → Option (Int32 × mS)) (x1 : Option Nat) (x2 : Int32) (x3 : Option Nat) (a : mS) : Option (Int32 × mS) :=
  fn_cls x3 a fun c o => fn_B (if c = 5 then gJ5_hasNext ρ o a else none) fun v2 a1 => if v2 = iI 0 then (some (x2, a1)) else fn_cls x3 a1 fun c o => fn_B (if c = 5 then gJ5_next ρ o a1 else none) fun v4 a3 => fn_cast [6] v4 a3 (fn_gA 6 1 v4 a3 fun v5 => if v5 = x1 then (gX0_sublets_b48 ρ this k13 x1 x3 x2 (iI 1) a3) else gX0_sublets_b48 ρ this k13 x1 x3 x2 (iI 0) a3)
def gX0_sublets (ρ : Nat → Nat) (this : Nat) (x1 : Option Nat) (a : mS) : Option (Int32 × mS) :=
  fn_gA 0 0 (some this) a fun v1 => fn_gA 1 0 v1 a fun v2 => fn_rc 2 v2 a fun o => fn_B (gJ2_iterator ρ o a) fun v4 a3 => fnFix (fun _ _ _ _ => none) (gX0_sublets_b13 ρ this) fnGas x1 (iI 0) v4 a3
def gX1_firstDeposit_b54 (ρ : Nat → Nat) (this : Nat) (k12 : Int32 → Int32 → Option Nat → mS → Option (Int32 × mS)) (x1 : Int32) (x3 : Option Nat) (s0 : Int32) (a : mS) : Option (Int32 × mS) :=
  k12 x1 s0 x3 a
def gX1_firstDeposit_b12 (ρ : Nat → Nat) (this : Nat) (k12 : Int32 → Int32 → Option Nat → mS → Option (Int32 × mS)) (x1 : Int32) (x2 : Int32) (x3 : Option Nat) (a : mS) : Option (Int32 × mS) :=
  fn_cls x3 a fun c o => fn_B (if c = 5 then gJ5_hasNext ρ o a else none) fun v2 a1 => if v2 = iI 0 then (some (x2, a1)) else fn_cls x3 a1 fun c o => fn_B (if c = 5 then gJ5_next ρ o a1 else none) fun v4 a3 => fn_cast [13] v4 a3 (fn_gI 13 0 v4 a3 fun v5 => if v5 = x1 then (fn_gI 13 1 v4 a3 fun v6 => fn_B (gJ9_min ρ x2 v6 a3) fun v8 a7 => gX1_firstDeposit_b54 ρ this k12 x1 x3 v8 a7) else gX1_firstDeposit_b54 ρ this k12 x1 x3 x2 a3)
def gX1_firstDeposit (ρ : Nat → Nat) (this : Nat) (x1 : Int32) (a : mS) : Option (Int32 × mS) :=
  fn_gA 1 3 (some this) a fun v1 => fn_rc 2 v1 a fun o => fn_B (gJ2_iterator ρ o a) fun v3 a2 => fnFix (fun _ _ _ _ => none) (gX1_firstDeposit_b12 ρ this) fnGas x1 (iI 3600) v3 a2
def gX1_paid_b62 (ρ : Nat → Nat) (this : Nat) (k11 : Int32 → Int32 → Int64 → Option Nat → mS → Option (Int64 × mS)) (x1 : Int32) (x2 : Int32) (x5 : Option Nat) (s0 : Int64) (s1 : Int64) (a : mS) : Option (Int64 × mS) :=
  k11 x1 x2 (s0 + s1) x5 a
def gX1_paid_b61 (ρ : Nat → Nat) (this : Nat) (k11 : Int32 → Int32 → Int64 → Option Nat → mS → Option (Int64 × mS)) (x1 : Int32) (x2 : Int32) (x5 : Option Nat) (s0 : Int64) (a : mS) : Option (Int64 × mS) :=
  gX1_paid_b62 ρ this k11 x1 x2 x5 s0 (lI 0) a
def gX1_paid_b11 (ρ : Nat → Nat) (this : Nat) (k11 : Int32 → Int32 → Int64 → Option Nat → mS → Option (Int64 × mS)) (x1 : Int32) (x2 : Int32) (x3 : Int64) (x5 : Option Nat) (a : mS) : Option (Int64 × mS) :=
  fn_cls x5 a fun c o => fn_B (if c = 5 then gJ5_hasNext ρ o a else none) fun v2 a1 => if v2 = iI 0 then (some (x3, a1)) else fn_cls x5 a1 fun c o => fn_B (if c = 5 then gJ5_next ρ o a1 else none) fun v4 a3 => fn_cast [13] v4 a3 (fn_gI 13 0 v4 a3 fun v5 => if v5 = x1 then (fn_gI 13 1 v4 a3 fun v6 => if x2 < v6 then (gX1_paid_b61 ρ this k11 x1 x2 x5 x3 a3) else fn_gI 13 2 v4 a3 fun v7 => gX1_paid_b62 ρ this k11 x1 x2 x5 x3 (v7.toInt64) a3) else gX1_paid_b61 ρ this k11 x1 x2 x5 x3 a3)
def gX1_paid (ρ : Nat → Nat) (this : Nat) (x1 : Int32) (x2 : Int32) (a : mS) : Option (Int64 × mS) :=
  fn_gA 1 2 (some this) a fun v1 => fn_rc 2 v1 a fun o => fn_B (gJ2_iterator ρ o a) fun v3 a2 => fnFix (fun _ _ _ _ _ => none) (gX1_paid_b11 ρ this) fnGas x1 x2 (lI 0) v3 a2
def gX1_paidIn_b62 (ρ : Nat → Nat) (this : Nat) (k11 : Int32 → Int32 → Int64 → Option Nat → mS → Option (Int64 × mS)) (x1 : Int32) (x2 : Int32) (x5 : Option Nat) (s0 : Int64) (s1 : Int64) (a : mS) : Option (Int64 × mS) :=
  k11 x1 x2 (s0 + s1) x5 a
def gX1_paidIn_b61 (ρ : Nat → Nat) (this : Nat) (k11 : Int32 → Int32 → Int64 → Option Nat → mS → Option (Int64 × mS)) (x1 : Int32) (x2 : Int32) (x5 : Option Nat) (s0 : Int64) (a : mS) : Option (Int64 × mS) :=
  gX1_paidIn_b62 ρ this k11 x1 x2 x5 s0 (lI 0) a
def gX1_paidIn_b11 (ρ : Nat → Nat) (this : Nat) (k11 : Int32 → Int32 → Int64 → Option Nat → mS → Option (Int64 × mS)) (x1 : Int32) (x2 : Int32) (x3 : Int64) (x5 : Option Nat) (a : mS) : Option (Int64 × mS) :=
  fn_cls x5 a fun c o => fn_B (if c = 5 then gJ5_hasNext ρ o a else none) fun v2 a1 => if v2 = iI 0 then (some (x3, a1)) else fn_cls x5 a1 fun c o => fn_B (if c = 5 then gJ5_next ρ o a1 else none) fun v4 a3 => fn_cast [13] v4 a3 (fn_gI 13 0 v4 a3 fun v5 => if v5 = x1 then (fn_gI 13 1 v4 a3 fun v6 => if v6 = x2 then (fn_gI 13 2 v4 a3 fun v7 => gX1_paidIn_b62 ρ this k11 x1 x2 x5 x3 (v7.toInt64) a3) else gX1_paidIn_b61 ρ this k11 x1 x2 x5 x3 a3) else gX1_paidIn_b61 ρ this k11 x1 x2 x5 x3 a3)
def gX1_paidIn (ρ : Nat → Nat) (this : Nat) (x1 : Int32) (x2 : Int32) (a : mS) : Option (Int64 × mS) :=
  fn_gA 1 3 (some this) a fun v1 => fn_rc 2 v1 a fun o => fn_B (gJ2_iterator ρ o a) fun v3 a2 => fnFix (fun _ _ _ _ _ => none) (gX1_paidIn_b11 ρ this) fnGas x1 x2 (lI 0) v3 a2
def gX21_copy (ρ : Nat → Nat) (this : Nat) (a : mS) : Option (Option Nat × mS) :=
  fn_new 29 [va_rf none] a fun v1 a2 => fn_gA 29 0 (some this) a2 fun v3 => fn_B (fn_cloneI ρ v3 a2) fun v5 a4 => fn_castP 0 v5 a4 (fn_B (gX21_init ρ v1 v5 a4) fun _ a6 => some ((some v1), a6))
def gX22_copy (ρ : Nat → Nat) (this : Nat) (a : mS) : Option (Option Nat × mS) :=
  fn_new 30 [va_rf none] a fun v1 a2 => fn_gA 30 0 (some this) a2 fun v3 => fn_B (fn_cloneF ρ v3 a2) fun v5 a4 => fn_castP 3 v5 a4 (fn_B (gX22_init ρ v1 v5 a4) fun _ a6 => some ((some v1), a6))
def gX22_look (ρ : Nat → Nat) (this : Nat) (x1 : Int32) (a : mS) : Option (Int32 × mS) :=
  fn_gA 30 0 (some this) a fun v1 => fn_aF 3 v1 x1 a fun v2 => fn_B (gJ26_floatToIntBits ρ v2 a) fun v4 a3 => some (v4, a3)
def gX2_init (ρ : Nat → Nat) (this : Nat) (x1 : Int32) (a : mS) : Option (Unit × mS) :=
  fn_new 4 [va_rf none, va_rf none, va_rf none, va_rf none, Value.int (iI 0), Value.int (iI 0), va_rf none, va_rf none, va_rf none] a fun v1 a2 => fn_B (gJ4_init ρ v1 a2) fun _ a3 => fn_pA 3 0 (some this) (some v1) a3 fun a4 => fn_pI 3 1 (some this) x1 a4 fun a5 => some ((), a5)
def gX4_end_b5 (ρ : Nat → Nat) (this : Nat) (k5 : Int32 → Option Nat → mS → Option (Int32 × mS)) (x1 : Int32) (x2 : Option Nat) (a : mS) : Option (Int32 × mS) :=
  fn_nn x2 (some (x1, a)) (fn_gI 6 6 x2 a fun v1 => fn_B (gX4_earlier ρ x1 v1 a) fun v3 a2 => fn_gA 6 1 x2 a2 fun v4 => k5 v3 v4 a2)
def gX4_end (ρ : Nat → Nat) (this : Nat) (a : mS) : Option (Int32 × mS) :=
  fnFix (fun _ _ _ => none) (gX4_end_b5 ρ this) fnGas (iI (-5)) (some this) a
def gX4_endBy_b17 (ρ : Nat → Nat) (this : Nat) (x1 : Int32) (x2 : Int32) (s0 : Int32) (s1 : Int32) (a : mS) : Option (Int32 × mS) :=
  fn_B (gX0_bit ρ s1 a) fun v2 a1 => fn_rc 6 (some this) a1 fun o => fn_B (gX4_period ρ o x1 x2 a1) fun v4 a3 => fn_B (gX6_lastOf ρ (((s0 + v2) + v4) - (iI 1)) a3) fun v6 a5 => some (v6, a5)
def gX4_endBy (ρ : Nat → Nat) (this : Nat) (x1 : Int32) (x2 : Int32) (a : mS) : Option (Int32 × mS) :=
  fn_B (gX6_monthOf ρ x1 a) fun v2 a1 => if (iI 30) = iI 0 then none else if (x1 - x1 / (iI 30) * (iI 30)) ≤ (iI 2) then (gX4_endBy_b17 ρ this x1 x2 v2 (iI 0) a1) else gX4_endBy_b17 ρ this x1 x2 v2 (iI 1) a1
def gX9_init (ρ : Nat → Nat) (this : Nat) (x1 : Int32) (a : mS) : Option (Unit × mS) :=
  fn_B (gJ20_init ρ this none none (iI 0) (iI 0) a) fun _ a1 => fn_pI 15 6 (some this) x1 a1 fun a2 => some ((), a2)
def gX0_back (ρ : Nat → Nat) (this : Nat) (a : mS) : Option (Int32 × mS) :=
  fn_gA 0 2 (some this) a fun v1 => fn_rc 2 v1 a fun o => fn_B (gJ2_isEmpty ρ o a) fun v3 a2 => if v3 = iI 0 then (fn_gA 0 2 (some this) a2 fun v4 => fn_gA 0 2 (some this) a2 fun v5 => fn_rc 2 v5 a2 fun o => fn_B (gJ2_size ρ o a2) fun v7 a6 => fn_rc 2 v4 a6 fun o => fn_B (gJ2_remove ρ o (v7 - (iI 1)) a6) fun v9 a8 => fn_cast [1] v9 a8 (fn_pA 0 0 (some this) v9 a8 fun a10 => fn_gA 0 2 (some this) a10 fun v11 => fn_rc 2 v11 a10 fun o => fn_B (gJ2_size ρ o a10) fun v13 a12 => some (v13, a12))) else some ((iI (-3)), a2)
def gX0_like (ρ : Nat → Nat) (this : Nat) (x1 : Int32) (x2 : Int32) (a : mS) : Option (Int32 × mS) :=
  fn_B (gX0_isRow ρ x1 a) fun v2 a1 => if v2 = iI 0 then (some ((iI (-1)), a1)) else fn_B (gX0_isRow ρ x2 a1) fun v4 a3 => if v4 = iI 0 then (some ((iI (-1)), a3)) else fn_gA 0 5 (some this) a3 fun v5 => fn_aA 5 v5 x1 a3 fun v6 => fn_nn v6 (some ((iI (-3)), a3)) (fn_gA 0 5 (some this) a3 fun v7 => fn_gA 0 5 (some this) a3 fun v8 => fn_aA 5 v8 x1 a3 fun v9 => fn_cls v9 a3 fun c o => fn_B (if c = 29 then gX21_copy ρ o a3 else if c = 30 then gX22_copy ρ o a3 else none) fun v11 a10 => fn_sA 5 [29, 30] v7 x2 v11 a10 fun a12 => fn_gA 0 5 (some this) a12 fun v13 => fn_aA 5 v13 x2 a12 fun v14 => fn_cls v14 a12 fun c o => fn_B (if c = 29 then gX21_sort ρ o a12 else if c = 30 then gX22_sort ρ o a12 else none) fun v16 a15 => some (v16, a15))
def gX0_look (ρ : Nat → Nat) (this : Nat) (x1 : Int32) (x2 : Int32) (a : mS) : Option (Int32 × mS) :=
  fn_B (gX0_isPlace ρ x1 x2 a) fun v2 a1 => if v2 = iI 0 then (some ((iI (-1)), a1)) else fn_gA 0 5 (some this) a1 fun v3 => fn_aA 5 v3 x1 a1 fun v4 => fn_nn v4 (some ((iI (-3)), a1)) (fn_gA 0 5 (some this) a1 fun v5 => fn_aA 5 v5 x1 a1 fun v6 => fn_cls v6 a1 fun c o => fn_B (if c = 29 then gX21_look ρ o x2 a1 else if c = 30 then gX22_look ρ o x2 a1 else none) fun v8 a7 => some (v8, a7))
def gX0_of (ρ : Nat → Nat) (this : Nat) (x1 : Int32) (x2 : Int32) (a : mS) : Option (Int32 × mS) :=
  fn_gA 0 0 (some this) a fun v1 => fn_rc 1 v1 a fun o => fn_B (gX1_isLease ρ o x1 a) fun v3 a2 => if v3 = iI 0 then (some ((iI (-1)), a2)) else fn_gA 0 0 (some this) a2 fun v4 => fn_gA 1 0 v4 a2 fun v5 => fn_rc 2 v5 a2 fun o => fn_B (gJ2_get ρ o x1 a2) fun v7 a6 => fn_cast [6] v7 a6 (if x2 = iI 0 then (fn_gA 6 1 v7 a6 fun v9 => fn_nn v9 (some ((iI (-5)), a6)) (fn_gA 6 1 v7 a6 fun v10 => fn_gI 6 0 v10 a6 fun v11 => some (v11, a6))) else if x2 = iI 1 then (fn_gI 6 2 v7 a6 fun v13 => some (v13, a6)) else if x2 = iI 2 then (fn_gI 6 3 v7 a6 fun v15 => some (v15, a6)) else if x2 = iI 3 then (fn_gI 6 4 v7 a6 fun v17 => some (v17, a6)) else if x2 = iI 4 then (fn_gI 6 5 v7 a6 fun v19 => some (v19, a6)) else if x2 = iI 5 then (fn_rc 6 v7 a6 fun o => fn_B (gX4_end ρ o a6) fun v22 a21 => some (v22, a21)) else if x2 = iI 6 then (fn_gI 6 7 v7 a6 fun v24 => some (v24, a6)) else if x2 = iI 7 then (fn_rc 0 (some this) a6 fun o => fn_B (gX0_sublets ρ o v7 a6) fun v27 a26 => some (v27, a26)) else if x2 = iI 8 then (fn_rc 6 v7 a6 fun o => fn_B (gX4_depth ρ o a6) fun v30 a29 => some (v30, a29)) else if x2 = iI 9 then (fn_gI 6 8 v7 a6 fun v32 => some (v32, a6)) else some ((iI (-1)), a6))
def gX0_put (ρ : Nat → Nat) (this : Nat) (x1 : Int32) (x2 : Int32) (x3 : Int32) (a : mS) : Option (Int32 × mS) :=
  fn_B (gX0_isPlace ρ x1 x2 a) fun v2 a1 => if v2 = iI 0 then (some ((iI (-1)), a1)) else fn_gA 0 5 (some this) a1 fun v3 => fn_aA 5 v3 x1 a1 fun v4 => fn_nn v4 (some ((iI (-3)), a1)) (fn_gA 0 5 (some this) a1 fun v5 => fn_aA 5 v5 x1 a1 fun v6 => fn_cls v6 a1 fun c o => fn_B (if c = 29 then gX21_put ρ o x2 x3 a1 else if c = 30 then gX22_put ρ o x2 x3 a1 else none) fun v8 a7 => fn_B (gX0_bit ρ v8 a7) fun v10 a9 => some (v10, a9))
def gX1_clauses (ρ : Nat → Nat) (this : Nat) (x1 : Int32) (x2 : Int32) (x3 : Int32) (a : mS) : Option (Int32 × mS) :=
  fn_rc 1 (some this) a fun o => fn_B (gX1_isLease ρ o x1 a) fun v2 a1 => if v2 = iI 0 then (some ((iI (-1)), a1)) else fn_B (gX0_in ρ (x2.toInt64) (lI 0) (lI 500) a1) fun v4 a3 => if v4 = iI 0 then (some ((iI (-2)), a3)) else fn_B (gX0_in ρ (x3.toInt64) (lI 0) (lI 100) a3) fun v6 a5 => if v6 = iI 0 then (some ((iI (-2)), a5)) else fn_gA 1 0 (some this) a5 fun v7 => fn_rc 2 v7 a5 fun o => fn_B (gJ2_get ρ o x1 a5) fun v9 a8 => fn_cast [6] v9 a8 (fn_gI 6 4 v9 a8 fun v10 => fn_pI 6 4 v9 x2 a8 fun a11 => if x2 = iI 0 then (fn_pI 6 5 v9 (iI 0) a11 fun a12 => some (v10, a12)) else fn_pI 6 5 v9 x3 a11 fun a13 => some (v10, a13))
def gX1_init (ρ : Nat → Nat) (this : Nat) (a : mS) : Option (Unit × mS) :=
  fn_new 2 [Value.int (iI 0), va_rf none, Value.int (iI 0)] a fun v1 a2 => fn_B (gJ2_init ρ v1 a2) fun _ a3 => fn_pA 1 0 (some this) (some v1) a3 fun a4 => fn_new 2 [Value.int (iI 0), va_rf none, Value.int (iI 0)] a4 fun v5 a6 => fn_B (gJ2_init ρ v5 a6) fun _ a7 => fn_pA 1 1 (some this) (some v5) a7 fun a8 => fn_new 2 [Value.int (iI 0), va_rf none, Value.int (iI 0)] a8 fun v9 a10 => fn_B (gJ2_init ρ v9 a10) fun _ a11 => fn_pA 1 2 (some this) (some v9) a11 fun a12 => fn_new 2 [Value.int (iI 0), va_rf none, Value.int (iI 0)] a12 fun v13 a14 => fn_B (gJ2_init ρ v13 a14) fun _ a15 => fn_pA 1 3 (some this) (some v13) a15 fun a16 => fn_new 3 [va_rf none, Value.int (iI 0)] a16 fun v17 a18 => fn_B (gX2_init ρ v17 (iI 1000) a18) fun _ a19 => fn_pA 1 4 (some this) (some v17) a19 fun a20 => fn_new 3 [va_rf none, Value.int (iI 0)] a20 fun v21 a22 => fn_B (gX2_init ρ v21 (iI 0) a22) fun _ a23 => fn_pA 1 5 (some this) (some v21) a23 fun a24 => some ((), a24)
def gX1_reduction_b72 (ρ : Nat → Nat) (this : Nat) (k5 : Option Nat → Int32 → Int32 → Int32 → mS → Option (Int32 × mS)) (x1 : Option Nat) (x2 : Int32) (x4 : Int32) (s0 : Int32) (s1 : Int32) (a : mS) : Option (Int32 × mS) :=
  k5 x1 x2 (s0 + s1) (x4 + iI 1) a
def gX1_reduction_b71 (ρ : Nat → Nat) (this : Nat) (k5 : Option Nat → Int32 → Int32 → Int32 → mS → Option (Int32 × mS)) (x1 : Option Nat) (x2 : Int32) (x4 : Int32) (s0 : Int32) (a : mS) : Option (Int32 × mS) :=
  gX1_reduction_b72 ρ this k5 x1 x2 x4 s0 (iI 0) a
def gX1_reduction_b5 (ρ : Nat → Nat) (this : Nat) (k5 : Option Nat → Int32 → Int32 → Int32 → mS → Option (Int32 × mS)) (x1 : Option Nat) (x2 : Int32) (x3 : Int32) (x4 : Int32) (a : mS) : Option (Int32 × mS) :=
  fn_gA 1 1 (some this) a fun v1 => fn_rc 2 v1 a fun o => fn_B (gJ2_size ρ o a) fun v3 a2 => if v3 ≤ x4 then (fn_B (gJ9_min ρ (iI 100) x3 a2) fun v5 a4 => some (v5, a4)) else fn_gA 1 1 (some this) a2 fun v6 => fn_rc 2 v6 a2 fun o => fn_B (gJ2_get ρ o x4 a2) fun v8 a7 => fn_cast [7] v8 a7 (fn_rc 7 v8 a7 fun o => fn_B (gX5_holds ρ o x2 a7) fun v10 a9 => if v10 = iI 0 then (gX1_reduction_b71 ρ this k5 x1 x2 x4 x3 a9) else fn_gA 1 0 (some this) a9 fun v11 => fn_gI 7 0 v8 a9 fun v12 => fn_rc 2 v11 a9 fun o => fn_B (gJ2_get ρ o v12 a9) fun v14 a13 => fn_cast [6] v14 a13 (fn_rc 6 x1 a13 fun o => fn_B (gX4_isUnder ρ o v14 a13) fun v16 a15 => if v16 = iI 0 then (gX1_reduction_b71 ρ this k5 x1 x2 x4 x3 a15) else fn_gI 7 2 v8 a15 fun v17 => gX1_reduction_b72 ρ this k5 x1 x2 x4 x3 v17 a15))
def gX1_reduction (ρ : Nat → Nat) (this : Nat) (x1 : Option Nat) (x2 : Int32) (a : mS) : Option (Int32 × mS) :=
  fnFix (fun _ _ _ _ _ => none) (gX1_reduction_b5 ρ this) fnGas x1 x2 (iI 0) (iI 0) a
def gX1_repairs (ρ : Nat → Nat) (this : Nat) (x1 : Int32) (x2 : Int32) (a : mS) : Option (Int32 × mS) :=
  fn_B (gX6_isDay ρ x2 a) fun v2 a1 => if v2 = iI 0 then (some ((iI (-2)), a1)) else fn_gA 1 1 (some this) a1 fun v3 => fn_rc 2 v3 a1 fun o => fn_B (gJ2_size ρ o a1) fun v5 a4 => fn_B (gX0_in ρ (x1.toInt64) (lI 0) ((v5 - (iI 1)).toInt64) a4) fun v7 a6 => if v7 = iI 0 then (some ((iI (-6)), a6)) else fn_gA 1 1 (some this) a6 fun v8 => fn_rc 2 v8 a6 fun o => fn_B (gJ2_get ρ o x1 a6) fun v10 a9 => fn_cast [7] v10 a9 (fn_gI 7 3 v10 a9 fun v11 => if iI 0 ≤ v11 then (some ((iI (-6)), a9)) else fn_gA 1 1 (some this) a9 fun v12 => fn_rc 2 v12 a9 fun o => fn_B (gJ2_get ρ o x1 a9) fun v14 a13 => fn_cast [7] v14 a13 (fn_gI 7 1 v14 a13 fun v15 => if v15 ≤ x2 then (fn_gA 1 1 (some this) a13 fun v16 => fn_rc 2 v16 a13 fun o => fn_B (gJ2_get ρ o x1 a13) fun v18 a17 => fn_cast [7] v18 a17 (fn_pI 7 3 v18 x2 a17 fun a19 => fn_gA 1 1 (some this) a19 fun v20 => fn_rc 2 v20 a19 fun o => fn_B (gJ2_get ρ o x1 a19) fun v22 a21 => fn_cast [7] v22 a21 (fn_gI 7 1 v22 a21 fun v23 => some ((x2 - v23), a21)))) else some ((iI (-6)), a13)))
def gX1_withdraws (ρ : Nat → Nat) (this : Nat) (x1 : Int32) (a : mS) : Option (Int32 × mS) :=
  fn_rc 1 (some this) a fun o => fn_B (gX1_isLease ρ o x1 a) fun v2 a1 => if v2 = iI 0 then (some ((iI (-1)), a1)) else fn_gA 1 0 (some this) a1 fun v3 => fn_rc 2 v3 a1 fun o => fn_B (gJ2_get ρ o x1 a1) fun v5 a4 => fn_cast [6] v5 a4 (fn_rc 6 v5 a4 fun o => fn_B (gX4_hasNotice ρ o a4) fun v7 a6 => if v7 = iI 0 then (some ((iI (-5)), a6)) else fn_gI 6 6 v5 a6 fun v8 => fn_pI 6 6 v5 (iI (-5)) a6 fun a9 => fn_pI 6 7 v5 (iI (-5)) a9 fun a10 => fn_pI 6 8 v5 (iI (-5)) a10 fun a11 => some (v8, a11))
def gX4_hasDays (ρ : Nat → Nat) (this : Nat) (a : mS) : Option (Int32 × mS) :=
  fn_rc 6 (some this) a fun o => fn_B (gX4_end ρ o a) fun v2 a1 => if v2 < iI 0 then (fn_rZ (iI 1) a1) else fn_gI 6 2 (some this) a1 fun v3 => if v2 < v3 then (fn_rZ (iI 0) a1) else fn_rZ (iI 1) a1
def gX4_until (ρ : Nat → Nat) (this : Nat) (x1 : Int32) (a : mS) : Option (Int32 × mS) :=
  fn_rc 6 (some this) a fun o => fn_B (gX4_end ρ o a) fun v2 a1 => if iI 0 ≤ v2 then (fn_B (gJ9_min ρ x1 v2 a1) fun v4 a3 => some (v4, a3)) else some (x1, a1)
def gX8_need (ρ : Nat → Nat) (this : Nat) (x1 : Int32) (a : mS) : Option ((Unit ⊕ Nat) × mS) :=
  if x1 = iI 0 then (fn_new 15 [va_rf none, va_rf none, va_rf none, va_rf none, va_rf none, Value.int (iI 0), Value.int (iI 0)] a fun v1 a2 => fn_gI 14 0 (some this) a2 fun v3 => fn_B (gX9_init ρ v1 v3 a2) fun _ a4 => fn_throw (some v1) a4) else some (.inl (), a)
def gX0_init (ρ : Nat → Nat) (this : Nat) (a : mS) : Option (Unit × mS) :=
  fn_new 1 [va_rf none, va_rf none, va_rf none, va_rf none, va_rf none, va_rf none] a fun v1 a2 => fn_B (gX1_init ρ v1 a2) fun _ a3 => fn_pA 0 0 (some this) (some v1) a3 fun a4 => fn_pI 0 1 (some this) (iI (-5)) a4 fun a5 => fn_new 2 [Value.int (iI 0), va_rf none, Value.int (iI 0)] a5 fun v6 a7 => fn_B (gJ2_init ρ v6 a7) fun _ a8 => fn_pA 0 2 (some this) (some v6) a8 fun a9 => fn_nI 1 (iI 60) a9 fun v10 a11 => fn_pA 0 3 (some this) (some v10) a11 fun a12 => fn_nA 5 (iI 3) a12 fun v13 a14 => fn_pA 0 5 (some this) (some v13) a14 fun a15 => some ((), a15)
def gX0_reduction (ρ : Nat → Nat) (this : Nat) (x1 : Int32) (x2 : Int32) (a : mS) : Option (Int32 × mS) :=
  fn_gA 0 0 (some this) a fun v1 => fn_rc 1 v1 a fun o => fn_B (gX1_isLease ρ o x1 a) fun v3 a2 => if v3 = iI 0 then (some ((iI (-1)), a2)) else fn_B (gX6_isDay ρ x2 a2) fun v5 a4 => if v5 = iI 0 then (some ((iI (-2)), a4)) else fn_gA 0 0 (some this) a4 fun v6 => fn_gA 0 0 (some this) a4 fun v7 => fn_gA 1 0 v7 a4 fun v8 => fn_rc 2 v8 a4 fun o => fn_B (gJ2_get ρ o x1 a4) fun v10 a9 => fn_cast [6] v10 a9 (fn_rc 1 v6 a9 fun o => fn_B (gX1_reduction ρ o v10 x2 a9) fun v12 a11 => some (v12, a11))
def gX0_without_b45 (ρ : Nat → Nat) (this : Nat) (k13 : Int32 → Option Nat → mS → Option (Int32 × mS)) (x2 : Option Nat) (s0 : Int32) (s1 : Int32) (a : mS) : Option (Int32 × mS) :=
  fn_B (gX0_bit ρ s1 a) fun v2 a1 => k13 (s0 + v2) x2 a1
def gX0_without_b13 (ρ : Nat → Nat) (this : Nat) (k13 : Int32 → Option Nat → mS → Option (Int32 × mS)) (x1 : Int32) (x2 : Option Nat) (a : mS) : Option (Int32 × mS) :=
  fn_cls x2 a fun c o => fn_B (if c = 5 then gJ5_hasNext ρ o a else none) fun v2 a1 => if v2 = iI 0 then (some (x1, a1)) else fn_cls x2 a1 fun c o => fn_B (if c = 5 then gJ5_next ρ o a1 else none) fun v4 a3 => fn_cast [6] v4 a3 (fn_rc 6 v4 a3 fun o => fn_B (gX4_hasDays ρ o a3) fun v6 a5 => if v6 = iI 0 then (gX0_without_b45 ρ this k13 x2 x1 (iI 1) a5) else gX0_without_b45 ρ this k13 x2 x1 (iI 0) a5)
def gX0_without (ρ : Nat → Nat) (this : Nat) (a : mS) : Option (Int32 × mS) :=
  fn_gA 0 0 (some this) a fun v1 => fn_gA 1 0 v1 a fun v2 => fn_rc 2 v2 a fun o => fn_B (gJ2_iterator ρ o a) fun v4 a3 => fnFix (fun _ _ _ => none) (gX0_without_b13 ρ this) fnGas (iI 0) v4 a3
def gX14_does (ρ : Nat → Nat) (this : Nat) (x1 : Option Nat) (a : mS) : Option (Int32 × mS) :=
  fn_gI 20 0 (some this) a fun v1 => fn_gI 20 1 (some this) a fun v2 => fn_rc 1 x1 a fun o => fn_B (gX1_repairs ρ o v1 v2 a) fun v4 a3 => some (v4, a3)
def gX16_does (ρ : Nat → Nat) (this : Nat) (x1 : Option Nat) (a : mS) : Option (Int32 × mS) :=
  fn_gI 22 0 (some this) a fun v1 => fn_rc 1 x1 a fun o => fn_B (gX1_withdraws ρ o v1 a) fun v3 a2 => some (v3, a2)
def gX17_endOfRun_b15 (ρ : Nat → Nat) (this : Nat) (k15 : Int32 → Int32 → Int32 → mS → Option (Int32 × mS)) (x1 : Int32) (x3 : Int32) (x4 : Int32) (a : mS) : Option (Int32 × mS) :=
  if x3 ≤ x4 then (some (x4, a)) else fn_gA 23 4 (some this) a fun v1 => fn_gA 0 0 v1 a fun v2 => fn_gA 23 0 (some this) a fun v3 => fn_rc 1 v2 a fun o => fn_B (gX1_reduction ρ o v3 (x4 + (iI 1)) a) fun v5 a4 => fn_gA 23 4 (some this) a4 fun v6 => fn_gA 0 0 v6 a4 fun v7 => fn_gA 23 0 (some this) a4 fun v8 => fn_rc 1 v7 a4 fun o => fn_B (gX1_reduction ρ o v8 x1 a4) fun v10 a9 => if v5 = v10 then (k15 x1 x3 (x4 + iI 1) a9) else some (x4, a9)
def gX17_endOfRun (ρ : Nat → Nat) (this : Nat) (x1 : Int32) (x2 : Int32) (a : mS) : Option (Int32 × mS) :=
  fn_B (gX6_monthOf ρ x1 a) fun v2 a1 => fn_B (gX6_lastOf ρ v2 a1) fun v4 a3 => fn_B (gJ9_min ρ x2 v4 a3) fun v6 a5 => fnFix (fun _ _ _ _ => none) (gX17_endOfRun_b15 ρ this) fnGas x1 v6 x1 a5
def gX17_takes (ρ : Nat → Nat) (this : Nat) (x1 : Int32) (x2 : Int32) (a : mS) : Option (Unit × mS) :=
  fn_gA 23 4 (some this) a fun v1 => fn_gA 0 0 v1 a fun v2 => fn_gA 23 0 (some this) a fun v3 => fn_rc 1 v2 a fun o => fn_B (gX1_reduction ρ o v3 x1 a) fun v5 a4 => fn_gL 23 2 (some this) a4 fun v6 => fn_gA 23 1 (some this) a4 fun v7 => fn_B (gX6_monthOf ρ x1 a4) fun v9 a8 => fn_aI 0 v7 v9 a8 fun v10 => fn_gL 23 3 (some this) a8 fun v11 => if (lI 3000) = lI 0 then none else fn_pL 23 3 (some this) (v11 + ((v6 + (((((x2 - x1) + (iI 1)).toInt64) * ((lI 100) - (v5.toInt64))) * (v10.toInt64))) / (lI 3000))) a8 fun a13 => if (lI 3000) = lI 0 then none else fn_pL 23 2 (some this) ((v6 + (((((x2 - x1) + (iI 1)).toInt64) * ((lI 100) - (v5.toInt64))) * (v10.toInt64))) - (v6 + (((((x2 - x1) + (iI 1)).toInt64) * ((lI 100) - (v5.toInt64))) * (v10.toInt64))) / (lI 3000) * (lI 3000)) a13 fun a15 => some ((), a15)
def gX1_units (ρ : Nat → Nat) (this : Nat) (x1 : Option Nat) (x2 : Option Nat) (x3 : Int32) (a : mS) : Option (Int64 × mS) :=
  fn_B (gX6_monthOf ρ x3 a) fun v2 a1 => fn_aI 0 x2 v2 a1 fun v3 => fn_rc 1 (some this) a1 fun o => fn_B (gX1_reduction ρ o x1 x3 a1) fun v5 a4 => some (((v3.toInt64) * (((iI 100) - v5).toInt64)), a4)
def gX4_runs (ρ : Nat → Nat) (this : Nat) (x1 : Int32) (a : mS) : Option (Int32 × mS) :=
  fn_gI 6 2 (some this) a fun v1 => if x1 < v1 then (fn_rZ (iI 0) a) else fn_rc 6 (some this) a fun o => fn_B (gX4_until ρ o x1 a) fun v3 a2 => if v3 < x1 then (fn_rZ (iI 0) a2) else fn_rZ (iI 1) a2
def gX8_digit (ρ : Nat → Nat) (this : Nat) (a : mS) : Option ((Int32 ⊕ Nat) × mS) :=
  fn_rc 14 (some this) a fun o => fn_B (gX8_sign ρ o a) fun v2 a1 => fn_B (gX0_in ρ (v2.toInt64) (lI 48) (lI 57) a1) fun v4 a3 => fn_rc 14 (some this) a3 fun o => fn_BX (gX8_need ρ o v4 a3) fun _ a5 => fn_gI 14 0 (some this) a5 fun v6 => fn_pI 14 0 (some this) (v6 + (iI 1)) a5 fun a7 => fn_gA 14 1 (some this) a7 fun v8 => fn_gA 0 3 v8 a7 fun v9 => fn_gI 14 0 (some this) a7 fun v10 => fn_aI 1 v9 (v10 - (iI 1)) a7 fun v11 => some (.inl (v11 - (iI 48)), a7)
def gX8_takes_b14 (ρ : Nat → Nat) (this : Nat) (s0 : Option Nat) (s1 : Int32) (a : mS) : Option ((Unit ⊕ Nat) × mS) :=
  fn_rc 14 s0 a fun o => fn_BX (gX8_need ρ o s1 a) fun _ a1 => fn_gI 14 0 (some this) a1 fun v2 => fn_pI 14 0 (some this) (v2 + (iI 1)) a1 fun a3 => some (.inl (), a3)
def gX8_takes (ρ : Nat → Nat) (this : Nat) (x1 : Int32) (a : mS) : Option ((Unit ⊕ Nat) × mS) :=
  fn_rc 14 (some this) a fun o => fn_B (gX8_sign ρ o a) fun v2 a1 => if v2 = x1 then (gX8_takes_b14 ρ this (some this) (iI 1) a1) else gX8_takes_b14 ρ this (some this) (iI 0) a1
def gX0_running_b13 (ρ : Nat → Nat) (this : Nat) (k13 : Int32 → Int32 → Option Nat → mS → Option (Int32 × mS)) (x1 : Int32) (x2 : Int32) (x3 : Option Nat) (a : mS) : Option (Int32 × mS) :=
  fn_cls x3 a fun c o => fn_B (if c = 5 then gJ5_hasNext ρ o a else none) fun v2 a1 => if v2 = iI 0 then (some (x2, a1)) else fn_cls x3 a1 fun c o => fn_B (if c = 5 then gJ5_next ρ o a1 else none) fun v4 a3 => fn_cast [6] v4 a3 (fn_rc 6 v4 a3 fun o => fn_B (gX4_runs ρ o x1 a3) fun v6 a5 => fn_B (gX0_bit ρ v6 a5) fun v8 a7 => k13 x1 (x2 + v8) x3 a7)
def gX0_running (ρ : Nat → Nat) (this : Nat) (x1 : Int32) (a : mS) : Option (Int32 × mS) :=
  fn_gA 0 0 (some this) a fun v1 => fn_gA 1 0 v1 a fun v2 => fn_rc 2 v2 a fun o => fn_B (gJ2_iterator ρ o a) fun v4 a3 => fnFix (fun _ _ _ _ => none) (gX0_running_b13 ρ this) fnGas x1 (iI 0) v4 a3
def gX17_until_b17 (ρ : Nat → Nat) (this : Nat) (k17 : Int32 → Int32 → mS → Option (Int64 × mS)) (x2 : Int32) (x3 : Int32) (a : mS) : Option (Int64 × mS) :=
  if x2 < x3 then (fn_gL 23 3 (some this) a fun v1 => some (v1, a)) else fn_rc 23 (some this) a fun o => fn_B (gX17_endOfRun ρ o x3 x2 a) fun v3 a2 => fn_rc 23 (some this) a2 fun o => fn_B (gX17_takes ρ o x3 v3 a2) fun _ a4 => k17 x2 (v3 + (iI 1)) a4
def gX17_until (ρ : Nat → Nat) (this : Nat) (x1 : Int32) (a : mS) : Option (Int64 × mS) :=
  fn_gA 23 0 (some this) a fun v1 => fn_rc 6 v1 a fun o => fn_B (gX4_until ρ o x1 a) fun v3 a2 => fn_gA 23 0 (some this) a2 fun v4 => fn_gI 6 2 v4 a2 fun v5 => fnFix (fun _ _ _ => none) (gX17_until_b17 ρ this) fnGas v3 v5 a2
def gX1_notices (ρ : Nat → Nat) (this : Nat) (x1 : Int32) (x2 : Int32) (x3 : Int32) (a : mS) : Option (Int32 × mS) :=
  fn_rc 1 (some this) a fun o => fn_B (gX1_isLease ρ o x1 a) fun v2 a1 => if v2 = iI 0 then (some ((iI (-1)), a1)) else fn_B (gX6_isDay ρ x2 a1) fun v4 a3 => if v4 = iI 0 then (some ((iI (-2)), a3)) else fn_B (gX0_in ρ (x3.toInt64) (lI 0) (lI 1) a3) fun v6 a5 => if v6 = iI 0 then (some ((iI (-2)), a5)) else fn_gA 1 0 (some this) a5 fun v7 => fn_rc 2 v7 a5 fun o => fn_B (gJ2_get ρ o x1 a5) fun v9 a8 => fn_cast [6] v9 a8 (fn_rc 6 v9 a8 fun o => fn_B (gX4_runs ρ o x2 a8) fun v11 a10 => if v11 = iI 0 then (some ((iI (-4)), a10)) else fn_rc 6 v9 a10 fun o => fn_B (gX4_hasNotice ρ o a10) fun v13 a12 => if v13 = iI 0 then (fn_rc 6 v9 a12 fun o => fn_B (gX4_endBy ρ o x2 x3 a12) fun v15 a14 => fn_pI 6 6 v9 v15 a14 fun a16 => fn_pI 6 7 v9 x3 a16 fun a17 => fn_pI 6 8 v9 x2 a17 fun a18 => fn_gI 6 6 v9 a18 fun v19 => some (v19, a18)) else some ((iI (-5)), a12))
def gX8_number_b7 (ρ : Nat → Nat) (this : Nat) (k7 : Int32 → Int32 → mS → Option ((Int32 ⊕ Nat) × mS)) (x1 : Int32) (x2 : Int32) (a : mS) : Option ((Int32 ⊕ Nat) × mS) :=
  if (iI 7) ≤ x2 then (some (.inl x1, a)) else fn_rc 14 (some this) a fun o => fn_B (gX8_sign ρ o a) fun v2 a1 => fn_B (gX0_in ρ (v2.toInt64) (lI 48) (lI 57) a1) fun v4 a3 => if v4 = iI 0 then (some (.inl x1, a3)) else fn_rc 14 (some this) a3 fun o => fn_BX (gX8_digit ρ o a3) fun v6 a5 => k7 (((iI 10) * x1) + v6) (x2 + iI 1) a5
def gX8_number (ρ : Nat → Nat) (this : Nat) (a : mS) : Option ((Int32 ⊕ Nat) × mS) :=
  fn_rc 14 (some this) a fun o => fn_BX (gX8_digit ρ o a) fun v2 a1 => fnFix (fun _ _ _ => none) (gX8_number_b7 ρ this) fnGas v2 (iI 1) a1
def gX8_withdrawing (ρ : Nat → Nat) (this : Nat) (a : mS) : Option ((Option Nat ⊕ Nat) × mS) :=
  fn_rc 14 (some this) a fun o => fn_BX (gX8_digit ρ o a) fun v2 a1 => fn_new 22 [Value.int (iI 0), va_rf none] a1 fun v3 a4 => fn_B (gX16_init ρ v3 (some this) v2 a4) fun _ a5 => some (.inl (some v3), a5)
def gX15_does (ρ : Nat → Nat) (this : Nat) (x1 : Option Nat) (a : mS) : Option (Int32 × mS) :=
  fn_gI 21 0 (some this) a fun v1 => fn_gI 21 1 (some this) a fun v2 => fn_gI 21 2 (some this) a fun v3 => fn_rc 1 x1 a fun o => fn_B (gX1_notices ρ o v1 v2 v3 a) fun v5 a4 => some (v5, a4)
def gX2_at (ρ : Nat → Nat) (this : Nat) (x1 : Int32) (a : mS) : Option (Int32 × mS) :=
  fn_gA 3 0 (some this) a fun v1 => fn_B (gJ16_valueOf ρ x1 a) fun v3 a2 => fn_rc 4 v1 a2 fun o => fn_B (gJ4_floorEntry ρ o v3 a2) fun v5 a4 => fn_nn v5 (fn_gI 3 1 (some this) a4 fun v6 => some (v6, a4)) (fn_cls v5 a4 fun c o => fn_B (if c = 12 then gJ18_getValue ρ o a4 else none) fun v8 a7 => fn_cast [11] v8 a7 (fn_rc 11 v8 a7 fun o => fn_B (gJ16_intValue ρ o a7) fun v10 a9 => some (v10, a9)))
def gX8_behind (ρ : Nat → Nat) (this : Nat) (x1 : Int32) (a : mS) : Option ((Int32 ⊕ Nat) × mS) :=
  fn_rc 14 (some this) a fun o => fn_BX (gX8_takes ρ o x1 a) fun _ a1 => fn_rc 14 (some this) a1 fun o => fn_BX (gX8_number ρ o a1) fun v3 a2 => some (.inl v3, a2)
def gX0_keeps (ρ : Nat → Nat) (this : Nat) (x1 : Option Nat) (a : mS) : Option (Unit × mS) :=
  fn_gA 0 2 (some this) a fun v1 => fn_rc 2 v1 a fun o => fn_B (gJ2_add ρ o x1 a) fun v3 a2 => fn_gA 0 2 (some this) a2 fun v4 => fn_rc 2 v4 a2 fun o => fn_B (gJ2_size ρ o a2) fun v6 a5 => if v6 ≤ (iI 6) then (some ((), a5)) else fn_gA 0 2 (some this) a5 fun v7 => fn_rc 2 v7 a5 fun o => fn_B (gJ2_remove ρ o (iI 0) a5) fun v9 a8 => fn_cast [1] v9 a8 (some ((), a8))
def gX1_deposited_b86 (ρ : Nat → Nat) (this : Nat) (k23 : Option Nat → Int32 → Int64 → Int64 → Int32 → Int32 → mS → Option (Int64 × mS)) (x1 : Option Nat) (x3 : Int32) (x4 : Int64) (x6 : Int64) (x8 : Int32) (x9 : Int32) (a : mS) : Option (Int64 × mS) :=
  k23 x1 x3 x4 x6 x8 (x9 + iI 1) a
def gX1_deposited_b23 (ρ : Nat → Nat) (this : Nat) (k23 : Option Nat → Int32 → Int64 → Int64 → Int32 → Int32 → mS → Option (Int64 × mS)) (x1 : Option Nat) (x3 : Int32) (x4 : Int64) (x6 : Int64) (x8 : Int32) (x9 : Int32) (a : mS) : Option (Int64 × mS) :=
  if x8 < x9 then (if x3 = iI 0 then (some (x4, a)) else some (x6, a)) else fn_gI 6 0 x1 a fun v1 => fn_rc 1 (some this) a fun o => fn_B (gX1_paidIn ρ o v1 x9 a) fun v3 a2 => fn_B (gX6_isLast ρ x9 a2) fun v5 a4 => if v5 = iI 0 then (gX1_deposited_b86 ρ this k23 x1 x3 (x4 + v3) x6 x8 x9 a4) else fn_gA 1 5 (some this) a4 fun v6 => fn_rc 3 v6 a4 fun o => fn_B (gX2_at ρ o x9 a4) fun v8 a7 => if (lI 120000) = lI 0 then none else gX1_deposited_b86 ρ this k23 x1 x3 ((x4 + v3) + (((x4 + v3) * (v8.toInt64)) / (lI 120000))) (x6 + (((x4 + v3) * (v8.toInt64)) / (lI 120000))) x8 x9 a7
def gX1_deposited (ρ : Nat → Nat) (this : Nat) (x1 : Option Nat) (x2 : Int32) (x3 : Int32) (a : mS) : Option (Int64 × mS) :=
  fn_rc 6 x1 a fun o => fn_B (gX4_until ρ o x2 a) fun v2 a1 => fn_gI 6 0 x1 a1 fun v3 => fn_rc 1 (some this) a1 fun o => fn_B (gX1_firstDeposit ρ o v3 a1) fun v5 a4 => fnFix (fun _ _ _ _ _ _ _ => none) (gX1_deposited_b23 ρ this) fnGas x1 x3 (lI 0) (lI 0) v2 v5 a4
def gX1_makes_b91 (ρ : Nat → Nat) (this : Nat) (x2 : Int32) (x3 : Int32) (x4 : Option Nat) (a : mS) : Option (Int32 × mS) :=
  fn_gA 1 0 (some this) a fun v1 => fn_new 6 [Value.int (iI 0), va_rf none, Value.int (iI 0), Value.int (iI 0), Value.int (iI 0), Value.int (iI 0), Value.int (iI 0), Value.int (iI 0), Value.int (iI 0)] a fun v2 a3 => fn_gA 1 0 (some this) a3 fun v4 => fn_rc 2 v4 a3 fun o => fn_B (gJ2_size ρ o a3) fun v6 a5 => fn_B (gX4_init_2 ρ v2 v6 x4 x2 x3 a5) fun _ a7 => fn_rc 2 v1 a7 fun o => fn_B (gJ2_add ρ o (some v2) a7) fun v9 a8 => fn_gA 1 0 (some this) a8 fun v10 => fn_rc 2 v10 a8 fun o => fn_B (gJ2_size ρ o a8) fun v12 a11 => some ((v12 - (iI 1)), a11)
def gX1_makes_b72 (ρ : Nat → Nat) (this : Nat) (x2 : Int32) (x3 : Int32) (s0 : Option Nat) (a : mS) : Option (Int32 × mS) :=
  fn_nn s0 (gX1_makes_b91 ρ this x2 x3 s0 a) (fn_rc 6 s0 a fun o => fn_B (gX4_runs ρ o x2 a) fun v2 a1 => if v2 = iI 0 then (some ((iI (-4)), a1)) else gX1_makes_b91 ρ this x2 x3 s0 a1)
def gX1_makes_b15 (ρ : Nat → Nat) (this : Nat) (x1 : Int32) (x2 : Int32) (x3 : Int32) (a : mS) : Option (Int32 × mS) :=
  fn_B (gX6_isDay ρ x2 a) fun v2 a1 => if v2 = iI 0 then (some ((iI (-2)), a1)) else fn_B (gX0_in ρ (x3.toInt64) (lI 1) (lI 1000000) a1) fun v4 a3 => if v4 = iI 0 then (some ((iI (-2)), a3)) else fn_gA 1 0 (some this) a3 fun v5 => fn_rc 2 v5 a3 fun o => fn_B (gJ2_size ρ o a3) fun v7 a6 => if v7 = (iI 10) then (some ((iI (-3)), a6)) else if x1 = (iI (-1)) then (gX1_makes_b72 ρ this x2 x3 none a6) else fn_gA 1 0 (some this) a6 fun v8 => fn_rc 2 v8 a6 fun o => fn_B (gJ2_get ρ o x1 a6) fun v10 a9 => fn_cast [6] v10 a9 (fn_nn v10 (gX1_makes_b91 ρ this x2 x3 v10 a9) (fn_rc 6 v10 a9 fun o => fn_B (gX4_runs ρ o x2 a9) fun v12 a11 => if v12 = iI 0 then (some ((iI (-4)), a11)) else gX1_makes_b91 ρ this x2 x3 v10 a11))
def gX1_makes (ρ : Nat → Nat) (this : Nat) (x1 : Int32) (x2 : Int32) (x3 : Int32) (a : mS) : Option (Int32 × mS) :=
  if x1 = (iI (-1)) then (gX1_makes_b15 ρ this x1 x2 x3 a) else fn_rc 1 (some this) a fun o => fn_B (gX1_isLease ρ o x1 a) fun v2 a1 => if v2 = iI 0 then (some ((iI (-1)), a1)) else gX1_makes_b15 ρ this x1 x2 x3 a1
def gX1_pays (ρ : Nat → Nat) (this : Nat) (x1 : Int32) (x2 : Int32) (x3 : Int32) (a : mS) : Option (Int32 × mS) :=
  fn_rc 1 (some this) a fun o => fn_B (gX1_isLease ρ o x1 a) fun v2 a1 => if v2 = iI 0 then (some ((iI (-1)), a1)) else fn_B (gX6_isDay ρ x2 a1) fun v4 a3 => if v4 = iI 0 then (some ((iI (-2)), a3)) else fn_B (gX0_in ρ (x3.toInt64) (lI 1) (lI 9999999) a3) fun v6 a5 => if v6 = iI 0 then (some ((iI (-2)), a5)) else fn_gA 1 2 (some this) a5 fun v7 => fn_rc 2 v7 a5 fun o => fn_B (gJ2_size ρ o a5) fun v9 a8 => if v9 = (iI 24) then (some ((iI (-3)), a8)) else fn_gA 1 2 (some this) a8 fun v10 => fn_new 13 [Value.int (iI 0), Value.int (iI 0), Value.int (iI 0)] a8 fun v11 a12 => fn_B (gX7_init ρ v11 x1 x2 x3 a12) fun _ a13 => fn_rc 2 v10 a13 fun o => fn_B (gJ2_add ρ o (some v11) a13) fun v15 a14 => fn_gA 1 2 (some this) a14 fun v16 => fn_rc 2 v16 a14 fun o => fn_B (gJ2_size ρ o a14) fun v18 a17 => some (v18, a17)
def gX1_paysIn (ρ : Nat → Nat) (this : Nat) (x1 : Int32) (x2 : Int32) (x3 : Int32) (a : mS) : Option (Int32 × mS) :=
  fn_rc 1 (some this) a fun o => fn_B (gX1_isLease ρ o x1 a) fun v2 a1 => if v2 = iI 0 then (some ((iI (-1)), a1)) else fn_B (gX6_isDay ρ x2 a1) fun v4 a3 => if v4 = iI 0 then (some ((iI (-2)), a3)) else fn_B (gX0_in ρ (x3.toInt64) (lI 1) (lI 9999999) a3) fun v6 a5 => if v6 = iI 0 then (some ((iI (-2)), a5)) else fn_gA 1 3 (some this) a5 fun v7 => fn_rc 2 v7 a5 fun o => fn_B (gJ2_size ρ o a5) fun v9 a8 => if v9 = (iI 12) then (some ((iI (-3)), a8)) else fn_gA 1 0 (some this) a8 fun v10 => fn_rc 2 v10 a8 fun o => fn_B (gJ2_get ρ o x1 a8) fun v12 a11 => fn_cast [6] v12 a11 (fn_rc 6 v12 a11 fun o => fn_B (gX4_runs ρ o x2 a11) fun v14 a13 => if v14 = iI 0 then (some ((iI (-4)), a13)) else fn_gA 1 3 (some this) a13 fun v15 => fn_new 13 [Value.int (iI 0), Value.int (iI 0), Value.int (iI 0)] a13 fun v16 a17 => fn_B (gX7_init ρ v16 x1 x2 x3 a17) fun _ a18 => fn_rc 2 v15 a18 fun o => fn_B (gJ2_add ρ o (some v16) a18) fun v20 a19 => fn_gA 1 3 (some this) a19 fun v21 => fn_rc 2 v21 a19 fun o => fn_B (gJ2_size ρ o a19) fun v23 a22 => some ((v23 - (iI 1)), a22))
def gX1_rents_b114 (ρ : Nat → Nat) (this : Nat) (k32 : Option Nat → Option Nat → Int32 → Int32 → Int32 → Int32 → mS → Option (Option Nat × mS)) (x1 : Option Nat) (x2 : Option Nat) (x3 : Int32) (x4 : Int32) (x5 : Int32) (x6 : Int32) (a : mS) : Option (Option Nat × mS) :=
  fn_sI 0 x2 x6 x4 a fun a1 => k32 x1 x2 x3 x4 x5 (x6 + iI 1) a1
def gX1_rents_b84 (ρ : Nat → Nat) (this : Nat) (k32 : Option Nat → Option Nat → Int32 → Int32 → Int32 → Int32 → mS → Option (Option Nat × mS)) (x1 : Option Nat) (x2 : Option Nat) (x3 : Int32) (x4 : Int32) (x5 : Int32) (x6 : Int32) (x7 : Int32) (s0 : Int32) (a : mS) : Option (Option Nat × mS) :=
  if x6 ≤ x3 then (gX1_rents_b114 ρ this k32 x1 x2 x3 x4 x5 x6 a) else if s0 = iI 0 then (gX1_rents_b114 ρ this k32 x1 x2 x3 x4 x5 x6 a) else fn_rc 1 (some this) a fun o => fn_B (gX1_increased ρ o x1 x4 x5 x7 a) fun v2 a1 => gX1_rents_b114 ρ this k32 x1 x2 x3 v2 x7 x6 a1
def gX1_rents_b83 (ρ : Nat → Nat) (this : Nat) (k32 : Option Nat → Option Nat → Int32 → Int32 → Int32 → Int32 → mS → Option (Option Nat × mS)) (x1 : Option Nat) (x2 : Option Nat) (x3 : Int32) (x4 : Int32) (x5 : Int32) (x6 : Int32) (x7 : Int32) (a : mS) : Option (Option Nat × mS) :=
  gX1_rents_b84 ρ this k32 x1 x2 x3 x4 x5 x6 x7 (iI 0) a
def gX1_rents_b32 (ρ : Nat → Nat) (this : Nat) (k32 : Option Nat → Option Nat → Int32 → Int32 → Int32 → Int32 → mS → Option (Option Nat × mS)) (x1 : Option Nat) (x2 : Option Nat) (x3 : Int32) (x4 : Int32) (x5 : Int32) (x6 : Int32) (a : mS) : Option (Option Nat × mS) :=
  if (iI 120) ≤ x6 then (some (x2, a)) else fn_gA 1 4 (some this) a fun v1 => fn_rc 3 v1 a fun o => fn_B (gX2_at ρ o x6 a) fun v3 a2 => fn_gI 6 4 x1 a2 fun v4 => if v4 ≤ iI 0 then (gX1_rents_b83 ρ this k32 x1 x2 x3 x4 x5 x6 v3 a2) else fn_B (gJ9_abs ρ (v3 - x5) a2) fun v6 a5 => fn_gI 6 4 x1 a5 fun v7 => if ((iI 1000) * v6) < (v7 * x5) then (gX1_rents_b83 ρ this k32 x1 x2 x3 x4 x5 x6 v3 a5) else gX1_rents_b84 ρ this k32 x1 x2 x3 x4 x5 x6 v3 (iI 1) a5
def gX1_rents (ρ : Nat → Nat) (this : Nat) (x1 : Option Nat) (a : mS) : Option (Option Nat × mS) :=
  fn_nI 0 (iI 120) a fun v1 a2 => fn_gI 6 2 x1 a2 fun v3 => fn_B (gX6_monthOf ρ v3 a2) fun v5 a4 => fn_gI 6 3 x1 a4 fun v6 => fn_gA 1 4 (some this) a4 fun v7 => fn_rc 3 v7 a4 fun o => fn_B (gX2_at ρ o v5 a4) fun v9 a8 => fnFix (fun _ _ _ _ _ _ _ => none) (gX1_rents_b32 ρ this) fnGas x1 (some v1) v5 v6 v9 v5 a8
def gX1_tells (ρ : Nat → Nat) (this : Nat) (x1 : Int32) (x2 : Int32) (x3 : Int32) (a : mS) : Option (Int32 × mS) :=
  fn_rc 1 (some this) a fun o => fn_B (gX1_isLease ρ o x1 a) fun v2 a1 => if v2 = iI 0 then (some ((iI (-1)), a1)) else fn_B (gX6_isDay ρ x2 a1) fun v4 a3 => if v4 = iI 0 then (some ((iI (-2)), a3)) else fn_B (gX0_in ρ (x3.toInt64) (lI 1) (lI 100) a3) fun v6 a5 => if v6 = iI 0 then (some ((iI (-2)), a5)) else fn_gA 1 1 (some this) a5 fun v7 => fn_rc 2 v7 a5 fun o => fn_B (gJ2_size ρ o a5) fun v9 a8 => if v9 = (iI 12) then (some ((iI (-3)), a8)) else fn_gA 1 1 (some this) a8 fun v10 => fn_new 7 [Value.int (iI 0), Value.int (iI 0), Value.int (iI 0), Value.int (iI 0)] a8 fun v11 a12 => fn_B (gX5_init_2 ρ v11 x1 x2 x3 a12) fun _ a13 => fn_rc 2 v10 a13 fun o => fn_B (gJ2_add ρ o (some v11) a13) fun v15 a14 => fn_gA 1 1 (some this) a14 fun v16 => fn_rc 2 v16 a14 fun o => fn_B (gJ2_size ρ o a14) fun v18 a17 => some ((v18 - (iI 1)), a17)
def gX2_becomes (ρ : Nat → Nat) (this : Nat) (x1 : Int32) (x2 : Int32) (a : mS) : Option (Int32 × mS) :=
  fn_rc 3 (some this) a fun o => fn_B (gX2_at ρ o x1 a) fun v2 a1 => fn_gA 3 0 (some this) a1 fun v3 => fn_B (gJ16_valueOf ρ x1 a1) fun v5 a4 => fn_B (gJ16_valueOf ρ x2 a4) fun v7 a6 => fn_rc 4 v3 a6 fun o => fn_B (gJ4_put ρ o v5 v7 a6) fun v9 a8 => fn_cast [11] v9 a8 (some (v2, a8))
def gX2_init_2_b21 (ρ : Nat → Nat) (this : Nat) (k21 : Option Nat → mS → Option (Unit × mS)) (x2 : Option Nat) (a : mS) : Option (Unit × mS) :=
  fn_cls x2 a fun c o => fn_B (if c = 9 then gJ13_hasNext ρ o a else none) fun v2 a1 => if v2 = iI 0 then (some ((), a1)) else fn_cls x2 a1 fun c o => fn_B (if c = 9 then gJ14_next ρ o a1 else none) fun v4 a3 => fn_cast [10] v4 a3 (fn_gA 3 0 (some this) a3 fun v5 => fn_cls v4 a3 fun c o => fn_B (if c = 10 then gJ17_getKey ρ o a3 else none) fun v7 a6 => fn_cast [11] v7 a6 (fn_cls v4 a6 fun c o => fn_B (if c = 10 then gJ17_getValue ρ o a6 else none) fun v9 a8 => fn_cast [11] v9 a8 (fn_rc 4 v5 a8 fun o => fn_B (gJ4_put ρ o v7 v9 a8) fun v11 a10 => fn_cast [11] v11 a10 (k21 x2 a10))))
def gX2_init_2 (ρ : Nat → Nat) (this : Nat) (x1 : Option Nat) (a : mS) : Option (Unit × mS) :=
  fn_gI 3 1 x1 a fun v1 => fn_B (gX2_init ρ this v1 a) fun _ a2 => fn_gA 3 0 x1 a2 fun v3 => fn_rc 4 v3 a2 fun o => fn_B (gJ4_entrySet ρ o a2) fun v5 a4 => fn_cls v5 a4 fun c o => fn_B (if c = 8 then gJ12_iterator ρ o a4 else none) fun v7 a6 => fnFix (fun _ _ => none) (gX2_init_2_b21 ρ this) fnGas v7 a6
def gX8_indexing (ρ : Nat → Nat) (this : Nat) (a : mS) : Option ((Option Nat ⊕ Nat) × mS) :=
  fn_rc 14 (some this) a fun o => fn_BX (gX8_number ρ o a) fun v2 a1 => fn_rc 14 (some this) a1 fun o => fn_BX (gX8_behind ρ o (iI 61) a1) fun v4 a3 => fn_new 17 [Value.int (iI 0), Value.int (iI 0), va_rf none] a3 fun v5 a6 => fn_B (gX11_init ρ v5 (some this) v2 v4 a6) fun _ a7 => some (.inl (some v5), a7)
def gX8_noticing_b53 (ρ : Nat → Nat) (this : Nat) (x1 : Int32) (x2 : Int32) (s0 : Int32) (a : mS) : Option ((Option Nat ⊕ Nat) × mS) :=
  fn_B (gX0_bit ρ s0 a) fun v2 a1 => fn_gI 14 0 (some this) a1 fun v3 => fn_pI 14 0 (some this) (v3 + (iI 1)) a1 fun a4 => fn_new 21 [Value.int (iI 0), Value.int (iI 0), Value.int (iI 0), va_rf none] a4 fun v5 a6 => fn_B (gX15_init ρ v5 (some this) x1 x2 v2 a6) fun _ a7 => some (.inl (some v5), a7)
def gX8_noticing_b36 (ρ : Nat → Nat) (this : Nat) (x1 : Int32) (x2 : Int32) (s0 : Option Nat) (s1 : Int32) (a : mS) : Option ((Option Nat ⊕ Nat) × mS) :=
  fn_rc 14 s0 a fun o => fn_BX (gX8_need ρ o s1 a) fun _ a1 => fn_rc 14 (some this) a1 fun o => fn_B (gX8_sign ρ o a1) fun v3 a2 => if v3 = (iI 108) then (gX8_noticing_b53 ρ this x1 x2 (iI 1) a2) else gX8_noticing_b53 ρ this x1 x2 (iI 0) a2
def gX8_noticing_b31 (ρ : Nat → Nat) (this : Nat) (x1 : Int32) (x2 : Int32) (s0 : Option Nat) (a : mS) : Option ((Option Nat ⊕ Nat) × mS) :=
  gX8_noticing_b36 ρ this x1 x2 s0 (iI 1) a
def gX8_noticing (ρ : Nat → Nat) (this : Nat) (a : mS) : Option ((Option Nat ⊕ Nat) × mS) :=
  fn_rc 14 (some this) a fun o => fn_BX (gX8_digit ρ o a) fun v2 a1 => fn_rc 14 (some this) a1 fun o => fn_BX (gX8_behind ρ o (iI 64) a1) fun v4 a3 => fn_rc 14 (some this) a3 fun o => fn_B (gX8_sign ρ o a3) fun v6 a5 => if v6 = (iI 116) then (gX8_noticing_b31 ρ this v2 v4 (some this) a5) else fn_rc 14 (some this) a5 fun o => fn_B (gX8_sign ρ o a5) fun v8 a7 => if v8 = (iI 108) then (gX8_noticing_b31 ρ this v2 v4 (some this) a7) else gX8_noticing_b36 ρ this v2 v4 (some this) (iI 0) a7
def gX8_paying (ρ : Nat → Nat) (this : Nat) (a : mS) : Option ((Option Nat ⊕ Nat) × mS) :=
  fn_rc 14 (some this) a fun o => fn_BX (gX8_digit ρ o a) fun v2 a1 => fn_rc 14 (some this) a1 fun o => fn_BX (gX8_behind ρ o (iI 64) a1) fun v4 a3 => fn_rc 14 (some this) a3 fun o => fn_BX (gX8_behind ρ o (iI 43) a3) fun v6 a5 => fn_new 18 [Value.int (iI 0), Value.int (iI 0), Value.int (iI 0), va_rf none] a5 fun v7 a8 => fn_B (gX12_init ρ v7 (some this) v2 v4 v6 a8) fun _ a9 => some (.inl (some v7), a9)
def gX8_repairing (ρ : Nat → Nat) (this : Nat) (a : mS) : Option ((Option Nat ⊕ Nat) × mS) :=
  fn_rc 14 (some this) a fun o => fn_BX (gX8_number ρ o a) fun v2 a1 => fn_rc 14 (some this) a1 fun o => fn_BX (gX8_behind ρ o (iI 64) a1) fun v4 a3 => fn_new 20 [Value.int (iI 0), Value.int (iI 0), va_rf none] a3 fun v5 a6 => fn_B (gX14_init ρ v5 (some this) v2 v4 a6) fun _ a7 => some (.inl (some v5), a7)
def gX8_telling (ρ : Nat → Nat) (this : Nat) (a : mS) : Option ((Option Nat ⊕ Nat) × mS) :=
  fn_rc 14 (some this) a fun o => fn_BX (gX8_digit ρ o a) fun v2 a1 => fn_rc 14 (some this) a1 fun o => fn_BX (gX8_behind ρ o (iI 64) a1) fun v4 a3 => fn_rc 14 (some this) a3 fun o => fn_BX (gX8_behind ρ o (iI 45) a3) fun v6 a5 => fn_new 19 [Value.int (iI 0), Value.int (iI 0), Value.int (iI 0), va_rf none] a5 fun v7 a8 => fn_B (gX13_init ρ v7 (some this) v2 v4 v6 a8) fun _ a9 => some (.inl (some v7), a9)
def gX0_deposited (ρ : Nat → Nat) (this : Nat) (x1 : Int32) (x2 : Int32) (x3 : Int32) (a : mS) : Option (Int64 × mS) :=
  fn_gA 0 0 (some this) a fun v1 => fn_rc 1 v1 a fun o => fn_B (gX1_isLease ρ o x1 a) fun v3 a2 => if v3 = iI 0 then (some ((lI (-9223372036854775808)), a2)) else fn_B (gX6_isDay ρ x2 a2) fun v5 a4 => if v5 = iI 0 then (some ((lI (-9223372036854775808)), a4)) else fn_B (gX0_in ρ (x3.toInt64) (lI 0) (lI 1) a4) fun v7 a6 => if v7 = iI 0 then (some ((lI (-9223372036854775808)), a6)) else fn_gA 0 0 (some this) a6 fun v8 => fn_gA 0 0 (some this) a6 fun v9 => fn_gA 1 0 v9 a6 fun v10 => fn_rc 2 v10 a6 fun o => fn_B (gJ2_get ρ o x1 a6) fun v12 a11 => fn_cast [6] v12 a11 (if x3 = (iI 1) then (fn_rc 1 v8 a11 fun o => fn_B (gX1_deposited ρ o v12 x2 (iI 1) a11) fun v14 a13 => some (v14, a13)) else fn_rc 1 v8 a11 fun o => fn_B (gX1_deposited ρ o v12 x2 (iI 0) a11) fun v16 a15 => some (v16, a15))
def gX0_done (ρ : Nat → Nat) (this : Nat) (x1 : Option Nat) (x2 : Int32) (a : mS) : Option (Int32 × mS) :=
  if iI 0 ≤ x2 then (fn_rc 0 (some this) a fun o => fn_B (gX0_keeps ρ o x1 a) fun _ a1 => some (x2, a1)) else fn_rc 0 (some this) a fun o => fn_B (gX0_refuses ρ o (-x2) a) fun v3 a2 => some (v3, a2)
def gX0_lay_b102 (ρ : Nat → Nat) (this : Nat) (k102 : Int32 → Int32 → Option Nat → Int32 → Int32 → Option Nat → Option Nat → Int32 → mS → Option (Int32 × mS)) (x1 : Int32) (x3 : Int32) (x4 : Option Nat) (x5 : Int32) (x6 : Int32) (x7 : Option Nat) (x8 : Option Nat) (x9 : Int32) (a : mS) : Option (Int32 × mS) :=
  if x6 ≤ x9 then (fn_gA 0 5 (some this) a fun v1 => if x3 = iI 0 then (fn_new 29 [va_rf none] a fun v2 a3 => fn_B (gX21_init ρ v2 x7 a3) fun _ a4 => fn_sA 5 [29, 30] v1 x1 (some v2) a4 fun a5 => some (x6, a5)) else fn_new 30 [va_rf none] a fun v6 a7 => fn_B (gX22_init ρ v6 x8 a7) fun _ a8 => fn_sA 5 [29, 30] v1 x1 (some v6) a8 fun a9 => some (x6, a9)) else fn_aI 0 x4 (x5 + x9) a fun v10 => fn_sI 0 x7 x9 v10 a fun a11 => fn_aI 0 x4 (x5 + x9) a11 fun v12 => if fn_n32 (FP.fdiv (FP.i2f v12) (1120403456 : UInt32)) = true then (fn_sF 3 x8 x9 (FP.fdiv (FP.i2f v12) (1120403456 : UInt32)) a11 fun a14 => k102 x1 x3 x4 x5 x6 x7 x8 (x9 + iI 1) a14) else none
def gX0_lay (ρ : Nat → Nat) (this : Nat) (x1 : Int32) (x2 : Int32) (x3 : Int32) (a : mS) : Option (Int32 × mS) :=
  fn_B (gX0_isRow ρ x1 a) fun v2 a1 => if v2 = iI 0 then (some ((iI (-1)), a1)) else fn_gA 0 0 (some this) a1 fun v3 => fn_rc 1 v3 a1 fun o => fn_B (gX1_isLease ρ o x2 a1) fun v5 a4 => if v5 = iI 0 then (some ((iI (-1)), a4)) else fn_B (gX0_in ρ (x3.toInt64) (lI 0) (lI 1) a4) fun v7 a6 => if v7 = iI 0 then (some ((iI (-1)), a6)) else fn_gA 0 0 (some this) a6 fun v8 => fn_gA 0 0 (some this) a6 fun v9 => fn_gA 1 0 v9 a6 fun v10 => fn_rc 2 v10 a6 fun o => fn_B (gJ2_get ρ o x2 a6) fun v12 a11 => fn_cast [6] v12 a11 (fn_rc 1 v8 a11 fun o => fn_B (gX1_rents ρ o v12 a11) fun v14 a13 => fn_gA 0 0 (some this) a13 fun v15 => fn_gA 1 0 v15 a13 fun v16 => fn_rc 2 v16 a13 fun o => fn_B (gJ2_get ρ o x2 a13) fun v18 a17 => fn_cast [6] v18 a17 (fn_gI 6 2 v18 a17 fun v19 => fn_B (gX6_monthOf ρ v19 a17) fun v21 a20 => fn_B (gJ9_min ρ (iI 12) ((iI 120) - v21) a20) fun v23 a22 => fn_nI 0 (iI 12) a22 fun v24 a25 => fn_nF 3 (iI 12) a25 fun v26 a27 => fnFix (fun _ _ _ _ _ _ _ _ _ => none) (gX0_lay_b102 ρ this) fnGas x1 x3 v14 v21 v23 (some v24) (some v26) (iI 0) a27))
def gX0_left_b79 (ρ : Nat → Nat) (this : Nat) (k79 : Int32 → Option Nat → Option Nat → Int64 → Int64 → Int32 → mS → Option (Int32 × mS)) (x3 : Int32) (x4 : Option Nat) (x5 : Option Nat) (x6 : Int64) (x8 : Int64) (x10 : Int32) (a : mS) : Option (Int32 × mS) :=
  fn_rc 6 x4 a fun o => fn_B (gX4_until ρ o x3 a) fun v2 a1 => if v2 < x10 then (if (lg_cmp x8 (lI 0)) = iI 0 then (some ((iI (-5)), a1)) else if fn_n32 (FP.fdiv (FP.l2f x6) (FP.l2f x8)) = true then (fn_B (gJ26_floatToIntBits ρ (FP.fdiv (FP.l2f x6) (FP.l2f x8)) a1) fun v5 a4 => some (v5, a4)) else none) else fn_gA 0 0 (some this) a1 fun v6 => fn_rc 1 v6 a1 fun o => fn_B (gX1_units ρ o x4 x5 x10 a1) fun v8 a7 => fn_B (gX6_monthOf ρ x10 a7) fun v10 a9 => fn_aI 0 x5 v10 a9 fun v11 => k79 x3 x4 x5 (x6 + v8) (x8 + ((lI 100) * (v11.toInt64))) (x10 + iI 1) a9
def gX0_left (ρ : Nat → Nat) (this : Nat) (x1 : Int32) (x2 : Int32) (x3 : Int32) (a : mS) : Option (Int32 × mS) :=
  fn_gA 0 0 (some this) a fun v1 => fn_rc 1 v1 a fun o => fn_B (gX1_isLease ρ o x1 a) fun v3 a2 => if v3 = iI 0 then (some ((iI (-1)), a2)) else fn_B (gX6_isDay ρ x2 a2) fun v5 a4 => if v5 = iI 0 then (some ((iI (-2)), a4)) else fn_B (gX6_isDay ρ x3 a4) fun v7 a6 => if v7 = iI 0 then (some ((iI (-2)), a6)) else if x2 ≤ x3 then (fn_gA 0 0 (some this) a6 fun v8 => fn_gA 1 0 v8 a6 fun v9 => fn_rc 2 v9 a6 fun o => fn_B (gJ2_get ρ o x1 a6) fun v11 a10 => fn_cast [6] v11 a10 (fn_gA 0 0 (some this) a10 fun v12 => fn_rc 1 v12 a10 fun o => fn_B (gX1_rents ρ o v11 a10) fun v14 a13 => fn_gI 6 2 v11 a13 fun v15 => fn_B (gJ9_max ρ x2 v15 a13) fun v17 a16 => fnFix (fun _ _ _ _ _ _ _ => none) (gX0_left_b79 ρ this) fnGas x3 v11 v14 (lI 0) (lI 0) v17 a16)) else some ((iI (-2)), a6)
def gX0_rent (ρ : Nat → Nat) (this : Nat) (x1 : Int32) (x2 : Int32) (a : mS) : Option (Int32 × mS) :=
  fn_gA 0 0 (some this) a fun v1 => fn_rc 1 v1 a fun o => fn_B (gX1_isLease ρ o x1 a) fun v3 a2 => if v3 = iI 0 then (some ((iI (-1)), a2)) else fn_B (gX6_isMonth ρ x2 a2) fun v5 a4 => if v5 = iI 0 then (some ((iI (-2)), a4)) else fn_gA 0 0 (some this) a4 fun v6 => fn_gA 1 0 v6 a4 fun v7 => fn_rc 2 v7 a4 fun o => fn_B (gJ2_get ρ o x1 a4) fun v9 a8 => fn_cast [6] v9 a8 (fn_gI 6 2 v9 a8 fun v10 => fn_B (gX6_monthOf ρ v10 a8) fun v12 a11 => if v12 ≤ x2 then (fn_gA 0 0 (some this) a11 fun v13 => fn_rc 1 v13 a11 fun o => fn_B (gX1_rents ρ o v9 a11) fun v15 a14 => fn_aI 0 v15 x2 a14 fun v16 => some (v16, a14)) else some ((iI (-5)), a11))
def gX12_does (ρ : Nat → Nat) (this : Nat) (x1 : Option Nat) (a : mS) : Option (Int32 × mS) :=
  fn_gI 18 0 (some this) a fun v1 => fn_gI 18 1 (some this) a fun v2 => fn_gI 18 2 (some this) a fun v3 => fn_rc 1 x1 a fun o => fn_B (gX1_pays ρ o v1 v2 v3 a) fun v5 a4 => some (v5, a4)
def gX13_does (ρ : Nat → Nat) (this : Nat) (x1 : Option Nat) (a : mS) : Option (Int32 × mS) :=
  fn_gI 19 0 (some this) a fun v1 => fn_gI 19 1 (some this) a fun v2 => fn_gI 19 2 (some this) a fun v3 => fn_rc 1 x1 a fun o => fn_B (gX1_tells ρ o v1 v2 v3 a) fun v5 a4 => some (v5, a4)
def gX17_init (ρ : Nat → Nat) (this : Nat) (x1 : Option Nat) (x2 : Option Nat) (a : mS) : Option (Unit × mS) :=
  fn_pA 23 4 (some this) x1 a fun a1 => fn_pA 23 0 (some this) x2 a1 fun a2 => fn_gA 0 0 x1 a2 fun v3 => fn_rc 1 v3 a2 fun o => fn_B (gX1_rents ρ o x2 a2) fun v5 a4 => fn_pA 23 1 (some this) v5 a4 fun a6 => some ((), a6)
def gX1_addsChanges_b80 (ρ : Nat → Nat) (this : Nat) (k26 : Option Nat → Option Nat → Option Nat → Int32 → Int32 → mS → Option (Unit × mS)) (x1 : Option Nat) (x2 : Option Nat) (x3 : Option Nat) (x4 : Int32) (x5 : Int32) (a : mS) : Option (Unit × mS) :=
  k26 x1 x2 x3 x4 (x5 + iI 1) a
def gX1_addsChanges_b26 (ρ : Nat → Nat) (this : Nat) (k26 : Option Nat → Option Nat → Option Nat → Int32 → Int32 → mS → Option (Unit × mS)) (x1 : Option Nat) (x2 : Option Nat) (x3 : Option Nat) (x4 : Int32) (x5 : Int32) (a : mS) : Option (Unit × mS) :=
  if (iI 120) ≤ x5 then (some ((), a)) else fn_B (gX6_firstOf ρ x5 a) fun v2 a1 => if x4 < v2 then (some ((), a1)) else fn_aI 0 x3 x5 a1 fun v3 => fn_aI 0 x3 (x5 - (iI 1)) a1 fun v4 => if v3 = v4 then (gX1_addsChanges_b80 ρ this k26 x1 x2 x3 x4 x5 a1) else fn_new 24 [Value.int (iI 0), Value.int (iI 0), Value.int (iI 0)] a1 fun v5 a6 => fn_B (gX6_firstOf ρ x5 a6) fun v8 a7 => fn_gI 6 0 x1 a7 fun v9 => fn_B (gX18_init ρ v5 v8 (iI 0) v9 a7) fun _ a10 => fn_cls x2 a10 fun c o => fn_B (if c = 2 then gJ2_add ρ o (some v5) a10 else none) fun v12 a11 => gX1_addsChanges_b80 ρ this k26 x1 x2 x3 x4 x5 a11
def gX1_addsChanges (ρ : Nat → Nat) (this : Nat) (x1 : Option Nat) (x2 : Option Nat) (a : mS) : Option (Unit × mS) :=
  fn_rc 1 (some this) a fun o => fn_B (gX1_rents ρ o x1 a) fun v2 a1 => fn_rc 6 x1 a1 fun o => fn_B (gX4_until ρ o (iI 3599) a1) fun v4 a3 => fn_gI 6 2 x1 a3 fun v5 => fn_B (gX6_monthOf ρ v5 a3) fun v7 a6 => fnFix (fun _ _ _ _ _ _ => none) (gX1_addsChanges_b26 ρ this) fnGas x1 x2 v2 v4 (v7 + (iI 1)) a6
def gX1_due_b22 (ρ : Nat → Nat) (this : Nat) (k22 : Option Nat → Option Nat → Int64 → Int32 → Int32 → mS → Option (Int32 × mS)) (x1 : Option Nat) (x3 : Option Nat) (x4 : Int64) (x6 : Int32) (x7 : Int32) (a : mS) : Option (Int32 × mS) :=
  if x6 < x7 then (if (lI 3000) = lI 0 then none else some (((x4 / (lI 3000)).toInt32), a)) else fn_rc 1 (some this) a fun o => fn_B (gX1_units ρ o x1 x3 x7 a) fun v3 a2 => k22 x1 x3 (x4 + v3) x6 (x7 + iI 1) a2
def gX1_due (ρ : Nat → Nat) (this : Nat) (x1 : Option Nat) (x2 : Int32) (a : mS) : Option (Int32 × mS) :=
  fn_rc 1 (some this) a fun o => fn_B (gX1_rents ρ o x1 a) fun v2 a1 => fn_rc 6 x1 a1 fun o => fn_B (gX4_until ρ o x2 a1) fun v4 a3 => fn_gI 6 2 x1 a3 fun v5 => fnFix (fun _ _ _ _ _ _ => none) (gX1_due_b22 ρ this) fnGas x1 v2 (lI 0) v4 v5 a3
def gX1_indexes (ρ : Nat → Nat) (this : Nat) (x1 : Int32) (x2 : Int32) (a : mS) : Option (Int32 × mS) :=
  fn_B (gX6_isMonth ρ x1 a) fun v2 a1 => if v2 = iI 0 then (some ((iI (-2)), a1)) else fn_B (gX0_in ρ (x2.toInt64) (lI 100) (lI 9999) a1) fun v4 a3 => if v4 = iI 0 then (some ((iI (-2)), a3)) else fn_gA 1 4 (some this) a3 fun v5 => fn_rc 3 v5 a3 fun o => fn_B (gX2_becomes ρ o x1 x2 a3) fun v7 a6 => some (v7, a6)
def gX1_init_2_b215 (ρ : Nat → Nat) (this : Nat) (k215 : Option Nat → Option Nat → mS → Option (Unit × mS)) (x1 : Option Nat) (x2 : Option Nat) (a : mS) : Option (Unit × mS) :=
  fn_cls x2 a fun c o => fn_B (if c = 5 then gJ5_hasNext ρ o a else none) fun v2 a1 => if v2 = iI 0 then (fn_new 3 [va_rf none, Value.int (iI 0)] a1 fun v3 a4 => fn_gA 1 4 x1 a4 fun v5 => fn_B (gX2_init_2 ρ v3 v5 a4) fun _ a6 => fn_pA 1 4 (some this) (some v3) a6 fun a7 => fn_new 3 [va_rf none, Value.int (iI 0)] a7 fun v8 a9 => fn_gA 1 5 x1 a9 fun v10 => fn_B (gX2_init_2 ρ v8 v10 a9) fun _ a11 => fn_pA 1 5 (some this) (some v8) a11 fun a12 => some ((), a12)) else fn_cls x2 a1 fun c o => fn_B (if c = 5 then gJ5_next ρ o a1 else none) fun v14 a13 => fn_cast [13] v14 a13 (fn_gA 1 3 (some this) a13 fun v15 => fn_rc 2 v15 a13 fun o => fn_B (gJ2_add ρ o v14 a13) fun v17 a16 => k215 x1 x2 a16)
def gX1_init_2_b176 (ρ : Nat → Nat) (this : Nat) (k176 : Option Nat → Option Nat → mS → Option (Unit × mS)) (x1 : Option Nat) (x2 : Option Nat) (a : mS) : Option (Unit × mS) :=
  fn_cls x2 a fun c o => fn_B (if c = 5 then gJ5_hasNext ρ o a else none) fun v2 a1 => if v2 = iI 0 then (fn_gA 1 3 x1 a1 fun v3 => fn_rc 2 v3 a1 fun o => fn_B (gJ2_iterator ρ o a1) fun v5 a4 => fnFix (fun _ _ _ => none) (gX1_init_2_b215 ρ this) fnGas x1 v5 a4) else fn_cls x2 a1 fun c o => fn_B (if c = 5 then gJ5_next ρ o a1 else none) fun v7 a6 => fn_cast [13] v7 a6 (fn_gA 1 2 (some this) a6 fun v8 => fn_rc 2 v8 a6 fun o => fn_B (gJ2_add ρ o v7 a6) fun v10 a9 => k176 x1 x2 a9)
def gX1_init_2_b130 (ρ : Nat → Nat) (this : Nat) (k130 : Option Nat → Option Nat → mS → Option (Unit × mS)) (x1 : Option Nat) (x2 : Option Nat) (a : mS) : Option (Unit × mS) :=
  fn_cls x2 a fun c o => fn_B (if c = 5 then gJ5_hasNext ρ o a else none) fun v2 a1 => if v2 = iI 0 then (fn_gA 1 2 x1 a1 fun v3 => fn_rc 2 v3 a1 fun o => fn_B (gJ2_iterator ρ o a1) fun v5 a4 => fnFix (fun _ _ _ => none) (gX1_init_2_b176 ρ this) fnGas x1 v5 a4) else fn_cls x2 a1 fun c o => fn_B (if c = 5 then gJ5_next ρ o a1 else none) fun v7 a6 => fn_cast [7] v7 a6 (fn_gA 1 1 (some this) a6 fun v8 => fn_new 7 [Value.int (iI 0), Value.int (iI 0), Value.int (iI 0), Value.int (iI 0)] a6 fun v9 a10 => fn_B (gX5_init ρ v9 v7 a10) fun _ a11 => fn_rc 2 v8 a11 fun o => fn_B (gJ2_add ρ o (some v9) a11) fun v13 a12 => k130 x1 x2 a12)
def gX1_init_2_b112 (ρ : Nat → Nat) (this : Nat) (k56 : Option Nat → Option Nat → mS → Option (Unit × mS)) (x1 : Option Nat) (x2 : Option Nat) (s0 : Option Nat) (s1 : Option Nat) (s2 : Option Nat) (s3 : Option Nat) (s4 : Option Nat) (a : mS) : Option (Unit × mS) :=
  fn_rc 6 s2 a fun o => fn_B (gX4_init ρ o s3 s4 a) fun _ a1 => fn_rc 2 s0 a1 fun o => fn_B (gJ2_add ρ o s1 a1) fun v3 a2 => k56 x1 x2 a2
def gX1_init_2_b56 (ρ : Nat → Nat) (this : Nat) (k56 : Option Nat → Option Nat → mS → Option (Unit × mS)) (x1 : Option Nat) (x2 : Option Nat) (a : mS) : Option (Unit × mS) :=
  fn_cls x2 a fun c o => fn_B (if c = 5 then gJ5_hasNext ρ o a else none) fun v2 a1 => if v2 = iI 0 then (fn_gA 1 1 x1 a1 fun v3 => fn_rc 2 v3 a1 fun o => fn_B (gJ2_iterator ρ o a1) fun v5 a4 => fnFix (fun _ _ _ => none) (gX1_init_2_b130 ρ this) fnGas x1 v5 a4) else fn_cls x2 a1 fun c o => fn_B (if c = 5 then gJ5_next ρ o a1 else none) fun v7 a6 => fn_cast [6] v7 a6 (fn_gA 1 0 (some this) a6 fun v8 => fn_new 6 [Value.int (iI 0), va_rf none, Value.int (iI 0), Value.int (iI 0), Value.int (iI 0), Value.int (iI 0), Value.int (iI 0), Value.int (iI 0), Value.int (iI 0)] a6 fun v9 a10 => fn_gA 6 1 v7 a10 fun v11 => fn_nn v11 (gX1_init_2_b112 ρ this k56 x1 x2 v8 (some v9) (some v9) v7 none a10) (fn_gA 1 0 (some this) a10 fun v12 => fn_gA 6 1 v7 a10 fun v13 => fn_gI 6 0 v13 a10 fun v14 => fn_rc 2 v12 a10 fun o => fn_B (gJ2_get ρ o v14 a10) fun v16 a15 => fn_cast [6] v16 a15 (fn_B (gX4_init ρ v9 v7 v16 a15) fun _ a17 => fn_rc 2 v8 a17 fun o => fn_B (gJ2_add ρ o (some v9) a17) fun v19 a18 => k56 x1 x2 a18)))
def gX1_init_2 (ρ : Nat → Nat) (this : Nat) (x1 : Option Nat) (a : mS) : Option (Unit × mS) :=
  fn_new 2 [Value.int (iI 0), va_rf none, Value.int (iI 0)] a fun v1 a2 => fn_B (gJ2_init ρ v1 a2) fun _ a3 => fn_pA 1 0 (some this) (some v1) a3 fun a4 => fn_new 2 [Value.int (iI 0), va_rf none, Value.int (iI 0)] a4 fun v5 a6 => fn_B (gJ2_init ρ v5 a6) fun _ a7 => fn_pA 1 1 (some this) (some v5) a7 fun a8 => fn_new 2 [Value.int (iI 0), va_rf none, Value.int (iI 0)] a8 fun v9 a10 => fn_B (gJ2_init ρ v9 a10) fun _ a11 => fn_pA 1 2 (some this) (some v9) a11 fun a12 => fn_new 2 [Value.int (iI 0), va_rf none, Value.int (iI 0)] a12 fun v13 a14 => fn_B (gJ2_init ρ v13 a14) fun _ a15 => fn_pA 1 3 (some this) (some v13) a15 fun a16 => fn_gA 1 0 x1 a16 fun v17 => fn_rc 2 v17 a16 fun o => fn_B (gJ2_iterator ρ o a16) fun v19 a18 => fnFix (fun _ _ _ => none) (gX1_init_2_b56 ρ this) fnGas x1 v19 a18
def gX8_command_b47 (ρ : Nat → Nat) (this : Nat) (x1 : Int32) (s0 : Option Nat) (s1 : Int32) (a : mS) : Option ((Option Nat ⊕ Nat) × mS) :=
  fn_rc 14 s0 a fun o => fn_BX (gX8_need ρ o s1 a) fun _ a1 => fn_gI 14 0 (some this) a1 fun v2 => fn_pI 14 0 (some this) (v2 + (iI 1)) a1 fun a3 => if x1 = iI 100 then (fn_rc 14 (some this) a3 fun o => fn_BX (gX8_telling ρ o a3) fun v8 a7 => some (.inl v8, a7)) else if x1 = iI 105 then (fn_rc 14 (some this) a3 fun o => fn_BX (gX8_indexing ρ o a3) fun v11 a10 => some (.inl v11, a10)) else if x1 = iI 110 then (fn_rc 14 (some this) a3 fun o => fn_BX (gX8_noticing ρ o a3) fun v14 a13 => some (.inl v14, a13)) else if x1 = iI 112 then (fn_rc 14 (some this) a3 fun o => fn_BX (gX8_paying ρ o a3) fun v17 a16 => some (.inl v17, a16)) else if x1 = iI 114 then (fn_rc 14 (some this) a3 fun o => fn_BX (gX8_repairing ρ o a3) fun v20 a19 => some (.inl v20, a19)) else fn_rc 14 (some this) a3 fun o => fn_BX (gX8_withdrawing ρ o a3) fun v5 a4 => some (.inl v5, a4)
def gX8_command_b42 (ρ : Nat → Nat) (this : Nat) (x1 : Int32) (s0 : Option Nat) (a : mS) : Option ((Option Nat ⊕ Nat) × mS) :=
  gX8_command_b47 ρ this x1 s0 (iI 1) a
def gX8_command (ρ : Nat → Nat) (this : Nat) (a : mS) : Option ((Option Nat ⊕ Nat) × mS) :=
  fn_rc 14 (some this) a fun o => fn_B (gX8_sign ρ o a) fun v2 a1 => if v2 = (iI 105) then (gX8_command_b42 ρ this v2 (some this) a1) else if v2 = (iI 112) then (gX8_command_b42 ρ this v2 (some this) a1) else if v2 = (iI 100) then (gX8_command_b42 ρ this v2 (some this) a1) else if v2 = (iI 114) then (gX8_command_b42 ρ this v2 (some this) a1) else if v2 = (iI 110) then (gX8_command_b42 ρ this v2 (some this) a1) else if v2 = (iI 119) then (gX8_command_b42 ρ this v2 (some this) a1) else gX8_command_b47 ρ this v2 (some this) (iI 0) a1
def gX0_again (ρ : Nat → Nat) (this : Nat) (x1 : Int32) (x2 : Int32) (a : mS) : Option (Int32 × mS) :=
  fn_gA 0 0 (some this) a fun v1 => fn_rc 1 v1 a fun o => fn_B (gX1_isLease ρ o x1 a) fun v3 a2 => if v3 = iI 0 then (some ((iI (-1)), a2)) else fn_B (gX6_isDay ρ x2 a2) fun v5 a4 => if v5 = iI 0 then (some ((iI (-2)), a4)) else fn_new 23 [va_rf none, va_rf none, Value.long (lI 0), Value.long (lI 0), va_rf none] a4 fun v6 a7 => fn_gA 0 0 (some this) a7 fun v8 => fn_gA 1 0 v8 a7 fun v9 => fn_rc 2 v9 a7 fun o => fn_B (gJ2_get ρ o x1 a7) fun v11 a10 => fn_cast [6] v11 a10 (fn_B (gX17_init ρ v6 (some this) v11 a10) fun _ a12 => fn_rc 23 (some v6) a12 fun o => fn_B (gX17_until ρ o x2 a12) fun v14 a13 => some ((v14.toInt32), a13))
def gX0_clause (ρ : Nat → Nat) (this : Nat) (x1 : Int32) (x2 : Int32) (x3 : Int32) (a : mS) : Option (Int32 × mS) :=
  fn_new 1 [va_rf none, va_rf none, va_rf none, va_rf none, va_rf none, va_rf none] a fun v1 a2 => fn_gA 0 0 (some this) a2 fun v3 => fn_B (gX1_init_2 ρ v1 v3 a2) fun _ a4 => fn_gA 0 0 (some this) a4 fun v5 => fn_rc 1 v5 a4 fun o => fn_B (gX1_clauses ρ o x1 x2 x3 a4) fun v7 a6 => fn_rc 0 (some this) a6 fun o => fn_B (gX0_done ρ o (some v1) v7 a6) fun v9 a8 => some (v9, a8)
def gX0_defect (ρ : Nat → Nat) (this : Nat) (x1 : Int32) (x2 : Int32) (x3 : Int32) (a : mS) : Option (Int32 × mS) :=
  fn_new 1 [va_rf none, va_rf none, va_rf none, va_rf none, va_rf none, va_rf none] a fun v1 a2 => fn_gA 0 0 (some this) a2 fun v3 => fn_B (gX1_init_2 ρ v1 v3 a2) fun _ a4 => fn_gA 0 0 (some this) a4 fun v5 => fn_rc 1 v5 a4 fun o => fn_B (gX1_tells ρ o x1 x2 x3 a4) fun v7 a6 => fn_rc 0 (some this) a6 fun o => fn_B (gX0_done ρ o (some v1) v7 a6) fun v9 a8 => some (v9, a8)
def gX0_deposit (ρ : Nat → Nat) (this : Nat) (x1 : Int32) (x2 : Int32) (x3 : Int32) (a : mS) : Option (Int32 × mS) :=
  fn_new 1 [va_rf none, va_rf none, va_rf none, va_rf none, va_rf none, va_rf none] a fun v1 a2 => fn_gA 0 0 (some this) a2 fun v3 => fn_B (gX1_init_2 ρ v1 v3 a2) fun _ a4 => fn_gA 0 0 (some this) a4 fun v5 => fn_rc 1 v5 a4 fun o => fn_B (gX1_paysIn ρ o x1 x2 x3 a4) fun v7 a6 => fn_rc 0 (some this) a6 fun o => fn_B (gX0_done ρ o (some v1) v7 a6) fun v9 a8 => some (v9, a8)
def gX0_due (ρ : Nat → Nat) (this : Nat) (x1 : Int32) (x2 : Int32) (a : mS) : Option (Int32 × mS) :=
  fn_gA 0 0 (some this) a fun v1 => fn_rc 1 v1 a fun o => fn_B (gX1_isLease ρ o x1 a) fun v3 a2 => if v3 = iI 0 then (some ((iI (-1)), a2)) else fn_B (gX6_isDay ρ x2 a2) fun v5 a4 => if v5 = iI 0 then (some ((iI (-2)), a4)) else fn_gA 0 0 (some this) a4 fun v6 => fn_gA 0 0 (some this) a4 fun v7 => fn_gA 1 0 v7 a4 fun v8 => fn_rc 2 v8 a4 fun o => fn_B (gJ2_get ρ o x1 a4) fun v10 a9 => fn_cast [6] v10 a9 (fn_rc 1 v6 a9 fun o => fn_B (gX1_due ρ o v10 x2 a9) fun v12 a11 => some (v12, a11))
def gX0_image (ρ : Nat → Nat) (this : Nat) (a : mS) : Option (Int32 × mS) :=
  fn_new 1 [va_rf none, va_rf none, va_rf none, va_rf none, va_rf none, va_rf none] a fun v1 a2 => fn_gA 0 0 (some this) a2 fun v3 => fn_B (gX1_init_2 ρ v1 v3 a2) fun _ a4 => fn_pA 0 6 (some this) (some v1) a4 fun a5 => fn_gA 0 0 (some this) a5 fun v6 => fn_gA 1 0 v6 a5 fun v7 => fn_rc 2 v7 a5 fun o => fn_B (gJ2_size ρ o a5) fun v9 a8 => some (v9, a8)
def gX0_index (ρ : Nat → Nat) (this : Nat) (x1 : Int32) (x2 : Int32) (a : mS) : Option (Int32 × mS) :=
  fn_new 1 [va_rf none, va_rf none, va_rf none, va_rf none, va_rf none, va_rf none] a fun v1 a2 => fn_gA 0 0 (some this) a2 fun v3 => fn_B (gX1_init_2 ρ v1 v3 a2) fun _ a4 => fn_gA 0 0 (some this) a4 fun v5 => fn_rc 1 v5 a4 fun o => fn_B (gX1_indexes ρ o x1 x2 a4) fun v7 a6 => fn_rc 0 (some this) a6 fun o => fn_B (gX0_done ρ o (some v1) v7 a6) fun v9 a8 => some (v9, a8)
def gX0_lease (ρ : Nat → Nat) (this : Nat) (x1 : Int32) (x2 : Int32) (x3 : Int32) (a : mS) : Option (Int32 × mS) :=
  fn_new 1 [va_rf none, va_rf none, va_rf none, va_rf none, va_rf none, va_rf none] a fun v1 a2 => fn_gA 0 0 (some this) a2 fun v3 => fn_B (gX1_init_2 ρ v1 v3 a2) fun _ a4 => fn_gA 0 0 (some this) a4 fun v5 => fn_rc 1 v5 a4 fun o => fn_B (gX1_makes ρ o x1 x2 x3 a4) fun v7 a6 => fn_rc 0 (some this) a6 fun o => fn_B (gX0_done ρ o (some v1) v7 a6) fun v9 a8 => some (v9, a8)
def gX0_monthly_b60 (ρ : Nat → Nat) (this : Nat) (x2 : Int32) (x3 : Option Nat) (s0 : Int32) (a : mS) : Option (Int32 × mS) :=
  fn_gA 0 0 (some this) a fun v1 => fn_B (gX6_lastOf ρ x2 a) fun v3 a2 => fn_rc 1 v1 a2 fun o => fn_B (gX1_due ρ o x3 v3 a2) fun v5 a4 => some ((v5 - s0), a4)
def gX0_monthly (ρ : Nat → Nat) (this : Nat) (x1 : Int32) (x2 : Int32) (a : mS) : Option (Int32 × mS) :=
  fn_gA 0 0 (some this) a fun v1 => fn_rc 1 v1 a fun o => fn_B (gX1_isLease ρ o x1 a) fun v3 a2 => if v3 = iI 0 then (some ((iI (-1)), a2)) else fn_B (gX6_isMonth ρ x2 a2) fun v5 a4 => if v5 = iI 0 then (some ((iI (-2)), a4)) else fn_gA 0 0 (some this) a4 fun v6 => fn_gA 1 0 v6 a4 fun v7 => fn_rc 2 v7 a4 fun o => fn_B (gJ2_get ρ o x1 a4) fun v9 a8 => fn_cast [6] v9 a8 (if x2 = iI 0 then (gX0_monthly_b60 ρ this x2 v9 (iI 0) a8) else fn_gA 0 0 (some this) a8 fun v10 => fn_B (gX6_lastOf ρ (x2 - (iI 1)) a8) fun v12 a11 => fn_rc 1 v10 a11 fun o => fn_B (gX1_due ρ o v9 v12 a11) fun v14 a13 => gX0_monthly_b60 ρ this x2 v9 v14 a13)
def gX0_notice (ρ : Nat → Nat) (this : Nat) (x1 : Int32) (x2 : Int32) (x3 : Int32) (a : mS) : Option (Int32 × mS) :=
  fn_new 1 [va_rf none, va_rf none, va_rf none, va_rf none, va_rf none, va_rf none] a fun v1 a2 => fn_gA 0 0 (some this) a2 fun v3 => fn_B (gX1_init_2 ρ v1 v3 a2) fun _ a4 => fn_gA 0 0 (some this) a4 fun v5 => fn_rc 1 v5 a4 fun o => fn_B (gX1_notices ρ o x1 x2 x3 a4) fun v7 a6 => fn_rc 0 (some this) a6 fun o => fn_B (gX0_done ρ o (some v1) v7 a6) fun v9 a8 => some (v9, a8)
def gX0_pay (ρ : Nat → Nat) (this : Nat) (x1 : Int32) (x2 : Int32) (x3 : Int32) (a : mS) : Option (Int32 × mS) :=
  fn_new 1 [va_rf none, va_rf none, va_rf none, va_rf none, va_rf none, va_rf none] a fun v1 a2 => fn_gA 0 0 (some this) a2 fun v3 => fn_B (gX1_init_2 ρ v1 v3 a2) fun _ a4 => fn_gA 0 0 (some this) a4 fun v5 => fn_rc 1 v5 a4 fun o => fn_B (gX1_pays ρ o x1 x2 x3 a4) fun v7 a6 => fn_rc 0 (some this) a6 fun o => fn_B (gX0_done ρ o (some v1) v7 a6) fun v9 a8 => some (v9, a8)
def gX0_rate (ρ : Nat → Nat) (this : Nat) (x1 : Int32) (x2 : Int32) (a : mS) : Option (Int32 × mS) :=
  fn_B (gX6_isDay ρ x1 a) fun v2 a1 => if v2 = iI 0 then (fn_rc 0 (some this) a1 fun o => fn_B (gX0_refuses ρ o (iI 2) a1) fun v4 a3 => some (v4, a3)) else fn_B (gX0_in ρ (x2.toInt64) (lI 0) (lI 2000) a1) fun v6 a5 => if v6 = iI 0 then (fn_rc 0 (some this) a5 fun o => fn_B (gX0_refuses ρ o (iI 2) a5) fun v8 a7 => some (v8, a7)) else fn_new 1 [va_rf none, va_rf none, va_rf none, va_rf none, va_rf none, va_rf none] a5 fun v9 a10 => fn_gA 0 0 (some this) a10 fun v11 => fn_B (gX1_init_2 ρ v9 v11 a10) fun _ a12 => fn_rc 0 (some this) a12 fun o => fn_B (gX0_keeps ρ o (some v9) a12) fun _ a13 => fn_gA 0 0 (some this) a13 fun v14 => fn_gA 1 5 v14 a13 fun v15 => fn_rc 3 v15 a13 fun o => fn_B (gX2_becomes ρ o x1 x2 a13) fun v17 a16 => some (v17, a16)
def gX0_repair (ρ : Nat → Nat) (this : Nat) (x1 : Int32) (x2 : Int32) (a : mS) : Option (Int32 × mS) :=
  fn_new 1 [va_rf none, va_rf none, va_rf none, va_rf none, va_rf none, va_rf none] a fun v1 a2 => fn_gA 0 0 (some this) a2 fun v3 => fn_B (gX1_init_2 ρ v1 v3 a2) fun _ a4 => fn_gA 0 0 (some this) a4 fun v5 => fn_rc 1 v5 a4 fun o => fn_B (gX1_repairs ρ o x1 x2 a4) fun v7 a6 => fn_rc 0 (some this) a6 fun o => fn_B (gX0_done ρ o (some v1) v7 a6) fun v9 a8 => some (v9, a8)
def gX0_sum_b88 (ρ : Nat → Nat) (this : Nat) (k14 : Int32 → Int32 → Int64 → Option Nat → mS → Option (Int64 × mS)) (x1 : Int32) (x2 : Int32) (x5 : Option Nat) (s0 : Int64) (s1 : Int64) (a : mS) : Option (Int64 × mS) :=
  k14 x1 x2 (s0 + s1) x5 a
def gX0_sum_b14 (ρ : Nat → Nat) (this : Nat) (k14 : Int32 → Int32 → Int64 → Option Nat → mS → Option (Int64 × mS)) (x1 : Int32) (x2 : Int32) (x3 : Int64) (x5 : Option Nat) (a : mS) : Option (Int64 × mS) :=
  fn_cls x5 a fun c o => fn_B (if c = 5 then gJ5_hasNext ρ o a else none) fun v2 a1 => if v2 = iI 0 then (some (x3, a1)) else fn_cls x5 a1 fun c o => fn_B (if c = 5 then gJ5_next ρ o a1 else none) fun v4 a3 => fn_cast [6] v4 a3 (if x2 = (iI 2) then (fn_gA 0 0 (some this) a3 fun v5 => fn_rc 1 v5 a3 fun o => fn_B (gX1_due ρ o v4 x1 a3) fun v7 a6 => gX0_sum_b88 ρ this k14 x1 x2 x5 x3 (v7.toInt64) a6) else if x2 = (iI 3) then (fn_gA 0 0 (some this) a3 fun v8 => fn_gI 6 0 v4 a3 fun v9 => fn_rc 1 v8 a3 fun o => fn_B (gX1_paid ρ o v9 x1 a3) fun v11 a10 => gX0_sum_b88 ρ this k14 x1 x2 x5 x3 v11 a10) else fn_gA 0 0 (some this) a3 fun v12 => fn_rc 1 v12 a3 fun o => fn_B (gX1_deposited ρ o v4 x1 (iI 0) a3) fun v14 a13 => gX0_sum_b88 ρ this k14 x1 x2 x5 x3 v14 a13)
def gX0_sum (ρ : Nat → Nat) (this : Nat) (x1 : Int32) (x2 : Int32) (a : mS) : Option (Int64 × mS) :=
  fn_gA 0 0 (some this) a fun v1 => fn_gA 1 0 v1 a fun v2 => fn_rc 2 v2 a fun o => fn_B (gJ2_iterator ρ o a) fun v4 a3 => fnFix (fun _ _ _ _ _ => none) (gX0_sum_b14 ρ this) fnGas x1 x2 (lI 0) v4 a3
def gX0_undo (ρ : Nat → Nat) (this : Nat) (a : mS) : Option (Int32 × mS) :=
  fn_gA 0 6 (some this) a fun v1 => fn_nn v1 (some ((iI (-3)), a)) (fn_new 1 [va_rf none, va_rf none, va_rf none, va_rf none, va_rf none, va_rf none] a fun v2 a3 => fn_gA 0 6 (some this) a3 fun v4 => fn_B (gX1_init_2 ρ v2 v4 a3) fun _ a5 => fn_pA 0 0 (some this) (some v2) a5 fun a6 => fn_gA 0 2 (some this) a6 fun v7 => fn_rc 2 v7 a6 fun o => fn_B (gJ2_clear ρ o a6) fun _ a8 => fn_gA 0 0 (some this) a8 fun v9 => fn_gA 1 0 v9 a8 fun v10 => fn_rc 2 v10 a8 fun o => fn_B (gJ2_size ρ o a8) fun v12 a11 => some (v12, a11))
def gX0_withdraw (ρ : Nat → Nat) (this : Nat) (x1 : Int32) (a : mS) : Option (Int32 × mS) :=
  fn_new 1 [va_rf none, va_rf none, va_rf none, va_rf none, va_rf none, va_rf none] a fun v1 a2 => fn_gA 0 0 (some this) a2 fun v3 => fn_B (gX1_init_2 ρ v1 v3 a2) fun _ a4 => fn_gA 0 0 (some this) a4 fun v5 => fn_rc 1 v5 a4 fun o => fn_B (gX1_withdraws ρ o x1 a4) fun v7 a6 => fn_rc 0 (some this) a6 fun o => fn_B (gX0_done ρ o (some v1) v7 a6) fun v9 a8 => some (v9, a8)
def gX11_does (ρ : Nat → Nat) (this : Nat) (x1 : Option Nat) (a : mS) : Option (Int32 × mS) :=
  fn_gI 17 0 (some this) a fun v1 => fn_gI 17 1 (some this) a fun v2 => fn_rc 1 x1 a fun o => fn_B (gX1_indexes ρ o v1 v2 a) fun v4 a3 => some (v4, a3)
def gX1_addsLease (ρ : Nat → Nat) (this : Nat) (x1 : Option Nat) (x2 : Option Nat) (a : mS) : Option (Unit × mS) :=
  fn_rc 6 x1 a fun o => fn_B (gX4_hasDays ρ o a) fun v2 a1 => if v2 = iI 0 then (some ((), a1)) else fn_rc 1 (some this) a1 fun o => fn_B (gX1_addsChanges ρ o x1 x2 a1) fun _ a3 => fn_rc 6 x1 a3 fun o => fn_B (gX4_end ρ o a3) fun v5 a4 => if v5 < iI 0 then (some ((), a4)) else fn_new 24 [Value.int (iI 0), Value.int (iI 0), Value.int (iI 0)] a4 fun v6 a7 => fn_rc 6 x1 a7 fun o => fn_B (gX4_end ρ o a7) fun v9 a8 => fn_gI 6 0 x1 a8 fun v10 => fn_B (gX18_init ρ v6 v9 (iI 3) v10 a8) fun _ a11 => fn_cls x2 a11 fun c o => fn_B (if c = 2 then gJ2_add ρ o (some v6) a11 else none) fun v13 a12 => some ((), a12)
def gX1_balance (ρ : Nat → Nat) (this : Nat) (x1 : Option Nat) (x2 : Int32) (a : mS) : Option (Int64 × mS) :=
  fn_rc 1 (some this) a fun o => fn_B (gX1_due ρ o x1 x2 a) fun v2 a1 => fn_gI 6 0 x1 a1 fun v3 => fn_rc 1 (some this) a1 fun o => fn_B (gX1_paid ρ o v3 x2 a1) fun v5 a4 => some (((v2.toInt64) - v5), a4)
def gX8_whole_b19 (ρ : Nat → Nat) (this : Nat) (k19 : Option Nat → mS → Option ((Option Nat ⊕ Nat) × mS)) (x1 : Option Nat) (a : mS) : Option ((Option Nat ⊕ Nat) × mS) :=
  fn_gI 14 0 (some this) a fun v1 => fn_gA 14 1 (some this) a fun v2 => fn_gI 0 4 v2 a fun v3 => if v3 ≤ v1 then (some (.inl x1, a)) else fn_rc 14 (some this) a fun o => fn_BX (gX8_takes ρ o (iI 59) a) fun _ a4 => fn_rc 14 (some this) a4 fun o => fn_BX (gX8_command ρ o a4) fun v6 a5 => fn_cls x1 a5 fun c o => fn_B (if c = 2 then gJ2_add ρ o v6 a5 else none) fun v8 a7 => k19 x1 a7
def gX8_whole (ρ : Nat → Nat) (this : Nat) (a : mS) : Option ((Option Nat ⊕ Nat) × mS) :=
  fn_new 2 [Value.int (iI 0), va_rf none, Value.int (iI 0)] a fun v1 a2 => fn_B (gJ2_init ρ v1 a2) fun _ a3 => fn_rc 14 (some this) a3 fun o => fn_BX (gX8_command ρ o a3) fun v5 a4 => fn_cls (some v1) a4 fun c o => fn_B (if c = 2 then gJ2_add ρ o v5 a4 else none) fun v7 a6 => fnFix (fun _ _ => none) (gX8_whole_b19 ρ this) fnGas (some v1) a6
def gX0_account (ρ : Nat → Nat) (this : Nat) (x1 : Int32) (x2 : Int32) (a : mS) : Option (Int64 × mS) :=
  fn_B (gX6_isDay ρ x1 a) fun v2 a1 => if v2 = iI 0 then (some ((lI (-9223372036854775808)), a1)) else if x2 = iI 0 then (fn_rc 0 (some this) a1 fun o => fn_B (gX0_running ρ o x1 a1) fun v5 a4 => some ((v5.toInt64), a4)) else if x2 = iI 1 then (fn_rc 0 (some this) a1 fun o => fn_B (gX0_holding ρ o x1 a1) fun v8 a7 => some ((v8.toInt64), a7)) else if x2 = iI 2 then (fn_rc 0 (some this) a1 fun o => fn_B (gX0_sum ρ o x1 x2 a1) fun v11 a10 => some (v11, a10)) else if x2 = iI 3 then (fn_rc 0 (some this) a1 fun o => fn_B (gX0_sum ρ o x1 x2 a1) fun v14 a13 => some (v14, a13)) else if x2 = iI 4 then (fn_rc 0 (some this) a1 fun o => fn_B (gX0_sum ρ o x1 x2 a1) fun v17 a16 => some (v17, a16)) else if x2 = iI 5 then (fn_rc 0 (some this) a1 fun o => fn_B (gX0_without ρ o a1) fun v20 a19 => some ((v20.toInt64), a19)) else if x2 = iI 6 then (fn_gA 0 0 (some this) a1 fun v22 => fn_gA 1 4 v22 a1 fun v23 => fn_B (gX6_monthOf ρ x1 a1) fun v25 a24 => fn_rc 3 v23 a24 fun o => fn_B (gX2_at ρ o v25 a24) fun v27 a26 => some ((v27.toInt64), a26)) else if x2 = iI 7 then (fn_gA 0 0 (some this) a1 fun v29 => fn_gA 1 5 v29 a1 fun v30 => fn_rc 3 v30 a1 fun o => fn_B (gX2_at ρ o x1 a1) fun v32 a31 => some ((v32.toInt64), a31)) else some ((lI (-9223372036854775808)), a1)
def gX0_balance (ρ : Nat → Nat) (this : Nat) (x1 : Int32) (x2 : Int32) (a : mS) : Option (Int64 × mS) :=
  fn_gA 0 0 (some this) a fun v1 => fn_rc 1 v1 a fun o => fn_B (gX1_isLease ρ o x1 a) fun v3 a2 => if v3 = iI 0 then (some ((lI (-9223372036854775808)), a2)) else fn_B (gX6_isDay ρ x2 a2) fun v5 a4 => if v5 = iI 0 then (some ((lI (-9223372036854775808)), a4)) else fn_gA 0 0 (some this) a4 fun v6 => fn_gA 0 0 (some this) a4 fun v7 => fn_gA 1 0 v7 a4 fun v8 => fn_rc 2 v8 a4 fun o => fn_B (gJ2_get ρ o x1 a4) fun v10 a9 => fn_cast [6] v10 a9 (fn_rc 1 v6 a9 fun o => fn_B (gX1_balance ρ o v10 x2 a9) fun v12 a11 => some (v12, a11))
def gX0_does_b22 (ρ : Nat → Nat) (this : Nat) (k22 : Option Nat → Int32 → Option Nat → mS → Option (Int32 × mS)) (x2 : Option Nat) (x3 : Int32) (x4 : Option Nat) (a : mS) : Option (Int32 × mS) :=
  fn_cls x4 a fun c o => fn_B (if c = 5 then gJ5_hasNext ρ o a else none) fun v2 a1 => if v2 = iI 0 then (fn_gA 0 0 (some this) a1 fun v3 => fn_rc 0 (some this) a1 fun o => fn_B (gX0_keeps ρ o v3 a1) fun _ a4 => fn_pA 0 0 (some this) x2 a4 fun a5 => some (x3, a5)) else fn_cls x4 a1 fun c o => fn_B (if c = 5 then gJ5_next ρ o a1 else none) fun v7 a6 => fn_cast [17, 18, 19, 20, 21, 22] v7 a6 (fn_cls v7 a6 fun c o => fn_B (if c = 17 then gX11_does ρ o x2 a6 else if c = 18 then gX12_does ρ o x2 a6 else if c = 19 then gX13_does ρ o x2 a6 else if c = 20 then gX14_does ρ o x2 a6 else if c = 21 then gX15_does ρ o x2 a6 else if c = 22 then gX16_does ρ o x2 a6 else none) fun v9 a8 => if iI 0 ≤ v9 then (k22 x2 (x3 + iI 1) x4 a8) else fn_pI 0 1 (some this) (-v9) a8 fun a10 => some (((iI (-200)) - x3), a10))
def gX0_does (ρ : Nat → Nat) (this : Nat) (x1 : Option Nat) (a : mS) : Option (Int32 × mS) :=
  fn_new 1 [va_rf none, va_rf none, va_rf none, va_rf none, va_rf none, va_rf none] a fun v1 a2 => fn_gA 0 0 (some this) a2 fun v3 => fn_B (gX1_init_2 ρ v1 v3 a2) fun _ a4 => fn_cls x1 a4 fun c o => fn_B (if c = 2 then gJ2_iterator ρ o a4 else none) fun v6 a5 => fnFix (fun _ _ _ _ => none) (gX0_does_b22 ρ this) fnGas (some v1) (iI 0) v6 a5
def gX0_settlement (ρ : Nat → Nat) (this : Nat) (x1 : Int32) (x2 : Int32) (a : mS) : Option (Int64 × mS) :=
  fn_gA 0 0 (some this) a fun v1 => fn_rc 1 v1 a fun o => fn_B (gX1_isLease ρ o x1 a) fun v3 a2 => if v3 = iI 0 then (some ((lI (-9223372036854775808)), a2)) else fn_B (gX0_in ρ (x2.toInt64) (lI 0) (lI 2) a2) fun v5 a4 => if v5 = iI 0 then (some ((lI (-9223372036854775808)), a4)) else fn_gA 0 0 (some this) a4 fun v6 => fn_gA 1 0 v6 a4 fun v7 => fn_rc 2 v7 a4 fun o => fn_B (gJ2_get ρ o x1 a4) fun v9 a8 => fn_cast [6] v9 a8 (fn_rc 6 v9 a8 fun o => fn_B (gX4_until ρ o (iI 3599) a8) fun v11 a10 => fn_gA 0 0 (some this) a10 fun v12 => fn_rc 1 v12 a10 fun o => fn_B (gX1_balance ρ o v9 v11 a10) fun v14 a13 => fn_B (gJ9_max_2 ρ (lI 0) v14 a13) fun v16 a15 => fn_gA 0 0 (some this) a15 fun v17 => fn_rc 1 v17 a15 fun o => fn_B (gX1_deposited ρ o v9 v11 (iI 0) a15) fun v19 a18 => fn_B (gJ9_min_2 ρ v16 v19 a18) fun v21 a20 => if x2 = iI 0 then (some ((v19 - v21), a20)) else if x2 = (iI 1) then (some ((v16 - v21), a20)) else some (v21, a20))
def gX1_agenda_b258 (ρ : Nat → Nat) (this : Nat) (k258 : Option Nat → Option Nat → mS → Option (Option Nat × mS)) (x4 : Option Nat) (x5 : Option Nat) (a : mS) : Option (Option Nat × mS) :=
  fn_cls x5 a fun c o => fn_B (if c = 5 then gJ5_hasNext ρ o a else none) fun v2 a1 => if v2 = iI 0 then (some (x4, a1)) else fn_cls x5 a1 fun c o => fn_B (if c = 5 then gJ5_next ρ o a1 else none) fun v4 a3 => fn_cast [24] v4 a3 (fn_rc 27 x4 a3 fun o => fn_B (gJ25_add ρ o v4 a3) fun v6 a5 => k258 x4 x5 a5)
def gX1_agenda_b184 (ρ : Nat → Nat) (this : Nat) (k184 : Int32 → Option Nat → Option Nat → mS → Option (Option Nat × mS)) (x1 : Int32) (x2 : Option Nat) (x3 : Option Nat) (a : mS) : Option (Option Nat × mS) :=
  fn_cls x3 a fun c o => fn_B (if c = 5 then gJ5_hasNext ρ o a else none) fun v2 a1 => if v2 = iI 0 then (fn_new 27 [va_rf none, Value.int (iI 0), va_rf none, Value.int (iI 0)] a1 fun v3 a4 => fn_cls x2 a4 fun c o => fn_B (if c = 2 then gJ2_size ρ o a4 else none) fun v6 a5 => fn_new 28 [] a5 fun v7 a8 => fn_B (gX19_init ρ v7 a8) fun _ a9 => fn_B (gJ25_init ρ v3 ((iI 1) + v6) (some v7) a9) fun _ a10 => fn_cls x2 a10 fun c o => fn_B (if c = 2 then gJ2_iterator ρ o a10 else none) fun v12 a11 => fnFix (fun _ _ _ => none) (gX1_agenda_b258 ρ this) fnGas (some v3) v12 a11) else fn_cls x3 a1 fun c o => fn_B (if c = 5 then gJ5_next ρ o a1 else none) fun v14 a13 => fn_cast [24] v14 a13 (fn_gI 24 0 v14 a13 fun v15 => fn_B (gX0_in ρ (v15.toInt64) (x1.toInt64) (lI 3599) a13) fun v17 a16 => if v17 = iI 0 then (fn_cls x3 a16 fun c o => fn_B (if c = 5 then gJ5_remove ρ o a16 else none) fun _ a18 => k184 x1 x2 x3 a18) else k184 x1 x2 x3 a16)
def gX1_agenda_b130 (ρ : Nat → Nat) (this : Nat) (k130 : Int32 → Option Nat → Int32 → mS → Option (Option Nat × mS)) (x1 : Int32) (x2 : Option Nat) (x3 : Int32) (a : mS) : Option (Option Nat × mS) :=
  fn_gA 1 3 (some this) a fun v1 => fn_rc 2 v1 a fun o => fn_B (gJ2_size ρ o a) fun v3 a2 => if v3 ≤ x3 then (fn_cls x2 a2 fun c o => fn_B (if c = 2 then gJ2_iterator ρ o a2 else none) fun v5 a4 => fnFix (fun _ _ _ _ => none) (gX1_agenda_b184 ρ this) fnGas x1 x2 v5 a4) else fn_new 24 [Value.int (iI 0), Value.int (iI 0), Value.int (iI 0)] a2 fun v6 a7 => fn_gA 1 3 (some this) a7 fun v8 => fn_rc 2 v8 a7 fun o => fn_B (gJ2_get ρ o x3 a7) fun v10 a9 => fn_cast [13] v10 a9 (fn_gI 13 1 v10 a9 fun v11 => fn_B (gX18_init ρ v6 v11 (iI 4) x3 a9) fun _ a12 => fn_cls x2 a12 fun c o => fn_B (if c = 2 then gJ2_add ρ o (some v6) a12 else none) fun v14 a13 => k130 x1 x2 (x3 + iI 1) a13)
def gX1_agenda_b122 (ρ : Nat → Nat) (this : Nat) (k48 : Int32 → Option Nat → Int32 → mS → Option (Option Nat × mS)) (x1 : Int32) (x2 : Option Nat) (x3 : Int32) (a : mS) : Option (Option Nat × mS) :=
  k48 x1 x2 (x3 + iI 1) a
def gX1_agenda_b48 (ρ : Nat → Nat) (this : Nat) (k48 : Int32 → Option Nat → Int32 → mS → Option (Option Nat × mS)) (x1 : Int32) (x2 : Option Nat) (x3 : Int32) (a : mS) : Option (Option Nat × mS) :=
  fn_gA 1 1 (some this) a fun v1 => fn_rc 2 v1 a fun o => fn_B (gJ2_size ρ o a) fun v3 a2 => if v3 ≤ x3 then (fnFix (fun _ _ _ _ => none) (gX1_agenda_b130 ρ this) fnGas x1 x2 (iI 0) a2) else fn_gA 1 1 (some this) a2 fun v4 => fn_rc 2 v4 a2 fun o => fn_B (gJ2_get ρ o x3 a2) fun v6 a5 => fn_cast [7] v6 a5 (fn_new 24 [Value.int (iI 0), Value.int (iI 0), Value.int (iI 0)] a5 fun v7 a8 => fn_gI 7 1 v6 a8 fun v9 => fn_B (gX18_init ρ v7 v9 (iI 1) x3 a8) fun _ a10 => fn_cls x2 a10 fun c o => fn_B (if c = 2 then gJ2_add ρ o (some v7) a10 else none) fun v12 a11 => fn_gI 7 3 v6 a11 fun v13 => if v13 < iI 0 then (gX1_agenda_b122 ρ this k48 x1 x2 x3 a11) else fn_new 24 [Value.int (iI 0), Value.int (iI 0), Value.int (iI 0)] a11 fun v14 a15 => fn_gI 7 3 v6 a15 fun v16 => fn_B (gX18_init ρ v14 v16 (iI 2) x3 a15) fun _ a17 => fn_cls x2 a17 fun c o => fn_B (if c = 2 then gJ2_add ρ o (some v14) a17 else none) fun v19 a18 => gX1_agenda_b122 ρ this k48 x1 x2 x3 a18)
def gX1_agenda_b16 (ρ : Nat → Nat) (this : Nat) (k16 : Int32 → Option Nat → Option Nat → mS → Option (Option Nat × mS)) (x1 : Int32) (x2 : Option Nat) (x3 : Option Nat) (a : mS) : Option (Option Nat × mS) :=
  fn_cls x3 a fun c o => fn_B (if c = 5 then gJ5_hasNext ρ o a else none) fun v2 a1 => if v2 = iI 0 then (fnFix (fun _ _ _ _ => none) (gX1_agenda_b48 ρ this) fnGas x1 x2 (iI 0) a1) else fn_cls x3 a1 fun c o => fn_B (if c = 5 then gJ5_next ρ o a1 else none) fun v4 a3 => fn_cast [6] v4 a3 (fn_rc 1 (some this) a3 fun o => fn_B (gX1_addsLease ρ o v4 x2 a3) fun _ a5 => k16 x1 x2 x3 a5)
def gX1_agenda (ρ : Nat → Nat) (this : Nat) (x1 : Int32) (a : mS) : Option (Option Nat × mS) :=
  fn_new 2 [Value.int (iI 0), va_rf none, Value.int (iI 0)] a fun v1 a2 => fn_B (gJ2_init ρ v1 a2) fun _ a3 => fn_gA 1 0 (some this) a3 fun v4 => fn_rc 2 v4 a3 fun o => fn_B (gJ2_iterator ρ o a3) fun v6 a5 => fnFix (fun _ _ _ _ => none) (gX1_agenda_b16 ρ this) fnGas x1 (some v1) v6 a5
def gX0_agenda_b86 (ρ : Nat → Nat) (this : Nat) (x3 : Int32) (x4 : Option Nat) (a : mS) : Option (Int32 × mS) :=
  fn_cls x4 a fun c o => fn_B (if c = 27 then gJ0_isEmpty ρ o a else none) fun v2 a1 => if v2 = iI 0 then (fn_cls x4 a1 fun c o => fn_B (if c = 27 then gJ24_remove ρ o a1 else none) fun v4 a3 => fn_cast [24] v4 a3 (fn_rc 24 v4 a3 fun o => fn_B (gX18_part ρ o x3 a3) fun v6 a5 => some (v6, a5))) else some ((iI (-5)), a1)
def gX0_agenda_b56 (ρ : Nat → Nat) (this : Nat) (k56 : Int32 → Int32 → Option Nat → Int32 → mS → Option (Int32 × mS)) (x2 : Int32) (x3 : Int32) (x4 : Option Nat) (x5 : Int32) (a : mS) : Option (Int32 × mS) :=
  if x2 ≤ x5 then (gX0_agenda_b86 ρ this x3 x4 a) else fn_cls x4 a fun c o => fn_B (if c = 27 then gJ0_isEmpty ρ o a else none) fun v2 a1 => if v2 = iI 0 then (fn_cls x4 a1 fun c o => fn_B (if c = 27 then gJ24_remove ρ o a1 else none) fun v4 a3 => fn_cast [24] v4 a3 (k56 x2 x3 x4 (x5 + iI 1) a3)) else gX0_agenda_b86 ρ this x3 x4 a1
def gX0_agenda_b23 (ρ : Nat → Nat) (this : Nat) (x1 : Int32) (x2 : Int32) (x3 : Int32) (a : mS) : Option (Int32 × mS) :=
  fn_B (gX6_isDay ρ x1 a) fun v2 a1 => if v2 = iI 0 then (some ((iI (-2)), a1)) else fn_gA 0 0 (some this) a1 fun v3 => fn_rc 1 v3 a1 fun o => fn_B (gX1_agenda ρ o x1 a1) fun v5 a4 => if iI 0 ≤ x2 then (fnFix (fun _ _ _ _ _ => none) (gX0_agenda_b56 ρ this) fnGas x2 x3 v5 (iI 0) a4) else fn_rc 27 v5 a4 fun o => fn_B (gJ25_size ρ o a4) fun v7 a6 => some (v7, a6)
def gX0_agenda (ρ : Nat → Nat) (this : Nat) (x1 : Int32) (x2 : Int32) (x3 : Int32) (a : mS) : Option (Int32 × mS) :=
  if x2 < (iI (-1)) then (some ((iI (-1)), a)) else if x2 < iI 0 then (gX0_agenda_b23 ρ this x1 x2 x3 a) else fn_B (gX0_in ρ (x3.toInt64) (lI 0) (lI 2) a) fun v2 a1 => if v2 = iI 0 then (some ((iI (-1)), a1)) else gX0_agenda_b23 ρ this x1 x2 x3 a1
def gX0_run (ρ : Nat → Nat) (this : Nat) (a : mS) : Option (Int32 × mS) :=
  fn_new 14 [Value.int (iI 0), va_rf none] a fun v1 a2 => fn_B (gX8_init ρ v1 (some this) a2) fun _ a3 => fn_rc 14 (some v1) a3 fun o => fn_BC (gX8_whole ρ o  a3) (fun v5 a4 => fn_rc 0 (some this) a4 fun o => fn_B (gX0_does ρ o v5 a4) fun v9 a8 => fn_pI 0 4 (some this) (iI 0) a8 fun a10 => some (v9, a10)) (fun q6 a7 => fn_gI 15 6 (some q6) a7 fun v11 => fn_pI 0 4 (some this) (iI 0) a7 fun a12 => some (((iI (-100)) - v11), a12))
end
section
/-! PURE LAW: arithmetic. All numbers of the programs are iI or lI of an integer -/
theorem iI_add (a b : Int) : iI a + iI b = iI (a + b) := (Int32.ofInt_add a b).symm
theorem iI_sub (a b : Int) : iI a - iI b = iI (a - b) := (Int32.ofInt_sub a b).symm
theorem iI_mul (a b : Int) : iI a * iI b = iI (a * b) := (Int32.ofInt_mul a b).symm
theorem iI_neg (a : Int) : -iI a = iI (-a) := (Int32.ofInt_neg a).symm
theorem lI_add (a b : Int) : lI a + lI b = lI (a + b) := (Int64.ofInt_add a b).symm
theorem lI_sub (a b : Int) : lI a - lI b = lI (a - b) := (Int64.ofInt_sub a b).symm
theorem lI_mul (a b : Int) : lI a * lI b = lI (a * b) := (Int64.ofInt_mul a b).symm
theorem iI_toInt (x : Int32) : iI x.toInt = x := Int32.ofInt_toInt x
theorem lI_toInt (x : Int64) : lI x.toInt = x := Int64.ofInt_toInt x
abbrev r32 (a : Int) : Prop := -2147483648 ≤ a ∧ a < 2147483648
abbrev r64 (a : Int) : Prop := -9223372036854775808 ≤ a ∧ a < 9223372036854775808
theorem iI_int {a : Int} (h : r32 a) : (iI a).toInt = a := Int32.toInt_ofInt_of_le h.1 h.2
theorem lI_int {a : Int} (h : r64 a) : (lI a).toInt = a := Int64.toInt_ofInt_of_le h.1 h.2
theorem i32_r (x : Int32) : r32 x.toInt := ⟨Int32.le_toInt x, Int32.toInt_lt x⟩
theorem iI_lt {a b : Int} (ha : r32 a) (hb : r32 b) : (iI a < iI b) ↔ a < b := by rw [Int32.lt_iff_toInt_lt, iI_int ha, iI_int hb]
theorem iI_le {a b : Int} (ha : r32 a) (hb : r32 b) : (iI a ≤ iI b) ↔ a ≤ b := by rw [Int32.le_iff_toInt_le, iI_int ha, iI_int hb]
theorem iI_eq {a b : Int} (ha : r32 a) (hb : r32 b) : (iI a = iI b) ↔ a = b := ⟨fun h => by rw [← iI_int ha, ← iI_int hb, h], fun h => by rw [h]⟩
theorem lI_lt {a b : Int} (ha : r64 a) (hb : r64 b) : (lI a < lI b) ↔ a < b := by rw [Int64.lt_iff_toInt_lt, lI_int ha, lI_int hb]
theorem lI_eq {a b : Int} (ha : r64 a) (hb : r64 b) : (lI a = lI b) ↔ a = b := ⟨fun h => by rw [← lI_int ha, ← lI_int hb, h], fun h => by rw [h]⟩
theorem i32_z : (0 : Int32) = iI 0 := rfl
theorem nI_iI (n : Nat) : nI n = iI n := by
  show Int32.ofNat n = Int32.ofInt (n : Int)
  rw [Int32.ofInt_eq_ofNat]
theorem iI_nat {a : Int} (h : r32 a) : (iI a).toNatClampNeg = a.toNat := by
  show (iI a).toInt.toNat = a.toNat
  rw [iI_int h]
theorem iI_to64 {a : Int} (h : r32 a) : (iI a).toInt64 = lI a := by
  apply Int64.toInt_inj.mp
  rw [Int32.toInt_toInt64, iI_int h, lI_int ⟨by omega, by omega⟩]
theorem lI_to32 {a : Int} (h : r32 a) : (lI a).toInt32 = iI a := by
  apply Int32.toInt_inj.mp
  rw [Int64.toInt_toInt32, lI_int ⟨by omega, by omega⟩, iI_int h]
  exact Int.bmod_eq_of_le (by omega) (by omega)
theorem iI_div {a b : Int} (ha : r32 a) (hb : 0 < b ∧ b < 2147483648) : iI a / iI b = iI (a.tdiv b) := by
  apply Int32.toInt_inj.mp
  have h1 : r32 (a.tdiv b) := by
    rcases Int.le_total 0 a with h | h
    · have := Int.tdiv_le_self b h
      have := Int.tdiv_nonneg h (Int.le_of_lt hb.1)
      omega
    · have h2 := Int.neg_tdiv (a := -a) (b := b)
      rw [Int.neg_neg] at h2
      have := Int.tdiv_le_self (a := -a) b (by omega)
      have := Int.tdiv_nonneg (a := -a) (b := b) (by omega) (Int.le_of_lt hb.1)
      omega
  rw [Int32.toInt_div, iI_int ha, iI_int ⟨by omega, by omega⟩, iI_int h1]
  exact Int.bmod_eq_of_le (by omega) (by omega)
theorem lI_div {a b : Int} (ha : r64 a) (hb : 0 < b ∧ b < 9223372036854775808) : lI a / lI b = lI (a.tdiv b) := by
  apply Int64.toInt_inj.mp
  have h1 : r64 (a.tdiv b) := by
    rcases Int.le_total 0 a with h | h
    · have := Int.tdiv_le_self b h
      have := Int.tdiv_nonneg h (Int.le_of_lt hb.1)
      omega
    · have h2 := Int.neg_tdiv (a := -a) (b := b)
      rw [Int.neg_neg] at h2
      have := Int.tdiv_le_self (a := -a) b (by omega)
      have := Int.tdiv_nonneg (a := -a) (b := b) (by omega) (Int.le_of_lt hb.1)
      omega
  rw [Int64.toInt_div, lI_int ha, lI_int ⟨by omega, by omega⟩, lI_int h1]
  exact Int.bmod_eq_of_le (by omega) (by omega)
theorem lI_cmp_lt {a b : Int} (ha : r64 a) (hb : r64 b) : (lg_cmp (lI a) (lI b) < iI 0) ↔ a < b := by
  unfold lg_cmp
  rcases Int.lt_trichotomy a b with h | h | h
  · rw [if_neg (fun q => absurd ((lI_lt hb ha).mp q) (by omega)), if_neg (fun q => absurd ((lI_eq ha hb).mp q) (by omega))]
    exact ⟨fun _ => h, fun _ => by decide⟩
  · rw [if_neg (fun q => absurd ((lI_lt hb ha).mp q) (by omega)), if_pos ((lI_eq ha hb).mpr h)]
    exact ⟨fun q => absurd q (by decide), fun q => by omega⟩
  · rw [if_pos ((lI_lt hb ha).mpr h)]
    exact ⟨fun q => absurd q (by decide), fun q => by omega⟩
theorem lI_cmp_gt {a b : Int} (ha : r64 a) (hb : r64 b) : (iI 0 < lg_cmp (lI a) (lI b)) ↔ b < a := by
  unfold lg_cmp
  rcases Int.lt_trichotomy a b with h | h | h
  · rw [if_neg (fun q => absurd ((lI_lt hb ha).mp q) (by omega)), if_neg (fun q => absurd ((lI_eq ha hb).mp q) (by omega))]
    exact ⟨fun q => absurd q (by decide), fun q => by omega⟩
  · rw [if_neg (fun q => absurd ((lI_lt hb ha).mp q) (by omega)), if_pos ((lI_eq ha hb).mpr h)]
    exact ⟨fun q => absurd q (by decide), fun q => by omega⟩
  · rw [if_pos ((lI_lt hb ha).mpr h)]
    exact ⟨fun _ => h, fun _ => by decide⟩
theorem i32_not_lt {x y : Int32} : (y ≤ x) ↔ ¬ x < y := by rw [Int32.le_iff_toInt_le, Int32.lt_iff_toInt_lt]; omega
theorem lI_cmp_ge {a b : Int} (ha : r64 a) (hb : r64 b) : (iI 0 ≤ lg_cmp (lI a) (lI b)) ↔ b ≤ a := by
  rw [i32_not_lt, lI_cmp_lt ha hb]
  omega
theorem lI_cmp_le {a b : Int} (ha : r64 a) (hb : r64 b) : (lg_cmp (lI a) (lI b) ≤ iI 0) ↔ a ≤ b := by
  rw [i32_not_lt, lI_cmp_gt ha hb]
  omega
theorem lI_cmp_eq {a b : Int} (ha : r64 a) (hb : r64 b) : (lg_cmp (lI a) (lI b) = iI 0) ↔ a = b := by
  have h1 := lI_cmp_ge ha hb
  have h2 := lI_cmp_le ha hb
  constructor
  · intro h
    rw [h] at h1 h2
    have := h1.mp (by decide)
    have := h2.mp (by decide)
    omega
  · intro h
    unfold lg_cmp
    rw [if_neg (fun q => absurd ((lI_lt hb ha).mp q) (by omega)), if_pos ((lI_eq ha hb).mpr h)]
    rfl
/-- booleans -/
def b2 (b : Bool) : Int := if b = true then 1 else 0
theorem b2_r (b : Bool) : 0 ≤ b2 b ∧ b2 b ≤ 1 := by cases b <;> decide
theorem b2_z (b : Bool) : (iI (b2 b) = iI 0) ↔ b = false := by cases b <;> decide
theorem b2_1 (b : Bool) : (iI (b2 b) = iI 1) ↔ b = true := by cases b <;> decide
theorem b2_or (a b : Bool) : iI (b2 a) ||| iI (b2 b) = iI (b2 (a || b)) := by cases a <;> cases b <;> decide
theorem b2_or0 (a : Bool) : iI (b2 a) ||| iI 0 = iI (b2 a) := by cases a <;> decide
theorem b2_or1 (a : Bool) : iI (b2 a) ||| iI 1 = iI (b2 true) := by cases a <;> decide
theorem rZ_0 (s : mS) : fn_rZ (iI 0) s = some (iI (b2 false), s) := rfl
theorem rZ_1 (s : mS) : fn_rZ (iI 1) s = some (iI (b2 true), s) := rfl
theorem rZ_b (b : Bool) (s : mS) : fn_rZ (iI (b2 b)) s = some (iI (b2 b), s) := by cases b <;> rfl
theorem fn_B_some {α β : Type} (v : α) (s : mS) (kk : α → mS → Option β) : fn_B (some (v, s)) kk = kk v s := rfl
theorem fn_nn_none {β : Type} (x y : Option β) : fn_nn none x y = x := rfl
theorem fn_nn_some {β : Type} (q : Nat) (x y : Option β) : fn_nn (some q) x y = y := rfl
theorem fn_in_ok {β : Type} {i : Int} {n : Nat} (h : 0 ≤ i ∧ i < n) (hn : n ≤ 2147483647) (kk : Option β) : fn_in (iI i) n kk = kk := by
  unfold fn_in
  rw [if_neg]
  rintro (q | q)
  · rw [i32_z, iI_lt ⟨by omega, by omega⟩ ⟨by omega, by omega⟩] at q
    omega
  · rw [iI_nat ⟨by omega, by omega⟩] at q
    omega
theorem fnFix_s {F : Type} (bot : F) (body : F → F) (n : Nat) : fnFix bot body (n + 1) = body (fnFix bot body n) := rfl
def uI (f : Int → Int) (k x : Int) : Int → Int := fun j => if j = k then x else f j
theorem uI_s (f : Int → Int) (k x : Int) : uI f k x k = x := if_pos rfl
theorem uI_o (f : Int → Int) {k x j : Int} (h : j ≠ k) : uI f k x j = f j := if_neg h
theorem uI_upd (f : Int → Int) {i : Int} (x : Int) (h : 0 ≤ i) : upd (fun k : Nat => iI (f k)) i.toNat (iI x) = fun k : Nat => iI (uI f i x k) := by
  funext j
  unfold upd uI
  by_cases hj : j = i.toNat
  · rw [if_pos hj, if_pos (by omega)]
  · rw [if_neg hj, if_neg (by omega)]
theorem fn_Bt {β : Type} {x : Option (Int32 × mS)} {s : mS} {A C : Int32 → mS → Option β} (h : x = some (iI (b2 true), s)) : fn_B x (fun v a1 => if v = iI 0 then A v a1 else C v a1) = C (iI (b2 true)) s := by rw [h]; rfl
theorem fn_Bf {β : Type} {x : Option (Int32 × mS)} {s : mS} {A C : Int32 → mS → Option β} (h : x = some (iI (b2 false), s)) : fn_B x (fun v a1 => if v = iI 0 then A v a1 else C v a1) = A (iI (b2 false)) s := by rw [h]; rfl
end
section
/-! THE MODEL's MEMORY, by pure/mkmd.py: arrays of numbers, numbers, truths (by the number of the field), touches, parts -/
abbrev MM : Type := (Nat → Int → Int) × (Nat → Int) × (Nat → Bool) × (Int → Bool) × (Int → UInt32)
def mA (μ : MM) (j : Nat) (f : Int → Int) : MM := (fun i => if i = j then f else μ.1 i, μ.2)
def mI (μ : MM) (j : Nat) (x : Int) : MM := (μ.1, fun i => if i = j then x else μ.2.1 i, μ.2.2)
def mB (μ : MM) (j : Nat) (x : Bool) : MM := (μ.1, μ.2.1, fun i => if i = j then x else μ.2.2.1 i, μ.2.2.2)
def mT (μ : MM) (i : Int) (x : Bool) : MM := (μ.1, μ.2.1, μ.2.2.1, fun j => if j = i then x else μ.2.2.2.1 j, μ.2.2.2.2)
def mF (μ : MM) (i : Int) (x : UInt32) : MM := (μ.1, μ.2.1, μ.2.2.1, μ.2.2.2.1, fun j => if j = i then x else μ.2.2.2.2 j)
theorem mA_s {μ : MM} {j : Nat} {f : Int → Int} : (mA μ j f).1 j = f := if_pos rfl
theorem mA_o {μ : MM} {j i : Nat} {f : Int → Int} (h : i ≠ j) : (mA μ j f).1 i = μ.1 i := if_neg h
theorem mI_s {μ : MM} {j : Nat} {x : Int} : (mI μ j x).2.1 j = x := if_pos rfl
theorem mI_o {μ : MM} {j i : Nat} {x : Int} (h : i ≠ j) : (mI μ j x).2.1 i = μ.2.1 i := if_neg h
theorem mB_s {μ : MM} {j : Nat} {x : Bool} : (mB μ j x).2.2.1 j = x := if_pos rfl
theorem mB_o {μ : MM} {j i : Nat} {x : Bool} (h : i ≠ j) : (mB μ j x).2.2.1 i = μ.2.2.1 i := if_neg h
theorem mA_I {μ : MM} {j : Nat} {f : Int → Int} : (mA μ j f).2.1 = μ.2.1 := rfl
theorem mA_B {μ : MM} {j : Nat} {f : Int → Int} : (mA μ j f).2.2.1 = μ.2.2.1 := rfl
theorem mA_T {μ : MM} {j : Nat} {f : Int → Int} : (mA μ j f).2.2.2.1 = μ.2.2.2.1 := rfl
theorem mA_F {μ : MM} {j : Nat} {f : Int → Int} : (mA μ j f).2.2.2.2 = μ.2.2.2.2 := rfl
theorem mI_A {μ : MM} {j : Nat} {x : Int} : (mI μ j x).1 = μ.1 := rfl
theorem mI_B {μ : MM} {j : Nat} {x : Int} : (mI μ j x).2.2.1 = μ.2.2.1 := rfl
theorem mI_T {μ : MM} {j : Nat} {x : Int} : (mI μ j x).2.2.2.1 = μ.2.2.2.1 := rfl
theorem mI_F {μ : MM} {j : Nat} {x : Int} : (mI μ j x).2.2.2.2 = μ.2.2.2.2 := rfl
theorem mB_A {μ : MM} {j : Nat} {x : Bool} : (mB μ j x).1 = μ.1 := rfl
theorem mB_I {μ : MM} {j : Nat} {x : Bool} : (mB μ j x).2.1 = μ.2.1 := rfl
theorem mB_T {μ : MM} {j : Nat} {x : Bool} : (mB μ j x).2.2.2.1 = μ.2.2.2.1 := rfl
theorem mB_F {μ : MM} {j : Nat} {x : Bool} : (mB μ j x).2.2.2.2 = μ.2.2.2.2 := rfl
theorem mT_A {μ : MM} {i : Int} {x : Bool} : (mT μ i x).1 = μ.1 := rfl
theorem mT_I {μ : MM} {i : Int} {x : Bool} : (mT μ i x).2.1 = μ.2.1 := rfl
theorem mT_B {μ : MM} {i : Int} {x : Bool} : (mT μ i x).2.2.1 = μ.2.2.1 := rfl
theorem mT_F {μ : MM} {i : Int} {x : Bool} : (mT μ i x).2.2.2.2 = μ.2.2.2.2 := rfl
theorem mF_A {μ : MM} {i : Int} {x : UInt32} : (mF μ i x).1 = μ.1 := rfl
theorem mF_I {μ : MM} {i : Int} {x : UInt32} : (mF μ i x).2.1 = μ.2.1 := rfl
theorem mF_B {μ : MM} {i : Int} {x : UInt32} : (mF μ i x).2.2.1 = μ.2.2.1 := rfl
theorem mF_T {μ : MM} {i : Int} {x : UInt32} : (mF μ i x).2.2.2.1 = μ.2.2.2.1 := rfl
theorem mA_1 {μ : MM} {j : Nat} {f : Int → Int} : (mA μ j f).1 = fun i => if i = j then f else μ.1 i := rfl
theorem mA_ss {μ : MM} {j : Nat} {f g : Int → Int} : mA (mA μ j f) j g = mA μ j g := by
  unfold mA
  refine Prod.ext (funext fun i => ?_) rfl
  dsimp only
  by_cases h : i = j
  · rw [if_pos h, if_pos h]
  · rw [if_neg h, if_neg h, if_neg h]
theorem mA_self {μ : MM} {j : Nat} : mA μ j (μ.1 j) = μ := by
  unfold mA
  refine Prod.ext (funext fun i => ?_) rfl
  dsimp only
  by_cases h : i = j
  · rw [if_pos h, h]
  · rw [if_neg h]
theorem mI_ss {μ : MM} {j : Nat} {x y : Int} : mI (mI μ j x) j y = mI μ j y := by
  unfold mI
  refine Prod.ext rfl (Prod.ext (funext fun i => ?_) rfl)
  dsimp only
  by_cases h : i = j
  · rw [if_pos h, if_pos h]
  · rw [if_neg h, if_neg h, if_neg h]
def mflds (b : Nat) (μ : MM) : List Value := [va_rf (some (b + 1)), va_rf (some (b + 2)), va_rf (some (b + 3)), va_rf (some (b + 4)), va_rf (some (b + 5)), Value.int (iI (μ.2.1 5)), Value.int (iI (μ.2.1 6)), Value.int (iI (b2 (μ.2.2.1 7))), Value.int (iI (μ.2.1 8)), va_rf (some (b + 6)), va_rf (some (b + 7)), va_rf (some (b + 8)), va_rf (some (b + 9)), va_rf (some (b + 10)), Value.int (iI (μ.2.1 14)), Value.int (iI (μ.2.1 15)), Value.int (iI (b2 (μ.2.2.1 16))), va_rf (some (b + 11)), va_rf (some (b + 12)), Value.long (lI (μ.2.1 19)), va_rf (some (b + 13)), Value.int (iI (μ.2.1 21)), va_rf (some (b + 14)), va_rf (some (b + 15)), va_rf (some (b + 16))]
def mcell (b : Nat) (μ : MM) (j : Nat) : mE := match j with
  | 0 => .inr (31, mflds b μ)
  | 1 => .inl (0, 3960, aI (fun k : Nat => iI (μ.1 0 k)))
  | 2 => .inl (0, 3960, aI (fun k : Nat => iI (μ.1 1 k)))
  | 3 => .inl (0, 3960, aI (fun k : Nat => iI (μ.1 2 k)))
  | 4 => .inl (0, 3960, aI (fun k : Nat => iI (μ.1 3 k)))
  | 5 => .inl (0, 23760, aI (fun k : Nat => iI (μ.1 4 k)))
  | 6 => .inl (0, 60, aI (fun k : Nat => iI (μ.1 9 k)))
  | 7 => .inl (0, 60, aI (fun k : Nat => iI (μ.1 10 k)))
  | 8 => .inl (0, 60, aI (fun k : Nat => iI (μ.1 11 k)))
  | 9 => .inl (0, 60, aI (fun k : Nat => iI (μ.1 12 k)))
  | 10 => .inl (0, 60, aI (fun k : Nat => iI (μ.1 13 k)))
  | 11 => .inl (0, 120, aI (fun k : Nat => iI (μ.1 17 k)))
  | 12 => .inl (2, 12, aI (fun k : Nat => iI (b2 (μ.2.2.2.1 k))))
  | 13 => .inl (0, 4500, aI (fun k : Nat => iI (μ.1 20 k)))
  | 14 => .inl (0, 36, aI (fun k : Nat => iI (μ.1 22 k)))
  | 15 => .inl (0, 3, aI (fun k : Nat => iI (μ.1 23 k)))
  | 16 => .inl (3, 36, aF (fun k : Nat => μ.2.2.2.2 k))
  | _ => .inr (31, [])
/-- the heap σ, with the model's memory μ at b -/
def St (σ : mS) (b : Nat) (μ : MM) : mS := (fun q => if b ≤ q ∧ q < b + 17 then some (mcell b μ (q - b)) else σ.1 q, σ.2)
theorem St_at {σ : mS} {b : Nat} {μ : MM} {j : Nat} (h : j < 17) : (St σ b μ).1 (b + j) = some (mcell b μ j) := by
  show (if b ≤ b + j ∧ b + j < b + 17 then some (mcell b μ (b + j - b)) else σ.1 (b + j)) = _
  rw [if_pos ⟨by omega, by omega⟩, Nat.add_sub_cancel_left]
theorem St_ob {σ : mS} {b : Nat} {μ : MM} : (St σ b μ).1 b = some (.inr (31, mflds b μ)) := St_at (j := 0) (by decide)
theorem St_up {σ : mS} {b : Nat} {μ μ1 : MM} {j : Nat} {e : mE} (h : j < 17) (he : mcell b μ1 j = e) (ho : ∀ i, i < 17 → i ≠ j → mcell b μ1 i = mcell b μ i) : mUp (St σ b μ) (b + j) e = St σ b μ1 := by
  unfold mUp St
  refine Prod.ext (funext fun q => ?_) rfl
  dsimp only
  by_cases hq : b ≤ q ∧ q < b + 17
  · rw [if_pos hq, if_pos hq]
    by_cases hj : q = b + j
    · rw [if_pos hj, hj, Nat.add_sub_cancel_left, he]
    · rw [if_neg hj, ho (q - b) (by omega) (by omega)]
  · rw [if_neg hq, if_neg (fun q9 => hq ⟨by omega, by omega⟩), if_neg hq]
theorem St_up0 {σ : mS} {b : Nat} {μ μ1 : MM} {fs : List Value} (he : mflds b μ1 = fs) (ho : ∀ i, i < 17 → i ≠ 0 → mcell b μ1 i = mcell b μ i) : mUp (St σ b μ) b (.inr (31, fs)) = St σ b μ1 := St_up (j := 0) (by decide) (by rw [← he]; rfl) ho
theorem St_rc {β : Type} {σ : mS} {b : Nat} {μ : MM} {kk : Nat → Option β} : fn_rc 31 (some b) (St σ b μ) kk = kk b := by
  unfold fn_rc fnO
  dsimp only
  rw [St_ob]
  rfl
theorem uB_upd (f : Int → Bool) {i : Int} (x : Bool) (h : 0 ≤ i) : upd (fun k : Nat => iI (b2 (f k))) i.toNat (iI (b2 x)) = fun k : Nat => iI (b2 ((fun j => if j = i then x else f j) k)) := by
  funext j
  unfold upd
  dsimp only
  by_cases hj : j = i.toNat
  · rw [if_pos hj, if_pos (by omega)]
  · rw [if_neg hj, if_neg (by omega)]
theorem uF_upd (f : Int → UInt32) {i : Int} (x : UInt32) (h : 0 ≤ i) : vf_upd (fun k : Nat => f k) i.toNat x = fun k : Nat => (fun j : Int => if j = i then x else f j) k := by
  funext j
  unfold vf_upd
  dsimp only
  by_cases hj : j = i.toNat
  · rw [if_pos hj, if_pos (by omega)]
  · rw [if_neg hj, if_neg (by omega)]
section MD
variable {β : Type} {σ : mS} {b : Nat} {μ : MM}
theorem md_gA0 {kk : Option Nat → Option β} : fn_gA 31 0 (some b) (St σ b μ) kk = kk (some (b + 1)) := by
  unfold fn_gA fnO; dsimp only; rw [St_ob]; rfl
theorem md_a0 {i : Int} (h : 0 ≤ i ∧ i < 3960) {kk : Int32 → Option β} : fn_aI 0 (some (b + 1)) (iI i) (St σ b μ) kk = kk (iI (μ.1 0 i)) := by
  unfold fn_aI fnA
  dsimp only
  rw [St_at (j := 1) (by decide)]
  show fn_in (iI i) 3960 (kk _) = _
  rw [fn_in_ok h (by decide), iI_nat ⟨by omega, by omega⟩]
  dsimp only
  rw [Int.toNat_of_nonneg h.1]
theorem md_s0 {i x : Int} (h : 0 ≤ i ∧ i < 3960) {kk : mS → Option β} : fn_sI 0 (some (b + 1)) (iI i) (iI x) (St σ b μ) kk = kk (St σ b (mA μ 0 (uI (μ.1 0) i x))) := by
  unfold fn_sI fnA
  dsimp only
  rw [St_at (j := 1) (by decide)]
  show fn_in (iI i) 3960 (kk _) = _
  rw [fn_in_ok h (by decide), iI_nat ⟨by omega, by omega⟩, uI_upd _ _ h.1]
  exact congrArg kk (St_up (by decide) rfl (by intro i h1 h2; match i, h2 with | 0, _ => rfl | 1, h2 => exact absurd rfl h2 | 2, _ => rfl | 3, _ => rfl | 4, _ => rfl | 5, _ => rfl | 6, _ => rfl | 7, _ => rfl | 8, _ => rfl | 9, _ => rfl | 10, _ => rfl | 11, _ => rfl | 12, _ => rfl | 13, _ => rfl | 14, _ => rfl | 15, _ => rfl | 16, _ => rfl | n + 17, _ => omega))
theorem md_gA1 {kk : Option Nat → Option β} : fn_gA 31 1 (some b) (St σ b μ) kk = kk (some (b + 2)) := by
  unfold fn_gA fnO; dsimp only; rw [St_ob]; rfl
theorem md_a1 {i : Int} (h : 0 ≤ i ∧ i < 3960) {kk : Int32 → Option β} : fn_aI 0 (some (b + 2)) (iI i) (St σ b μ) kk = kk (iI (μ.1 1 i)) := by
  unfold fn_aI fnA
  dsimp only
  rw [St_at (j := 2) (by decide)]
  show fn_in (iI i) 3960 (kk _) = _
  rw [fn_in_ok h (by decide), iI_nat ⟨by omega, by omega⟩]
  dsimp only
  rw [Int.toNat_of_nonneg h.1]
theorem md_s1 {i x : Int} (h : 0 ≤ i ∧ i < 3960) {kk : mS → Option β} : fn_sI 0 (some (b + 2)) (iI i) (iI x) (St σ b μ) kk = kk (St σ b (mA μ 1 (uI (μ.1 1) i x))) := by
  unfold fn_sI fnA
  dsimp only
  rw [St_at (j := 2) (by decide)]
  show fn_in (iI i) 3960 (kk _) = _
  rw [fn_in_ok h (by decide), iI_nat ⟨by omega, by omega⟩, uI_upd _ _ h.1]
  exact congrArg kk (St_up (by decide) rfl (by intro i h1 h2; match i, h2 with | 0, _ => rfl | 1, _ => rfl | 2, h2 => exact absurd rfl h2 | 3, _ => rfl | 4, _ => rfl | 5, _ => rfl | 6, _ => rfl | 7, _ => rfl | 8, _ => rfl | 9, _ => rfl | 10, _ => rfl | 11, _ => rfl | 12, _ => rfl | 13, _ => rfl | 14, _ => rfl | 15, _ => rfl | 16, _ => rfl | n + 17, _ => omega))
theorem md_gA2 {kk : Option Nat → Option β} : fn_gA 31 2 (some b) (St σ b μ) kk = kk (some (b + 3)) := by
  unfold fn_gA fnO; dsimp only; rw [St_ob]; rfl
theorem md_a2 {i : Int} (h : 0 ≤ i ∧ i < 3960) {kk : Int32 → Option β} : fn_aI 0 (some (b + 3)) (iI i) (St σ b μ) kk = kk (iI (μ.1 2 i)) := by
  unfold fn_aI fnA
  dsimp only
  rw [St_at (j := 3) (by decide)]
  show fn_in (iI i) 3960 (kk _) = _
  rw [fn_in_ok h (by decide), iI_nat ⟨by omega, by omega⟩]
  dsimp only
  rw [Int.toNat_of_nonneg h.1]
theorem md_s2 {i x : Int} (h : 0 ≤ i ∧ i < 3960) {kk : mS → Option β} : fn_sI 0 (some (b + 3)) (iI i) (iI x) (St σ b μ) kk = kk (St σ b (mA μ 2 (uI (μ.1 2) i x))) := by
  unfold fn_sI fnA
  dsimp only
  rw [St_at (j := 3) (by decide)]
  show fn_in (iI i) 3960 (kk _) = _
  rw [fn_in_ok h (by decide), iI_nat ⟨by omega, by omega⟩, uI_upd _ _ h.1]
  exact congrArg kk (St_up (by decide) rfl (by intro i h1 h2; match i, h2 with | 0, _ => rfl | 1, _ => rfl | 2, _ => rfl | 3, h2 => exact absurd rfl h2 | 4, _ => rfl | 5, _ => rfl | 6, _ => rfl | 7, _ => rfl | 8, _ => rfl | 9, _ => rfl | 10, _ => rfl | 11, _ => rfl | 12, _ => rfl | 13, _ => rfl | 14, _ => rfl | 15, _ => rfl | 16, _ => rfl | n + 17, _ => omega))
theorem md_gA3 {kk : Option Nat → Option β} : fn_gA 31 3 (some b) (St σ b μ) kk = kk (some (b + 4)) := by
  unfold fn_gA fnO; dsimp only; rw [St_ob]; rfl
theorem md_a3 {i : Int} (h : 0 ≤ i ∧ i < 3960) {kk : Int32 → Option β} : fn_aI 0 (some (b + 4)) (iI i) (St σ b μ) kk = kk (iI (μ.1 3 i)) := by
  unfold fn_aI fnA
  dsimp only
  rw [St_at (j := 4) (by decide)]
  show fn_in (iI i) 3960 (kk _) = _
  rw [fn_in_ok h (by decide), iI_nat ⟨by omega, by omega⟩]
  dsimp only
  rw [Int.toNat_of_nonneg h.1]
theorem md_s3 {i x : Int} (h : 0 ≤ i ∧ i < 3960) {kk : mS → Option β} : fn_sI 0 (some (b + 4)) (iI i) (iI x) (St σ b μ) kk = kk (St σ b (mA μ 3 (uI (μ.1 3) i x))) := by
  unfold fn_sI fnA
  dsimp only
  rw [St_at (j := 4) (by decide)]
  show fn_in (iI i) 3960 (kk _) = _
  rw [fn_in_ok h (by decide), iI_nat ⟨by omega, by omega⟩, uI_upd _ _ h.1]
  exact congrArg kk (St_up (by decide) rfl (by intro i h1 h2; match i, h2 with | 0, _ => rfl | 1, _ => rfl | 2, _ => rfl | 3, _ => rfl | 4, h2 => exact absurd rfl h2 | 5, _ => rfl | 6, _ => rfl | 7, _ => rfl | 8, _ => rfl | 9, _ => rfl | 10, _ => rfl | 11, _ => rfl | 12, _ => rfl | 13, _ => rfl | 14, _ => rfl | 15, _ => rfl | 16, _ => rfl | n + 17, _ => omega))
theorem md_gA4 {kk : Option Nat → Option β} : fn_gA 31 4 (some b) (St σ b μ) kk = kk (some (b + 5)) := by
  unfold fn_gA fnO; dsimp only; rw [St_ob]; rfl
theorem md_a4 {i : Int} (h : 0 ≤ i ∧ i < 23760) {kk : Int32 → Option β} : fn_aI 0 (some (b + 5)) (iI i) (St σ b μ) kk = kk (iI (μ.1 4 i)) := by
  unfold fn_aI fnA
  dsimp only
  rw [St_at (j := 5) (by decide)]
  show fn_in (iI i) 23760 (kk _) = _
  rw [fn_in_ok h (by decide), iI_nat ⟨by omega, by omega⟩]
  dsimp only
  rw [Int.toNat_of_nonneg h.1]
theorem md_s4 {i x : Int} (h : 0 ≤ i ∧ i < 23760) {kk : mS → Option β} : fn_sI 0 (some (b + 5)) (iI i) (iI x) (St σ b μ) kk = kk (St σ b (mA μ 4 (uI (μ.1 4) i x))) := by
  unfold fn_sI fnA
  dsimp only
  rw [St_at (j := 5) (by decide)]
  show fn_in (iI i) 23760 (kk _) = _
  rw [fn_in_ok h (by decide), iI_nat ⟨by omega, by omega⟩, uI_upd _ _ h.1]
  exact congrArg kk (St_up (by decide) rfl (by intro i h1 h2; match i, h2 with | 0, _ => rfl | 1, _ => rfl | 2, _ => rfl | 3, _ => rfl | 4, _ => rfl | 5, h2 => exact absurd rfl h2 | 6, _ => rfl | 7, _ => rfl | 8, _ => rfl | 9, _ => rfl | 10, _ => rfl | 11, _ => rfl | 12, _ => rfl | 13, _ => rfl | 14, _ => rfl | 15, _ => rfl | 16, _ => rfl | n + 17, _ => omega))
theorem md_g5 {kk : Int32 → Option β} : fn_gI 31 5 (some b) (St σ b μ) kk = kk (iI (μ.2.1 5)) := by
  unfold fn_gI fnO; dsimp only; rw [St_ob]; rfl
theorem md_p5 {x : Int} {kk : mS → Option β} : fn_pI 31 5 (some b) (iI x) (St σ b μ) kk = kk (St σ b (mI μ 5 x)) := by
  unfold fn_pI fn_p fnO
  dsimp only
  rw [St_ob]
  exact congrArg kk (St_up0 rfl (by intro i h1 h2; match i, h2 with | 0, h2 => exact absurd rfl h2 | 1, _ => rfl | 2, _ => rfl | 3, _ => rfl | 4, _ => rfl | 5, _ => rfl | 6, _ => rfl | 7, _ => rfl | 8, _ => rfl | 9, _ => rfl | 10, _ => rfl | 11, _ => rfl | 12, _ => rfl | 13, _ => rfl | 14, _ => rfl | 15, _ => rfl | 16, _ => rfl | n + 17, _ => omega))
theorem md_g6 {kk : Int32 → Option β} : fn_gI 31 6 (some b) (St σ b μ) kk = kk (iI (μ.2.1 6)) := by
  unfold fn_gI fnO; dsimp only; rw [St_ob]; rfl
theorem md_p6 {x : Int} {kk : mS → Option β} : fn_pI 31 6 (some b) (iI x) (St σ b μ) kk = kk (St σ b (mI μ 6 x)) := by
  unfold fn_pI fn_p fnO
  dsimp only
  rw [St_ob]
  exact congrArg kk (St_up0 rfl (by intro i h1 h2; match i, h2 with | 0, h2 => exact absurd rfl h2 | 1, _ => rfl | 2, _ => rfl | 3, _ => rfl | 4, _ => rfl | 5, _ => rfl | 6, _ => rfl | 7, _ => rfl | 8, _ => rfl | 9, _ => rfl | 10, _ => rfl | 11, _ => rfl | 12, _ => rfl | 13, _ => rfl | 14, _ => rfl | 15, _ => rfl | 16, _ => rfl | n + 17, _ => omega))
theorem md_g7 {kk : Int32 → Option β} : fn_gI 31 7 (some b) (St σ b μ) kk = kk (iI (b2 (μ.2.2.1 7))) := by
  unfold fn_gI fnO; dsimp only; rw [St_ob]; rfl
theorem md_p7 {x : Bool} {kk : mS → Option β} : fn_pZ 31 7 (some b) (iI (b2 x)) (St σ b μ) kk = kk (St σ b (mB μ 7 x)) := by
  unfold fn_pZ
  rw [if_pos (by cases x; exact Or.inl rfl; exact Or.inr rfl)]
  unfold fn_p fnO
  dsimp only
  rw [St_ob]
  exact congrArg kk (St_up0 rfl (by intro i h1 h2; match i, h2 with | 0, h2 => exact absurd rfl h2 | 1, _ => rfl | 2, _ => rfl | 3, _ => rfl | 4, _ => rfl | 5, _ => rfl | 6, _ => rfl | 7, _ => rfl | 8, _ => rfl | 9, _ => rfl | 10, _ => rfl | 11, _ => rfl | 12, _ => rfl | 13, _ => rfl | 14, _ => rfl | 15, _ => rfl | 16, _ => rfl | n + 17, _ => omega))
theorem md_g8 {kk : Int32 → Option β} : fn_gI 31 8 (some b) (St σ b μ) kk = kk (iI (μ.2.1 8)) := by
  unfold fn_gI fnO; dsimp only; rw [St_ob]; rfl
theorem md_p8 {x : Int} {kk : mS → Option β} : fn_pI 31 8 (some b) (iI x) (St σ b μ) kk = kk (St σ b (mI μ 8 x)) := by
  unfold fn_pI fn_p fnO
  dsimp only
  rw [St_ob]
  exact congrArg kk (St_up0 rfl (by intro i h1 h2; match i, h2 with | 0, h2 => exact absurd rfl h2 | 1, _ => rfl | 2, _ => rfl | 3, _ => rfl | 4, _ => rfl | 5, _ => rfl | 6, _ => rfl | 7, _ => rfl | 8, _ => rfl | 9, _ => rfl | 10, _ => rfl | 11, _ => rfl | 12, _ => rfl | 13, _ => rfl | 14, _ => rfl | 15, _ => rfl | 16, _ => rfl | n + 17, _ => omega))
theorem md_gA9 {kk : Option Nat → Option β} : fn_gA 31 9 (some b) (St σ b μ) kk = kk (some (b + 6)) := by
  unfold fn_gA fnO; dsimp only; rw [St_ob]; rfl
theorem md_a9 {i : Int} (h : 0 ≤ i ∧ i < 60) {kk : Int32 → Option β} : fn_aI 0 (some (b + 6)) (iI i) (St σ b μ) kk = kk (iI (μ.1 9 i)) := by
  unfold fn_aI fnA
  dsimp only
  rw [St_at (j := 6) (by decide)]
  show fn_in (iI i) 60 (kk _) = _
  rw [fn_in_ok h (by decide), iI_nat ⟨by omega, by omega⟩]
  dsimp only
  rw [Int.toNat_of_nonneg h.1]
theorem md_s9 {i x : Int} (h : 0 ≤ i ∧ i < 60) {kk : mS → Option β} : fn_sI 0 (some (b + 6)) (iI i) (iI x) (St σ b μ) kk = kk (St σ b (mA μ 9 (uI (μ.1 9) i x))) := by
  unfold fn_sI fnA
  dsimp only
  rw [St_at (j := 6) (by decide)]
  show fn_in (iI i) 60 (kk _) = _
  rw [fn_in_ok h (by decide), iI_nat ⟨by omega, by omega⟩, uI_upd _ _ h.1]
  exact congrArg kk (St_up (by decide) rfl (by intro i h1 h2; match i, h2 with | 0, _ => rfl | 1, _ => rfl | 2, _ => rfl | 3, _ => rfl | 4, _ => rfl | 5, _ => rfl | 6, h2 => exact absurd rfl h2 | 7, _ => rfl | 8, _ => rfl | 9, _ => rfl | 10, _ => rfl | 11, _ => rfl | 12, _ => rfl | 13, _ => rfl | 14, _ => rfl | 15, _ => rfl | 16, _ => rfl | n + 17, _ => omega))
theorem md_gA10 {kk : Option Nat → Option β} : fn_gA 31 10 (some b) (St σ b μ) kk = kk (some (b + 7)) := by
  unfold fn_gA fnO; dsimp only; rw [St_ob]; rfl
theorem md_a10 {i : Int} (h : 0 ≤ i ∧ i < 60) {kk : Int32 → Option β} : fn_aI 0 (some (b + 7)) (iI i) (St σ b μ) kk = kk (iI (μ.1 10 i)) := by
  unfold fn_aI fnA
  dsimp only
  rw [St_at (j := 7) (by decide)]
  show fn_in (iI i) 60 (kk _) = _
  rw [fn_in_ok h (by decide), iI_nat ⟨by omega, by omega⟩]
  dsimp only
  rw [Int.toNat_of_nonneg h.1]
theorem md_s10 {i x : Int} (h : 0 ≤ i ∧ i < 60) {kk : mS → Option β} : fn_sI 0 (some (b + 7)) (iI i) (iI x) (St σ b μ) kk = kk (St σ b (mA μ 10 (uI (μ.1 10) i x))) := by
  unfold fn_sI fnA
  dsimp only
  rw [St_at (j := 7) (by decide)]
  show fn_in (iI i) 60 (kk _) = _
  rw [fn_in_ok h (by decide), iI_nat ⟨by omega, by omega⟩, uI_upd _ _ h.1]
  exact congrArg kk (St_up (by decide) rfl (by intro i h1 h2; match i, h2 with | 0, _ => rfl | 1, _ => rfl | 2, _ => rfl | 3, _ => rfl | 4, _ => rfl | 5, _ => rfl | 6, _ => rfl | 7, h2 => exact absurd rfl h2 | 8, _ => rfl | 9, _ => rfl | 10, _ => rfl | 11, _ => rfl | 12, _ => rfl | 13, _ => rfl | 14, _ => rfl | 15, _ => rfl | 16, _ => rfl | n + 17, _ => omega))
theorem md_gA11 {kk : Option Nat → Option β} : fn_gA 31 11 (some b) (St σ b μ) kk = kk (some (b + 8)) := by
  unfold fn_gA fnO; dsimp only; rw [St_ob]; rfl
theorem md_a11 {i : Int} (h : 0 ≤ i ∧ i < 60) {kk : Int32 → Option β} : fn_aI 0 (some (b + 8)) (iI i) (St σ b μ) kk = kk (iI (μ.1 11 i)) := by
  unfold fn_aI fnA
  dsimp only
  rw [St_at (j := 8) (by decide)]
  show fn_in (iI i) 60 (kk _) = _
  rw [fn_in_ok h (by decide), iI_nat ⟨by omega, by omega⟩]
  dsimp only
  rw [Int.toNat_of_nonneg h.1]
theorem md_s11 {i x : Int} (h : 0 ≤ i ∧ i < 60) {kk : mS → Option β} : fn_sI 0 (some (b + 8)) (iI i) (iI x) (St σ b μ) kk = kk (St σ b (mA μ 11 (uI (μ.1 11) i x))) := by
  unfold fn_sI fnA
  dsimp only
  rw [St_at (j := 8) (by decide)]
  show fn_in (iI i) 60 (kk _) = _
  rw [fn_in_ok h (by decide), iI_nat ⟨by omega, by omega⟩, uI_upd _ _ h.1]
  exact congrArg kk (St_up (by decide) rfl (by intro i h1 h2; match i, h2 with | 0, _ => rfl | 1, _ => rfl | 2, _ => rfl | 3, _ => rfl | 4, _ => rfl | 5, _ => rfl | 6, _ => rfl | 7, _ => rfl | 8, h2 => exact absurd rfl h2 | 9, _ => rfl | 10, _ => rfl | 11, _ => rfl | 12, _ => rfl | 13, _ => rfl | 14, _ => rfl | 15, _ => rfl | 16, _ => rfl | n + 17, _ => omega))
theorem md_gA12 {kk : Option Nat → Option β} : fn_gA 31 12 (some b) (St σ b μ) kk = kk (some (b + 9)) := by
  unfold fn_gA fnO; dsimp only; rw [St_ob]; rfl
theorem md_a12 {i : Int} (h : 0 ≤ i ∧ i < 60) {kk : Int32 → Option β} : fn_aI 0 (some (b + 9)) (iI i) (St σ b μ) kk = kk (iI (μ.1 12 i)) := by
  unfold fn_aI fnA
  dsimp only
  rw [St_at (j := 9) (by decide)]
  show fn_in (iI i) 60 (kk _) = _
  rw [fn_in_ok h (by decide), iI_nat ⟨by omega, by omega⟩]
  dsimp only
  rw [Int.toNat_of_nonneg h.1]
theorem md_s12 {i x : Int} (h : 0 ≤ i ∧ i < 60) {kk : mS → Option β} : fn_sI 0 (some (b + 9)) (iI i) (iI x) (St σ b μ) kk = kk (St σ b (mA μ 12 (uI (μ.1 12) i x))) := by
  unfold fn_sI fnA
  dsimp only
  rw [St_at (j := 9) (by decide)]
  show fn_in (iI i) 60 (kk _) = _
  rw [fn_in_ok h (by decide), iI_nat ⟨by omega, by omega⟩, uI_upd _ _ h.1]
  exact congrArg kk (St_up (by decide) rfl (by intro i h1 h2; match i, h2 with | 0, _ => rfl | 1, _ => rfl | 2, _ => rfl | 3, _ => rfl | 4, _ => rfl | 5, _ => rfl | 6, _ => rfl | 7, _ => rfl | 8, _ => rfl | 9, h2 => exact absurd rfl h2 | 10, _ => rfl | 11, _ => rfl | 12, _ => rfl | 13, _ => rfl | 14, _ => rfl | 15, _ => rfl | 16, _ => rfl | n + 17, _ => omega))
theorem md_gA13 {kk : Option Nat → Option β} : fn_gA 31 13 (some b) (St σ b μ) kk = kk (some (b + 10)) := by
  unfold fn_gA fnO; dsimp only; rw [St_ob]; rfl
theorem md_a13 {i : Int} (h : 0 ≤ i ∧ i < 60) {kk : Int32 → Option β} : fn_aI 0 (some (b + 10)) (iI i) (St σ b μ) kk = kk (iI (μ.1 13 i)) := by
  unfold fn_aI fnA
  dsimp only
  rw [St_at (j := 10) (by decide)]
  show fn_in (iI i) 60 (kk _) = _
  rw [fn_in_ok h (by decide), iI_nat ⟨by omega, by omega⟩]
  dsimp only
  rw [Int.toNat_of_nonneg h.1]
theorem md_s13 {i x : Int} (h : 0 ≤ i ∧ i < 60) {kk : mS → Option β} : fn_sI 0 (some (b + 10)) (iI i) (iI x) (St σ b μ) kk = kk (St σ b (mA μ 13 (uI (μ.1 13) i x))) := by
  unfold fn_sI fnA
  dsimp only
  rw [St_at (j := 10) (by decide)]
  show fn_in (iI i) 60 (kk _) = _
  rw [fn_in_ok h (by decide), iI_nat ⟨by omega, by omega⟩, uI_upd _ _ h.1]
  exact congrArg kk (St_up (by decide) rfl (by intro i h1 h2; match i, h2 with | 0, _ => rfl | 1, _ => rfl | 2, _ => rfl | 3, _ => rfl | 4, _ => rfl | 5, _ => rfl | 6, _ => rfl | 7, _ => rfl | 8, _ => rfl | 9, _ => rfl | 10, h2 => exact absurd rfl h2 | 11, _ => rfl | 12, _ => rfl | 13, _ => rfl | 14, _ => rfl | 15, _ => rfl | 16, _ => rfl | n + 17, _ => omega))
theorem md_g14 {kk : Int32 → Option β} : fn_gI 31 14 (some b) (St σ b μ) kk = kk (iI (μ.2.1 14)) := by
  unfold fn_gI fnO; dsimp only; rw [St_ob]; rfl
theorem md_p14 {x : Int} {kk : mS → Option β} : fn_pI 31 14 (some b) (iI x) (St σ b μ) kk = kk (St σ b (mI μ 14 x)) := by
  unfold fn_pI fn_p fnO
  dsimp only
  rw [St_ob]
  exact congrArg kk (St_up0 rfl (by intro i h1 h2; match i, h2 with | 0, h2 => exact absurd rfl h2 | 1, _ => rfl | 2, _ => rfl | 3, _ => rfl | 4, _ => rfl | 5, _ => rfl | 6, _ => rfl | 7, _ => rfl | 8, _ => rfl | 9, _ => rfl | 10, _ => rfl | 11, _ => rfl | 12, _ => rfl | 13, _ => rfl | 14, _ => rfl | 15, _ => rfl | 16, _ => rfl | n + 17, _ => omega))
theorem md_g15 {kk : Int32 → Option β} : fn_gI 31 15 (some b) (St σ b μ) kk = kk (iI (μ.2.1 15)) := by
  unfold fn_gI fnO; dsimp only; rw [St_ob]; rfl
theorem md_p15 {x : Int} {kk : mS → Option β} : fn_pI 31 15 (some b) (iI x) (St σ b μ) kk = kk (St σ b (mI μ 15 x)) := by
  unfold fn_pI fn_p fnO
  dsimp only
  rw [St_ob]
  exact congrArg kk (St_up0 rfl (by intro i h1 h2; match i, h2 with | 0, h2 => exact absurd rfl h2 | 1, _ => rfl | 2, _ => rfl | 3, _ => rfl | 4, _ => rfl | 5, _ => rfl | 6, _ => rfl | 7, _ => rfl | 8, _ => rfl | 9, _ => rfl | 10, _ => rfl | 11, _ => rfl | 12, _ => rfl | 13, _ => rfl | 14, _ => rfl | 15, _ => rfl | 16, _ => rfl | n + 17, _ => omega))
theorem md_g16 {kk : Int32 → Option β} : fn_gI 31 16 (some b) (St σ b μ) kk = kk (iI (b2 (μ.2.2.1 16))) := by
  unfold fn_gI fnO; dsimp only; rw [St_ob]; rfl
theorem md_p16 {x : Bool} {kk : mS → Option β} : fn_pZ 31 16 (some b) (iI (b2 x)) (St σ b μ) kk = kk (St σ b (mB μ 16 x)) := by
  unfold fn_pZ
  rw [if_pos (by cases x; exact Or.inl rfl; exact Or.inr rfl)]
  unfold fn_p fnO
  dsimp only
  rw [St_ob]
  exact congrArg kk (St_up0 rfl (by intro i h1 h2; match i, h2 with | 0, h2 => exact absurd rfl h2 | 1, _ => rfl | 2, _ => rfl | 3, _ => rfl | 4, _ => rfl | 5, _ => rfl | 6, _ => rfl | 7, _ => rfl | 8, _ => rfl | 9, _ => rfl | 10, _ => rfl | 11, _ => rfl | 12, _ => rfl | 13, _ => rfl | 14, _ => rfl | 15, _ => rfl | 16, _ => rfl | n + 17, _ => omega))
theorem md_gA17 {kk : Option Nat → Option β} : fn_gA 31 17 (some b) (St σ b μ) kk = kk (some (b + 11)) := by
  unfold fn_gA fnO; dsimp only; rw [St_ob]; rfl
theorem md_a17 {i : Int} (h : 0 ≤ i ∧ i < 120) {kk : Int32 → Option β} : fn_aI 0 (some (b + 11)) (iI i) (St σ b μ) kk = kk (iI (μ.1 17 i)) := by
  unfold fn_aI fnA
  dsimp only
  rw [St_at (j := 11) (by decide)]
  show fn_in (iI i) 120 (kk _) = _
  rw [fn_in_ok h (by decide), iI_nat ⟨by omega, by omega⟩]
  dsimp only
  rw [Int.toNat_of_nonneg h.1]
theorem md_s17 {i x : Int} (h : 0 ≤ i ∧ i < 120) {kk : mS → Option β} : fn_sI 0 (some (b + 11)) (iI i) (iI x) (St σ b μ) kk = kk (St σ b (mA μ 17 (uI (μ.1 17) i x))) := by
  unfold fn_sI fnA
  dsimp only
  rw [St_at (j := 11) (by decide)]
  show fn_in (iI i) 120 (kk _) = _
  rw [fn_in_ok h (by decide), iI_nat ⟨by omega, by omega⟩, uI_upd _ _ h.1]
  exact congrArg kk (St_up (by decide) rfl (by intro i h1 h2; match i, h2 with | 0, _ => rfl | 1, _ => rfl | 2, _ => rfl | 3, _ => rfl | 4, _ => rfl | 5, _ => rfl | 6, _ => rfl | 7, _ => rfl | 8, _ => rfl | 9, _ => rfl | 10, _ => rfl | 11, h2 => exact absurd rfl h2 | 12, _ => rfl | 13, _ => rfl | 14, _ => rfl | 15, _ => rfl | 16, _ => rfl | n + 17, _ => omega))
theorem md_gA18 {kk : Option Nat → Option β} : fn_gA 31 18 (some b) (St σ b μ) kk = kk (some (b + 12)) := by
  unfold fn_gA fnO; dsimp only; rw [St_ob]; rfl
theorem md_a18 {i : Int} (h : 0 ≤ i ∧ i < 12) {kk : Int32 → Option β} : fn_aI 2 (some (b + 12)) (iI i) (St σ b μ) kk = kk (iI (b2 (μ.2.2.2.1 i))) := by
  unfold fn_aI fnA
  dsimp only
  rw [St_at (j := 12) (by decide)]
  show fn_in (iI i) 12 (kk _) = _
  rw [fn_in_ok h (by decide), iI_nat ⟨by omega, by omega⟩]
  dsimp only
  rw [Int.toNat_of_nonneg h.1]
theorem md_s18 {i : Int} {x : Bool} (h : 0 ≤ i ∧ i < 12) {kk : mS → Option β} : fn_sZ 2 (some (b + 12)) (iI i) (iI (b2 x)) (St σ b μ) kk = kk (St σ b (mT μ i x)) := by
  unfold fn_sZ
  rw [if_pos (by cases x; exact Or.inl rfl; exact Or.inr rfl)]
  unfold fn_sI fnA
  dsimp only
  rw [St_at (j := 12) (by decide)]
  show fn_in (iI i) 12 (kk _) = _
  rw [fn_in_ok h (by decide), iI_nat ⟨by omega, by omega⟩, uB_upd _ _ h.1]
  exact congrArg kk (St_up (by decide) rfl (by intro i h1 h2; match i, h2 with | 0, _ => rfl | 1, _ => rfl | 2, _ => rfl | 3, _ => rfl | 4, _ => rfl | 5, _ => rfl | 6, _ => rfl | 7, _ => rfl | 8, _ => rfl | 9, _ => rfl | 10, _ => rfl | 11, _ => rfl | 12, h2 => exact absurd rfl h2 | 13, _ => rfl | 14, _ => rfl | 15, _ => rfl | 16, _ => rfl | n + 17, _ => omega))
theorem md_g19 {kk : Int64 → Option β} : fn_gL 31 19 (some b) (St σ b μ) kk = kk (lI (μ.2.1 19)) := by
  unfold fn_gL fnO; dsimp only; rw [St_ob]; rfl
theorem md_p19 {x : Int} {kk : mS → Option β} : fn_pL 31 19 (some b) (lI x) (St σ b μ) kk = kk (St σ b (mI μ 19 x)) := by
  unfold fn_pL fn_p fnO
  dsimp only
  rw [St_ob]
  exact congrArg kk (St_up0 rfl (by intro i h1 h2; match i, h2 with | 0, h2 => exact absurd rfl h2 | 1, _ => rfl | 2, _ => rfl | 3, _ => rfl | 4, _ => rfl | 5, _ => rfl | 6, _ => rfl | 7, _ => rfl | 8, _ => rfl | 9, _ => rfl | 10, _ => rfl | 11, _ => rfl | 12, _ => rfl | 13, _ => rfl | 14, _ => rfl | 15, _ => rfl | 16, _ => rfl | n + 17, _ => omega))
theorem md_gA20 {kk : Option Nat → Option β} : fn_gA 31 20 (some b) (St σ b μ) kk = kk (some (b + 13)) := by
  unfold fn_gA fnO; dsimp only; rw [St_ob]; rfl
theorem md_a20 {i : Int} (h : 0 ≤ i ∧ i < 4500) {kk : Int32 → Option β} : fn_aI 0 (some (b + 13)) (iI i) (St σ b μ) kk = kk (iI (μ.1 20 i)) := by
  unfold fn_aI fnA
  dsimp only
  rw [St_at (j := 13) (by decide)]
  show fn_in (iI i) 4500 (kk _) = _
  rw [fn_in_ok h (by decide), iI_nat ⟨by omega, by omega⟩]
  dsimp only
  rw [Int.toNat_of_nonneg h.1]
theorem md_s20 {i x : Int} (h : 0 ≤ i ∧ i < 4500) {kk : mS → Option β} : fn_sI 0 (some (b + 13)) (iI i) (iI x) (St σ b μ) kk = kk (St σ b (mA μ 20 (uI (μ.1 20) i x))) := by
  unfold fn_sI fnA
  dsimp only
  rw [St_at (j := 13) (by decide)]
  show fn_in (iI i) 4500 (kk _) = _
  rw [fn_in_ok h (by decide), iI_nat ⟨by omega, by omega⟩, uI_upd _ _ h.1]
  exact congrArg kk (St_up (by decide) rfl (by intro i h1 h2; match i, h2 with | 0, _ => rfl | 1, _ => rfl | 2, _ => rfl | 3, _ => rfl | 4, _ => rfl | 5, _ => rfl | 6, _ => rfl | 7, _ => rfl | 8, _ => rfl | 9, _ => rfl | 10, _ => rfl | 11, _ => rfl | 12, _ => rfl | 13, h2 => exact absurd rfl h2 | 14, _ => rfl | 15, _ => rfl | 16, _ => rfl | n + 17, _ => omega))
theorem md_g21 {kk : Int32 → Option β} : fn_gI 31 21 (some b) (St σ b μ) kk = kk (iI (μ.2.1 21)) := by
  unfold fn_gI fnO; dsimp only; rw [St_ob]; rfl
theorem md_p21 {x : Int} {kk : mS → Option β} : fn_pI 31 21 (some b) (iI x) (St σ b μ) kk = kk (St σ b (mI μ 21 x)) := by
  unfold fn_pI fn_p fnO
  dsimp only
  rw [St_ob]
  exact congrArg kk (St_up0 rfl (by intro i h1 h2; match i, h2 with | 0, h2 => exact absurd rfl h2 | 1, _ => rfl | 2, _ => rfl | 3, _ => rfl | 4, _ => rfl | 5, _ => rfl | 6, _ => rfl | 7, _ => rfl | 8, _ => rfl | 9, _ => rfl | 10, _ => rfl | 11, _ => rfl | 12, _ => rfl | 13, _ => rfl | 14, _ => rfl | 15, _ => rfl | 16, _ => rfl | n + 17, _ => omega))
theorem md_gA22 {kk : Option Nat → Option β} : fn_gA 31 22 (some b) (St σ b μ) kk = kk (some (b + 14)) := by
  unfold fn_gA fnO; dsimp only; rw [St_ob]; rfl
theorem md_a22 {i : Int} (h : 0 ≤ i ∧ i < 36) {kk : Int32 → Option β} : fn_aI 0 (some (b + 14)) (iI i) (St σ b μ) kk = kk (iI (μ.1 22 i)) := by
  unfold fn_aI fnA
  dsimp only
  rw [St_at (j := 14) (by decide)]
  show fn_in (iI i) 36 (kk _) = _
  rw [fn_in_ok h (by decide), iI_nat ⟨by omega, by omega⟩]
  dsimp only
  rw [Int.toNat_of_nonneg h.1]
theorem md_s22 {i x : Int} (h : 0 ≤ i ∧ i < 36) {kk : mS → Option β} : fn_sI 0 (some (b + 14)) (iI i) (iI x) (St σ b μ) kk = kk (St σ b (mA μ 22 (uI (μ.1 22) i x))) := by
  unfold fn_sI fnA
  dsimp only
  rw [St_at (j := 14) (by decide)]
  show fn_in (iI i) 36 (kk _) = _
  rw [fn_in_ok h (by decide), iI_nat ⟨by omega, by omega⟩, uI_upd _ _ h.1]
  exact congrArg kk (St_up (by decide) rfl (by intro i h1 h2; match i, h2 with | 0, _ => rfl | 1, _ => rfl | 2, _ => rfl | 3, _ => rfl | 4, _ => rfl | 5, _ => rfl | 6, _ => rfl | 7, _ => rfl | 8, _ => rfl | 9, _ => rfl | 10, _ => rfl | 11, _ => rfl | 12, _ => rfl | 13, _ => rfl | 14, h2 => exact absurd rfl h2 | 15, _ => rfl | 16, _ => rfl | n + 17, _ => omega))
theorem md_gA23 {kk : Option Nat → Option β} : fn_gA 31 23 (some b) (St σ b μ) kk = kk (some (b + 15)) := by
  unfold fn_gA fnO; dsimp only; rw [St_ob]; rfl
theorem md_a23 {i : Int} (h : 0 ≤ i ∧ i < 3) {kk : Int32 → Option β} : fn_aI 0 (some (b + 15)) (iI i) (St σ b μ) kk = kk (iI (μ.1 23 i)) := by
  unfold fn_aI fnA
  dsimp only
  rw [St_at (j := 15) (by decide)]
  show fn_in (iI i) 3 (kk _) = _
  rw [fn_in_ok h (by decide), iI_nat ⟨by omega, by omega⟩]
  dsimp only
  rw [Int.toNat_of_nonneg h.1]
theorem md_s23 {i x : Int} (h : 0 ≤ i ∧ i < 3) {kk : mS → Option β} : fn_sI 0 (some (b + 15)) (iI i) (iI x) (St σ b μ) kk = kk (St σ b (mA μ 23 (uI (μ.1 23) i x))) := by
  unfold fn_sI fnA
  dsimp only
  rw [St_at (j := 15) (by decide)]
  show fn_in (iI i) 3 (kk _) = _
  rw [fn_in_ok h (by decide), iI_nat ⟨by omega, by omega⟩, uI_upd _ _ h.1]
  exact congrArg kk (St_up (by decide) rfl (by intro i h1 h2; match i, h2 with | 0, _ => rfl | 1, _ => rfl | 2, _ => rfl | 3, _ => rfl | 4, _ => rfl | 5, _ => rfl | 6, _ => rfl | 7, _ => rfl | 8, _ => rfl | 9, _ => rfl | 10, _ => rfl | 11, _ => rfl | 12, _ => rfl | 13, _ => rfl | 14, _ => rfl | 15, h2 => exact absurd rfl h2 | 16, _ => rfl | n + 17, _ => omega))
theorem md_gA24 {kk : Option Nat → Option β} : fn_gA 31 24 (some b) (St σ b μ) kk = kk (some (b + 16)) := by
  unfold fn_gA fnO; dsimp only; rw [St_ob]; rfl
theorem md_a24 {i : Int} (h : 0 ≤ i ∧ i < 36) {kk : UInt32 → Option β} : fn_aF 3 (some (b + 16)) (iI i) (St σ b μ) kk = kk (μ.2.2.2.2 i) := by
  unfold fn_aF fnA
  dsimp only
  rw [St_at (j := 16) (by decide)]
  show fn_in (iI i) 36 (kk _) = _
  rw [fn_in_ok h (by decide), iI_nat ⟨by omega, by omega⟩]
  dsimp only
  rw [Int.toNat_of_nonneg h.1]
theorem md_s24 {i : Int} {x : UInt32} (h : 0 ≤ i ∧ i < 36) {kk : mS → Option β} : fn_sF 3 (some (b + 16)) (iI i) x (St σ b μ) kk = kk (St σ b (mF μ i x)) := by
  unfold fn_sF fnA
  dsimp only
  rw [St_at (j := 16) (by decide)]
  show fn_in (iI i) 36 (kk _) = _
  rw [fn_in_ok h (by decide), iI_nat ⟨by omega, by omega⟩, uF_upd _ _ h.1]
  exact congrArg kk (St_up (by decide) rfl (by intro i h1 h2; match i, h2 with | 0, _ => rfl | 1, _ => rfl | 2, _ => rfl | 3, _ => rfl | 4, _ => rfl | 5, _ => rfl | 6, _ => rfl | 7, _ => rfl | 8, _ => rfl | 9, _ => rfl | 10, _ => rfl | 11, _ => rfl | 12, _ => rfl | 13, _ => rfl | 14, _ => rfl | 15, _ => rfl | 16, h2 => exact absurd rfl h2 | n + 17, _ => omega))
end MD
end
section
/-! the model: what its methods compute -/
theorem X3_isIn {ρ : Nat → Nat} {x a c : Int} {s : mS} (h1 : r32 x) (h2 : r32 a) (h3 : r32 c) : gX3_isIn ρ (iI x) (iI a) (iI c) s = some (iI (b2 (decide (a ≤ x ∧ x ≤ c))), s) := by
  unfold gX3_isIn
  simp (disch := omega) only [decide_true, decide_false, reduceIte, and_self, and_true, true_and, and_false, false_and, or_true, true_or, or_false, false_or, not_true_eq_false, not_false_eq_true, reduceCtorEq, mA_ss, mI_ss, ↓St_rc, ↓fn_B, ↓fn_nn_none, ↓fn_nn_some, rZ_0, rZ_1, rZ_b, b2_z, b2_1, b2_or, b2_or0, b2_or1, iI_add, iI_sub, iI_mul, iI_neg, lI_add, lI_sub, lI_mul, iI_lt, iI_le, iI_eq, iI_to64, lI_cmp_lt, lI_cmp_gt, lI_cmp_ge, lI_cmp_le, lI_cmp_eq, mA_s, mA_o, mI_s, mI_o, mB_s, mB_o, mA_I, mA_B, mA_T, mA_F, mI_A, mI_B, mI_T, mI_F, mB_A, mB_I, mB_T, mB_F, mT_A, mT_I, mT_B, mT_F, mF_A, mF_I, mF_B, mF_T, ↓md_gA0, md_a0, md_s0, ↓md_gA1, md_a1, md_s1, ↓md_gA2, md_a2, md_s2, ↓md_gA3, md_a3, md_s3, ↓md_gA4, md_a4, md_s4, ↓md_g5, ↓md_p5, ↓md_g6, ↓md_p6, ↓md_g7, ↓md_p7, ↓md_g8, ↓md_p8, ↓md_gA9, md_a9, md_s9, ↓md_gA10, md_a10, md_s10, ↓md_gA11, md_a11, md_s11, ↓md_gA12, md_a12, md_s12, ↓md_gA13, md_a13, md_s13, ↓md_g14, ↓md_p14, ↓md_g15, ↓md_p15, ↓md_g16, ↓md_p16, ↓md_gA17, md_a17, md_s17, ↓md_gA18, md_a18, md_s18, ↓md_g19, ↓md_p19, ↓md_gA20, md_a20, md_s20, ↓md_g21, ↓md_p21, ↓md_gA22, md_a22, md_s22, ↓md_gA23, md_a23, md_s23, ↓md_gA24, md_a24, md_s24]
  split
  · rw [decide_eq_false (by omega)]
  · split
    · rw [decide_eq_false (by omega)]
    · rw [decide_eq_true (by omega)]
theorem X3_isDay {ρ : Nat → Nat} {x : Int} {s : mS} (h1 : r32 x) : gX3_isDay ρ (iI x) s = some (iI (b2 (decide (0 ≤ x ∧ x ≤ 3599))), s) := by
  unfold gX3_isDay
  rw [X3_isIn h1 (by decide) (by decide)]
  simp (disch := omega) only [decide_true, decide_false, reduceIte, and_self, and_true, true_and, and_false, false_and, or_true, true_or, or_false, false_or, not_true_eq_false, not_false_eq_true, reduceCtorEq, mA_ss, mI_ss, ↓St_rc, ↓fn_B, ↓fn_nn_none, ↓fn_nn_some, rZ_0, rZ_1, rZ_b, b2_z, b2_1, b2_or, b2_or0, b2_or1, iI_add, iI_sub, iI_mul, iI_neg, lI_add, lI_sub, lI_mul, iI_lt, iI_le, iI_eq, iI_to64, lI_cmp_lt, lI_cmp_gt, lI_cmp_ge, lI_cmp_le, lI_cmp_eq, mA_s, mA_o, mI_s, mI_o, mB_s, mB_o, mA_I, mA_B, mA_T, mA_F, mI_A, mI_B, mI_T, mI_F, mB_A, mB_I, mB_T, mB_F, mT_A, mT_I, mT_B, mT_F, mF_A, mF_I, mF_B, mF_T, ↓md_gA0, md_a0, md_s0, ↓md_gA1, md_a1, md_s1, ↓md_gA2, md_a2, md_s2, ↓md_gA3, md_a3, md_s3, ↓md_gA4, md_a4, md_s4, ↓md_g5, ↓md_p5, ↓md_g6, ↓md_p6, ↓md_g7, ↓md_p7, ↓md_g8, ↓md_p8, ↓md_gA9, md_a9, md_s9, ↓md_gA10, md_a10, md_s10, ↓md_gA11, md_a11, md_s11, ↓md_gA12, md_a12, md_s12, ↓md_gA13, md_a13, md_s13, ↓md_g14, ↓md_p14, ↓md_g15, ↓md_p15, ↓md_g16, ↓md_p16, ↓md_gA17, md_a17, md_s17, ↓md_gA18, md_a18, md_s18, ↓md_g19, ↓md_p19, ↓md_gA20, md_a20, md_s20, ↓md_g21, ↓md_p21, ↓md_gA22, md_a22, md_s22, ↓md_gA23, md_a23, md_s23, ↓md_gA24, md_a24, md_s24]
/-- what is true of a desk's numbers -/
def okL (v : Int → Int) (l : Int) : Prop := (-1 ≤ v (1 + 8 * l) ∧ v (1 + 8 * l) < l) ∧ (0 ≤ v (1 + 8 * l + 1) ∧ v (1 + 8 * l + 1) < 3600) ∧ (1 ≤ v (1 + 8 * l + 2) ∧ v (1 + 8 * l + 2) ≤ 1000000) ∧ (0 ≤ v (1 + 8 * l + 3) ∧ v (1 + 8 * l + 3) ≤ 500) ∧ (0 ≤ v (1 + 8 * l + 4) ∧ v (1 + 8 * l + 4) ≤ 100)
  ∧ ((v (1 + 8 * l + 5) = -1 ∧ v (1 + 8 * l + 6) = -1 ∧ v (1 + 8 * l + 7) = 1000000) ∨ (0 ≤ v (1 + 8 * l + 5) ∧ v (1 + 8 * l + 5) < 3600 ∧ 0 ≤ v (1 + 8 * l + 6) ∧ v (1 + 8 * l + 6) ≤ 1 ∧ 0 ≤ v (1 + 8 * l + 7) ∧ v (1 + 8 * l + 7) ≤ 3899))
def okF (v : Int → Int) (d : Int) : Prop := (0 ≤ v (82 + 4 * d) ∧ v (82 + 4 * d) < v 0) ∧ (1 ≤ v (82 + 4 * d + 1) ∧ v (82 + 4 * d + 1) ≤ 100) ∧ (0 ≤ v (82 + 4 * d + 2) ∧ v (82 + 4 * d + 2) < 3600) ∧ (v (82 + 4 * d + 3) = 1000000 ∨ (v (82 + 4 * d + 2) ≤ v (82 + 4 * d + 3) ∧ v (82 + 4 * d + 3) < 3600))
def okP (v : Int → Int) (i : Int) : Prop := (0 ≤ v i ∧ v i < v 0) ∧ (0 ≤ v (i + 1) ∧ v (i + 1) < 3600) ∧ (1 ≤ v (i + 2) ∧ v (i + 2) ≤ 9999999)
def okD (v : Int → Int) : Prop := (0 ≤ v 0 ∧ v 0 ≤ 10) ∧ (0 ≤ v 81 ∧ v 81 ≤ 12) ∧ (0 ≤ v 130 ∧ v 130 ≤ 24) ∧ (0 ≤ v 203 ∧ v 203 ≤ 12) ∧ (∀ l, 0 ≤ l → l < v 0 → okL v l) ∧ (∀ d, 0 ≤ d → d < v 81 → okF v d) ∧ (∀ p, 0 ≤ p → p < v 130 → okP v (131 + 3 * p)) ∧ (∀ q, 0 ≤ q → q < v 203 → okP v (204 + 3 * q))
  ∧ (∀ m, 0 ≤ m → m < 120 → (0 ≤ v (240 + m) ∧ v (240 + m) ≤ 9999 ∧ (v (240 + m) = 0 ∨ 100 ≤ v (240 + m)))) ∧ (∀ d, 0 ≤ d → d < 3600 → (-1 ≤ v (360 + d) ∧ v (360 + d) ≤ 2000))
/-- a lease's end, over those above it -/
def sEnd (v : Int → Int) : Nat → Int → Int → Int
  | 0, _, e => e
  | n + 1, l, e => if l < 0 then e else sEnd v n (v (1 + 8 * l)) (if e ≤ v (1 + 8 * l + 7) then e else v (1 + 8 * l + 7))
def endOf (v : Int → Int) (l : Int) : Int := sEnd v 11 l 1000000
def sIdx (v : Int → Int) : Nat → Int
  | 0 => 1000
  | n + 1 => if v (240 + n) ≤ 0 then sIdx v n else v (240 + n)
def sRate (v : Int → Int) : Nat → Int
  | 0 => 0
  | n + 1 => if v (360 + n) < 0 then sRate v n else v (360 + n)
/-- the first k cells of f, then g -/
def cpI (k : Int) (f g : Int → Int) : Int → Int := fun j => if 0 ≤ j ∧ j < k then f j else g j
theorem cpI_0 (f g : Int → Int) : cpI 0 f g = g := by
  funext j
  unfold cpI
  rw [if_neg (by omega)]
theorem cpI_s (k : Int) (f g : Int → Int) (h : 0 ≤ k) : uI (cpI k f g) k (f k) = cpI (k + 1) f g := by
  funext j
  unfold uI cpI
  by_cases h1 : j = k
  · rw [if_pos h1, if_pos (by omega), h1]
  · rw [if_neg h1]
    by_cases h2 : 0 ≤ j ∧ j < k
    · rw [if_pos h2, if_pos (by omega)]
    · rw [if_neg h2, if_neg (by omega)]
theorem gas_s {n gas : Nat} (h : n < gas) : ∃ g, gas = g + 1 := ⟨gas - 1, by omega⟩
section Model
variable {ρ : Nat → Nat} {σ : mS} {b : Nat} {μ : MM}
theorem X3_told {l j : Int} (h : 0 ≤ 1 + 8 * l + j ∧ 1 + 8 * l + j < 3960) : gX3_told ρ b (iI l) (iI j) (St σ b μ) = some (iI (μ.1 0 (1 + 8 * l + j)), St σ b μ) := by
  unfold gX3_told
  simp (disch := omega) only [decide_true, decide_false, reduceIte, and_self, and_true, true_and, and_false, false_and, or_true, true_or, or_false, false_or, not_true_eq_false, not_false_eq_true, reduceCtorEq, mA_ss, mI_ss, ↓St_rc, ↓fn_B, ↓fn_nn_none, ↓fn_nn_some, rZ_0, rZ_1, rZ_b, b2_z, b2_1, b2_or, b2_or0, b2_or1, iI_add, iI_sub, iI_mul, iI_neg, lI_add, lI_sub, lI_mul, iI_lt, iI_le, iI_eq, iI_to64, lI_cmp_lt, lI_cmp_gt, lI_cmp_ge, lI_cmp_le, lI_cmp_eq, mA_s, mA_o, mI_s, mI_o, mB_s, mB_o, mA_I, mA_B, mA_T, mA_F, mI_A, mI_B, mI_T, mI_F, mB_A, mB_I, mB_T, mB_F, mT_A, mT_I, mT_B, mT_F, mF_A, mF_I, mF_B, mF_T, ↓md_gA0, md_a0, md_s0, ↓md_gA1, md_a1, md_s1, ↓md_gA2, md_a2, md_s2, ↓md_gA3, md_a3, md_s3, ↓md_gA4, md_a4, md_s4, ↓md_g5, ↓md_p5, ↓md_g6, ↓md_p6, ↓md_g7, ↓md_p7, ↓md_g8, ↓md_p8, ↓md_gA9, md_a9, md_s9, ↓md_gA10, md_a10, md_s10, ↓md_gA11, md_a11, md_s11, ↓md_gA12, md_a12, md_s12, ↓md_gA13, md_a13, md_s13, ↓md_g14, ↓md_p14, ↓md_g15, ↓md_p15, ↓md_g16, ↓md_p16, ↓md_gA17, md_a17, md_s17, ↓md_gA18, md_a18, md_s18, ↓md_g19, ↓md_p19, ↓md_gA20, md_a20, md_s20, ↓md_g21, ↓md_p21, ↓md_gA22, md_a22, md_s22, ↓md_gA23, md_a23, md_s23, ↓md_gA24, md_a24, md_s24]
theorem X3_puts {l j x : Int} (h : 0 ≤ 1 + 8 * l + j ∧ 1 + 8 * l + j < 3960) : gX3_puts ρ b (iI l) (iI j) (iI x) (St σ b μ) = some ((), St σ b (mA μ 0 (uI (μ.1 0) (1 + 8 * l + j) x))) := by
  unfold gX3_puts
  simp (disch := omega) only [decide_true, decide_false, reduceIte, and_self, and_true, true_and, and_false, false_and, or_true, true_or, or_false, false_or, not_true_eq_false, not_false_eq_true, reduceCtorEq, mA_ss, mI_ss, ↓St_rc, ↓fn_B, ↓fn_nn_none, ↓fn_nn_some, rZ_0, rZ_1, rZ_b, b2_z, b2_1, b2_or, b2_or0, b2_or1, iI_add, iI_sub, iI_mul, iI_neg, lI_add, lI_sub, lI_mul, iI_lt, iI_le, iI_eq, iI_to64, lI_cmp_lt, lI_cmp_gt, lI_cmp_ge, lI_cmp_le, lI_cmp_eq, mA_s, mA_o, mI_s, mI_o, mB_s, mB_o, mA_I, mA_B, mA_T, mA_F, mI_A, mI_B, mI_T, mI_F, mB_A, mB_I, mB_T, mB_F, mT_A, mT_I, mT_B, mT_F, mF_A, mF_I, mF_B, mF_T, ↓md_gA0, md_a0, md_s0, ↓md_gA1, md_a1, md_s1, ↓md_gA2, md_a2, md_s2, ↓md_gA3, md_a3, md_s3, ↓md_gA4, md_a4, md_s4, ↓md_g5, ↓md_p5, ↓md_g6, ↓md_p6, ↓md_g7, ↓md_p7, ↓md_g8, ↓md_p8, ↓md_gA9, md_a9, md_s9, ↓md_gA10, md_a10, md_s10, ↓md_gA11, md_a11, md_s11, ↓md_gA12, md_a12, md_s12, ↓md_gA13, md_a13, md_s13, ↓md_g14, ↓md_p14, ↓md_g15, ↓md_p15, ↓md_g16, ↓md_p16, ↓md_gA17, md_a17, md_s17, ↓md_gA18, md_a18, md_s18, ↓md_g19, ↓md_p19, ↓md_gA20, md_a20, md_s20, ↓md_g21, ↓md_p21, ↓md_gA22, md_a22, md_s22, ↓md_gA23, md_a23, md_s23, ↓md_gA24, md_a24, md_s24]
theorem X3_isLease {l : Int} (hl : r32 l) (h0 : 0 ≤ μ.1 0 0 ∧ μ.1 0 0 ≤ 10) : gX3_isLease ρ b (iI l) (St σ b μ) = some (iI (b2 (decide (0 ≤ l ∧ l < μ.1 0 0))), St σ b μ) := by
  unfold gX3_isLease
  simp (disch := omega) only [decide_true, decide_false, reduceIte, and_self, and_true, true_and, and_false, false_and, or_true, true_or, or_false, false_or, not_true_eq_false, not_false_eq_true, reduceCtorEq, mA_ss, mI_ss, ↓St_rc, ↓fn_B, ↓fn_nn_none, ↓fn_nn_some, rZ_0, rZ_1, rZ_b, b2_z, b2_1, b2_or, b2_or0, b2_or1, iI_add, iI_sub, iI_mul, iI_neg, lI_add, lI_sub, lI_mul, iI_lt, iI_le, iI_eq, iI_to64, lI_cmp_lt, lI_cmp_gt, lI_cmp_ge, lI_cmp_le, lI_cmp_eq, mA_s, mA_o, mI_s, mI_o, mB_s, mB_o, mA_I, mA_B, mA_T, mA_F, mI_A, mI_B, mI_T, mI_F, mB_A, mB_I, mB_T, mB_F, mT_A, mT_I, mT_B, mT_F, mF_A, mF_I, mF_B, mF_T, ↓md_gA0, md_a0, md_s0, ↓md_gA1, md_a1, md_s1, ↓md_gA2, md_a2, md_s2, ↓md_gA3, md_a3, md_s3, ↓md_gA4, md_a4, md_s4, ↓md_g5, ↓md_p5, ↓md_g6, ↓md_p6, ↓md_g7, ↓md_p7, ↓md_g8, ↓md_p8, ↓md_gA9, md_a9, md_s9, ↓md_gA10, md_a10, md_s10, ↓md_gA11, md_a11, md_s11, ↓md_gA12, md_a12, md_s12, ↓md_gA13, md_a13, md_s13, ↓md_g14, ↓md_p14, ↓md_g15, ↓md_p15, ↓md_g16, ↓md_p16, ↓md_gA17, md_a17, md_s17, ↓md_gA18, md_a18, md_s18, ↓md_g19, ↓md_p19, ↓md_gA20, md_a20, md_s20, ↓md_g21, ↓md_p21, ↓md_gA22, md_a22, md_s22, ↓md_gA23, md_a23, md_s23, ↓md_gA24, md_a24, md_s24]
  rw [X3_isIn hl (by decide) (by omega)]
  simp (disch := omega) only [decide_true, decide_false, reduceIte, and_self, and_true, true_and, and_false, false_and, or_true, true_or, or_false, false_or, not_true_eq_false, not_false_eq_true, reduceCtorEq, mA_ss, mI_ss, ↓St_rc, ↓fn_B, ↓fn_nn_none, ↓fn_nn_some, rZ_0, rZ_1, rZ_b, b2_z, b2_1, b2_or, b2_or0, b2_or1, iI_add, iI_sub, iI_mul, iI_neg, lI_add, lI_sub, lI_mul, iI_lt, iI_le, iI_eq, iI_to64, lI_cmp_lt, lI_cmp_gt, lI_cmp_ge, lI_cmp_le, lI_cmp_eq, mA_s, mA_o, mI_s, mI_o, mB_s, mB_o, mA_I, mA_B, mA_T, mA_F, mI_A, mI_B, mI_T, mI_F, mB_A, mB_I, mB_T, mB_F, mT_A, mT_I, mT_B, mT_F, mF_A, mF_I, mF_B, mF_T, ↓md_gA0, md_a0, md_s0, ↓md_gA1, md_a1, md_s1, ↓md_gA2, md_a2, md_s2, ↓md_gA3, md_a3, md_s3, ↓md_gA4, md_a4, md_s4, ↓md_g5, ↓md_p5, ↓md_g6, ↓md_p6, ↓md_g7, ↓md_p7, ↓md_g8, ↓md_p8, ↓md_gA9, md_a9, md_s9, ↓md_gA10, md_a10, md_s10, ↓md_gA11, md_a11, md_s11, ↓md_gA12, md_a12, md_s12, ↓md_gA13, md_a13, md_s13, ↓md_g14, ↓md_p14, ↓md_g15, ↓md_p15, ↓md_g16, ↓md_p16, ↓md_gA17, md_a17, md_s17, ↓md_gA18, md_a18, md_s18, ↓md_g19, ↓md_p19, ↓md_gA20, md_a20, md_s20, ↓md_g21, ↓md_p21, ↓md_gA22, md_a22, md_s22, ↓md_gA23, md_a23, md_s23, ↓md_gA24, md_a24, md_s24]
  have e : decide (0 ≤ l ∧ l ≤ μ.1 0 0 - 1) = decide (0 ≤ l ∧ l < μ.1 0 0) := decide_eq_decide.mpr (by omega)
  rw [e]
theorem sEnd_r {v : Int → Int} (hv : okD v) : ∀ (n : Nat) (l e : Int), l < v 0 → 0 ≤ e ∧ e ≤ 1000000 → 0 ≤ sEnd v n l e ∧ sEnd v n l e ≤ e
  | 0, l, e, h, he => ⟨he.1, Int.le_refl _⟩
  | n + 1, l, e, h, he => by
    unfold sEnd
    by_cases hl : l < 0
    · rw [if_pos hl]; exact ⟨he.1, Int.le_refl _⟩
    · rw [if_neg hl]
      obtain ⟨h1, -, -, -, -, h2⟩ := hv.2.2.2.2.1 l (by omega) h
      by_cases h3 : e ≤ v (1 + 8 * l + 7)
      · rw [if_pos h3]; exact sEnd_r hv n _ _ (by omega) he
      · rw [if_neg h3]
        have := sEnd_r hv n (v (1 + 8 * l)) (v (1 + 8 * l + 7)) (by omega) (by omega)
        omega
theorem X3_endOf_l (hv : okD (μ.1 0)) : ∀ (n : Nat) (l e : Int) (gas : Nat), l < n → n < gas → -1 ≤ l → l < μ.1 0 0 → 0 ≤ e ∧ e ≤ 1000000 → fnFix (fun _ _ _ => none) (gX3_endOf_b5 ρ b) gas (iI e) (iI l) (St σ b μ) = some (iI (sEnd (μ.1 0) n l e), St σ b μ) := by
  intro n
  induction n with
  | zero =>
    intro l e gas h1 h2 h3 h4 he
    obtain ⟨g, rfl⟩ := gas_s h2
    rw [fnFix_s, gX3_endOf_b5]
    simp (disch := omega) only [decide_true, decide_false, reduceIte, and_self, and_true, true_and, and_false, false_and, or_true, true_or, or_false, false_or, not_true_eq_false, not_false_eq_true, reduceCtorEq, mA_ss, mI_ss, ↓St_rc, ↓fn_B, ↓fn_nn_none, ↓fn_nn_some, rZ_0, rZ_1, rZ_b, b2_z, b2_1, b2_or, b2_or0, b2_or1, iI_add, iI_sub, iI_mul, iI_neg, lI_add, lI_sub, lI_mul, iI_lt, iI_le, iI_eq, iI_to64, lI_cmp_lt, lI_cmp_gt, lI_cmp_ge, lI_cmp_le, lI_cmp_eq, mA_s, mA_o, mI_s, mI_o, mB_s, mB_o, mA_I, mA_B, mA_T, mA_F, mI_A, mI_B, mI_T, mI_F, mB_A, mB_I, mB_T, mB_F, mT_A, mT_I, mT_B, mT_F, mF_A, mF_I, mF_B, mF_T, ↓md_gA0, md_a0, md_s0, ↓md_gA1, md_a1, md_s1, ↓md_gA2, md_a2, md_s2, ↓md_gA3, md_a3, md_s3, ↓md_gA4, md_a4, md_s4, ↓md_g5, ↓md_p5, ↓md_g6, ↓md_p6, ↓md_g7, ↓md_p7, ↓md_g8, ↓md_p8, ↓md_gA9, md_a9, md_s9, ↓md_gA10, md_a10, md_s10, ↓md_gA11, md_a11, md_s11, ↓md_gA12, md_a12, md_s12, ↓md_gA13, md_a13, md_s13, ↓md_g14, ↓md_p14, ↓md_g15, ↓md_p15, ↓md_g16, ↓md_p16, ↓md_gA17, md_a17, md_s17, ↓md_gA18, md_a18, md_s18, ↓md_g19, ↓md_p19, ↓md_gA20, md_a20, md_s20, ↓md_g21, ↓md_p21, ↓md_gA22, md_a22, md_s22, ↓md_gA23, md_a23, md_s23, ↓md_gA24, md_a24, md_s24]
    rw [if_pos (by omega)]
    rfl
  | succ n ih =>
    intro l e gas h1 h2 h3 h4 he
    obtain ⟨g, rfl⟩ := gas_s h2
    have h0 := hv.1
    rw [fnFix_s, gX3_endOf_b5, sEnd]
    simp (disch := omega) only [decide_true, decide_false, reduceIte, and_self, and_true, true_and, and_false, false_and, or_true, true_or, or_false, false_or, not_true_eq_false, not_false_eq_true, reduceCtorEq, mA_ss, mI_ss, ↓St_rc, ↓fn_B, ↓fn_nn_none, ↓fn_nn_some, rZ_0, rZ_1, rZ_b, b2_z, b2_1, b2_or, b2_or0, b2_or1, iI_add, iI_sub, iI_mul, iI_neg, lI_add, lI_sub, lI_mul, iI_lt, iI_le, iI_eq, iI_to64, lI_cmp_lt, lI_cmp_gt, lI_cmp_ge, lI_cmp_le, lI_cmp_eq, mA_s, mA_o, mI_s, mI_o, mB_s, mB_o, mA_I, mA_B, mA_T, mA_F, mI_A, mI_B, mI_T, mI_F, mB_A, mB_I, mB_T, mB_F, mT_A, mT_I, mT_B, mT_F, mF_A, mF_I, mF_B, mF_T, ↓md_gA0, md_a0, md_s0, ↓md_gA1, md_a1, md_s1, ↓md_gA2, md_a2, md_s2, ↓md_gA3, md_a3, md_s3, ↓md_gA4, md_a4, md_s4, ↓md_g5, ↓md_p5, ↓md_g6, ↓md_p6, ↓md_g7, ↓md_p7, ↓md_g8, ↓md_p8, ↓md_gA9, md_a9, md_s9, ↓md_gA10, md_a10, md_s10, ↓md_gA11, md_a11, md_s11, ↓md_gA12, md_a12, md_s12, ↓md_gA13, md_a13, md_s13, ↓md_g14, ↓md_p14, ↓md_g15, ↓md_p15, ↓md_g16, ↓md_p16, ↓md_gA17, md_a17, md_s17, ↓md_gA18, md_a18, md_s18, ↓md_g19, ↓md_p19, ↓md_gA20, md_a20, md_s20, ↓md_g21, ↓md_p21, ↓md_gA22, md_a22, md_s22, ↓md_gA23, md_a23, md_s23, ↓md_gA24, md_a24, md_s24]
    by_cases hl : l < 0
    · rw [if_pos hl, if_pos hl]
    · rw [if_neg hl, if_neg hl]
      obtain ⟨k1, -, -, -, -, k2⟩ := hv.2.2.2.2.1 l (by omega) h4
      simp (disch := omega) only [X3_told, gX3_endOf_b31, decide_true, decide_false, reduceIte, and_self, and_true, true_and, and_false, false_and, or_true, true_or, or_false, false_or, not_true_eq_false, not_false_eq_true, reduceCtorEq, mA_ss, mI_ss, ↓St_rc, ↓fn_B, ↓fn_nn_none, ↓fn_nn_some, rZ_0, rZ_1, rZ_b, b2_z, b2_1, b2_or, b2_or0, b2_or1, iI_add, iI_sub, iI_mul, iI_neg, lI_add, lI_sub, lI_mul, iI_lt, iI_le, iI_eq, iI_to64, lI_cmp_lt, lI_cmp_gt, lI_cmp_ge, lI_cmp_le, lI_cmp_eq, mA_s, mA_o, mI_s, mI_o, mB_s, mB_o, mA_I, mA_B, mA_T, mA_F, mI_A, mI_B, mI_T, mI_F, mB_A, mB_I, mB_T, mB_F, mT_A, mT_I, mT_B, mT_F, mF_A, mF_I, mF_B, mF_T, ↓md_gA0, md_a0, md_s0, ↓md_gA1, md_a1, md_s1, ↓md_gA2, md_a2, md_s2, ↓md_gA3, md_a3, md_s3, ↓md_gA4, md_a4, md_s4, ↓md_g5, ↓md_p5, ↓md_g6, ↓md_p6, ↓md_g7, ↓md_p7, ↓md_g8, ↓md_p8, ↓md_gA9, md_a9, md_s9, ↓md_gA10, md_a10, md_s10, ↓md_gA11, md_a11, md_s11, ↓md_gA12, md_a12, md_s12, ↓md_gA13, md_a13, md_s13, ↓md_g14, ↓md_p14, ↓md_g15, ↓md_p15, ↓md_g16, ↓md_p16, ↓md_gA17, md_a17, md_s17, ↓md_gA18, md_a18, md_s18, ↓md_g19, ↓md_p19, ↓md_gA20, md_a20, md_s20, ↓md_g21, ↓md_p21, ↓md_gA22, md_a22, md_s22, ↓md_gA23, md_a23, md_s23, ↓md_gA24, md_a24, md_s24]
      rw [Int.add_zero]
      by_cases h5 : e ≤ μ.1 0 (1 + 8 * l + 7)
      · rw [if_pos h5, if_pos h5, ih _ _ _ (by omega) (by omega) (by omega) (by omega) he]
      · rw [if_neg h5, if_neg h5, ih _ _ _ (by omega) (by omega) (by omega) (by omega) (by omega)]
theorem X3_endOf (hv : okD (μ.1 0)) {l : Int} (hl : -1 ≤ l ∧ l < μ.1 0 0) : gX3_endOf ρ b (iI l) (St σ b μ) = some (iI (endOf (μ.1 0) l), St σ b μ) := by
  unfold gX3_endOf
  have h0 := hv.1
  exact X3_endOf_l hv 11 l 1000000 _ (by omega) (by decide) hl.1 hl.2 (by decide)
theorem endOf_r {v : Int → Int} (hv : okD v) {l : Int} (hl : l < v 0) : 0 ≤ endOf v l ∧ endOf v l ≤ 1000000 := sEnd_r hv 11 l 1000000 hl (by decide)
theorem X3_runs (hv : okD (μ.1 0)) {l day : Int} (hl : 0 ≤ l ∧ l < μ.1 0 0) (hd : r32 day) : gX3_runs ρ b (iI l) (iI day) (St σ b μ) = some (iI (b2 (decide (μ.1 0 (1 + 8 * l + 1) ≤ day ∧ day ≤ endOf (μ.1 0) l))), St σ b μ) := by
  unfold gX3_runs
  have h0 := hv.1
  obtain ⟨k1, k2, -⟩ := hv.2.2.2.2.1 l hl.1 hl.2
  have k3 := endOf_r hv hl.2
  simp (disch := omega) only [X3_told, X3_endOf hv, decide_true, decide_false, reduceIte, and_self, and_true, true_and, and_false, false_and, or_true, true_or, or_false, false_or, not_true_eq_false, not_false_eq_true, reduceCtorEq, mA_ss, mI_ss, ↓St_rc, ↓fn_B, ↓fn_nn_none, ↓fn_nn_some, rZ_0, rZ_1, rZ_b, b2_z, b2_1, b2_or, b2_or0, b2_or1, iI_add, iI_sub, iI_mul, iI_neg, lI_add, lI_sub, lI_mul, iI_lt, iI_le, iI_eq, iI_to64, lI_cmp_lt, lI_cmp_gt, lI_cmp_ge, lI_cmp_le, lI_cmp_eq, mA_s, mA_o, mI_s, mI_o, mB_s, mB_o, mA_I, mA_B, mA_T, mA_F, mI_A, mI_B, mI_T, mI_F, mB_A, mB_I, mB_T, mB_F, mT_A, mT_I, mT_B, mT_F, mF_A, mF_I, mF_B, mF_T, ↓md_gA0, md_a0, md_s0, ↓md_gA1, md_a1, md_s1, ↓md_gA2, md_a2, md_s2, ↓md_gA3, md_a3, md_s3, ↓md_gA4, md_a4, md_s4, ↓md_g5, ↓md_p5, ↓md_g6, ↓md_p6, ↓md_g7, ↓md_p7, ↓md_g8, ↓md_p8, ↓md_gA9, md_a9, md_s9, ↓md_gA10, md_a10, md_s10, ↓md_gA11, md_a11, md_s11, ↓md_gA12, md_a12, md_s12, ↓md_gA13, md_a13, md_s13, ↓md_g14, ↓md_p14, ↓md_g15, ↓md_p15, ↓md_g16, ↓md_p16, ↓md_gA17, md_a17, md_s17, ↓md_gA18, md_a18, md_s18, ↓md_g19, ↓md_p19, ↓md_gA20, md_a20, md_s20, ↓md_g21, ↓md_p21, ↓md_gA22, md_a22, md_s22, ↓md_gA23, md_a23, md_s23, ↓md_gA24, md_a24, md_s24]
  split
  · rw [decide_eq_false (by omega)]
  · split
    · rw [decide_eq_false (by omega)]
    · rw [decide_eq_true (by omega)]
theorem X3_no {x : Int} : gX3_no ρ b (iI x) (St σ b μ) = some (iI 0, St σ b (mI μ 8 x)) := by
  unfold gX3_no
  simp (disch := omega) only [decide_true, decide_false, reduceIte, and_self, and_true, true_and, and_false, false_and, or_true, true_or, or_false, false_or, not_true_eq_false, not_false_eq_true, reduceCtorEq, mA_ss, mI_ss, ↓St_rc, ↓fn_B, ↓fn_nn_none, ↓fn_nn_some, rZ_0, rZ_1, rZ_b, b2_z, b2_1, b2_or, b2_or0, b2_or1, iI_add, iI_sub, iI_mul, iI_neg, lI_add, lI_sub, lI_mul, iI_lt, iI_le, iI_eq, iI_to64, lI_cmp_lt, lI_cmp_gt, lI_cmp_ge, lI_cmp_le, lI_cmp_eq, mA_s, mA_o, mI_s, mI_o, mB_s, mB_o, mA_I, mA_B, mA_T, mA_F, mI_A, mI_B, mI_T, mI_F, mB_A, mB_I, mB_T, mB_F, mT_A, mT_I, mT_B, mT_F, mF_A, mF_I, mF_B, mF_T, ↓md_gA0, md_a0, md_s0, ↓md_gA1, md_a1, md_s1, ↓md_gA2, md_a2, md_s2, ↓md_gA3, md_a3, md_s3, ↓md_gA4, md_a4, md_s4, ↓md_g5, ↓md_p5, ↓md_g6, ↓md_p6, ↓md_g7, ↓md_p7, ↓md_g8, ↓md_p8, ↓md_gA9, md_a9, md_s9, ↓md_gA10, md_a10, md_s10, ↓md_gA11, md_a11, md_s11, ↓md_gA12, md_a12, md_s12, ↓md_gA13, md_a13, md_s13, ↓md_g14, ↓md_p14, ↓md_g15, ↓md_p15, ↓md_g16, ↓md_p16, ↓md_gA17, md_a17, md_s17, ↓md_gA18, md_a18, md_s18, ↓md_g19, ↓md_p19, ↓md_gA20, md_a20, md_s20, ↓md_g21, ↓md_p21, ↓md_gA22, md_a22, md_s22, ↓md_gA23, md_a23, md_s23, ↓md_gA24, md_a24, md_s24]
theorem X3_copies_l01 : ∀ (n : Nat) (i : Int) (g : Int → Int) (gas : Nat), i + n = 3960 → n < gas → 0 ≤ i → fnFix (fun _ _ _ _ => none) (gX3_copies_b2 ρ b) gas (some (b + 1)) (some (b + 2)) (iI i) (St σ b (mA μ 1 (cpI i (μ.1 0) g))) = some ((), St σ b (mA μ 1 (cpI 3960 (μ.1 0) g))) := by
  intro n
  induction n with
  | zero =>
    intro i g gas h1 h2 h3
    obtain ⟨gg, rfl⟩ := gas_s h2
    rw [fnFix_s, gX3_copies_b2]
    simp (disch := omega) only [decide_true, decide_false, reduceIte, and_self, and_true, true_and, and_false, false_and, or_true, true_or, or_false, false_or, not_true_eq_false, not_false_eq_true, reduceCtorEq, mA_ss, mI_ss, ↓St_rc, ↓fn_B, ↓fn_nn_none, ↓fn_nn_some, rZ_0, rZ_1, rZ_b, b2_z, b2_1, b2_or, b2_or0, b2_or1, iI_add, iI_sub, iI_mul, iI_neg, lI_add, lI_sub, lI_mul, iI_lt, iI_le, iI_eq, iI_to64, lI_cmp_lt, lI_cmp_gt, lI_cmp_ge, lI_cmp_le, lI_cmp_eq, mA_s, mA_o, mI_s, mI_o, mB_s, mB_o, mA_I, mA_B, mA_T, mA_F, mI_A, mI_B, mI_T, mI_F, mB_A, mB_I, mB_T, mB_F, mT_A, mT_I, mT_B, mT_F, mF_A, mF_I, mF_B, mF_T, ↓md_gA0, md_a0, md_s0, ↓md_gA1, md_a1, md_s1, ↓md_gA2, md_a2, md_s2, ↓md_gA3, md_a3, md_s3, ↓md_gA4, md_a4, md_s4, ↓md_g5, ↓md_p5, ↓md_g6, ↓md_p6, ↓md_g7, ↓md_p7, ↓md_g8, ↓md_p8, ↓md_gA9, md_a9, md_s9, ↓md_gA10, md_a10, md_s10, ↓md_gA11, md_a11, md_s11, ↓md_gA12, md_a12, md_s12, ↓md_gA13, md_a13, md_s13, ↓md_g14, ↓md_p14, ↓md_g15, ↓md_p15, ↓md_g16, ↓md_p16, ↓md_gA17, md_a17, md_s17, ↓md_gA18, md_a18, md_s18, ↓md_g19, ↓md_p19, ↓md_gA20, md_a20, md_s20, ↓md_g21, ↓md_p21, ↓md_gA22, md_a22, md_s22, ↓md_gA23, md_a23, md_s23, ↓md_gA24, md_a24, md_s24]
    rw [if_pos (by omega), show i = 3960 by omega]
  | succ n ih =>
    intro i g gas h1 h2 h3
    obtain ⟨gg, rfl⟩ := gas_s h2
    rw [fnFix_s, gX3_copies_b2]
    simp (disch := omega) only [decide_true, decide_false, reduceIte, and_self, and_true, true_and, and_false, false_and, or_true, true_or, or_false, false_or, not_true_eq_false, not_false_eq_true, reduceCtorEq, mA_ss, mI_ss, ↓St_rc, ↓fn_B, ↓fn_nn_none, ↓fn_nn_some, rZ_0, rZ_1, rZ_b, b2_z, b2_1, b2_or, b2_or0, b2_or1, iI_add, iI_sub, iI_mul, iI_neg, lI_add, lI_sub, lI_mul, iI_lt, iI_le, iI_eq, iI_to64, lI_cmp_lt, lI_cmp_gt, lI_cmp_ge, lI_cmp_le, lI_cmp_eq, mA_s, mA_o, mI_s, mI_o, mB_s, mB_o, mA_I, mA_B, mA_T, mA_F, mI_A, mI_B, mI_T, mI_F, mB_A, mB_I, mB_T, mB_F, mT_A, mT_I, mT_B, mT_F, mF_A, mF_I, mF_B, mF_T, ↓md_gA0, md_a0, md_s0, ↓md_gA1, md_a1, md_s1, ↓md_gA2, md_a2, md_s2, ↓md_gA3, md_a3, md_s3, ↓md_gA4, md_a4, md_s4, ↓md_g5, ↓md_p5, ↓md_g6, ↓md_p6, ↓md_g7, ↓md_p7, ↓md_g8, ↓md_p8, ↓md_gA9, md_a9, md_s9, ↓md_gA10, md_a10, md_s10, ↓md_gA11, md_a11, md_s11, ↓md_gA12, md_a12, md_s12, ↓md_gA13, md_a13, md_s13, ↓md_g14, ↓md_p14, ↓md_g15, ↓md_p15, ↓md_g16, ↓md_p16, ↓md_gA17, md_a17, md_s17, ↓md_gA18, md_a18, md_s18, ↓md_g19, ↓md_p19, ↓md_gA20, md_a20, md_s20, ↓md_g21, ↓md_p21, ↓md_gA22, md_a22, md_s22, ↓md_gA23, md_a23, md_s23, ↓md_gA24, md_a24, md_s24]
    rw [if_neg (by omega)]
    rw [cpI_s _ _ _ h3]
    exact ih (i + 1) g gg (by omega) (by omega) (by omega)
theorem X3_copies01 : gX3_copies ρ b (some (b + 1)) (some (b + 2)) (St σ b μ) = some ((), St σ b (mA μ 1 (cpI 3960 (μ.1 0) (μ.1 1)))) := by
  have h := X3_copies_l01 (ρ := ρ) (σ := σ) (b := b) (μ := μ) 3960 0 (μ.1 1) fnGas (by decide) (by decide) (by decide)
  rw [cpI_0, mA_self] at h
  exact h
theorem X3_copies_l02 : ∀ (n : Nat) (i : Int) (g : Int → Int) (gas : Nat), i + n = 3960 → n < gas → 0 ≤ i → fnFix (fun _ _ _ _ => none) (gX3_copies_b2 ρ b) gas (some (b + 1)) (some (b + 3)) (iI i) (St σ b (mA μ 2 (cpI i (μ.1 0) g))) = some ((), St σ b (mA μ 2 (cpI 3960 (μ.1 0) g))) := by
  intro n
  induction n with
  | zero =>
    intro i g gas h1 h2 h3
    obtain ⟨gg, rfl⟩ := gas_s h2
    rw [fnFix_s, gX3_copies_b2]
    simp (disch := omega) only [decide_true, decide_false, reduceIte, and_self, and_true, true_and, and_false, false_and, or_true, true_or, or_false, false_or, not_true_eq_false, not_false_eq_true, reduceCtorEq, mA_ss, mI_ss, ↓St_rc, ↓fn_B, ↓fn_nn_none, ↓fn_nn_some, rZ_0, rZ_1, rZ_b, b2_z, b2_1, b2_or, b2_or0, b2_or1, iI_add, iI_sub, iI_mul, iI_neg, lI_add, lI_sub, lI_mul, iI_lt, iI_le, iI_eq, iI_to64, lI_cmp_lt, lI_cmp_gt, lI_cmp_ge, lI_cmp_le, lI_cmp_eq, mA_s, mA_o, mI_s, mI_o, mB_s, mB_o, mA_I, mA_B, mA_T, mA_F, mI_A, mI_B, mI_T, mI_F, mB_A, mB_I, mB_T, mB_F, mT_A, mT_I, mT_B, mT_F, mF_A, mF_I, mF_B, mF_T, ↓md_gA0, md_a0, md_s0, ↓md_gA1, md_a1, md_s1, ↓md_gA2, md_a2, md_s2, ↓md_gA3, md_a3, md_s3, ↓md_gA4, md_a4, md_s4, ↓md_g5, ↓md_p5, ↓md_g6, ↓md_p6, ↓md_g7, ↓md_p7, ↓md_g8, ↓md_p8, ↓md_gA9, md_a9, md_s9, ↓md_gA10, md_a10, md_s10, ↓md_gA11, md_a11, md_s11, ↓md_gA12, md_a12, md_s12, ↓md_gA13, md_a13, md_s13, ↓md_g14, ↓md_p14, ↓md_g15, ↓md_p15, ↓md_g16, ↓md_p16, ↓md_gA17, md_a17, md_s17, ↓md_gA18, md_a18, md_s18, ↓md_g19, ↓md_p19, ↓md_gA20, md_a20, md_s20, ↓md_g21, ↓md_p21, ↓md_gA22, md_a22, md_s22, ↓md_gA23, md_a23, md_s23, ↓md_gA24, md_a24, md_s24]
    rw [if_pos (by omega), show i = 3960 by omega]
  | succ n ih =>
    intro i g gas h1 h2 h3
    obtain ⟨gg, rfl⟩ := gas_s h2
    rw [fnFix_s, gX3_copies_b2]
    simp (disch := omega) only [decide_true, decide_false, reduceIte, and_self, and_true, true_and, and_false, false_and, or_true, true_or, or_false, false_or, not_true_eq_false, not_false_eq_true, reduceCtorEq, mA_ss, mI_ss, ↓St_rc, ↓fn_B, ↓fn_nn_none, ↓fn_nn_some, rZ_0, rZ_1, rZ_b, b2_z, b2_1, b2_or, b2_or0, b2_or1, iI_add, iI_sub, iI_mul, iI_neg, lI_add, lI_sub, lI_mul, iI_lt, iI_le, iI_eq, iI_to64, lI_cmp_lt, lI_cmp_gt, lI_cmp_ge, lI_cmp_le, lI_cmp_eq, mA_s, mA_o, mI_s, mI_o, mB_s, mB_o, mA_I, mA_B, mA_T, mA_F, mI_A, mI_B, mI_T, mI_F, mB_A, mB_I, mB_T, mB_F, mT_A, mT_I, mT_B, mT_F, mF_A, mF_I, mF_B, mF_T, ↓md_gA0, md_a0, md_s0, ↓md_gA1, md_a1, md_s1, ↓md_gA2, md_a2, md_s2, ↓md_gA3, md_a3, md_s3, ↓md_gA4, md_a4, md_s4, ↓md_g5, ↓md_p5, ↓md_g6, ↓md_p6, ↓md_g7, ↓md_p7, ↓md_g8, ↓md_p8, ↓md_gA9, md_a9, md_s9, ↓md_gA10, md_a10, md_s10, ↓md_gA11, md_a11, md_s11, ↓md_gA12, md_a12, md_s12, ↓md_gA13, md_a13, md_s13, ↓md_g14, ↓md_p14, ↓md_g15, ↓md_p15, ↓md_g16, ↓md_p16, ↓md_gA17, md_a17, md_s17, ↓md_gA18, md_a18, md_s18, ↓md_g19, ↓md_p19, ↓md_gA20, md_a20, md_s20, ↓md_g21, ↓md_p21, ↓md_gA22, md_a22, md_s22, ↓md_gA23, md_a23, md_s23, ↓md_gA24, md_a24, md_s24]
    rw [if_neg (by omega)]
    rw [cpI_s _ _ _ h3]
    exact ih (i + 1) g gg (by omega) (by omega) (by omega)
theorem X3_copies02 : gX3_copies ρ b (some (b + 1)) (some (b + 3)) (St σ b μ) = some ((), St σ b (mA μ 2 (cpI 3960 (μ.1 0) (μ.1 2)))) := by
  have h := X3_copies_l02 (ρ := ρ) (σ := σ) (b := b) (μ := μ) 3960 0 (μ.1 2) fnGas (by decide) (by decide) (by decide)
  rw [cpI_0, mA_self] at h
  exact h
theorem X3_copies_l20 : ∀ (n : Nat) (i : Int) (g : Int → Int) (gas : Nat), i + n = 3960 → n < gas → 0 ≤ i → fnFix (fun _ _ _ _ => none) (gX3_copies_b2 ρ b) gas (some (b + 3)) (some (b + 1)) (iI i) (St σ b (mA μ 0 (cpI i (μ.1 2) g))) = some ((), St σ b (mA μ 0 (cpI 3960 (μ.1 2) g))) := by
  intro n
  induction n with
  | zero =>
    intro i g gas h1 h2 h3
    obtain ⟨gg, rfl⟩ := gas_s h2
    rw [fnFix_s, gX3_copies_b2]
    simp (disch := omega) only [decide_true, decide_false, reduceIte, and_self, and_true, true_and, and_false, false_and, or_true, true_or, or_false, false_or, not_true_eq_false, not_false_eq_true, reduceCtorEq, mA_ss, mI_ss, ↓St_rc, ↓fn_B, ↓fn_nn_none, ↓fn_nn_some, rZ_0, rZ_1, rZ_b, b2_z, b2_1, b2_or, b2_or0, b2_or1, iI_add, iI_sub, iI_mul, iI_neg, lI_add, lI_sub, lI_mul, iI_lt, iI_le, iI_eq, iI_to64, lI_cmp_lt, lI_cmp_gt, lI_cmp_ge, lI_cmp_le, lI_cmp_eq, mA_s, mA_o, mI_s, mI_o, mB_s, mB_o, mA_I, mA_B, mA_T, mA_F, mI_A, mI_B, mI_T, mI_F, mB_A, mB_I, mB_T, mB_F, mT_A, mT_I, mT_B, mT_F, mF_A, mF_I, mF_B, mF_T, ↓md_gA0, md_a0, md_s0, ↓md_gA1, md_a1, md_s1, ↓md_gA2, md_a2, md_s2, ↓md_gA3, md_a3, md_s3, ↓md_gA4, md_a4, md_s4, ↓md_g5, ↓md_p5, ↓md_g6, ↓md_p6, ↓md_g7, ↓md_p7, ↓md_g8, ↓md_p8, ↓md_gA9, md_a9, md_s9, ↓md_gA10, md_a10, md_s10, ↓md_gA11, md_a11, md_s11, ↓md_gA12, md_a12, md_s12, ↓md_gA13, md_a13, md_s13, ↓md_g14, ↓md_p14, ↓md_g15, ↓md_p15, ↓md_g16, ↓md_p16, ↓md_gA17, md_a17, md_s17, ↓md_gA18, md_a18, md_s18, ↓md_g19, ↓md_p19, ↓md_gA20, md_a20, md_s20, ↓md_g21, ↓md_p21, ↓md_gA22, md_a22, md_s22, ↓md_gA23, md_a23, md_s23, ↓md_gA24, md_a24, md_s24]
    rw [if_pos (by omega), show i = 3960 by omega]
  | succ n ih =>
    intro i g gas h1 h2 h3
    obtain ⟨gg, rfl⟩ := gas_s h2
    rw [fnFix_s, gX3_copies_b2]
    simp (disch := omega) only [decide_true, decide_false, reduceIte, and_self, and_true, true_and, and_false, false_and, or_true, true_or, or_false, false_or, not_true_eq_false, not_false_eq_true, reduceCtorEq, mA_ss, mI_ss, ↓St_rc, ↓fn_B, ↓fn_nn_none, ↓fn_nn_some, rZ_0, rZ_1, rZ_b, b2_z, b2_1, b2_or, b2_or0, b2_or1, iI_add, iI_sub, iI_mul, iI_neg, lI_add, lI_sub, lI_mul, iI_lt, iI_le, iI_eq, iI_to64, lI_cmp_lt, lI_cmp_gt, lI_cmp_ge, lI_cmp_le, lI_cmp_eq, mA_s, mA_o, mI_s, mI_o, mB_s, mB_o, mA_I, mA_B, mA_T, mA_F, mI_A, mI_B, mI_T, mI_F, mB_A, mB_I, mB_T, mB_F, mT_A, mT_I, mT_B, mT_F, mF_A, mF_I, mF_B, mF_T, ↓md_gA0, md_a0, md_s0, ↓md_gA1, md_a1, md_s1, ↓md_gA2, md_a2, md_s2, ↓md_gA3, md_a3, md_s3, ↓md_gA4, md_a4, md_s4, ↓md_g5, ↓md_p5, ↓md_g6, ↓md_p6, ↓md_g7, ↓md_p7, ↓md_g8, ↓md_p8, ↓md_gA9, md_a9, md_s9, ↓md_gA10, md_a10, md_s10, ↓md_gA11, md_a11, md_s11, ↓md_gA12, md_a12, md_s12, ↓md_gA13, md_a13, md_s13, ↓md_g14, ↓md_p14, ↓md_g15, ↓md_p15, ↓md_g16, ↓md_p16, ↓md_gA17, md_a17, md_s17, ↓md_gA18, md_a18, md_s18, ↓md_g19, ↓md_p19, ↓md_gA20, md_a20, md_s20, ↓md_g21, ↓md_p21, ↓md_gA22, md_a22, md_s22, ↓md_gA23, md_a23, md_s23, ↓md_gA24, md_a24, md_s24]
    rw [if_neg (by omega)]
    rw [cpI_s _ _ _ h3]
    exact ih (i + 1) g gg (by omega) (by omega) (by omega)
theorem X3_copies20 : gX3_copies ρ b (some (b + 3)) (some (b + 1)) (St σ b μ) = some ((), St σ b (mA μ 0 (cpI 3960 (μ.1 2) (μ.1 0)))) := by
  have h := X3_copies_l20 (ρ := ρ) (σ := σ) (b := b) (μ := μ) 3960 0 (μ.1 0) fnGas (by decide) (by decide) (by decide)
  rw [cpI_0, mA_self] at h
  exact h
theorem X3_copies_l03 : ∀ (n : Nat) (i : Int) (g : Int → Int) (gas : Nat), i + n = 3960 → n < gas → 0 ≤ i → fnFix (fun _ _ _ _ => none) (gX3_copies_b2 ρ b) gas (some (b + 1)) (some (b + 4)) (iI i) (St σ b (mA μ 3 (cpI i (μ.1 0) g))) = some ((), St σ b (mA μ 3 (cpI 3960 (μ.1 0) g))) := by
  intro n
  induction n with
  | zero =>
    intro i g gas h1 h2 h3
    obtain ⟨gg, rfl⟩ := gas_s h2
    rw [fnFix_s, gX3_copies_b2]
    simp (disch := omega) only [decide_true, decide_false, reduceIte, and_self, and_true, true_and, and_false, false_and, or_true, true_or, or_false, false_or, not_true_eq_false, not_false_eq_true, reduceCtorEq, mA_ss, mI_ss, ↓St_rc, ↓fn_B, ↓fn_nn_none, ↓fn_nn_some, rZ_0, rZ_1, rZ_b, b2_z, b2_1, b2_or, b2_or0, b2_or1, iI_add, iI_sub, iI_mul, iI_neg, lI_add, lI_sub, lI_mul, iI_lt, iI_le, iI_eq, iI_to64, lI_cmp_lt, lI_cmp_gt, lI_cmp_ge, lI_cmp_le, lI_cmp_eq, mA_s, mA_o, mI_s, mI_o, mB_s, mB_o, mA_I, mA_B, mA_T, mA_F, mI_A, mI_B, mI_T, mI_F, mB_A, mB_I, mB_T, mB_F, mT_A, mT_I, mT_B, mT_F, mF_A, mF_I, mF_B, mF_T, ↓md_gA0, md_a0, md_s0, ↓md_gA1, md_a1, md_s1, ↓md_gA2, md_a2, md_s2, ↓md_gA3, md_a3, md_s3, ↓md_gA4, md_a4, md_s4, ↓md_g5, ↓md_p5, ↓md_g6, ↓md_p6, ↓md_g7, ↓md_p7, ↓md_g8, ↓md_p8, ↓md_gA9, md_a9, md_s9, ↓md_gA10, md_a10, md_s10, ↓md_gA11, md_a11, md_s11, ↓md_gA12, md_a12, md_s12, ↓md_gA13, md_a13, md_s13, ↓md_g14, ↓md_p14, ↓md_g15, ↓md_p15, ↓md_g16, ↓md_p16, ↓md_gA17, md_a17, md_s17, ↓md_gA18, md_a18, md_s18, ↓md_g19, ↓md_p19, ↓md_gA20, md_a20, md_s20, ↓md_g21, ↓md_p21, ↓md_gA22, md_a22, md_s22, ↓md_gA23, md_a23, md_s23, ↓md_gA24, md_a24, md_s24]
    rw [if_pos (by omega), show i = 3960 by omega]
  | succ n ih =>
    intro i g gas h1 h2 h3
    obtain ⟨gg, rfl⟩ := gas_s h2
    rw [fnFix_s, gX3_copies_b2]
    simp (disch := omega) only [decide_true, decide_false, reduceIte, and_self, and_true, true_and, and_false, false_and, or_true, true_or, or_false, false_or, not_true_eq_false, not_false_eq_true, reduceCtorEq, mA_ss, mI_ss, ↓St_rc, ↓fn_B, ↓fn_nn_none, ↓fn_nn_some, rZ_0, rZ_1, rZ_b, b2_z, b2_1, b2_or, b2_or0, b2_or1, iI_add, iI_sub, iI_mul, iI_neg, lI_add, lI_sub, lI_mul, iI_lt, iI_le, iI_eq, iI_to64, lI_cmp_lt, lI_cmp_gt, lI_cmp_ge, lI_cmp_le, lI_cmp_eq, mA_s, mA_o, mI_s, mI_o, mB_s, mB_o, mA_I, mA_B, mA_T, mA_F, mI_A, mI_B, mI_T, mI_F, mB_A, mB_I, mB_T, mB_F, mT_A, mT_I, mT_B, mT_F, mF_A, mF_I, mF_B, mF_T, ↓md_gA0, md_a0, md_s0, ↓md_gA1, md_a1, md_s1, ↓md_gA2, md_a2, md_s2, ↓md_gA3, md_a3, md_s3, ↓md_gA4, md_a4, md_s4, ↓md_g5, ↓md_p5, ↓md_g6, ↓md_p6, ↓md_g7, ↓md_p7, ↓md_g8, ↓md_p8, ↓md_gA9, md_a9, md_s9, ↓md_gA10, md_a10, md_s10, ↓md_gA11, md_a11, md_s11, ↓md_gA12, md_a12, md_s12, ↓md_gA13, md_a13, md_s13, ↓md_g14, ↓md_p14, ↓md_g15, ↓md_p15, ↓md_g16, ↓md_p16, ↓md_gA17, md_a17, md_s17, ↓md_gA18, md_a18, md_s18, ↓md_g19, ↓md_p19, ↓md_gA20, md_a20, md_s20, ↓md_g21, ↓md_p21, ↓md_gA22, md_a22, md_s22, ↓md_gA23, md_a23, md_s23, ↓md_gA24, md_a24, md_s24]
    rw [if_neg (by omega)]
    rw [cpI_s _ _ _ h3]
    exact ih (i + 1) g gg (by omega) (by omega) (by omega)
theorem X3_copies03 : gX3_copies ρ b (some (b + 1)) (some (b + 4)) (St σ b μ) = some ((), St σ b (mA μ 3 (cpI 3960 (μ.1 0) (μ.1 3)))) := by
  have h := X3_copies_l03 (ρ := ρ) (σ := σ) (b := b) (μ := μ) 3960 0 (μ.1 3) fnGas (by decide) (by decide) (by decide)
  rw [cpI_0, mA_self] at h
  exact h
theorem X3_copies_l30 : ∀ (n : Nat) (i : Int) (g : Int → Int) (gas : Nat), i + n = 3960 → n < gas → 0 ≤ i → fnFix (fun _ _ _ _ => none) (gX3_copies_b2 ρ b) gas (some (b + 4)) (some (b + 1)) (iI i) (St σ b (mA μ 0 (cpI i (μ.1 3) g))) = some ((), St σ b (mA μ 0 (cpI 3960 (μ.1 3) g))) := by
  intro n
  induction n with
  | zero =>
    intro i g gas h1 h2 h3
    obtain ⟨gg, rfl⟩ := gas_s h2
    rw [fnFix_s, gX3_copies_b2]
    simp (disch := omega) only [decide_true, decide_false, reduceIte, and_self, and_true, true_and, and_false, false_and, or_true, true_or, or_false, false_or, not_true_eq_false, not_false_eq_true, reduceCtorEq, mA_ss, mI_ss, ↓St_rc, ↓fn_B, ↓fn_nn_none, ↓fn_nn_some, rZ_0, rZ_1, rZ_b, b2_z, b2_1, b2_or, b2_or0, b2_or1, iI_add, iI_sub, iI_mul, iI_neg, lI_add, lI_sub, lI_mul, iI_lt, iI_le, iI_eq, iI_to64, lI_cmp_lt, lI_cmp_gt, lI_cmp_ge, lI_cmp_le, lI_cmp_eq, mA_s, mA_o, mI_s, mI_o, mB_s, mB_o, mA_I, mA_B, mA_T, mA_F, mI_A, mI_B, mI_T, mI_F, mB_A, mB_I, mB_T, mB_F, mT_A, mT_I, mT_B, mT_F, mF_A, mF_I, mF_B, mF_T, ↓md_gA0, md_a0, md_s0, ↓md_gA1, md_a1, md_s1, ↓md_gA2, md_a2, md_s2, ↓md_gA3, md_a3, md_s3, ↓md_gA4, md_a4, md_s4, ↓md_g5, ↓md_p5, ↓md_g6, ↓md_p6, ↓md_g7, ↓md_p7, ↓md_g8, ↓md_p8, ↓md_gA9, md_a9, md_s9, ↓md_gA10, md_a10, md_s10, ↓md_gA11, md_a11, md_s11, ↓md_gA12, md_a12, md_s12, ↓md_gA13, md_a13, md_s13, ↓md_g14, ↓md_p14, ↓md_g15, ↓md_p15, ↓md_g16, ↓md_p16, ↓md_gA17, md_a17, md_s17, ↓md_gA18, md_a18, md_s18, ↓md_g19, ↓md_p19, ↓md_gA20, md_a20, md_s20, ↓md_g21, ↓md_p21, ↓md_gA22, md_a22, md_s22, ↓md_gA23, md_a23, md_s23, ↓md_gA24, md_a24, md_s24]
    rw [if_pos (by omega), show i = 3960 by omega]
  | succ n ih =>
    intro i g gas h1 h2 h3
    obtain ⟨gg, rfl⟩ := gas_s h2
    rw [fnFix_s, gX3_copies_b2]
    simp (disch := omega) only [decide_true, decide_false, reduceIte, and_self, and_true, true_and, and_false, false_and, or_true, true_or, or_false, false_or, not_true_eq_false, not_false_eq_true, reduceCtorEq, mA_ss, mI_ss, ↓St_rc, ↓fn_B, ↓fn_nn_none, ↓fn_nn_some, rZ_0, rZ_1, rZ_b, b2_z, b2_1, b2_or, b2_or0, b2_or1, iI_add, iI_sub, iI_mul, iI_neg, lI_add, lI_sub, lI_mul, iI_lt, iI_le, iI_eq, iI_to64, lI_cmp_lt, lI_cmp_gt, lI_cmp_ge, lI_cmp_le, lI_cmp_eq, mA_s, mA_o, mI_s, mI_o, mB_s, mB_o, mA_I, mA_B, mA_T, mA_F, mI_A, mI_B, mI_T, mI_F, mB_A, mB_I, mB_T, mB_F, mT_A, mT_I, mT_B, mT_F, mF_A, mF_I, mF_B, mF_T, ↓md_gA0, md_a0, md_s0, ↓md_gA1, md_a1, md_s1, ↓md_gA2, md_a2, md_s2, ↓md_gA3, md_a3, md_s3, ↓md_gA4, md_a4, md_s4, ↓md_g5, ↓md_p5, ↓md_g6, ↓md_p6, ↓md_g7, ↓md_p7, ↓md_g8, ↓md_p8, ↓md_gA9, md_a9, md_s9, ↓md_gA10, md_a10, md_s10, ↓md_gA11, md_a11, md_s11, ↓md_gA12, md_a12, md_s12, ↓md_gA13, md_a13, md_s13, ↓md_g14, ↓md_p14, ↓md_g15, ↓md_p15, ↓md_g16, ↓md_p16, ↓md_gA17, md_a17, md_s17, ↓md_gA18, md_a18, md_s18, ↓md_g19, ↓md_p19, ↓md_gA20, md_a20, md_s20, ↓md_g21, ↓md_p21, ↓md_gA22, md_a22, md_s22, ↓md_gA23, md_a23, md_s23, ↓md_gA24, md_a24, md_s24]
    rw [if_neg (by omega)]
    rw [cpI_s _ _ _ h3]
    exact ih (i + 1) g gg (by omega) (by omega) (by omega)
theorem X3_copies30 : gX3_copies ρ b (some (b + 4)) (some (b + 1)) (St σ b μ) = some ((), St σ b (mA μ 0 (cpI 3960 (μ.1 3) (μ.1 0)))) := by
  have h := X3_copies_l30 (ρ := ρ) (σ := σ) (b := b) (μ := μ) 3960 0 (μ.1 0) fnGas (by decide) (by decide) (by decide)
  rw [cpI_0, mA_self] at h
  exact h
theorem X3_begins : gX3_begins ρ b (St σ b μ) = some ((), St σ b (mA μ 1 (cpI 3960 (μ.1 0) (μ.1 1)))) := by
  unfold gX3_begins
  simp (disch := omega) only [X3_copies01, decide_true, decide_false, reduceIte, and_self, and_true, true_and, and_false, false_and, or_true, true_or, or_false, false_or, not_true_eq_false, not_false_eq_true, reduceCtorEq, mA_ss, mI_ss, ↓St_rc, ↓fn_B, ↓fn_nn_none, ↓fn_nn_some, rZ_0, rZ_1, rZ_b, b2_z, b2_1, b2_or, b2_or0, b2_or1, iI_add, iI_sub, iI_mul, iI_neg, lI_add, lI_sub, lI_mul, iI_lt, iI_le, iI_eq, iI_to64, lI_cmp_lt, lI_cmp_gt, lI_cmp_ge, lI_cmp_le, lI_cmp_eq, mA_s, mA_o, mI_s, mI_o, mB_s, mB_o, mA_I, mA_B, mA_T, mA_F, mI_A, mI_B, mI_T, mI_F, mB_A, mB_I, mB_T, mB_F, mT_A, mT_I, mT_B, mT_F, mF_A, mF_I, mF_B, mF_T, ↓md_gA0, md_a0, md_s0, ↓md_gA1, md_a1, md_s1, ↓md_gA2, md_a2, md_s2, ↓md_gA3, md_a3, md_s3, ↓md_gA4, md_a4, md_s4, ↓md_g5, ↓md_p5, ↓md_g6, ↓md_p6, ↓md_g7, ↓md_p7, ↓md_g8, ↓md_p8, ↓md_gA9, md_a9, md_s9, ↓md_gA10, md_a10, md_s10, ↓md_gA11, md_a11, md_s11, ↓md_gA12, md_a12, md_s12, ↓md_gA13, md_a13, md_s13, ↓md_g14, ↓md_p14, ↓md_g15, ↓md_p15, ↓md_g16, ↓md_p16, ↓md_gA17, md_a17, md_s17, ↓md_gA18, md_a18, md_s18, ↓md_g19, ↓md_p19, ↓md_gA20, md_a20, md_s20, ↓md_g21, ↓md_p21, ↓md_gA22, md_a22, md_s22, ↓md_gA23, md_a23, md_s23, ↓md_gA24, md_a24, md_s24]
theorem X3_indexOf_l (hv : okD (μ.1 0)) : ∀ (n : Nat) (gas : Nat), n ≤ 120 → n < gas → fnFix (fun _ _ => none) (gX3_indexOf_b2 ρ b) gas (iI ((n : Int) - 1)) (St σ b μ) = some (iI (sIdx (μ.1 0) n), St σ b μ) := by
  intro n
  induction n with
  | zero =>
    intro gas h1 h2
    obtain ⟨gg, rfl⟩ := gas_s h2
    rw [fnFix_s, gX3_indexOf_b2]
    simp (disch := omega) only [decide_true, decide_false, reduceIte, and_self, and_true, true_and, and_false, false_and, or_true, true_or, or_false, false_or, not_true_eq_false, not_false_eq_true, reduceCtorEq, mA_ss, mI_ss, ↓St_rc, ↓fn_B, ↓fn_nn_none, ↓fn_nn_some, rZ_0, rZ_1, rZ_b, b2_z, b2_1, b2_or, b2_or0, b2_or1, iI_add, iI_sub, iI_mul, iI_neg, lI_add, lI_sub, lI_mul, iI_lt, iI_le, iI_eq, iI_to64, lI_cmp_lt, lI_cmp_gt, lI_cmp_ge, lI_cmp_le, lI_cmp_eq, mA_s, mA_o, mI_s, mI_o, mB_s, mB_o, mA_I, mA_B, mA_T, mA_F, mI_A, mI_B, mI_T, mI_F, mB_A, mB_I, mB_T, mB_F, mT_A, mT_I, mT_B, mT_F, mF_A, mF_I, mF_B, mF_T, ↓md_gA0, md_a0, md_s0, ↓md_gA1, md_a1, md_s1, ↓md_gA2, md_a2, md_s2, ↓md_gA3, md_a3, md_s3, ↓md_gA4, md_a4, md_s4, ↓md_g5, ↓md_p5, ↓md_g6, ↓md_p6, ↓md_g7, ↓md_p7, ↓md_g8, ↓md_p8, ↓md_gA9, md_a9, md_s9, ↓md_gA10, md_a10, md_s10, ↓md_gA11, md_a11, md_s11, ↓md_gA12, md_a12, md_s12, ↓md_gA13, md_a13, md_s13, ↓md_g14, ↓md_p14, ↓md_g15, ↓md_p15, ↓md_g16, ↓md_p16, ↓md_gA17, md_a17, md_s17, ↓md_gA18, md_a18, md_s18, ↓md_g19, ↓md_p19, ↓md_gA20, md_a20, md_s20, ↓md_g21, ↓md_p21, ↓md_gA22, md_a22, md_s22, ↓md_gA23, md_a23, md_s23, ↓md_gA24, md_a24, md_s24]
    rw [if_pos (by omega)]
    rfl
  | succ n ih =>
    intro gas h1 h2
    obtain ⟨gg, rfl⟩ := gas_s h2
    rw [fnFix_s, gX3_indexOf_b2, sIdx]
    have e : ((n + 1 : Nat) : Int) - 1 = n := by omega
    rw [e]
    have k := hv.2.2.2.2.2.2.2.2.1 n (by omega) (by omega)
    simp (disch := omega) only [decide_true, decide_false, reduceIte, and_self, and_true, true_and, and_false, false_and, or_true, true_or, or_false, false_or, not_true_eq_false, not_false_eq_true, reduceCtorEq, mA_ss, mI_ss, ↓St_rc, ↓fn_B, ↓fn_nn_none, ↓fn_nn_some, rZ_0, rZ_1, rZ_b, b2_z, b2_1, b2_or, b2_or0, b2_or1, iI_add, iI_sub, iI_mul, iI_neg, lI_add, lI_sub, lI_mul, iI_lt, iI_le, iI_eq, iI_to64, lI_cmp_lt, lI_cmp_gt, lI_cmp_ge, lI_cmp_le, lI_cmp_eq, mA_s, mA_o, mI_s, mI_o, mB_s, mB_o, mA_I, mA_B, mA_T, mA_F, mI_A, mI_B, mI_T, mI_F, mB_A, mB_I, mB_T, mB_F, mT_A, mT_I, mT_B, mT_F, mF_A, mF_I, mF_B, mF_T, ↓md_gA0, md_a0, md_s0, ↓md_gA1, md_a1, md_s1, ↓md_gA2, md_a2, md_s2, ↓md_gA3, md_a3, md_s3, ↓md_gA4, md_a4, md_s4, ↓md_g5, ↓md_p5, ↓md_g6, ↓md_p6, ↓md_g7, ↓md_p7, ↓md_g8, ↓md_p8, ↓md_gA9, md_a9, md_s9, ↓md_gA10, md_a10, md_s10, ↓md_gA11, md_a11, md_s11, ↓md_gA12, md_a12, md_s12, ↓md_gA13, md_a13, md_s13, ↓md_g14, ↓md_p14, ↓md_g15, ↓md_p15, ↓md_g16, ↓md_p16, ↓md_gA17, md_a17, md_s17, ↓md_gA18, md_a18, md_s18, ↓md_g19, ↓md_p19, ↓md_gA20, md_a20, md_s20, ↓md_g21, ↓md_p21, ↓md_gA22, md_a22, md_s22, ↓md_gA23, md_a23, md_s23, ↓md_gA24, md_a24, md_s24]
    rw [if_neg (by omega)]
    split
    · exact ih gg (by omega) (by omega)
    · rfl
theorem X3_indexOf (hv : okD (μ.1 0)) {m : Int} (hm : 0 ≤ m ∧ m < 120) : gX3_indexOf ρ b (iI m) (St σ b μ) = some (iI (sIdx (μ.1 0) (m + 1).toNat), St σ b μ) := by
  have h := X3_indexOf_l (ρ := ρ) (σ := σ) (b := b) hv (m + 1).toNat fnGas (by omega) (by unfold fnGas; omega)
  rw [show (((m + 1).toNat : Nat) : Int) - 1 = m by omega] at h
  exact h
theorem X3_rateOn_l (hv : okD (μ.1 0)) : ∀ (n : Nat) (gas : Nat), n ≤ 3600 → n < gas → fnFix (fun _ _ => none) (gX3_rateOn_b2 ρ b) gas (iI ((n : Int) - 1)) (St σ b μ) = some (iI (sRate (μ.1 0) n), St σ b μ) := by
  intro n
  induction n with
  | zero =>
    intro gas h1 h2
    obtain ⟨gg, rfl⟩ := gas_s h2
    rw [fnFix_s, gX3_rateOn_b2]
    simp (disch := omega) only [decide_true, decide_false, reduceIte, and_self, and_true, true_and, and_false, false_and, or_true, true_or, or_false, false_or, not_true_eq_false, not_false_eq_true, reduceCtorEq, mA_ss, mI_ss, ↓St_rc, ↓fn_B, ↓fn_nn_none, ↓fn_nn_some, rZ_0, rZ_1, rZ_b, b2_z, b2_1, b2_or, b2_or0, b2_or1, iI_add, iI_sub, iI_mul, iI_neg, lI_add, lI_sub, lI_mul, iI_lt, iI_le, iI_eq, iI_to64, lI_cmp_lt, lI_cmp_gt, lI_cmp_ge, lI_cmp_le, lI_cmp_eq, mA_s, mA_o, mI_s, mI_o, mB_s, mB_o, mA_I, mA_B, mA_T, mA_F, mI_A, mI_B, mI_T, mI_F, mB_A, mB_I, mB_T, mB_F, mT_A, mT_I, mT_B, mT_F, mF_A, mF_I, mF_B, mF_T, ↓md_gA0, md_a0, md_s0, ↓md_gA1, md_a1, md_s1, ↓md_gA2, md_a2, md_s2, ↓md_gA3, md_a3, md_s3, ↓md_gA4, md_a4, md_s4, ↓md_g5, ↓md_p5, ↓md_g6, ↓md_p6, ↓md_g7, ↓md_p7, ↓md_g8, ↓md_p8, ↓md_gA9, md_a9, md_s9, ↓md_gA10, md_a10, md_s10, ↓md_gA11, md_a11, md_s11, ↓md_gA12, md_a12, md_s12, ↓md_gA13, md_a13, md_s13, ↓md_g14, ↓md_p14, ↓md_g15, ↓md_p15, ↓md_g16, ↓md_p16, ↓md_gA17, md_a17, md_s17, ↓md_gA18, md_a18, md_s18, ↓md_g19, ↓md_p19, ↓md_gA20, md_a20, md_s20, ↓md_g21, ↓md_p21, ↓md_gA22, md_a22, md_s22, ↓md_gA23, md_a23, md_s23, ↓md_gA24, md_a24, md_s24]
    rw [if_pos (by omega)]
    rfl
  | succ n ih =>
    intro gas h1 h2
    obtain ⟨gg, rfl⟩ := gas_s h2
    rw [fnFix_s, gX3_rateOn_b2, sRate]
    have e : ((n + 1 : Nat) : Int) - 1 = n := by omega
    rw [e]
    have k := hv.2.2.2.2.2.2.2.2.2 n (by omega) (by omega)
    simp (disch := omega) only [decide_true, decide_false, reduceIte, and_self, and_true, true_and, and_false, false_and, or_true, true_or, or_false, false_or, not_true_eq_false, not_false_eq_true, reduceCtorEq, mA_ss, mI_ss, ↓St_rc, ↓fn_B, ↓fn_nn_none, ↓fn_nn_some, rZ_0, rZ_1, rZ_b, b2_z, b2_1, b2_or, b2_or0, b2_or1, iI_add, iI_sub, iI_mul, iI_neg, lI_add, lI_sub, lI_mul, iI_lt, iI_le, iI_eq, iI_to64, lI_cmp_lt, lI_cmp_gt, lI_cmp_ge, lI_cmp_le, lI_cmp_eq, mA_s, mA_o, mI_s, mI_o, mB_s, mB_o, mA_I, mA_B, mA_T, mA_F, mI_A, mI_B, mI_T, mI_F, mB_A, mB_I, mB_T, mB_F, mT_A, mT_I, mT_B, mT_F, mF_A, mF_I, mF_B, mF_T, ↓md_gA0, md_a0, md_s0, ↓md_gA1, md_a1, md_s1, ↓md_gA2, md_a2, md_s2, ↓md_gA3, md_a3, md_s3, ↓md_gA4, md_a4, md_s4, ↓md_g5, ↓md_p5, ↓md_g6, ↓md_p6, ↓md_g7, ↓md_p7, ↓md_g8, ↓md_p8, ↓md_gA9, md_a9, md_s9, ↓md_gA10, md_a10, md_s10, ↓md_gA11, md_a11, md_s11, ↓md_gA12, md_a12, md_s12, ↓md_gA13, md_a13, md_s13, ↓md_g14, ↓md_p14, ↓md_g15, ↓md_p15, ↓md_g16, ↓md_p16, ↓md_gA17, md_a17, md_s17, ↓md_gA18, md_a18, md_s18, ↓md_g19, ↓md_p19, ↓md_gA20, md_a20, md_s20, ↓md_g21, ↓md_p21, ↓md_gA22, md_a22, md_s22, ↓md_gA23, md_a23, md_s23, ↓md_gA24, md_a24, md_s24]
    rw [if_neg (by omega)]
    split
    · exact ih gg (by omega) (by omega)
    · rfl
theorem X3_rateOn (hv : okD (μ.1 0)) {m : Int} (hm : 0 ≤ m ∧ m < 3600) : gX3_rateOn ρ b (iI m) (St σ b μ) = some (iI (sRate (μ.1 0) (m + 1).toNat), St σ b μ) := by
  have h := X3_rateOn_l (ρ := ρ) (σ := σ) (b := b) hv (m + 1).toNat fnGas (by omega) (by unfold fnGas; omega)
  rw [show (((m + 1).toNat : Nat) : Int) - 1 = m by omega] at h
  exact h
end Model
end
section
/-! changes: the answer, the reason against it (0: none), the numbers behind it -/
abbrev cT : Type := Int × Int × (Int → Int)
def cRes (μ : MM) (r : cT) : MM := if r.2.1 = 0 then mA μ 0 r.2.2 else mI μ 8 r.2.1
def isL (v : Int → Int) (l : Int) : Prop := 0 ≤ l ∧ l < v 0
def sZer (v : Int → Int) (l : Int) : Nat → (Int → Int)
  | 0 => v
  | n + 1 => uI (sZer v l n) (1 + 8 * l + n) 0
def cMakes (v : Int → Int) (ab st rn : Int) : cT :=
  if ab ≠ -1 ∧ ¬ (0 ≤ ab ∧ ab < v 0) then (0, 1, v) else if ¬ (0 ≤ st ∧ st ≤ 3599) ∨ ¬ (1 ≤ rn ∧ rn ≤ 1000000) then (0, 2, v) else if v 0 = 10 then (0, 3, v) else if 0 ≤ ab ∧ ¬ (v (1 + 8 * ab + 1) ≤ st ∧ st ≤ endOf v ab) then (0, 4, v)
  else (v 0, 0, uI (uI (uI (uI (uI (uI (sZer (uI v 0 (v 0 + 1)) (v 0) 8) (1 + 8 * v 0 + 0) ab) (1 + 8 * v 0 + 1) st) (1 + 8 * v 0 + 2) rn) (1 + 8 * v 0 + 5) (-1)) (1 + 8 * v 0 + 6) (-1)) (1 + 8 * v 0 + 7) 1000000)
def cTells (v : Int → Int) (m x : Int) : cT := if ¬ (0 ≤ m ∧ m ≤ 119) ∨ ¬ (100 ≤ x ∧ x ≤ 9999) then (0, 2, v) else (sIdx v (m + 1).toNat, 0, uI v (240 + m) x)
def cClauses (v : Int → Int) (l th sh : Int) : cT :=
  if ¬ (0 ≤ l ∧ l < v 0) then (0, 1, v) else if ¬ (0 ≤ th ∧ th ≤ 500) ∨ ¬ (0 ≤ sh ∧ sh ≤ 100) then (0, 2, v) else (v (1 + 8 * l + 3), 0, uI (uI v (1 + 8 * l + 3) th) (1 + 8 * l + 4) (if th = 0 then 0 else sh))
def cFaults (v : Int → Int) (l day pc : Int) : cT :=
  if ¬ (0 ≤ l ∧ l < v 0) then (0, 1, v) else if ¬ (0 ≤ day ∧ day ≤ 3599) ∨ ¬ (1 ≤ pc ∧ pc ≤ 100) then (0, 2, v) else if v 81 = 12 then (0, 3, v)
  else (v 81, 0, uI (uI (uI (uI (uI v (82 + 4 * v 81) l) (82 + 4 * v 81 + 1) pc) (82 + 4 * v 81 + 2) day) (82 + 4 * v 81 + 3) 1000000) 81 (v 81 + 1))
def cMends (v : Int → Int) (d day : Int) : cT :=
  if ¬ (0 ≤ day ∧ day ≤ 3599) then (0, 2, v) else if ¬ (0 ≤ d ∧ d ≤ v 81 - 1) then (0, 6, v) else if ¬ v (82 + 4 * d + 3) = 1000000 ∨ ¬ v (82 + 4 * d + 2) ≤ day then (0, 6, v)
  else (day - v (82 + 4 * d + 2), 0, uI v (82 + 4 * d + 3) day)
def cPays (v : Int → Int) (l day am : Int) : cT :=
  if ¬ (0 ≤ l ∧ l < v 0) then (0, 1, v) else if ¬ (0 ≤ day ∧ day ≤ 3599) ∨ ¬ (1 ≤ am ∧ am ≤ 9999999) then (0, 2, v) else if v 130 = 24 then (0, 3, v)
  else (v 130 + 1, 0, uI (uI (uI (uI v (131 + 3 * v 130) l) (131 + 3 * v 130 + 1) day) (131 + 3 * v 130 + 2) am) 130 (v 130 + 1))
def cLays (v : Int → Int) (l day am : Int) : cT :=
  if ¬ (0 ≤ l ∧ l < v 0) then (0, 1, v) else if ¬ (0 ≤ day ∧ day ≤ 3599) ∨ ¬ (1 ≤ am ∧ am ≤ 9999999) then (0, 2, v) else if v 203 = 12 then (0, 3, v) else if ¬ (v (1 + 8 * l + 1) ≤ day ∧ day ≤ endOf v l) then (0, 4, v)
  else (v 203, 0, uI (uI (uI (uI v (204 + 3 * v 203) l) (204 + 3 * v 203 + 1) day) (204 + 3 * v 203 + 2) am) 203 (v 203 + 1))
def sPer (v : Int → Int) (l day bw : Int) : Int := if bw = 0 then 3 else if 60 ≤ day / 30 - v (1 + 8 * l + 1) / 30 then (if 96 ≤ day / 30 - v (1 + 8 * l + 1) / 30 then 9 else 6) else 3
def sBy (v : Int → Int) (l day bw : Int) : Int := 30 * (day / 30 + sPer v l day bw - (if 3 ≤ day % 30 then 0 else 1)) + 29
def cGives (v : Int → Int) (l day bw : Int) : cT :=
  if ¬ (0 ≤ l ∧ l < v 0) then (0, 1, v) else if ¬ (0 ≤ day ∧ day ≤ 3599) ∨ ¬ (0 ≤ bw ∧ bw ≤ 1) then (0, 2, v) else if ¬ (v (1 + 8 * l + 1) ≤ day ∧ day ≤ endOf v l) then (0, 4, v) else if ¬ v (1 + 8 * l + 5) < 0 then (0, 5, v)
  else (sBy v l day bw, 0, uI (uI (uI v (1 + 8 * l + 5) day) (1 + 8 * l + 6) bw) (1 + 8 * l + 7) (sBy v l day bw))
def cDraws (v : Int → Int) (l : Int) : cT :=
  if ¬ (0 ≤ l ∧ l < v 0) then (0, 1, v) else if ¬ 0 ≤ v (1 + 8 * l + 5) then (0, 5, v) else (v (1 + 8 * l + 7), 0, uI (uI (uI v (1 + 8 * l + 5) (-1)) (1 + 8 * l + 6) (-1)) (1 + 8 * l + 7) 1000000)
def cRate (v : Int → Int) (day x : Int) : cT := if ¬ (0 ≤ day ∧ day ≤ 3599) ∨ ¬ (0 ≤ x ∧ x ≤ 2000) then (0, 2, v) else (sRate v (day + 1).toNat, 0, uI v (360 + day) x)
section Change
variable {ρ : Nat → Nat} {σ : mS} {b : Nat} {μ : MM}
theorem X3_clauses (hv : okD (μ.1 0)) {l th sh : Int} (r1 : r32 l) (r2 : r32 th) (r3 : r32 sh) : gX3_clauses ρ b (iI l) (iI th) (iI sh) (St σ b μ) = some (iI (cClauses (μ.1 0) l th sh).1, St σ b (cRes μ (cClauses (μ.1 0) l th sh))) := by
  have h0 := hv.1
  unfold gX3_clauses cClauses
  by_cases h1 : 0 ≤ l ∧ l < μ.1 0 0
  · by_cases h2 : 0 ≤ th ∧ th ≤ 500
    · by_cases h3 : 0 ≤ sh ∧ sh ≤ 100
      · by_cases h4 : th = 0
        · simp (disch := omega) only [X3_isLease, X3_isIn, X3_told, X3_puts, X3_no, h1, h2, h3, decide_true, decide_false, reduceIte, and_self, and_true, true_and, and_false, false_and, or_true, true_or, or_false, false_or, not_true_eq_false, not_false_eq_true, reduceCtorEq, mA_ss, mI_ss, ↓St_rc, ↓fn_B, ↓fn_nn_none, ↓fn_nn_some, rZ_0, rZ_1, rZ_b, b2_z, b2_1, b2_or, b2_or0, b2_or1, iI_add, iI_sub, iI_mul, iI_neg, lI_add, lI_sub, lI_mul, iI_lt, iI_le, iI_eq, iI_to64, lI_cmp_lt, lI_cmp_gt, lI_cmp_ge, lI_cmp_le, lI_cmp_eq, mA_s, mA_o, mI_s, mI_o, mB_s, mB_o, mA_I, mA_B, mA_T, mA_F, mI_A, mI_B, mI_T, mI_F, mB_A, mB_I, mB_T, mB_F, mT_A, mT_I, mT_B, mT_F, mF_A, mF_I, mF_B, mF_T, ↓md_gA0, md_a0, md_s0, ↓md_gA1, md_a1, md_s1, ↓md_gA2, md_a2, md_s2, ↓md_gA3, md_a3, md_s3, ↓md_gA4, md_a4, md_s4, ↓md_g5, ↓md_p5, ↓md_g6, ↓md_p6, ↓md_g7, ↓md_p7, ↓md_g8, ↓md_p8, ↓md_gA9, md_a9, md_s9, ↓md_gA10, md_a10, md_s10, ↓md_gA11, md_a11, md_s11, ↓md_gA12, md_a12, md_s12, ↓md_gA13, md_a13, md_s13, ↓md_g14, ↓md_p14, ↓md_g15, ↓md_p15, ↓md_g16, ↓md_p16, ↓md_gA17, md_a17, md_s17, ↓md_gA18, md_a18, md_s18, ↓md_g19, ↓md_p19, ↓md_gA20, md_a20, md_s20, ↓md_g21, ↓md_p21, ↓md_gA22, md_a22, md_s22, ↓md_gA23, md_a23, md_s23, ↓md_gA24, md_a24, md_s24]
          subst h4
          rfl
        · simp (disch := omega) only [X3_isLease, X3_isIn, X3_told, X3_puts, X3_no, h1, h2, h3, h4, decide_true, decide_false, reduceIte, and_self, and_true, true_and, and_false, false_and, or_true, true_or, or_false, false_or, not_true_eq_false, not_false_eq_true, reduceCtorEq, mA_ss, mI_ss, ↓St_rc, ↓fn_B, ↓fn_nn_none, ↓fn_nn_some, rZ_0, rZ_1, rZ_b, b2_z, b2_1, b2_or, b2_or0, b2_or1, iI_add, iI_sub, iI_mul, iI_neg, lI_add, lI_sub, lI_mul, iI_lt, iI_le, iI_eq, iI_to64, lI_cmp_lt, lI_cmp_gt, lI_cmp_ge, lI_cmp_le, lI_cmp_eq, mA_s, mA_o, mI_s, mI_o, mB_s, mB_o, mA_I, mA_B, mA_T, mA_F, mI_A, mI_B, mI_T, mI_F, mB_A, mB_I, mB_T, mB_F, mT_A, mT_I, mT_B, mT_F, mF_A, mF_I, mF_B, mF_T, ↓md_gA0, md_a0, md_s0, ↓md_gA1, md_a1, md_s1, ↓md_gA2, md_a2, md_s2, ↓md_gA3, md_a3, md_s3, ↓md_gA4, md_a4, md_s4, ↓md_g5, ↓md_p5, ↓md_g6, ↓md_p6, ↓md_g7, ↓md_p7, ↓md_g8, ↓md_p8, ↓md_gA9, md_a9, md_s9, ↓md_gA10, md_a10, md_s10, ↓md_gA11, md_a11, md_s11, ↓md_gA12, md_a12, md_s12, ↓md_gA13, md_a13, md_s13, ↓md_g14, ↓md_p14, ↓md_g15, ↓md_p15, ↓md_g16, ↓md_p16, ↓md_gA17, md_a17, md_s17, ↓md_gA18, md_a18, md_s18, ↓md_g19, ↓md_p19, ↓md_gA20, md_a20, md_s20, ↓md_g21, ↓md_p21, ↓md_gA22, md_a22, md_s22, ↓md_gA23, md_a23, md_s23, ↓md_gA24, md_a24, md_s24]
          rfl
      · simp (disch := omega) only [X3_isLease, X3_isIn, X3_told, X3_puts, X3_no, h1, h2, h3, decide_true, decide_false, reduceIte, and_self, and_true, true_and, and_false, false_and, or_true, true_or, or_false, false_or, not_true_eq_false, not_false_eq_true, reduceCtorEq, mA_ss, mI_ss, ↓St_rc, ↓fn_B, ↓fn_nn_none, ↓fn_nn_some, rZ_0, rZ_1, rZ_b, b2_z, b2_1, b2_or, b2_or0, b2_or1, iI_add, iI_sub, iI_mul, iI_neg, lI_add, lI_sub, lI_mul, iI_lt, iI_le, iI_eq, iI_to64, lI_cmp_lt, lI_cmp_gt, lI_cmp_ge, lI_cmp_le, lI_cmp_eq, mA_s, mA_o, mI_s, mI_o, mB_s, mB_o, mA_I, mA_B, mA_T, mA_F, mI_A, mI_B, mI_T, mI_F, mB_A, mB_I, mB_T, mB_F, mT_A, mT_I, mT_B, mT_F, mF_A, mF_I, mF_B, mF_T, ↓md_gA0, md_a0, md_s0, ↓md_gA1, md_a1, md_s1, ↓md_gA2, md_a2, md_s2, ↓md_gA3, md_a3, md_s3, ↓md_gA4, md_a4, md_s4, ↓md_g5, ↓md_p5, ↓md_g6, ↓md_p6, ↓md_g7, ↓md_p7, ↓md_g8, ↓md_p8, ↓md_gA9, md_a9, md_s9, ↓md_gA10, md_a10, md_s10, ↓md_gA11, md_a11, md_s11, ↓md_gA12, md_a12, md_s12, ↓md_gA13, md_a13, md_s13, ↓md_g14, ↓md_p14, ↓md_g15, ↓md_p15, ↓md_g16, ↓md_p16, ↓md_gA17, md_a17, md_s17, ↓md_gA18, md_a18, md_s18, ↓md_g19, ↓md_p19, ↓md_gA20, md_a20, md_s20, ↓md_g21, ↓md_p21, ↓md_gA22, md_a22, md_s22, ↓md_gA23, md_a23, md_s23, ↓md_gA24, md_a24, md_s24]
        rfl
    · simp (disch := omega) only [X3_isLease, X3_isIn, X3_told, X3_puts, X3_no, h1, h2, decide_true, decide_false, reduceIte, and_self, and_true, true_and, and_false, false_and, or_true, true_or, or_false, false_or, not_true_eq_false, not_false_eq_true, reduceCtorEq, mA_ss, mI_ss, ↓St_rc, ↓fn_B, ↓fn_nn_none, ↓fn_nn_some, rZ_0, rZ_1, rZ_b, b2_z, b2_1, b2_or, b2_or0, b2_or1, iI_add, iI_sub, iI_mul, iI_neg, lI_add, lI_sub, lI_mul, iI_lt, iI_le, iI_eq, iI_to64, lI_cmp_lt, lI_cmp_gt, lI_cmp_ge, lI_cmp_le, lI_cmp_eq, mA_s, mA_o, mI_s, mI_o, mB_s, mB_o, mA_I, mA_B, mA_T, mA_F, mI_A, mI_B, mI_T, mI_F, mB_A, mB_I, mB_T, mB_F, mT_A, mT_I, mT_B, mT_F, mF_A, mF_I, mF_B, mF_T, ↓md_gA0, md_a0, md_s0, ↓md_gA1, md_a1, md_s1, ↓md_gA2, md_a2, md_s2, ↓md_gA3, md_a3, md_s3, ↓md_gA4, md_a4, md_s4, ↓md_g5, ↓md_p5, ↓md_g6, ↓md_p6, ↓md_g7, ↓md_p7, ↓md_g8, ↓md_p8, ↓md_gA9, md_a9, md_s9, ↓md_gA10, md_a10, md_s10, ↓md_gA11, md_a11, md_s11, ↓md_gA12, md_a12, md_s12, ↓md_gA13, md_a13, md_s13, ↓md_g14, ↓md_p14, ↓md_g15, ↓md_p15, ↓md_g16, ↓md_p16, ↓md_gA17, md_a17, md_s17, ↓md_gA18, md_a18, md_s18, ↓md_g19, ↓md_p19, ↓md_gA20, md_a20, md_s20, ↓md_g21, ↓md_p21, ↓md_gA22, md_a22, md_s22, ↓md_gA23, md_a23, md_s23, ↓md_gA24, md_a24, md_s24]
      rfl
  · simp (disch := omega) only [X3_isLease, X3_no, h1, decide_true, decide_false, reduceIte, and_self, and_true, true_and, and_false, false_and, or_true, true_or, or_false, false_or, not_true_eq_false, not_false_eq_true, reduceCtorEq, mA_ss, mI_ss, ↓St_rc, ↓fn_B, ↓fn_nn_none, ↓fn_nn_some, rZ_0, rZ_1, rZ_b, b2_z, b2_1, b2_or, b2_or0, b2_or1, iI_add, iI_sub, iI_mul, iI_neg, lI_add, lI_sub, lI_mul, iI_lt, iI_le, iI_eq, iI_to64, lI_cmp_lt, lI_cmp_gt, lI_cmp_ge, lI_cmp_le, lI_cmp_eq, mA_s, mA_o, mI_s, mI_o, mB_s, mB_o, mA_I, mA_B, mA_T, mA_F, mI_A, mI_B, mI_T, mI_F, mB_A, mB_I, mB_T, mB_F, mT_A, mT_I, mT_B, mT_F, mF_A, mF_I, mF_B, mF_T, ↓md_gA0, md_a0, md_s0, ↓md_gA1, md_a1, md_s1, ↓md_gA2, md_a2, md_s2, ↓md_gA3, md_a3, md_s3, ↓md_gA4, md_a4, md_s4, ↓md_g5, ↓md_p5, ↓md_g6, ↓md_p6, ↓md_g7, ↓md_p7, ↓md_g8, ↓md_p8, ↓md_gA9, md_a9, md_s9, ↓md_gA10, md_a10, md_s10, ↓md_gA11, md_a11, md_s11, ↓md_gA12, md_a12, md_s12, ↓md_gA13, md_a13, md_s13, ↓md_g14, ↓md_p14, ↓md_g15, ↓md_p15, ↓md_g16, ↓md_p16, ↓md_gA17, md_a17, md_s17, ↓md_gA18, md_a18, md_s18, ↓md_g19, ↓md_p19, ↓md_gA20, md_a20, md_s20, ↓md_g21, ↓md_p21, ↓md_gA22, md_a22, md_s22, ↓md_gA23, md_a23, md_s23, ↓md_gA24, md_a24, md_s24]
    rfl
theorem X3_tells (hv : okD (μ.1 0)) {m x : Int} (r1 : r32 m) (r2 : r32 x) : gX3_tells ρ b (iI m) (iI x) (St σ b μ) = some (iI (cTells (μ.1 0) m x).1, St σ b (cRes μ (cTells (μ.1 0) m x))) := by
  unfold gX3_tells cTells
  by_cases h1 : 0 ≤ m ∧ m ≤ 119
  · by_cases h2 : 100 ≤ x ∧ x ≤ 9999
    · simp (disch := omega) only [X3_isIn, X3_no, X3_indexOf hv, h1, h2, decide_true, decide_false, reduceIte, and_self, and_true, true_and, and_false, false_and, or_true, true_or, or_false, false_or, not_true_eq_false, not_false_eq_true, reduceCtorEq, mA_ss, mI_ss, ↓St_rc, ↓fn_B, ↓fn_nn_none, ↓fn_nn_some, rZ_0, rZ_1, rZ_b, b2_z, b2_1, b2_or, b2_or0, b2_or1, iI_add, iI_sub, iI_mul, iI_neg, lI_add, lI_sub, lI_mul, iI_lt, iI_le, iI_eq, iI_to64, lI_cmp_lt, lI_cmp_gt, lI_cmp_ge, lI_cmp_le, lI_cmp_eq, mA_s, mA_o, mI_s, mI_o, mB_s, mB_o, mA_I, mA_B, mA_T, mA_F, mI_A, mI_B, mI_T, mI_F, mB_A, mB_I, mB_T, mB_F, mT_A, mT_I, mT_B, mT_F, mF_A, mF_I, mF_B, mF_T, ↓md_gA0, md_a0, md_s0, ↓md_gA1, md_a1, md_s1, ↓md_gA2, md_a2, md_s2, ↓md_gA3, md_a3, md_s3, ↓md_gA4, md_a4, md_s4, ↓md_g5, ↓md_p5, ↓md_g6, ↓md_p6, ↓md_g7, ↓md_p7, ↓md_g8, ↓md_p8, ↓md_gA9, md_a9, md_s9, ↓md_gA10, md_a10, md_s10, ↓md_gA11, md_a11, md_s11, ↓md_gA12, md_a12, md_s12, ↓md_gA13, md_a13, md_s13, ↓md_g14, ↓md_p14, ↓md_g15, ↓md_p15, ↓md_g16, ↓md_p16, ↓md_gA17, md_a17, md_s17, ↓md_gA18, md_a18, md_s18, ↓md_g19, ↓md_p19, ↓md_gA20, md_a20, md_s20, ↓md_g21, ↓md_p21, ↓md_gA22, md_a22, md_s22, ↓md_gA23, md_a23, md_s23, ↓md_gA24, md_a24, md_s24]
      rfl
    · simp (disch := omega) only [X3_isIn, X3_no, h1, h2, decide_true, decide_false, reduceIte, and_self, and_true, true_and, and_false, false_and, or_true, true_or, or_false, false_or, not_true_eq_false, not_false_eq_true, reduceCtorEq, mA_ss, mI_ss, ↓St_rc, ↓fn_B, ↓fn_nn_none, ↓fn_nn_some, rZ_0, rZ_1, rZ_b, b2_z, b2_1, b2_or, b2_or0, b2_or1, iI_add, iI_sub, iI_mul, iI_neg, lI_add, lI_sub, lI_mul, iI_lt, iI_le, iI_eq, iI_to64, lI_cmp_lt, lI_cmp_gt, lI_cmp_ge, lI_cmp_le, lI_cmp_eq, mA_s, mA_o, mI_s, mI_o, mB_s, mB_o, mA_I, mA_B, mA_T, mA_F, mI_A, mI_B, mI_T, mI_F, mB_A, mB_I, mB_T, mB_F, mT_A, mT_I, mT_B, mT_F, mF_A, mF_I, mF_B, mF_T, ↓md_gA0, md_a0, md_s0, ↓md_gA1, md_a1, md_s1, ↓md_gA2, md_a2, md_s2, ↓md_gA3, md_a3, md_s3, ↓md_gA4, md_a4, md_s4, ↓md_g5, ↓md_p5, ↓md_g6, ↓md_p6, ↓md_g7, ↓md_p7, ↓md_g8, ↓md_p8, ↓md_gA9, md_a9, md_s9, ↓md_gA10, md_a10, md_s10, ↓md_gA11, md_a11, md_s11, ↓md_gA12, md_a12, md_s12, ↓md_gA13, md_a13, md_s13, ↓md_g14, ↓md_p14, ↓md_g15, ↓md_p15, ↓md_g16, ↓md_p16, ↓md_gA17, md_a17, md_s17, ↓md_gA18, md_a18, md_s18, ↓md_g19, ↓md_p19, ↓md_gA20, md_a20, md_s20, ↓md_g21, ↓md_p21, ↓md_gA22, md_a22, md_s22, ↓md_gA23, md_a23, md_s23, ↓md_gA24, md_a24, md_s24]
      rfl
  · simp (disch := omega) only [X3_isIn, X3_no, h1, decide_true, decide_false, reduceIte, and_self, and_true, true_and, and_false, false_and, or_true, true_or, or_false, false_or, not_true_eq_false, not_false_eq_true, reduceCtorEq, mA_ss, mI_ss, ↓St_rc, ↓fn_B, ↓fn_nn_none, ↓fn_nn_some, rZ_0, rZ_1, rZ_b, b2_z, b2_1, b2_or, b2_or0, b2_or1, iI_add, iI_sub, iI_mul, iI_neg, lI_add, lI_sub, lI_mul, iI_lt, iI_le, iI_eq, iI_to64, lI_cmp_lt, lI_cmp_gt, lI_cmp_ge, lI_cmp_le, lI_cmp_eq, mA_s, mA_o, mI_s, mI_o, mB_s, mB_o, mA_I, mA_B, mA_T, mA_F, mI_A, mI_B, mI_T, mI_F, mB_A, mB_I, mB_T, mB_F, mT_A, mT_I, mT_B, mT_F, mF_A, mF_I, mF_B, mF_T, ↓md_gA0, md_a0, md_s0, ↓md_gA1, md_a1, md_s1, ↓md_gA2, md_a2, md_s2, ↓md_gA3, md_a3, md_s3, ↓md_gA4, md_a4, md_s4, ↓md_g5, ↓md_p5, ↓md_g6, ↓md_p6, ↓md_g7, ↓md_p7, ↓md_g8, ↓md_p8, ↓md_gA9, md_a9, md_s9, ↓md_gA10, md_a10, md_s10, ↓md_gA11, md_a11, md_s11, ↓md_gA12, md_a12, md_s12, ↓md_gA13, md_a13, md_s13, ↓md_g14, ↓md_p14, ↓md_g15, ↓md_p15, ↓md_g16, ↓md_p16, ↓md_gA17, md_a17, md_s17, ↓md_gA18, md_a18, md_s18, ↓md_g19, ↓md_p19, ↓md_gA20, md_a20, md_s20, ↓md_g21, ↓md_p21, ↓md_gA22, md_a22, md_s22, ↓md_gA23, md_a23, md_s23, ↓md_gA24, md_a24, md_s24]
    rfl
theorem X3_faults (hv : okD (μ.1 0)) {l x y : Int} (r1 : r32 l) (r2 : r32 x) (r3 : r32 y) : gX3_faults ρ b (iI l) (iI x) (iI y) (St σ b μ) = some (iI (cFaults (μ.1 0) l x y).1, St σ b (cRes μ (cFaults (μ.1 0) l x y))) := by
  have h0 := hv.1
  have h9 := hv.2.1
  unfold gX3_faults cFaults
  by_cases h1 : 0 ≤ l ∧ l < μ.1 0 0
  · by_cases h2 : 0 ≤ x ∧ x ≤ 3599
    · by_cases h3 : 1 ≤ y ∧ y ≤ 100
      · by_cases h4 : μ.1 0 81 = 12
        · simp (disch := omega) only [X3_isLease, X3_isIn, X3_isDay, X3_no, h1, h2, h3, h4, decide_true, decide_false, reduceIte, and_self, and_true, true_and, and_false, false_and, or_true, true_or, or_false, false_or, not_true_eq_false, not_false_eq_true, reduceCtorEq, mA_ss, mI_ss, ↓St_rc, ↓fn_B, ↓fn_nn_none, ↓fn_nn_some, rZ_0, rZ_1, rZ_b, b2_z, b2_1, b2_or, b2_or0, b2_or1, iI_add, iI_sub, iI_mul, iI_neg, lI_add, lI_sub, lI_mul, iI_lt, iI_le, iI_eq, iI_to64, lI_cmp_lt, lI_cmp_gt, lI_cmp_ge, lI_cmp_le, lI_cmp_eq, mA_s, mA_o, mI_s, mI_o, mB_s, mB_o, mA_I, mA_B, mA_T, mA_F, mI_A, mI_B, mI_T, mI_F, mB_A, mB_I, mB_T, mB_F, mT_A, mT_I, mT_B, mT_F, mF_A, mF_I, mF_B, mF_T, ↓md_gA0, md_a0, md_s0, ↓md_gA1, md_a1, md_s1, ↓md_gA2, md_a2, md_s2, ↓md_gA3, md_a3, md_s3, ↓md_gA4, md_a4, md_s4, ↓md_g5, ↓md_p5, ↓md_g6, ↓md_p6, ↓md_g7, ↓md_p7, ↓md_g8, ↓md_p8, ↓md_gA9, md_a9, md_s9, ↓md_gA10, md_a10, md_s10, ↓md_gA11, md_a11, md_s11, ↓md_gA12, md_a12, md_s12, ↓md_gA13, md_a13, md_s13, ↓md_g14, ↓md_p14, ↓md_g15, ↓md_p15, ↓md_g16, ↓md_p16, ↓md_gA17, md_a17, md_s17, ↓md_gA18, md_a18, md_s18, ↓md_g19, ↓md_p19, ↓md_gA20, md_a20, md_s20, ↓md_g21, ↓md_p21, ↓md_gA22, md_a22, md_s22, ↓md_gA23, md_a23, md_s23, ↓md_gA24, md_a24, md_s24]
          rfl
        · simp (disch := omega) only [X3_isLease, X3_isIn, X3_isDay, X3_no, h1, h2, h3, h4, decide_true, decide_false, reduceIte, and_self, and_true, true_and, and_false, false_and, or_true, true_or, or_false, false_or, not_true_eq_false, not_false_eq_true, reduceCtorEq, mA_ss, mI_ss, ↓St_rc, ↓fn_B, ↓fn_nn_none, ↓fn_nn_some, rZ_0, rZ_1, rZ_b, b2_z, b2_1, b2_or, b2_or0, b2_or1, iI_add, iI_sub, iI_mul, iI_neg, lI_add, lI_sub, lI_mul, iI_lt, iI_le, iI_eq, iI_to64, lI_cmp_lt, lI_cmp_gt, lI_cmp_ge, lI_cmp_le, lI_cmp_eq, mA_s, mA_o, mI_s, mI_o, mB_s, mB_o, mA_I, mA_B, mA_T, mA_F, mI_A, mI_B, mI_T, mI_F, mB_A, mB_I, mB_T, mB_F, mT_A, mT_I, mT_B, mT_F, mF_A, mF_I, mF_B, mF_T, ↓md_gA0, md_a0, md_s0, ↓md_gA1, md_a1, md_s1, ↓md_gA2, md_a2, md_s2, ↓md_gA3, md_a3, md_s3, ↓md_gA4, md_a4, md_s4, ↓md_g5, ↓md_p5, ↓md_g6, ↓md_p6, ↓md_g7, ↓md_p7, ↓md_g8, ↓md_p8, ↓md_gA9, md_a9, md_s9, ↓md_gA10, md_a10, md_s10, ↓md_gA11, md_a11, md_s11, ↓md_gA12, md_a12, md_s12, ↓md_gA13, md_a13, md_s13, ↓md_g14, ↓md_p14, ↓md_g15, ↓md_p15, ↓md_g16, ↓md_p16, ↓md_gA17, md_a17, md_s17, ↓md_gA18, md_a18, md_s18, ↓md_g19, ↓md_p19, ↓md_gA20, md_a20, md_s20, ↓md_g21, ↓md_p21, ↓md_gA22, md_a22, md_s22, ↓md_gA23, md_a23, md_s23, ↓md_gA24, md_a24, md_s24]
          rw [uI_s, uI_o _ (by omega), uI_o _ (by omega), uI_o _ (by omega), uI_o _ (by omega), Int.add_sub_cancel]
          rfl
      · simp (disch := omega) only [X3_isLease, X3_isIn, X3_isDay, X3_no, h1, h2, h3, decide_true, decide_false, reduceIte, and_self, and_true, true_and, and_false, false_and, or_true, true_or, or_false, false_or, not_true_eq_false, not_false_eq_true, reduceCtorEq, mA_ss, mI_ss, ↓St_rc, ↓fn_B, ↓fn_nn_none, ↓fn_nn_some, rZ_0, rZ_1, rZ_b, b2_z, b2_1, b2_or, b2_or0, b2_or1, iI_add, iI_sub, iI_mul, iI_neg, lI_add, lI_sub, lI_mul, iI_lt, iI_le, iI_eq, iI_to64, lI_cmp_lt, lI_cmp_gt, lI_cmp_ge, lI_cmp_le, lI_cmp_eq, mA_s, mA_o, mI_s, mI_o, mB_s, mB_o, mA_I, mA_B, mA_T, mA_F, mI_A, mI_B, mI_T, mI_F, mB_A, mB_I, mB_T, mB_F, mT_A, mT_I, mT_B, mT_F, mF_A, mF_I, mF_B, mF_T, ↓md_gA0, md_a0, md_s0, ↓md_gA1, md_a1, md_s1, ↓md_gA2, md_a2, md_s2, ↓md_gA3, md_a3, md_s3, ↓md_gA4, md_a4, md_s4, ↓md_g5, ↓md_p5, ↓md_g6, ↓md_p6, ↓md_g7, ↓md_p7, ↓md_g8, ↓md_p8, ↓md_gA9, md_a9, md_s9, ↓md_gA10, md_a10, md_s10, ↓md_gA11, md_a11, md_s11, ↓md_gA12, md_a12, md_s12, ↓md_gA13, md_a13, md_s13, ↓md_g14, ↓md_p14, ↓md_g15, ↓md_p15, ↓md_g16, ↓md_p16, ↓md_gA17, md_a17, md_s17, ↓md_gA18, md_a18, md_s18, ↓md_g19, ↓md_p19, ↓md_gA20, md_a20, md_s20, ↓md_g21, ↓md_p21, ↓md_gA22, md_a22, md_s22, ↓md_gA23, md_a23, md_s23, ↓md_gA24, md_a24, md_s24]
        rfl
    · simp (disch := omega) only [X3_isLease, X3_isIn, X3_isDay, X3_no, h1, h2, decide_true, decide_false, reduceIte, and_self, and_true, true_and, and_false, false_and, or_true, true_or, or_false, false_or, not_true_eq_false, not_false_eq_true, reduceCtorEq, mA_ss, mI_ss, ↓St_rc, ↓fn_B, ↓fn_nn_none, ↓fn_nn_some, rZ_0, rZ_1, rZ_b, b2_z, b2_1, b2_or, b2_or0, b2_or1, iI_add, iI_sub, iI_mul, iI_neg, lI_add, lI_sub, lI_mul, iI_lt, iI_le, iI_eq, iI_to64, lI_cmp_lt, lI_cmp_gt, lI_cmp_ge, lI_cmp_le, lI_cmp_eq, mA_s, mA_o, mI_s, mI_o, mB_s, mB_o, mA_I, mA_B, mA_T, mA_F, mI_A, mI_B, mI_T, mI_F, mB_A, mB_I, mB_T, mB_F, mT_A, mT_I, mT_B, mT_F, mF_A, mF_I, mF_B, mF_T, ↓md_gA0, md_a0, md_s0, ↓md_gA1, md_a1, md_s1, ↓md_gA2, md_a2, md_s2, ↓md_gA3, md_a3, md_s3, ↓md_gA4, md_a4, md_s4, ↓md_g5, ↓md_p5, ↓md_g6, ↓md_p6, ↓md_g7, ↓md_p7, ↓md_g8, ↓md_p8, ↓md_gA9, md_a9, md_s9, ↓md_gA10, md_a10, md_s10, ↓md_gA11, md_a11, md_s11, ↓md_gA12, md_a12, md_s12, ↓md_gA13, md_a13, md_s13, ↓md_g14, ↓md_p14, ↓md_g15, ↓md_p15, ↓md_g16, ↓md_p16, ↓md_gA17, md_a17, md_s17, ↓md_gA18, md_a18, md_s18, ↓md_g19, ↓md_p19, ↓md_gA20, md_a20, md_s20, ↓md_g21, ↓md_p21, ↓md_gA22, md_a22, md_s22, ↓md_gA23, md_a23, md_s23, ↓md_gA24, md_a24, md_s24]
      rfl
  · simp (disch := omega) only [X3_isLease, X3_no, h1, decide_true, decide_false, reduceIte, and_self, and_true, true_and, and_false, false_and, or_true, true_or, or_false, false_or, not_true_eq_false, not_false_eq_true, reduceCtorEq, mA_ss, mI_ss, ↓St_rc, ↓fn_B, ↓fn_nn_none, ↓fn_nn_some, rZ_0, rZ_1, rZ_b, b2_z, b2_1, b2_or, b2_or0, b2_or1, iI_add, iI_sub, iI_mul, iI_neg, lI_add, lI_sub, lI_mul, iI_lt, iI_le, iI_eq, iI_to64, lI_cmp_lt, lI_cmp_gt, lI_cmp_ge, lI_cmp_le, lI_cmp_eq, mA_s, mA_o, mI_s, mI_o, mB_s, mB_o, mA_I, mA_B, mA_T, mA_F, mI_A, mI_B, mI_T, mI_F, mB_A, mB_I, mB_T, mB_F, mT_A, mT_I, mT_B, mT_F, mF_A, mF_I, mF_B, mF_T, ↓md_gA0, md_a0, md_s0, ↓md_gA1, md_a1, md_s1, ↓md_gA2, md_a2, md_s2, ↓md_gA3, md_a3, md_s3, ↓md_gA4, md_a4, md_s4, ↓md_g5, ↓md_p5, ↓md_g6, ↓md_p6, ↓md_g7, ↓md_p7, ↓md_g8, ↓md_p8, ↓md_gA9, md_a9, md_s9, ↓md_gA10, md_a10, md_s10, ↓md_gA11, md_a11, md_s11, ↓md_gA12, md_a12, md_s12, ↓md_gA13, md_a13, md_s13, ↓md_g14, ↓md_p14, ↓md_g15, ↓md_p15, ↓md_g16, ↓md_p16, ↓md_gA17, md_a17, md_s17, ↓md_gA18, md_a18, md_s18, ↓md_g19, ↓md_p19, ↓md_gA20, md_a20, md_s20, ↓md_g21, ↓md_p21, ↓md_gA22, md_a22, md_s22, ↓md_gA23, md_a23, md_s23, ↓md_gA24, md_a24, md_s24]
    rfl
theorem X3_mends (hv : okD (μ.1 0)) {d day : Int} (r1 : r32 d) (r2 : r32 day) : gX3_mends ρ b (iI d) (iI day) (St σ b μ) = some (iI (cMends (μ.1 0) d day).1, St σ b (cRes μ (cMends (μ.1 0) d day))) := by
  have h9 := hv.2.1
  unfold gX3_mends cMends
  by_cases h1 : 0 ≤ day ∧ day ≤ 3599
  · by_cases h2 : 0 ≤ d ∧ d ≤ μ.1 0 81 - 1
    · obtain ⟨-, -, k1, k2⟩ := hv.2.2.2.2.2.1 d h2.1 (by omega)
      by_cases h3 : μ.1 0 (82 + 4 * d + 3) = 1000000
      · by_cases h4 : μ.1 0 (82 + 4 * d + 2) ≤ day
        · simp (disch := omega) only [X3_isIn, X3_isDay, X3_no, h1, h2, h3, h4, decide_true, decide_false, reduceIte, and_self, and_true, true_and, and_false, false_and, or_true, true_or, or_false, false_or, not_true_eq_false, not_false_eq_true, reduceCtorEq, mA_ss, mI_ss, ↓St_rc, ↓fn_B, ↓fn_nn_none, ↓fn_nn_some, rZ_0, rZ_1, rZ_b, b2_z, b2_1, b2_or, b2_or0, b2_or1, iI_add, iI_sub, iI_mul, iI_neg, lI_add, lI_sub, lI_mul, iI_lt, iI_le, iI_eq, iI_to64, lI_cmp_lt, lI_cmp_gt, lI_cmp_ge, lI_cmp_le, lI_cmp_eq, mA_s, mA_o, mI_s, mI_o, mB_s, mB_o, mA_I, mA_B, mA_T, mA_F, mI_A, mI_B, mI_T, mI_F, mB_A, mB_I, mB_T, mB_F, mT_A, mT_I, mT_B, mT_F, mF_A, mF_I, mF_B, mF_T, ↓md_gA0, md_a0, md_s0, ↓md_gA1, md_a1, md_s1, ↓md_gA2, md_a2, md_s2, ↓md_gA3, md_a3, md_s3, ↓md_gA4, md_a4, md_s4, ↓md_g5, ↓md_p5, ↓md_g6, ↓md_p6, ↓md_g7, ↓md_p7, ↓md_g8, ↓md_p8, ↓md_gA9, md_a9, md_s9, ↓md_gA10, md_a10, md_s10, ↓md_gA11, md_a11, md_s11, ↓md_gA12, md_a12, md_s12, ↓md_gA13, md_a13, md_s13, ↓md_g14, ↓md_p14, ↓md_g15, ↓md_p15, ↓md_g16, ↓md_p16, ↓md_gA17, md_a17, md_s17, ↓md_gA18, md_a18, md_s18, ↓md_g19, ↓md_p19, ↓md_gA20, md_a20, md_s20, ↓md_g21, ↓md_p21, ↓md_gA22, md_a22, md_s22, ↓md_gA23, md_a23, md_s23, ↓md_gA24, md_a24, md_s24]
          rw [uI_o _ (by omega)]
          rfl
        · simp (disch := omega) only [X3_isIn, X3_isDay, X3_no, h1, h2, h3, h4, decide_true, decide_false, reduceIte, and_self, and_true, true_and, and_false, false_and, or_true, true_or, or_false, false_or, not_true_eq_false, not_false_eq_true, reduceCtorEq, mA_ss, mI_ss, ↓St_rc, ↓fn_B, ↓fn_nn_none, ↓fn_nn_some, rZ_0, rZ_1, rZ_b, b2_z, b2_1, b2_or, b2_or0, b2_or1, iI_add, iI_sub, iI_mul, iI_neg, lI_add, lI_sub, lI_mul, iI_lt, iI_le, iI_eq, iI_to64, lI_cmp_lt, lI_cmp_gt, lI_cmp_ge, lI_cmp_le, lI_cmp_eq, mA_s, mA_o, mI_s, mI_o, mB_s, mB_o, mA_I, mA_B, mA_T, mA_F, mI_A, mI_B, mI_T, mI_F, mB_A, mB_I, mB_T, mB_F, mT_A, mT_I, mT_B, mT_F, mF_A, mF_I, mF_B, mF_T, ↓md_gA0, md_a0, md_s0, ↓md_gA1, md_a1, md_s1, ↓md_gA2, md_a2, md_s2, ↓md_gA3, md_a3, md_s3, ↓md_gA4, md_a4, md_s4, ↓md_g5, ↓md_p5, ↓md_g6, ↓md_p6, ↓md_g7, ↓md_p7, ↓md_g8, ↓md_p8, ↓md_gA9, md_a9, md_s9, ↓md_gA10, md_a10, md_s10, ↓md_gA11, md_a11, md_s11, ↓md_gA12, md_a12, md_s12, ↓md_gA13, md_a13, md_s13, ↓md_g14, ↓md_p14, ↓md_g15, ↓md_p15, ↓md_g16, ↓md_p16, ↓md_gA17, md_a17, md_s17, ↓md_gA18, md_a18, md_s18, ↓md_g19, ↓md_p19, ↓md_gA20, md_a20, md_s20, ↓md_g21, ↓md_p21, ↓md_gA22, md_a22, md_s22, ↓md_gA23, md_a23, md_s23, ↓md_gA24, md_a24, md_s24]
          rfl
      · simp (disch := omega) only [X3_isIn, X3_isDay, X3_no, h1, h2, h3, decide_true, decide_false, reduceIte, and_self, and_true, true_and, and_false, false_and, or_true, true_or, or_false, false_or, not_true_eq_false, not_false_eq_true, reduceCtorEq, mA_ss, mI_ss, ↓St_rc, ↓fn_B, ↓fn_nn_none, ↓fn_nn_some, rZ_0, rZ_1, rZ_b, b2_z, b2_1, b2_or, b2_or0, b2_or1, iI_add, iI_sub, iI_mul, iI_neg, lI_add, lI_sub, lI_mul, iI_lt, iI_le, iI_eq, iI_to64, lI_cmp_lt, lI_cmp_gt, lI_cmp_ge, lI_cmp_le, lI_cmp_eq, mA_s, mA_o, mI_s, mI_o, mB_s, mB_o, mA_I, mA_B, mA_T, mA_F, mI_A, mI_B, mI_T, mI_F, mB_A, mB_I, mB_T, mB_F, mT_A, mT_I, mT_B, mT_F, mF_A, mF_I, mF_B, mF_T, ↓md_gA0, md_a0, md_s0, ↓md_gA1, md_a1, md_s1, ↓md_gA2, md_a2, md_s2, ↓md_gA3, md_a3, md_s3, ↓md_gA4, md_a4, md_s4, ↓md_g5, ↓md_p5, ↓md_g6, ↓md_p6, ↓md_g7, ↓md_p7, ↓md_g8, ↓md_p8, ↓md_gA9, md_a9, md_s9, ↓md_gA10, md_a10, md_s10, ↓md_gA11, md_a11, md_s11, ↓md_gA12, md_a12, md_s12, ↓md_gA13, md_a13, md_s13, ↓md_g14, ↓md_p14, ↓md_g15, ↓md_p15, ↓md_g16, ↓md_p16, ↓md_gA17, md_a17, md_s17, ↓md_gA18, md_a18, md_s18, ↓md_g19, ↓md_p19, ↓md_gA20, md_a20, md_s20, ↓md_g21, ↓md_p21, ↓md_gA22, md_a22, md_s22, ↓md_gA23, md_a23, md_s23, ↓md_gA24, md_a24, md_s24]
        rfl
    · simp (disch := omega) only [X3_isIn, X3_isDay, X3_no, h1, h2, decide_true, decide_false, reduceIte, and_self, and_true, true_and, and_false, false_and, or_true, true_or, or_false, false_or, not_true_eq_false, not_false_eq_true, reduceCtorEq, mA_ss, mI_ss, ↓St_rc, ↓fn_B, ↓fn_nn_none, ↓fn_nn_some, rZ_0, rZ_1, rZ_b, b2_z, b2_1, b2_or, b2_or0, b2_or1, iI_add, iI_sub, iI_mul, iI_neg, lI_add, lI_sub, lI_mul, iI_lt, iI_le, iI_eq, iI_to64, lI_cmp_lt, lI_cmp_gt, lI_cmp_ge, lI_cmp_le, lI_cmp_eq, mA_s, mA_o, mI_s, mI_o, mB_s, mB_o, mA_I, mA_B, mA_T, mA_F, mI_A, mI_B, mI_T, mI_F, mB_A, mB_I, mB_T, mB_F, mT_A, mT_I, mT_B, mT_F, mF_A, mF_I, mF_B, mF_T, ↓md_gA0, md_a0, md_s0, ↓md_gA1, md_a1, md_s1, ↓md_gA2, md_a2, md_s2, ↓md_gA3, md_a3, md_s3, ↓md_gA4, md_a4, md_s4, ↓md_g5, ↓md_p5, ↓md_g6, ↓md_p6, ↓md_g7, ↓md_p7, ↓md_g8, ↓md_p8, ↓md_gA9, md_a9, md_s9, ↓md_gA10, md_a10, md_s10, ↓md_gA11, md_a11, md_s11, ↓md_gA12, md_a12, md_s12, ↓md_gA13, md_a13, md_s13, ↓md_g14, ↓md_p14, ↓md_g15, ↓md_p15, ↓md_g16, ↓md_p16, ↓md_gA17, md_a17, md_s17, ↓md_gA18, md_a18, md_s18, ↓md_g19, ↓md_p19, ↓md_gA20, md_a20, md_s20, ↓md_g21, ↓md_p21, ↓md_gA22, md_a22, md_s22, ↓md_gA23, md_a23, md_s23, ↓md_gA24, md_a24, md_s24]
      rfl
  · simp (disch := omega) only [X3_isDay, X3_no, h1, decide_true, decide_false, reduceIte, and_self, and_true, true_and, and_false, false_and, or_true, true_or, or_false, false_or, not_true_eq_false, not_false_eq_true, reduceCtorEq, mA_ss, mI_ss, ↓St_rc, ↓fn_B, ↓fn_nn_none, ↓fn_nn_some, rZ_0, rZ_1, rZ_b, b2_z, b2_1, b2_or, b2_or0, b2_or1, iI_add, iI_sub, iI_mul, iI_neg, lI_add, lI_sub, lI_mul, iI_lt, iI_le, iI_eq, iI_to64, lI_cmp_lt, lI_cmp_gt, lI_cmp_ge, lI_cmp_le, lI_cmp_eq, mA_s, mA_o, mI_s, mI_o, mB_s, mB_o, mA_I, mA_B, mA_T, mA_F, mI_A, mI_B, mI_T, mI_F, mB_A, mB_I, mB_T, mB_F, mT_A, mT_I, mT_B, mT_F, mF_A, mF_I, mF_B, mF_T, ↓md_gA0, md_a0, md_s0, ↓md_gA1, md_a1, md_s1, ↓md_gA2, md_a2, md_s2, ↓md_gA3, md_a3, md_s3, ↓md_gA4, md_a4, md_s4, ↓md_g5, ↓md_p5, ↓md_g6, ↓md_p6, ↓md_g7, ↓md_p7, ↓md_g8, ↓md_p8, ↓md_gA9, md_a9, md_s9, ↓md_gA10, md_a10, md_s10, ↓md_gA11, md_a11, md_s11, ↓md_gA12, md_a12, md_s12, ↓md_gA13, md_a13, md_s13, ↓md_g14, ↓md_p14, ↓md_g15, ↓md_p15, ↓md_g16, ↓md_p16, ↓md_gA17, md_a17, md_s17, ↓md_gA18, md_a18, md_s18, ↓md_g19, ↓md_p19, ↓md_gA20, md_a20, md_s20, ↓md_g21, ↓md_p21, ↓md_gA22, md_a22, md_s22, ↓md_gA23, md_a23, md_s23, ↓md_gA24, md_a24, md_s24]
    rfl
theorem X3_pays (hv : okD (μ.1 0)) {l x y : Int} (r1 : r32 l) (r2 : r32 x) (r3 : r32 y) : gX3_pays ρ b (iI l) (iI x) (iI y) (St σ b μ) = some (iI (cPays (μ.1 0) l x y).1, St σ b (cRes μ (cPays (μ.1 0) l x y))) := by
  have h0 := hv.1
  have h9 := hv.2.2.1
  unfold gX3_pays cPays
  by_cases h1 : 0 ≤ l ∧ l < μ.1 0 0
  · by_cases h2 : 0 ≤ x ∧ x ≤ 3599
    · by_cases h3 : 1 ≤ y ∧ y ≤ 9999999
      · by_cases h4 : μ.1 0 130 = 24
        · simp (disch := omega) only [X3_isLease, X3_isIn, X3_isDay, X3_no, h1, h2, h3, h4, decide_true, decide_false, reduceIte, and_self, and_true, true_and, and_false, false_and, or_true, true_or, or_false, false_or, not_true_eq_false, not_false_eq_true, reduceCtorEq, mA_ss, mI_ss, ↓St_rc, ↓fn_B, ↓fn_nn_none, ↓fn_nn_some, rZ_0, rZ_1, rZ_b, b2_z, b2_1, b2_or, b2_or0, b2_or1, iI_add, iI_sub, iI_mul, iI_neg, lI_add, lI_sub, lI_mul, iI_lt, iI_le, iI_eq, iI_to64, lI_cmp_lt, lI_cmp_gt, lI_cmp_ge, lI_cmp_le, lI_cmp_eq, mA_s, mA_o, mI_s, mI_o, mB_s, mB_o, mA_I, mA_B, mA_T, mA_F, mI_A, mI_B, mI_T, mI_F, mB_A, mB_I, mB_T, mB_F, mT_A, mT_I, mT_B, mT_F, mF_A, mF_I, mF_B, mF_T, ↓md_gA0, md_a0, md_s0, ↓md_gA1, md_a1, md_s1, ↓md_gA2, md_a2, md_s2, ↓md_gA3, md_a3, md_s3, ↓md_gA4, md_a4, md_s4, ↓md_g5, ↓md_p5, ↓md_g6, ↓md_p6, ↓md_g7, ↓md_p7, ↓md_g8, ↓md_p8, ↓md_gA9, md_a9, md_s9, ↓md_gA10, md_a10, md_s10, ↓md_gA11, md_a11, md_s11, ↓md_gA12, md_a12, md_s12, ↓md_gA13, md_a13, md_s13, ↓md_g14, ↓md_p14, ↓md_g15, ↓md_p15, ↓md_g16, ↓md_p16, ↓md_gA17, md_a17, md_s17, ↓md_gA18, md_a18, md_s18, ↓md_g19, ↓md_p19, ↓md_gA20, md_a20, md_s20, ↓md_g21, ↓md_p21, ↓md_gA22, md_a22, md_s22, ↓md_gA23, md_a23, md_s23, ↓md_gA24, md_a24, md_s24]
          rfl
        · simp (disch := omega) only [X3_isLease, X3_isIn, X3_isDay, X3_no, h1, h2, h3, h4, decide_true, decide_false, reduceIte, and_self, and_true, true_and, and_false, false_and, or_true, true_or, or_false, false_or, not_true_eq_false, not_false_eq_true, reduceCtorEq, mA_ss, mI_ss, ↓St_rc, ↓fn_B, ↓fn_nn_none, ↓fn_nn_some, rZ_0, rZ_1, rZ_b, b2_z, b2_1, b2_or, b2_or0, b2_or1, iI_add, iI_sub, iI_mul, iI_neg, lI_add, lI_sub, lI_mul, iI_lt, iI_le, iI_eq, iI_to64, lI_cmp_lt, lI_cmp_gt, lI_cmp_ge, lI_cmp_le, lI_cmp_eq, mA_s, mA_o, mI_s, mI_o, mB_s, mB_o, mA_I, mA_B, mA_T, mA_F, mI_A, mI_B, mI_T, mI_F, mB_A, mB_I, mB_T, mB_F, mT_A, mT_I, mT_B, mT_F, mF_A, mF_I, mF_B, mF_T, ↓md_gA0, md_a0, md_s0, ↓md_gA1, md_a1, md_s1, ↓md_gA2, md_a2, md_s2, ↓md_gA3, md_a3, md_s3, ↓md_gA4, md_a4, md_s4, ↓md_g5, ↓md_p5, ↓md_g6, ↓md_p6, ↓md_g7, ↓md_p7, ↓md_g8, ↓md_p8, ↓md_gA9, md_a9, md_s9, ↓md_gA10, md_a10, md_s10, ↓md_gA11, md_a11, md_s11, ↓md_gA12, md_a12, md_s12, ↓md_gA13, md_a13, md_s13, ↓md_g14, ↓md_p14, ↓md_g15, ↓md_p15, ↓md_g16, ↓md_p16, ↓md_gA17, md_a17, md_s17, ↓md_gA18, md_a18, md_s18, ↓md_g19, ↓md_p19, ↓md_gA20, md_a20, md_s20, ↓md_g21, ↓md_p21, ↓md_gA22, md_a22, md_s22, ↓md_gA23, md_a23, md_s23, ↓md_gA24, md_a24, md_s24]
          rw [uI_s, uI_o _ (by omega), uI_o _ (by omega), uI_o _ (by omega)]
          rfl
      · simp (disch := omega) only [X3_isLease, X3_isIn, X3_isDay, X3_no, h1, h2, h3, decide_true, decide_false, reduceIte, and_self, and_true, true_and, and_false, false_and, or_true, true_or, or_false, false_or, not_true_eq_false, not_false_eq_true, reduceCtorEq, mA_ss, mI_ss, ↓St_rc, ↓fn_B, ↓fn_nn_none, ↓fn_nn_some, rZ_0, rZ_1, rZ_b, b2_z, b2_1, b2_or, b2_or0, b2_or1, iI_add, iI_sub, iI_mul, iI_neg, lI_add, lI_sub, lI_mul, iI_lt, iI_le, iI_eq, iI_to64, lI_cmp_lt, lI_cmp_gt, lI_cmp_ge, lI_cmp_le, lI_cmp_eq, mA_s, mA_o, mI_s, mI_o, mB_s, mB_o, mA_I, mA_B, mA_T, mA_F, mI_A, mI_B, mI_T, mI_F, mB_A, mB_I, mB_T, mB_F, mT_A, mT_I, mT_B, mT_F, mF_A, mF_I, mF_B, mF_T, ↓md_gA0, md_a0, md_s0, ↓md_gA1, md_a1, md_s1, ↓md_gA2, md_a2, md_s2, ↓md_gA3, md_a3, md_s3, ↓md_gA4, md_a4, md_s4, ↓md_g5, ↓md_p5, ↓md_g6, ↓md_p6, ↓md_g7, ↓md_p7, ↓md_g8, ↓md_p8, ↓md_gA9, md_a9, md_s9, ↓md_gA10, md_a10, md_s10, ↓md_gA11, md_a11, md_s11, ↓md_gA12, md_a12, md_s12, ↓md_gA13, md_a13, md_s13, ↓md_g14, ↓md_p14, ↓md_g15, ↓md_p15, ↓md_g16, ↓md_p16, ↓md_gA17, md_a17, md_s17, ↓md_gA18, md_a18, md_s18, ↓md_g19, ↓md_p19, ↓md_gA20, md_a20, md_s20, ↓md_g21, ↓md_p21, ↓md_gA22, md_a22, md_s22, ↓md_gA23, md_a23, md_s23, ↓md_gA24, md_a24, md_s24]
        rfl
    · simp (disch := omega) only [X3_isLease, X3_isIn, X3_isDay, X3_no, h1, h2, decide_true, decide_false, reduceIte, and_self, and_true, true_and, and_false, false_and, or_true, true_or, or_false, false_or, not_true_eq_false, not_false_eq_true, reduceCtorEq, mA_ss, mI_ss, ↓St_rc, ↓fn_B, ↓fn_nn_none, ↓fn_nn_some, rZ_0, rZ_1, rZ_b, b2_z, b2_1, b2_or, b2_or0, b2_or1, iI_add, iI_sub, iI_mul, iI_neg, lI_add, lI_sub, lI_mul, iI_lt, iI_le, iI_eq, iI_to64, lI_cmp_lt, lI_cmp_gt, lI_cmp_ge, lI_cmp_le, lI_cmp_eq, mA_s, mA_o, mI_s, mI_o, mB_s, mB_o, mA_I, mA_B, mA_T, mA_F, mI_A, mI_B, mI_T, mI_F, mB_A, mB_I, mB_T, mB_F, mT_A, mT_I, mT_B, mT_F, mF_A, mF_I, mF_B, mF_T, ↓md_gA0, md_a0, md_s0, ↓md_gA1, md_a1, md_s1, ↓md_gA2, md_a2, md_s2, ↓md_gA3, md_a3, md_s3, ↓md_gA4, md_a4, md_s4, ↓md_g5, ↓md_p5, ↓md_g6, ↓md_p6, ↓md_g7, ↓md_p7, ↓md_g8, ↓md_p8, ↓md_gA9, md_a9, md_s9, ↓md_gA10, md_a10, md_s10, ↓md_gA11, md_a11, md_s11, ↓md_gA12, md_a12, md_s12, ↓md_gA13, md_a13, md_s13, ↓md_g14, ↓md_p14, ↓md_g15, ↓md_p15, ↓md_g16, ↓md_p16, ↓md_gA17, md_a17, md_s17, ↓md_gA18, md_a18, md_s18, ↓md_g19, ↓md_p19, ↓md_gA20, md_a20, md_s20, ↓md_g21, ↓md_p21, ↓md_gA22, md_a22, md_s22, ↓md_gA23, md_a23, md_s23, ↓md_gA24, md_a24, md_s24]
      rfl
  · simp (disch := omega) only [X3_isLease, X3_no, h1, decide_true, decide_false, reduceIte, and_self, and_true, true_and, and_false, false_and, or_true, true_or, or_false, false_or, not_true_eq_false, not_false_eq_true, reduceCtorEq, mA_ss, mI_ss, ↓St_rc, ↓fn_B, ↓fn_nn_none, ↓fn_nn_some, rZ_0, rZ_1, rZ_b, b2_z, b2_1, b2_or, b2_or0, b2_or1, iI_add, iI_sub, iI_mul, iI_neg, lI_add, lI_sub, lI_mul, iI_lt, iI_le, iI_eq, iI_to64, lI_cmp_lt, lI_cmp_gt, lI_cmp_ge, lI_cmp_le, lI_cmp_eq, mA_s, mA_o, mI_s, mI_o, mB_s, mB_o, mA_I, mA_B, mA_T, mA_F, mI_A, mI_B, mI_T, mI_F, mB_A, mB_I, mB_T, mB_F, mT_A, mT_I, mT_B, mT_F, mF_A, mF_I, mF_B, mF_T, ↓md_gA0, md_a0, md_s0, ↓md_gA1, md_a1, md_s1, ↓md_gA2, md_a2, md_s2, ↓md_gA3, md_a3, md_s3, ↓md_gA4, md_a4, md_s4, ↓md_g5, ↓md_p5, ↓md_g6, ↓md_p6, ↓md_g7, ↓md_p7, ↓md_g8, ↓md_p8, ↓md_gA9, md_a9, md_s9, ↓md_gA10, md_a10, md_s10, ↓md_gA11, md_a11, md_s11, ↓md_gA12, md_a12, md_s12, ↓md_gA13, md_a13, md_s13, ↓md_g14, ↓md_p14, ↓md_g15, ↓md_p15, ↓md_g16, ↓md_p16, ↓md_gA17, md_a17, md_s17, ↓md_gA18, md_a18, md_s18, ↓md_g19, ↓md_p19, ↓md_gA20, md_a20, md_s20, ↓md_g21, ↓md_p21, ↓md_gA22, md_a22, md_s22, ↓md_gA23, md_a23, md_s23, ↓md_gA24, md_a24, md_s24]
    rfl
theorem X3_lays (hv : okD (μ.1 0)) {l x y : Int} (r1 : r32 l) (r2 : r32 x) (r3 : r32 y) : gX3_lays ρ b (iI l) (iI x) (iI y) (St σ b μ) = some (iI (cLays (μ.1 0) l x y).1, St σ b (cRes μ (cLays (μ.1 0) l x y))) := by
  have h0 := hv.1
  have h9 := hv.2.2.2.1
  unfold gX3_lays cLays
  by_cases h1 : 0 ≤ l ∧ l < μ.1 0 0
  · by_cases h2 : 0 ≤ x ∧ x ≤ 3599
    · by_cases h3 : 1 ≤ y ∧ y ≤ 9999999
      · by_cases h4 : μ.1 0 203 = 12
        · simp (disch := omega) only [X3_isLease, X3_isIn, X3_isDay, X3_no, h1, h2, h3, h4, decide_true, decide_false, reduceIte, and_self, and_true, true_and, and_false, false_and, or_true, true_or, or_false, false_or, not_true_eq_false, not_false_eq_true, reduceCtorEq, mA_ss, mI_ss, ↓St_rc, ↓fn_B, ↓fn_nn_none, ↓fn_nn_some, rZ_0, rZ_1, rZ_b, b2_z, b2_1, b2_or, b2_or0, b2_or1, iI_add, iI_sub, iI_mul, iI_neg, lI_add, lI_sub, lI_mul, iI_lt, iI_le, iI_eq, iI_to64, lI_cmp_lt, lI_cmp_gt, lI_cmp_ge, lI_cmp_le, lI_cmp_eq, mA_s, mA_o, mI_s, mI_o, mB_s, mB_o, mA_I, mA_B, mA_T, mA_F, mI_A, mI_B, mI_T, mI_F, mB_A, mB_I, mB_T, mB_F, mT_A, mT_I, mT_B, mT_F, mF_A, mF_I, mF_B, mF_T, ↓md_gA0, md_a0, md_s0, ↓md_gA1, md_a1, md_s1, ↓md_gA2, md_a2, md_s2, ↓md_gA3, md_a3, md_s3, ↓md_gA4, md_a4, md_s4, ↓md_g5, ↓md_p5, ↓md_g6, ↓md_p6, ↓md_g7, ↓md_p7, ↓md_g8, ↓md_p8, ↓md_gA9, md_a9, md_s9, ↓md_gA10, md_a10, md_s10, ↓md_gA11, md_a11, md_s11, ↓md_gA12, md_a12, md_s12, ↓md_gA13, md_a13, md_s13, ↓md_g14, ↓md_p14, ↓md_g15, ↓md_p15, ↓md_g16, ↓md_p16, ↓md_gA17, md_a17, md_s17, ↓md_gA18, md_a18, md_s18, ↓md_g19, ↓md_p19, ↓md_gA20, md_a20, md_s20, ↓md_g21, ↓md_p21, ↓md_gA22, md_a22, md_s22, ↓md_gA23, md_a23, md_s23, ↓md_gA24, md_a24, md_s24]
          rfl
        · by_cases h5 : μ.1 0 (1 + 8 * l + 1) ≤ x ∧ x ≤ endOf (μ.1 0) l
          · simp (disch := omega) only [X3_isLease, X3_isIn, X3_isDay, X3_no, X3_runs hv, h1, h2, h3, h4, h5, decide_true, decide_false, reduceIte, and_self, and_true, true_and, and_false, false_and, or_true, true_or, or_false, false_or, not_true_eq_false, not_false_eq_true, reduceCtorEq, mA_ss, mI_ss, ↓St_rc, ↓fn_B, ↓fn_nn_none, ↓fn_nn_some, rZ_0, rZ_1, rZ_b, b2_z, b2_1, b2_or, b2_or0, b2_or1, iI_add, iI_sub, iI_mul, iI_neg, lI_add, lI_sub, lI_mul, iI_lt, iI_le, iI_eq, iI_to64, lI_cmp_lt, lI_cmp_gt, lI_cmp_ge, lI_cmp_le, lI_cmp_eq, mA_s, mA_o, mI_s, mI_o, mB_s, mB_o, mA_I, mA_B, mA_T, mA_F, mI_A, mI_B, mI_T, mI_F, mB_A, mB_I, mB_T, mB_F, mT_A, mT_I, mT_B, mT_F, mF_A, mF_I, mF_B, mF_T, ↓md_gA0, md_a0, md_s0, ↓md_gA1, md_a1, md_s1, ↓md_gA2, md_a2, md_s2, ↓md_gA3, md_a3, md_s3, ↓md_gA4, md_a4, md_s4, ↓md_g5, ↓md_p5, ↓md_g6, ↓md_p6, ↓md_g7, ↓md_p7, ↓md_g8, ↓md_p8, ↓md_gA9, md_a9, md_s9, ↓md_gA10, md_a10, md_s10, ↓md_gA11, md_a11, md_s11, ↓md_gA12, md_a12, md_s12, ↓md_gA13, md_a13, md_s13, ↓md_g14, ↓md_p14, ↓md_g15, ↓md_p15, ↓md_g16, ↓md_p16, ↓md_gA17, md_a17, md_s17, ↓md_gA18, md_a18, md_s18, ↓md_g19, ↓md_p19, ↓md_gA20, md_a20, md_s20, ↓md_g21, ↓md_p21, ↓md_gA22, md_a22, md_s22, ↓md_gA23, md_a23, md_s23, ↓md_gA24, md_a24, md_s24]
            rw [uI_s, uI_o _ (by omega), uI_o _ (by omega), uI_o _ (by omega), Int.add_sub_cancel]
            rfl
          · simp (disch := omega) only [X3_isLease, X3_isIn, X3_isDay, X3_no, X3_runs hv, h1, h2, h3, h4, h5, decide_true, decide_false, reduceIte, and_self, and_true, true_and, and_false, false_and, or_true, true_or, or_false, false_or, not_true_eq_false, not_false_eq_true, reduceCtorEq, mA_ss, mI_ss, ↓St_rc, ↓fn_B, ↓fn_nn_none, ↓fn_nn_some, rZ_0, rZ_1, rZ_b, b2_z, b2_1, b2_or, b2_or0, b2_or1, iI_add, iI_sub, iI_mul, iI_neg, lI_add, lI_sub, lI_mul, iI_lt, iI_le, iI_eq, iI_to64, lI_cmp_lt, lI_cmp_gt, lI_cmp_ge, lI_cmp_le, lI_cmp_eq, mA_s, mA_o, mI_s, mI_o, mB_s, mB_o, mA_I, mA_B, mA_T, mA_F, mI_A, mI_B, mI_T, mI_F, mB_A, mB_I, mB_T, mB_F, mT_A, mT_I, mT_B, mT_F, mF_A, mF_I, mF_B, mF_T, ↓md_gA0, md_a0, md_s0, ↓md_gA1, md_a1, md_s1, ↓md_gA2, md_a2, md_s2, ↓md_gA3, md_a3, md_s3, ↓md_gA4, md_a4, md_s4, ↓md_g5, ↓md_p5, ↓md_g6, ↓md_p6, ↓md_g7, ↓md_p7, ↓md_g8, ↓md_p8, ↓md_gA9, md_a9, md_s9, ↓md_gA10, md_a10, md_s10, ↓md_gA11, md_a11, md_s11, ↓md_gA12, md_a12, md_s12, ↓md_gA13, md_a13, md_s13, ↓md_g14, ↓md_p14, ↓md_g15, ↓md_p15, ↓md_g16, ↓md_p16, ↓md_gA17, md_a17, md_s17, ↓md_gA18, md_a18, md_s18, ↓md_g19, ↓md_p19, ↓md_gA20, md_a20, md_s20, ↓md_g21, ↓md_p21, ↓md_gA22, md_a22, md_s22, ↓md_gA23, md_a23, md_s23, ↓md_gA24, md_a24, md_s24]
            rfl
      · simp (disch := omega) only [X3_isLease, X3_isIn, X3_isDay, X3_no, h1, h2, h3, decide_true, decide_false, reduceIte, and_self, and_true, true_and, and_false, false_and, or_true, true_or, or_false, false_or, not_true_eq_false, not_false_eq_true, reduceCtorEq, mA_ss, mI_ss, ↓St_rc, ↓fn_B, ↓fn_nn_none, ↓fn_nn_some, rZ_0, rZ_1, rZ_b, b2_z, b2_1, b2_or, b2_or0, b2_or1, iI_add, iI_sub, iI_mul, iI_neg, lI_add, lI_sub, lI_mul, iI_lt, iI_le, iI_eq, iI_to64, lI_cmp_lt, lI_cmp_gt, lI_cmp_ge, lI_cmp_le, lI_cmp_eq, mA_s, mA_o, mI_s, mI_o, mB_s, mB_o, mA_I, mA_B, mA_T, mA_F, mI_A, mI_B, mI_T, mI_F, mB_A, mB_I, mB_T, mB_F, mT_A, mT_I, mT_B, mT_F, mF_A, mF_I, mF_B, mF_T, ↓md_gA0, md_a0, md_s0, ↓md_gA1, md_a1, md_s1, ↓md_gA2, md_a2, md_s2, ↓md_gA3, md_a3, md_s3, ↓md_gA4, md_a4, md_s4, ↓md_g5, ↓md_p5, ↓md_g6, ↓md_p6, ↓md_g7, ↓md_p7, ↓md_g8, ↓md_p8, ↓md_gA9, md_a9, md_s9, ↓md_gA10, md_a10, md_s10, ↓md_gA11, md_a11, md_s11, ↓md_gA12, md_a12, md_s12, ↓md_gA13, md_a13, md_s13, ↓md_g14, ↓md_p14, ↓md_g15, ↓md_p15, ↓md_g16, ↓md_p16, ↓md_gA17, md_a17, md_s17, ↓md_gA18, md_a18, md_s18, ↓md_g19, ↓md_p19, ↓md_gA20, md_a20, md_s20, ↓md_g21, ↓md_p21, ↓md_gA22, md_a22, md_s22, ↓md_gA23, md_a23, md_s23, ↓md_gA24, md_a24, md_s24]
        rfl
    · simp (disch := omega) only [X3_isLease, X3_isIn, X3_isDay, X3_no, h1, h2, decide_true, decide_false, reduceIte, and_self, and_true, true_and, and_false, false_and, or_true, true_or, or_false, false_or, not_true_eq_false, not_false_eq_true, reduceCtorEq, mA_ss, mI_ss, ↓St_rc, ↓fn_B, ↓fn_nn_none, ↓fn_nn_some, rZ_0, rZ_1, rZ_b, b2_z, b2_1, b2_or, b2_or0, b2_or1, iI_add, iI_sub, iI_mul, iI_neg, lI_add, lI_sub, lI_mul, iI_lt, iI_le, iI_eq, iI_to64, lI_cmp_lt, lI_cmp_gt, lI_cmp_ge, lI_cmp_le, lI_cmp_eq, mA_s, mA_o, mI_s, mI_o, mB_s, mB_o, mA_I, mA_B, mA_T, mA_F, mI_A, mI_B, mI_T, mI_F, mB_A, mB_I, mB_T, mB_F, mT_A, mT_I, mT_B, mT_F, mF_A, mF_I, mF_B, mF_T, ↓md_gA0, md_a0, md_s0, ↓md_gA1, md_a1, md_s1, ↓md_gA2, md_a2, md_s2, ↓md_gA3, md_a3, md_s3, ↓md_gA4, md_a4, md_s4, ↓md_g5, ↓md_p5, ↓md_g6, ↓md_p6, ↓md_g7, ↓md_p7, ↓md_g8, ↓md_p8, ↓md_gA9, md_a9, md_s9, ↓md_gA10, md_a10, md_s10, ↓md_gA11, md_a11, md_s11, ↓md_gA12, md_a12, md_s12, ↓md_gA13, md_a13, md_s13, ↓md_g14, ↓md_p14, ↓md_g15, ↓md_p15, ↓md_g16, ↓md_p16, ↓md_gA17, md_a17, md_s17, ↓md_gA18, md_a18, md_s18, ↓md_g19, ↓md_p19, ↓md_gA20, md_a20, md_s20, ↓md_g21, ↓md_p21, ↓md_gA22, md_a22, md_s22, ↓md_gA23, md_a23, md_s23, ↓md_gA24, md_a24, md_s24]
      rfl
  · simp (disch := omega) only [X3_isLease, X3_no, h1, decide_true, decide_false, reduceIte, and_self, and_true, true_and, and_false, false_and, or_true, true_or, or_false, false_or, not_true_eq_false, not_false_eq_true, reduceCtorEq, mA_ss, mI_ss, ↓St_rc, ↓fn_B, ↓fn_nn_none, ↓fn_nn_some, rZ_0, rZ_1, rZ_b, b2_z, b2_1, b2_or, b2_or0, b2_or1, iI_add, iI_sub, iI_mul, iI_neg, lI_add, lI_sub, lI_mul, iI_lt, iI_le, iI_eq, iI_to64, lI_cmp_lt, lI_cmp_gt, lI_cmp_ge, lI_cmp_le, lI_cmp_eq, mA_s, mA_o, mI_s, mI_o, mB_s, mB_o, mA_I, mA_B, mA_T, mA_F, mI_A, mI_B, mI_T, mI_F, mB_A, mB_I, mB_T, mB_F, mT_A, mT_I, mT_B, mT_F, mF_A, mF_I, mF_B, mF_T, ↓md_gA0, md_a0, md_s0, ↓md_gA1, md_a1, md_s1, ↓md_gA2, md_a2, md_s2, ↓md_gA3, md_a3, md_s3, ↓md_gA4, md_a4, md_s4, ↓md_g5, ↓md_p5, ↓md_g6, ↓md_p6, ↓md_g7, ↓md_p7, ↓md_g8, ↓md_p8, ↓md_gA9, md_a9, md_s9, ↓md_gA10, md_a10, md_s10, ↓md_gA11, md_a11, md_s11, ↓md_gA12, md_a12, md_s12, ↓md_gA13, md_a13, md_s13, ↓md_g14, ↓md_p14, ↓md_g15, ↓md_p15, ↓md_g16, ↓md_p16, ↓md_gA17, md_a17, md_s17, ↓md_gA18, md_a18, md_s18, ↓md_g19, ↓md_p19, ↓md_gA20, md_a20, md_s20, ↓md_g21, ↓md_p21, ↓md_gA22, md_a22, md_s22, ↓md_gA23, md_a23, md_s23, ↓md_gA24, md_a24, md_s24]
    rfl
theorem X3_draws (hv : okD (μ.1 0)) {l : Int} (r1 : r32 l) : gX3_draws ρ b (iI l) (St σ b μ) = some (iI (cDraws (μ.1 0) l).1, St σ b (cRes μ (cDraws (μ.1 0) l))) := by
  have h0 := hv.1
  unfold gX3_draws cDraws
  by_cases h1 : 0 ≤ l ∧ l < μ.1 0 0
  · obtain ⟨-, -, -, -, -, k2⟩ := hv.2.2.2.2.1 l h1.1 h1.2
    by_cases h2 : 0 ≤ μ.1 0 (1 + 8 * l + 5)
    · simp (disch := omega) only [X3_isLease, X3_told, X3_puts, X3_no, h1, h2, decide_true, decide_false, reduceIte, and_self, and_true, true_and, and_false, false_and, or_true, true_or, or_false, false_or, not_true_eq_false, not_false_eq_true, reduceCtorEq, mA_ss, mI_ss, ↓St_rc, ↓fn_B, ↓fn_nn_none, ↓fn_nn_some, rZ_0, rZ_1, rZ_b, b2_z, b2_1, b2_or, b2_or0, b2_or1, iI_add, iI_sub, iI_mul, iI_neg, lI_add, lI_sub, lI_mul, iI_lt, iI_le, iI_eq, iI_to64, lI_cmp_lt, lI_cmp_gt, lI_cmp_ge, lI_cmp_le, lI_cmp_eq, mA_s, mA_o, mI_s, mI_o, mB_s, mB_o, mA_I, mA_B, mA_T, mA_F, mI_A, mI_B, mI_T, mI_F, mB_A, mB_I, mB_T, mB_F, mT_A, mT_I, mT_B, mT_F, mF_A, mF_I, mF_B, mF_T, ↓md_gA0, md_a0, md_s0, ↓md_gA1, md_a1, md_s1, ↓md_gA2, md_a2, md_s2, ↓md_gA3, md_a3, md_s3, ↓md_gA4, md_a4, md_s4, ↓md_g5, ↓md_p5, ↓md_g6, ↓md_p6, ↓md_g7, ↓md_p7, ↓md_g8, ↓md_p8, ↓md_gA9, md_a9, md_s9, ↓md_gA10, md_a10, md_s10, ↓md_gA11, md_a11, md_s11, ↓md_gA12, md_a12, md_s12, ↓md_gA13, md_a13, md_s13, ↓md_g14, ↓md_p14, ↓md_g15, ↓md_p15, ↓md_g16, ↓md_p16, ↓md_gA17, md_a17, md_s17, ↓md_gA18, md_a18, md_s18, ↓md_g19, ↓md_p19, ↓md_gA20, md_a20, md_s20, ↓md_g21, ↓md_p21, ↓md_gA22, md_a22, md_s22, ↓md_gA23, md_a23, md_s23, ↓md_gA24, md_a24, md_s24]
      rfl
    · simp (disch := omega) only [X3_isLease, X3_told, X3_puts, X3_no, h1, h2, decide_true, decide_false, reduceIte, and_self, and_true, true_and, and_false, false_and, or_true, true_or, or_false, false_or, not_true_eq_false, not_false_eq_true, reduceCtorEq, mA_ss, mI_ss, ↓St_rc, ↓fn_B, ↓fn_nn_none, ↓fn_nn_some, rZ_0, rZ_1, rZ_b, b2_z, b2_1, b2_or, b2_or0, b2_or1, iI_add, iI_sub, iI_mul, iI_neg, lI_add, lI_sub, lI_mul, iI_lt, iI_le, iI_eq, iI_to64, lI_cmp_lt, lI_cmp_gt, lI_cmp_ge, lI_cmp_le, lI_cmp_eq, mA_s, mA_o, mI_s, mI_o, mB_s, mB_o, mA_I, mA_B, mA_T, mA_F, mI_A, mI_B, mI_T, mI_F, mB_A, mB_I, mB_T, mB_F, mT_A, mT_I, mT_B, mT_F, mF_A, mF_I, mF_B, mF_T, ↓md_gA0, md_a0, md_s0, ↓md_gA1, md_a1, md_s1, ↓md_gA2, md_a2, md_s2, ↓md_gA3, md_a3, md_s3, ↓md_gA4, md_a4, md_s4, ↓md_g5, ↓md_p5, ↓md_g6, ↓md_p6, ↓md_g7, ↓md_p7, ↓md_g8, ↓md_p8, ↓md_gA9, md_a9, md_s9, ↓md_gA10, md_a10, md_s10, ↓md_gA11, md_a11, md_s11, ↓md_gA12, md_a12, md_s12, ↓md_gA13, md_a13, md_s13, ↓md_g14, ↓md_p14, ↓md_g15, ↓md_p15, ↓md_g16, ↓md_p16, ↓md_gA17, md_a17, md_s17, ↓md_gA18, md_a18, md_s18, ↓md_g19, ↓md_p19, ↓md_gA20, md_a20, md_s20, ↓md_g21, ↓md_p21, ↓md_gA22, md_a22, md_s22, ↓md_gA23, md_a23, md_s23, ↓md_gA24, md_a24, md_s24]
      rfl
  · simp (disch := omega) only [X3_isLease, X3_no, h1, decide_true, decide_false, reduceIte, and_self, and_true, true_and, and_false, false_and, or_true, true_or, or_false, false_or, not_true_eq_false, not_false_eq_true, reduceCtorEq, mA_ss, mI_ss, ↓St_rc, ↓fn_B, ↓fn_nn_none, ↓fn_nn_some, rZ_0, rZ_1, rZ_b, b2_z, b2_1, b2_or, b2_or0, b2_or1, iI_add, iI_sub, iI_mul, iI_neg, lI_add, lI_sub, lI_mul, iI_lt, iI_le, iI_eq, iI_to64, lI_cmp_lt, lI_cmp_gt, lI_cmp_ge, lI_cmp_le, lI_cmp_eq, mA_s, mA_o, mI_s, mI_o, mB_s, mB_o, mA_I, mA_B, mA_T, mA_F, mI_A, mI_B, mI_T, mI_F, mB_A, mB_I, mB_T, mB_F, mT_A, mT_I, mT_B, mT_F, mF_A, mF_I, mF_B, mF_T, ↓md_gA0, md_a0, md_s0, ↓md_gA1, md_a1, md_s1, ↓md_gA2, md_a2, md_s2, ↓md_gA3, md_a3, md_s3, ↓md_gA4, md_a4, md_s4, ↓md_g5, ↓md_p5, ↓md_g6, ↓md_p6, ↓md_g7, ↓md_p7, ↓md_g8, ↓md_p8, ↓md_gA9, md_a9, md_s9, ↓md_gA10, md_a10, md_s10, ↓md_gA11, md_a11, md_s11, ↓md_gA12, md_a12, md_s12, ↓md_gA13, md_a13, md_s13, ↓md_g14, ↓md_p14, ↓md_g15, ↓md_p15, ↓md_g16, ↓md_p16, ↓md_gA17, md_a17, md_s17, ↓md_gA18, md_a18, md_s18, ↓md_g19, ↓md_p19, ↓md_gA20, md_a20, md_s20, ↓md_g21, ↓md_p21, ↓md_gA22, md_a22, md_s22, ↓md_gA23, md_a23, md_s23, ↓md_gA24, md_a24, md_s24]
    rfl
theorem tdiv_p {a b : Int} (h : 0 ≤ a) : a.tdiv b = a / b := Int.tdiv_eq_ediv_of_nonneg h
theorem iI_div30 {a : Int} (h : 0 ≤ a ∧ a < 2147483648) : iI a / iI 30 = iI (a / 30) := by
  rw [iI_div ⟨by omega, by omega⟩ (by decide), tdiv_p h.1]
theorem X3_gives_f {l x y p : Int} (h1 : 0 ≤ l ∧ l < 10) (h2 : 0 ≤ x ∧ x ≤ 3599) (h3 : 0 ≤ y ∧ y ≤ 1) (hp : 0 ≤ p ∧ p ≤ 9) : gX3_gives_b111 ρ b (iI l) (iI x) (iI y) (iI p) (St σ b μ) = some (iI (30 * (x / 30 + p - (if 3 ≤ x % 30 then 0 else 1)) + 29), St σ b (mA μ 0 (uI (uI (uI (μ.1 0) (1 + 8 * l + 5) x) (1 + 8 * l + 6) y) (1 + 8 * l + 7) (30 * (x / 30 + p - (if 3 ≤ x % 30 then 0 else 1)) + 29)))) := by
  unfold gX3_gives_b111
  rw [if_neg (by decide), if_neg (by decide), iI_div30 (by omega), iI_mul, iI_sub, iI_add, show x - x / 30 * 30 = x % 30 by omega]
  simp (disch := omega) only [iI_le]
  by_cases h : 3 ≤ x % 30
  · rw [if_pos h, if_pos h]
    unfold gX3_gives_b133
    simp (disch := omega) only [X3_puts, X3_told, uI_s, decide_true, decide_false, reduceIte, and_self, and_true, true_and, and_false, false_and, or_true, true_or, or_false, false_or, not_true_eq_false, not_false_eq_true, reduceCtorEq, mA_ss, mI_ss, ↓St_rc, ↓fn_B, ↓fn_nn_none, ↓fn_nn_some, rZ_0, rZ_1, rZ_b, b2_z, b2_1, b2_or, b2_or0, b2_or1, iI_add, iI_sub, iI_mul, iI_neg, lI_add, lI_sub, lI_mul, iI_lt, iI_le, iI_eq, iI_to64, lI_cmp_lt, lI_cmp_gt, lI_cmp_ge, lI_cmp_le, lI_cmp_eq, mA_s, mA_o, mI_s, mI_o, mB_s, mB_o, mA_I, mA_B, mA_T, mA_F, mI_A, mI_B, mI_T, mI_F, mB_A, mB_I, mB_T, mB_F, mT_A, mT_I, mT_B, mT_F, mF_A, mF_I, mF_B, mF_T, ↓md_gA0, md_a0, md_s0, ↓md_gA1, md_a1, md_s1, ↓md_gA2, md_a2, md_s2, ↓md_gA3, md_a3, md_s3, ↓md_gA4, md_a4, md_s4, ↓md_g5, ↓md_p5, ↓md_g6, ↓md_p6, ↓md_g7, ↓md_p7, ↓md_g8, ↓md_p8, ↓md_gA9, md_a9, md_s9, ↓md_gA10, md_a10, md_s10, ↓md_gA11, md_a11, md_s11, ↓md_gA12, md_a12, md_s12, ↓md_gA13, md_a13, md_s13, ↓md_g14, ↓md_p14, ↓md_g15, ↓md_p15, ↓md_g16, ↓md_p16, ↓md_gA17, md_a17, md_s17, ↓md_gA18, md_a18, md_s18, ↓md_g19, ↓md_p19, ↓md_gA20, md_a20, md_s20, ↓md_g21, ↓md_p21, ↓md_gA22, md_a22, md_s22, ↓md_gA23, md_a23, md_s23, ↓md_gA24, md_a24, md_s24]
  · rw [if_neg h, if_neg h]
    unfold gX3_gives_b133
    simp (disch := omega) only [X3_puts, X3_told, uI_s, decide_true, decide_false, reduceIte, and_self, and_true, true_and, and_false, false_and, or_true, true_or, or_false, false_or, not_true_eq_false, not_false_eq_true, reduceCtorEq, mA_ss, mI_ss, ↓St_rc, ↓fn_B, ↓fn_nn_none, ↓fn_nn_some, rZ_0, rZ_1, rZ_b, b2_z, b2_1, b2_or, b2_or0, b2_or1, iI_add, iI_sub, iI_mul, iI_neg, lI_add, lI_sub, lI_mul, iI_lt, iI_le, iI_eq, iI_to64, lI_cmp_lt, lI_cmp_gt, lI_cmp_ge, lI_cmp_le, lI_cmp_eq, mA_s, mA_o, mI_s, mI_o, mB_s, mB_o, mA_I, mA_B, mA_T, mA_F, mI_A, mI_B, mI_T, mI_F, mB_A, mB_I, mB_T, mB_F, mT_A, mT_I, mT_B, mT_F, mF_A, mF_I, mF_B, mF_T, ↓md_gA0, md_a0, md_s0, ↓md_gA1, md_a1, md_s1, ↓md_gA2, md_a2, md_s2, ↓md_gA3, md_a3, md_s3, ↓md_gA4, md_a4, md_s4, ↓md_g5, ↓md_p5, ↓md_g6, ↓md_p6, ↓md_g7, ↓md_p7, ↓md_g8, ↓md_p8, ↓md_gA9, md_a9, md_s9, ↓md_gA10, md_a10, md_s10, ↓md_gA11, md_a11, md_s11, ↓md_gA12, md_a12, md_s12, ↓md_gA13, md_a13, md_s13, ↓md_g14, ↓md_p14, ↓md_g15, ↓md_p15, ↓md_g16, ↓md_p16, ↓md_gA17, md_a17, md_s17, ↓md_gA18, md_a18, md_s18, ↓md_g19, ↓md_p19, ↓md_gA20, md_a20, md_s20, ↓md_g21, ↓md_p21, ↓md_gA22, md_a22, md_s22, ↓md_gA23, md_a23, md_s23, ↓md_gA24, md_a24, md_s24]
theorem X3_gives (hv : okD (μ.1 0)) {l x y : Int} (r1 : r32 l) (r2 : r32 x) (r3 : r32 y) : gX3_gives ρ b (iI l) (iI x) (iI y) (St σ b μ) = some (iI (cGives (μ.1 0) l x y).1, St σ b (cRes μ (cGives (μ.1 0) l x y))) := by
  have h0 := hv.1
  unfold gX3_gives cGives
  by_cases h1 : 0 ≤ l ∧ l < μ.1 0 0
  · obtain ⟨-, k1, -, -, -, k2⟩ := hv.2.2.2.2.1 l h1.1 h1.2
    by_cases h2 : 0 ≤ x ∧ x ≤ 3599
    · by_cases h3 : 0 ≤ y ∧ y ≤ 1
      · by_cases h4 : μ.1 0 (1 + 8 * l + 1) ≤ x ∧ x ≤ endOf (μ.1 0) l
        · by_cases h5 : μ.1 0 (1 + 8 * l + 5) < 0
          · have q30 : (iI 30 = iI 0) = False := eq_false (by decide)
            unfold sBy sPer
            by_cases h6 : y = 0
            · simp (disch := omega) only [X3_isLease, X3_isIn, X3_isDay, X3_no, X3_runs hv, X3_told, h1, h2, h3, h4, h5, h6, q30, iI_div30, gX3_gives_b93, X3_gives_f, decide_true, decide_false, reduceIte, and_self, and_true, true_and, and_false, false_and, or_true, true_or, or_false, false_or, not_true_eq_false, not_false_eq_true, reduceCtorEq, mA_ss, mI_ss, ↓St_rc, ↓fn_B, ↓fn_nn_none, ↓fn_nn_some, rZ_0, rZ_1, rZ_b, b2_z, b2_1, b2_or, b2_or0, b2_or1, iI_add, iI_sub, iI_mul, iI_neg, lI_add, lI_sub, lI_mul, iI_lt, iI_le, iI_eq, iI_to64, lI_cmp_lt, lI_cmp_gt, lI_cmp_ge, lI_cmp_le, lI_cmp_eq, mA_s, mA_o, mI_s, mI_o, mB_s, mB_o, mA_I, mA_B, mA_T, mA_F, mI_A, mI_B, mI_T, mI_F, mB_A, mB_I, mB_T, mB_F, mT_A, mT_I, mT_B, mT_F, mF_A, mF_I, mF_B, mF_T, ↓md_gA0, md_a0, md_s0, ↓md_gA1, md_a1, md_s1, ↓md_gA2, md_a2, md_s2, ↓md_gA3, md_a3, md_s3, ↓md_gA4, md_a4, md_s4, ↓md_g5, ↓md_p5, ↓md_g6, ↓md_p6, ↓md_g7, ↓md_p7, ↓md_g8, ↓md_p8, ↓md_gA9, md_a9, md_s9, ↓md_gA10, md_a10, md_s10, ↓md_gA11, md_a11, md_s11, ↓md_gA12, md_a12, md_s12, ↓md_gA13, md_a13, md_s13, ↓md_g14, ↓md_p14, ↓md_g15, ↓md_p15, ↓md_g16, ↓md_p16, ↓md_gA17, md_a17, md_s17, ↓md_gA18, md_a18, md_s18, ↓md_g19, ↓md_p19, ↓md_gA20, md_a20, md_s20, ↓md_g21, ↓md_p21, ↓md_gA22, md_a22, md_s22, ↓md_gA23, md_a23, md_s23, ↓md_gA24, md_a24, md_s24]
              rfl
            · by_cases h7 : 60 ≤ x / 30 - μ.1 0 (1 + 8 * l + 1) / 30
              · by_cases h8 : 96 ≤ x / 30 - μ.1 0 (1 + 8 * l + 1) / 30
                · simp (disch := omega) only [X3_isLease, X3_isIn, X3_isDay, X3_no, X3_runs hv, X3_told, h1, h2, h3, h4, h5, h6, q30, iI_div30, h7, h8, X3_gives_f, decide_true, decide_false, reduceIte, and_self, and_true, true_and, and_false, false_and, or_true, true_or, or_false, false_or, not_true_eq_false, not_false_eq_true, reduceCtorEq, mA_ss, mI_ss, ↓St_rc, ↓fn_B, ↓fn_nn_none, ↓fn_nn_some, rZ_0, rZ_1, rZ_b, b2_z, b2_1, b2_or, b2_or0, b2_or1, iI_add, iI_sub, iI_mul, iI_neg, lI_add, lI_sub, lI_mul, iI_lt, iI_le, iI_eq, iI_to64, lI_cmp_lt, lI_cmp_gt, lI_cmp_ge, lI_cmp_le, lI_cmp_eq, mA_s, mA_o, mI_s, mI_o, mB_s, mB_o, mA_I, mA_B, mA_T, mA_F, mI_A, mI_B, mI_T, mI_F, mB_A, mB_I, mB_T, mB_F, mT_A, mT_I, mT_B, mT_F, mF_A, mF_I, mF_B, mF_T, ↓md_gA0, md_a0, md_s0, ↓md_gA1, md_a1, md_s1, ↓md_gA2, md_a2, md_s2, ↓md_gA3, md_a3, md_s3, ↓md_gA4, md_a4, md_s4, ↓md_g5, ↓md_p5, ↓md_g6, ↓md_p6, ↓md_g7, ↓md_p7, ↓md_g8, ↓md_p8, ↓md_gA9, md_a9, md_s9, ↓md_gA10, md_a10, md_s10, ↓md_gA11, md_a11, md_s11, ↓md_gA12, md_a12, md_s12, ↓md_gA13, md_a13, md_s13, ↓md_g14, ↓md_p14, ↓md_g15, ↓md_p15, ↓md_g16, ↓md_p16, ↓md_gA17, md_a17, md_s17, ↓md_gA18, md_a18, md_s18, ↓md_g19, ↓md_p19, ↓md_gA20, md_a20, md_s20, ↓md_g21, ↓md_p21, ↓md_gA22, md_a22, md_s22, ↓md_gA23, md_a23, md_s23, ↓md_gA24, md_a24, md_s24]
                  rfl
                · simp (disch := omega) only [X3_isLease, X3_isIn, X3_isDay, X3_no, X3_runs hv, X3_told, h1, h2, h3, h4, h5, h6, q30, iI_div30, h7, h8, X3_gives_f, decide_true, decide_false, reduceIte, and_self, and_true, true_and, and_false, false_and, or_true, true_or, or_false, false_or, not_true_eq_false, not_false_eq_true, reduceCtorEq, mA_ss, mI_ss, ↓St_rc, ↓fn_B, ↓fn_nn_none, ↓fn_nn_some, rZ_0, rZ_1, rZ_b, b2_z, b2_1, b2_or, b2_or0, b2_or1, iI_add, iI_sub, iI_mul, iI_neg, lI_add, lI_sub, lI_mul, iI_lt, iI_le, iI_eq, iI_to64, lI_cmp_lt, lI_cmp_gt, lI_cmp_ge, lI_cmp_le, lI_cmp_eq, mA_s, mA_o, mI_s, mI_o, mB_s, mB_o, mA_I, mA_B, mA_T, mA_F, mI_A, mI_B, mI_T, mI_F, mB_A, mB_I, mB_T, mB_F, mT_A, mT_I, mT_B, mT_F, mF_A, mF_I, mF_B, mF_T, ↓md_gA0, md_a0, md_s0, ↓md_gA1, md_a1, md_s1, ↓md_gA2, md_a2, md_s2, ↓md_gA3, md_a3, md_s3, ↓md_gA4, md_a4, md_s4, ↓md_g5, ↓md_p5, ↓md_g6, ↓md_p6, ↓md_g7, ↓md_p7, ↓md_g8, ↓md_p8, ↓md_gA9, md_a9, md_s9, ↓md_gA10, md_a10, md_s10, ↓md_gA11, md_a11, md_s11, ↓md_gA12, md_a12, md_s12, ↓md_gA13, md_a13, md_s13, ↓md_g14, ↓md_p14, ↓md_g15, ↓md_p15, ↓md_g16, ↓md_p16, ↓md_gA17, md_a17, md_s17, ↓md_gA18, md_a18, md_s18, ↓md_g19, ↓md_p19, ↓md_gA20, md_a20, md_s20, ↓md_g21, ↓md_p21, ↓md_gA22, md_a22, md_s22, ↓md_gA23, md_a23, md_s23, ↓md_gA24, md_a24, md_s24]
                  rfl
              · simp (disch := omega) only [X3_isLease, X3_isIn, X3_isDay, X3_no, X3_runs hv, X3_told, h1, h2, h3, h4, h5, h6, q30, iI_div30, h7, gX3_gives_b93, X3_gives_f, decide_true, decide_false, reduceIte, and_self, and_true, true_and, and_false, false_and, or_true, true_or, or_false, false_or, not_true_eq_false, not_false_eq_true, reduceCtorEq, mA_ss, mI_ss, ↓St_rc, ↓fn_B, ↓fn_nn_none, ↓fn_nn_some, rZ_0, rZ_1, rZ_b, b2_z, b2_1, b2_or, b2_or0, b2_or1, iI_add, iI_sub, iI_mul, iI_neg, lI_add, lI_sub, lI_mul, iI_lt, iI_le, iI_eq, iI_to64, lI_cmp_lt, lI_cmp_gt, lI_cmp_ge, lI_cmp_le, lI_cmp_eq, mA_s, mA_o, mI_s, mI_o, mB_s, mB_o, mA_I, mA_B, mA_T, mA_F, mI_A, mI_B, mI_T, mI_F, mB_A, mB_I, mB_T, mB_F, mT_A, mT_I, mT_B, mT_F, mF_A, mF_I, mF_B, mF_T, ↓md_gA0, md_a0, md_s0, ↓md_gA1, md_a1, md_s1, ↓md_gA2, md_a2, md_s2, ↓md_gA3, md_a3, md_s3, ↓md_gA4, md_a4, md_s4, ↓md_g5, ↓md_p5, ↓md_g6, ↓md_p6, ↓md_g7, ↓md_p7, ↓md_g8, ↓md_p8, ↓md_gA9, md_a9, md_s9, ↓md_gA10, md_a10, md_s10, ↓md_gA11, md_a11, md_s11, ↓md_gA12, md_a12, md_s12, ↓md_gA13, md_a13, md_s13, ↓md_g14, ↓md_p14, ↓md_g15, ↓md_p15, ↓md_g16, ↓md_p16, ↓md_gA17, md_a17, md_s17, ↓md_gA18, md_a18, md_s18, ↓md_g19, ↓md_p19, ↓md_gA20, md_a20, md_s20, ↓md_g21, ↓md_p21, ↓md_gA22, md_a22, md_s22, ↓md_gA23, md_a23, md_s23, ↓md_gA24, md_a24, md_s24]
                rfl
          · simp (disch := omega) only [X3_isLease, X3_isIn, X3_isDay, X3_no, X3_runs hv, X3_told, h1, h2, h3, h4, h5, decide_true, decide_false, reduceIte, and_self, and_true, true_and, and_false, false_and, or_true, true_or, or_false, false_or, not_true_eq_false, not_false_eq_true, reduceCtorEq, mA_ss, mI_ss, ↓St_rc, ↓fn_B, ↓fn_nn_none, ↓fn_nn_some, rZ_0, rZ_1, rZ_b, b2_z, b2_1, b2_or, b2_or0, b2_or1, iI_add, iI_sub, iI_mul, iI_neg, lI_add, lI_sub, lI_mul, iI_lt, iI_le, iI_eq, iI_to64, lI_cmp_lt, lI_cmp_gt, lI_cmp_ge, lI_cmp_le, lI_cmp_eq, mA_s, mA_o, mI_s, mI_o, mB_s, mB_o, mA_I, mA_B, mA_T, mA_F, mI_A, mI_B, mI_T, mI_F, mB_A, mB_I, mB_T, mB_F, mT_A, mT_I, mT_B, mT_F, mF_A, mF_I, mF_B, mF_T, ↓md_gA0, md_a0, md_s0, ↓md_gA1, md_a1, md_s1, ↓md_gA2, md_a2, md_s2, ↓md_gA3, md_a3, md_s3, ↓md_gA4, md_a4, md_s4, ↓md_g5, ↓md_p5, ↓md_g6, ↓md_p6, ↓md_g7, ↓md_p7, ↓md_g8, ↓md_p8, ↓md_gA9, md_a9, md_s9, ↓md_gA10, md_a10, md_s10, ↓md_gA11, md_a11, md_s11, ↓md_gA12, md_a12, md_s12, ↓md_gA13, md_a13, md_s13, ↓md_g14, ↓md_p14, ↓md_g15, ↓md_p15, ↓md_g16, ↓md_p16, ↓md_gA17, md_a17, md_s17, ↓md_gA18, md_a18, md_s18, ↓md_g19, ↓md_p19, ↓md_gA20, md_a20, md_s20, ↓md_g21, ↓md_p21, ↓md_gA22, md_a22, md_s22, ↓md_gA23, md_a23, md_s23, ↓md_gA24, md_a24, md_s24]
            rfl
        · simp (disch := omega) only [X3_isLease, X3_isIn, X3_isDay, X3_no, X3_runs hv, h1, h2, h3, h4, decide_true, decide_false, reduceIte, and_self, and_true, true_and, and_false, false_and, or_true, true_or, or_false, false_or, not_true_eq_false, not_false_eq_true, reduceCtorEq, mA_ss, mI_ss, ↓St_rc, ↓fn_B, ↓fn_nn_none, ↓fn_nn_some, rZ_0, rZ_1, rZ_b, b2_z, b2_1, b2_or, b2_or0, b2_or1, iI_add, iI_sub, iI_mul, iI_neg, lI_add, lI_sub, lI_mul, iI_lt, iI_le, iI_eq, iI_to64, lI_cmp_lt, lI_cmp_gt, lI_cmp_ge, lI_cmp_le, lI_cmp_eq, mA_s, mA_o, mI_s, mI_o, mB_s, mB_o, mA_I, mA_B, mA_T, mA_F, mI_A, mI_B, mI_T, mI_F, mB_A, mB_I, mB_T, mB_F, mT_A, mT_I, mT_B, mT_F, mF_A, mF_I, mF_B, mF_T, ↓md_gA0, md_a0, md_s0, ↓md_gA1, md_a1, md_s1, ↓md_gA2, md_a2, md_s2, ↓md_gA3, md_a3, md_s3, ↓md_gA4, md_a4, md_s4, ↓md_g5, ↓md_p5, ↓md_g6, ↓md_p6, ↓md_g7, ↓md_p7, ↓md_g8, ↓md_p8, ↓md_gA9, md_a9, md_s9, ↓md_gA10, md_a10, md_s10, ↓md_gA11, md_a11, md_s11, ↓md_gA12, md_a12, md_s12, ↓md_gA13, md_a13, md_s13, ↓md_g14, ↓md_p14, ↓md_g15, ↓md_p15, ↓md_g16, ↓md_p16, ↓md_gA17, md_a17, md_s17, ↓md_gA18, md_a18, md_s18, ↓md_g19, ↓md_p19, ↓md_gA20, md_a20, md_s20, ↓md_g21, ↓md_p21, ↓md_gA22, md_a22, md_s22, ↓md_gA23, md_a23, md_s23, ↓md_gA24, md_a24, md_s24]
          rfl
      · rw [St_rc, fn_Bt (s := St σ b μ) (by rw [X3_isLease r1 (by omega), decide_eq_true h1]), fn_Bt (s := St σ b μ) (by rw [X3_isDay r2, decide_eq_true h2]), fn_Bf (s := St σ b μ) (by rw [X3_isIn r3 (by decide) (by decide), decide_eq_false h3])]
        simp (disch := omega) only [X3_no, h1, h2, h3, decide_true, decide_false, reduceIte, and_self, and_true, true_and, and_false, false_and, or_true, true_or, or_false, false_or, not_true_eq_false, not_false_eq_true, reduceCtorEq, mA_ss, mI_ss, ↓St_rc, ↓fn_B, ↓fn_nn_none, ↓fn_nn_some, rZ_0, rZ_1, rZ_b, b2_z, b2_1, b2_or, b2_or0, b2_or1, iI_add, iI_sub, iI_mul, iI_neg, lI_add, lI_sub, lI_mul, iI_lt, iI_le, iI_eq, iI_to64, lI_cmp_lt, lI_cmp_gt, lI_cmp_ge, lI_cmp_le, lI_cmp_eq, mA_s, mA_o, mI_s, mI_o, mB_s, mB_o, mA_I, mA_B, mA_T, mA_F, mI_A, mI_B, mI_T, mI_F, mB_A, mB_I, mB_T, mB_F, mT_A, mT_I, mT_B, mT_F, mF_A, mF_I, mF_B, mF_T, ↓md_gA0, md_a0, md_s0, ↓md_gA1, md_a1, md_s1, ↓md_gA2, md_a2, md_s2, ↓md_gA3, md_a3, md_s3, ↓md_gA4, md_a4, md_s4, ↓md_g5, ↓md_p5, ↓md_g6, ↓md_p6, ↓md_g7, ↓md_p7, ↓md_g8, ↓md_p8, ↓md_gA9, md_a9, md_s9, ↓md_gA10, md_a10, md_s10, ↓md_gA11, md_a11, md_s11, ↓md_gA12, md_a12, md_s12, ↓md_gA13, md_a13, md_s13, ↓md_g14, ↓md_p14, ↓md_g15, ↓md_p15, ↓md_g16, ↓md_p16, ↓md_gA17, md_a17, md_s17, ↓md_gA18, md_a18, md_s18, ↓md_g19, ↓md_p19, ↓md_gA20, md_a20, md_s20, ↓md_g21, ↓md_p21, ↓md_gA22, md_a22, md_s22, ↓md_gA23, md_a23, md_s23, ↓md_gA24, md_a24, md_s24]
        rfl
    · rw [St_rc, fn_Bt (s := St σ b μ) (by rw [X3_isLease r1 (by omega), decide_eq_true h1]), fn_Bf (s := St σ b μ) (by rw [X3_isDay r2, decide_eq_false h2])]
      simp (disch := omega) only [X3_no, h1, h2, decide_true, decide_false, reduceIte, and_self, and_true, true_and, and_false, false_and, or_true, true_or, or_false, false_or, not_true_eq_false, not_false_eq_true, reduceCtorEq, mA_ss, mI_ss, ↓St_rc, ↓fn_B, ↓fn_nn_none, ↓fn_nn_some, rZ_0, rZ_1, rZ_b, b2_z, b2_1, b2_or, b2_or0, b2_or1, iI_add, iI_sub, iI_mul, iI_neg, lI_add, lI_sub, lI_mul, iI_lt, iI_le, iI_eq, iI_to64, lI_cmp_lt, lI_cmp_gt, lI_cmp_ge, lI_cmp_le, lI_cmp_eq, mA_s, mA_o, mI_s, mI_o, mB_s, mB_o, mA_I, mA_B, mA_T, mA_F, mI_A, mI_B, mI_T, mI_F, mB_A, mB_I, mB_T, mB_F, mT_A, mT_I, mT_B, mT_F, mF_A, mF_I, mF_B, mF_T, ↓md_gA0, md_a0, md_s0, ↓md_gA1, md_a1, md_s1, ↓md_gA2, md_a2, md_s2, ↓md_gA3, md_a3, md_s3, ↓md_gA4, md_a4, md_s4, ↓md_g5, ↓md_p5, ↓md_g6, ↓md_p6, ↓md_g7, ↓md_p7, ↓md_g8, ↓md_p8, ↓md_gA9, md_a9, md_s9, ↓md_gA10, md_a10, md_s10, ↓md_gA11, md_a11, md_s11, ↓md_gA12, md_a12, md_s12, ↓md_gA13, md_a13, md_s13, ↓md_g14, ↓md_p14, ↓md_g15, ↓md_p15, ↓md_g16, ↓md_p16, ↓md_gA17, md_a17, md_s17, ↓md_gA18, md_a18, md_s18, ↓md_g19, ↓md_p19, ↓md_gA20, md_a20, md_s20, ↓md_g21, ↓md_p21, ↓md_gA22, md_a22, md_s22, ↓md_gA23, md_a23, md_s23, ↓md_gA24, md_a24, md_s24]
      rfl
  · rw [St_rc, fn_Bf (s := St σ b μ) (by rw [X3_isLease r1 (by omega), decide_eq_false h1])]
    simp (disch := omega) only [X3_no, h1, decide_true, decide_false, reduceIte, and_self, and_true, true_and, and_false, false_and, or_true, true_or, or_false, false_or, not_true_eq_false, not_false_eq_true, reduceCtorEq, mA_ss, mI_ss, ↓St_rc, ↓fn_B, ↓fn_nn_none, ↓fn_nn_some, rZ_0, rZ_1, rZ_b, b2_z, b2_1, b2_or, b2_or0, b2_or1, iI_add, iI_sub, iI_mul, iI_neg, lI_add, lI_sub, lI_mul, iI_lt, iI_le, iI_eq, iI_to64, lI_cmp_lt, lI_cmp_gt, lI_cmp_ge, lI_cmp_le, lI_cmp_eq, mA_s, mA_o, mI_s, mI_o, mB_s, mB_o, mA_I, mA_B, mA_T, mA_F, mI_A, mI_B, mI_T, mI_F, mB_A, mB_I, mB_T, mB_F, mT_A, mT_I, mT_B, mT_F, mF_A, mF_I, mF_B, mF_T, ↓md_gA0, md_a0, md_s0, ↓md_gA1, md_a1, md_s1, ↓md_gA2, md_a2, md_s2, ↓md_gA3, md_a3, md_s3, ↓md_gA4, md_a4, md_s4, ↓md_g5, ↓md_p5, ↓md_g6, ↓md_p6, ↓md_g7, ↓md_p7, ↓md_g8, ↓md_p8, ↓md_gA9, md_a9, md_s9, ↓md_gA10, md_a10, md_s10, ↓md_gA11, md_a11, md_s11, ↓md_gA12, md_a12, md_s12, ↓md_gA13, md_a13, md_s13, ↓md_g14, ↓md_p14, ↓md_g15, ↓md_p15, ↓md_g16, ↓md_p16, ↓md_gA17, md_a17, md_s17, ↓md_gA18, md_a18, md_s18, ↓md_g19, ↓md_p19, ↓md_gA20, md_a20, md_s20, ↓md_g21, ↓md_p21, ↓md_gA22, md_a22, md_s22, ↓md_gA23, md_a23, md_s23, ↓md_gA24, md_a24, md_s24]
    rfl
theorem X3_makes_l {l ab st rn : Int} (h1 : 0 ≤ l ∧ l < 10) : ∀ (n k : Nat) (gas : Nat), n + k = 8 → n < gas → fnFix (fun _ _ _ _ _ _ => none) (gX3_makes_b99 ρ b) gas (iI ab) (iI st) (iI rn) (iI l) (iI k) (St σ b (mA μ 0 (sZer (μ.1 0) l k))) =
    some (iI l, St σ b (mA μ 0 (uI (uI (uI (uI (uI (uI (sZer (μ.1 0) l 8) (1 + 8 * l + 0) ab) (1 + 8 * l + 1) st) (1 + 8 * l + 2) rn) (1 + 8 * l + 5) (-1)) (1 + 8 * l + 6) (-1)) (1 + 8 * l + 7) 1000000))) := by
  intro n
  induction n with
  | zero =>
    intro k gas e h
    obtain ⟨g, rfl⟩ := gas_s h
    rw [fnFix_s, gX3_makes_b99]
    simp (disch := omega) only [decide_true, decide_false, reduceIte, and_self, and_true, true_and, and_false, false_and, or_true, true_or, or_false, false_or, not_true_eq_false, not_false_eq_true, reduceCtorEq, mA_ss, mI_ss, ↓St_rc, ↓fn_B, ↓fn_nn_none, ↓fn_nn_some, rZ_0, rZ_1, rZ_b, b2_z, b2_1, b2_or, b2_or0, b2_or1, iI_add, iI_sub, iI_mul, iI_neg, lI_add, lI_sub, lI_mul, iI_lt, iI_le, iI_eq, iI_to64, lI_cmp_lt, lI_cmp_gt, lI_cmp_ge, lI_cmp_le, lI_cmp_eq, mA_s, mA_o, mI_s, mI_o, mB_s, mB_o, mA_I, mA_B, mA_T, mA_F, mI_A, mI_B, mI_T, mI_F, mB_A, mB_I, mB_T, mB_F, mT_A, mT_I, mT_B, mT_F, mF_A, mF_I, mF_B, mF_T, ↓md_gA0, md_a0, md_s0, ↓md_gA1, md_a1, md_s1, ↓md_gA2, md_a2, md_s2, ↓md_gA3, md_a3, md_s3, ↓md_gA4, md_a4, md_s4, ↓md_g5, ↓md_p5, ↓md_g6, ↓md_p6, ↓md_g7, ↓md_p7, ↓md_g8, ↓md_p8, ↓md_gA9, md_a9, md_s9, ↓md_gA10, md_a10, md_s10, ↓md_gA11, md_a11, md_s11, ↓md_gA12, md_a12, md_s12, ↓md_gA13, md_a13, md_s13, ↓md_g14, ↓md_p14, ↓md_g15, ↓md_p15, ↓md_g16, ↓md_p16, ↓md_gA17, md_a17, md_s17, ↓md_gA18, md_a18, md_s18, ↓md_g19, ↓md_p19, ↓md_gA20, md_a20, md_s20, ↓md_g21, ↓md_p21, ↓md_gA22, md_a22, md_s22, ↓md_gA23, md_a23, md_s23, ↓md_gA24, md_a24, md_s24]
    rw [if_pos (by omega), show k = 8 by omega]
    simp (disch := omega) only [X3_puts, decide_true, decide_false, reduceIte, and_self, and_true, true_and, and_false, false_and, or_true, true_or, or_false, false_or, not_true_eq_false, not_false_eq_true, reduceCtorEq, mA_ss, mI_ss, ↓St_rc, ↓fn_B, ↓fn_nn_none, ↓fn_nn_some, rZ_0, rZ_1, rZ_b, b2_z, b2_1, b2_or, b2_or0, b2_or1, iI_add, iI_sub, iI_mul, iI_neg, lI_add, lI_sub, lI_mul, iI_lt, iI_le, iI_eq, iI_to64, lI_cmp_lt, lI_cmp_gt, lI_cmp_ge, lI_cmp_le, lI_cmp_eq, mA_s, mA_o, mI_s, mI_o, mB_s, mB_o, mA_I, mA_B, mA_T, mA_F, mI_A, mI_B, mI_T, mI_F, mB_A, mB_I, mB_T, mB_F, mT_A, mT_I, mT_B, mT_F, mF_A, mF_I, mF_B, mF_T, ↓md_gA0, md_a0, md_s0, ↓md_gA1, md_a1, md_s1, ↓md_gA2, md_a2, md_s2, ↓md_gA3, md_a3, md_s3, ↓md_gA4, md_a4, md_s4, ↓md_g5, ↓md_p5, ↓md_g6, ↓md_p6, ↓md_g7, ↓md_p7, ↓md_g8, ↓md_p8, ↓md_gA9, md_a9, md_s9, ↓md_gA10, md_a10, md_s10, ↓md_gA11, md_a11, md_s11, ↓md_gA12, md_a12, md_s12, ↓md_gA13, md_a13, md_s13, ↓md_g14, ↓md_p14, ↓md_g15, ↓md_p15, ↓md_g16, ↓md_p16, ↓md_gA17, md_a17, md_s17, ↓md_gA18, md_a18, md_s18, ↓md_g19, ↓md_p19, ↓md_gA20, md_a20, md_s20, ↓md_g21, ↓md_p21, ↓md_gA22, md_a22, md_s22, ↓md_gA23, md_a23, md_s23, ↓md_gA24, md_a24, md_s24]
  | succ n ih =>
    intro k gas e h
    obtain ⟨g, rfl⟩ := gas_s h
    rw [fnFix_s, gX3_makes_b99]
    simp (disch := omega) only [decide_true, decide_false, reduceIte, and_self, and_true, true_and, and_false, false_and, or_true, true_or, or_false, false_or, not_true_eq_false, not_false_eq_true, reduceCtorEq, mA_ss, mI_ss, ↓St_rc, ↓fn_B, ↓fn_nn_none, ↓fn_nn_some, rZ_0, rZ_1, rZ_b, b2_z, b2_1, b2_or, b2_or0, b2_or1, iI_add, iI_sub, iI_mul, iI_neg, lI_add, lI_sub, lI_mul, iI_lt, iI_le, iI_eq, iI_to64, lI_cmp_lt, lI_cmp_gt, lI_cmp_ge, lI_cmp_le, lI_cmp_eq, mA_s, mA_o, mI_s, mI_o, mB_s, mB_o, mA_I, mA_B, mA_T, mA_F, mI_A, mI_B, mI_T, mI_F, mB_A, mB_I, mB_T, mB_F, mT_A, mT_I, mT_B, mT_F, mF_A, mF_I, mF_B, mF_T, ↓md_gA0, md_a0, md_s0, ↓md_gA1, md_a1, md_s1, ↓md_gA2, md_a2, md_s2, ↓md_gA3, md_a3, md_s3, ↓md_gA4, md_a4, md_s4, ↓md_g5, ↓md_p5, ↓md_g6, ↓md_p6, ↓md_g7, ↓md_p7, ↓md_g8, ↓md_p8, ↓md_gA9, md_a9, md_s9, ↓md_gA10, md_a10, md_s10, ↓md_gA11, md_a11, md_s11, ↓md_gA12, md_a12, md_s12, ↓md_gA13, md_a13, md_s13, ↓md_g14, ↓md_p14, ↓md_g15, ↓md_p15, ↓md_g16, ↓md_p16, ↓md_gA17, md_a17, md_s17, ↓md_gA18, md_a18, md_s18, ↓md_g19, ↓md_p19, ↓md_gA20, md_a20, md_s20, ↓md_g21, ↓md_p21, ↓md_gA22, md_a22, md_s22, ↓md_gA23, md_a23, md_s23, ↓md_gA24, md_a24, md_s24]
    rw [if_neg (by omega)]
    simp (disch := omega) only [X3_puts, decide_true, decide_false, reduceIte, and_self, and_true, true_and, and_false, false_and, or_true, true_or, or_false, false_or, not_true_eq_false, not_false_eq_true, reduceCtorEq, mA_ss, mI_ss, ↓St_rc, ↓fn_B, ↓fn_nn_none, ↓fn_nn_some, rZ_0, rZ_1, rZ_b, b2_z, b2_1, b2_or, b2_or0, b2_or1, iI_add, iI_sub, iI_mul, iI_neg, lI_add, lI_sub, lI_mul, iI_lt, iI_le, iI_eq, iI_to64, lI_cmp_lt, lI_cmp_gt, lI_cmp_ge, lI_cmp_le, lI_cmp_eq, mA_s, mA_o, mI_s, mI_o, mB_s, mB_o, mA_I, mA_B, mA_T, mA_F, mI_A, mI_B, mI_T, mI_F, mB_A, mB_I, mB_T, mB_F, mT_A, mT_I, mT_B, mT_F, mF_A, mF_I, mF_B, mF_T, ↓md_gA0, md_a0, md_s0, ↓md_gA1, md_a1, md_s1, ↓md_gA2, md_a2, md_s2, ↓md_gA3, md_a3, md_s3, ↓md_gA4, md_a4, md_s4, ↓md_g5, ↓md_p5, ↓md_g6, ↓md_p6, ↓md_g7, ↓md_p7, ↓md_g8, ↓md_p8, ↓md_gA9, md_a9, md_s9, ↓md_gA10, md_a10, md_s10, ↓md_gA11, md_a11, md_s11, ↓md_gA12, md_a12, md_s12, ↓md_gA13, md_a13, md_s13, ↓md_g14, ↓md_p14, ↓md_g15, ↓md_p15, ↓md_g16, ↓md_p16, ↓md_gA17, md_a17, md_s17, ↓md_gA18, md_a18, md_s18, ↓md_g19, ↓md_p19, ↓md_gA20, md_a20, md_s20, ↓md_g21, ↓md_p21, ↓md_gA22, md_a22, md_s22, ↓md_gA23, md_a23, md_s23, ↓md_gA24, md_a24, md_s24]
    exact ih (k + 1) g (by omega) (by omega)
theorem X3_makes (hv : okD (μ.1 0)) {l x y : Int} (r1 : r32 l) (r2 : r32 x) (r3 : r32 y) : gX3_makes ρ b (iI l) (iI x) (iI y) (St σ b μ) = some (iI (cMakes (μ.1 0) l x y).1, St σ b (cRes μ (cMakes (μ.1 0) l x y))) := by
  have h0 := hv.1
  have fin : ¬ μ.1 0 0 = 10 → gX3_makes_b78 ρ b (iI l) (iI x) (iI y) (St σ b μ) = some (iI (μ.1 0 0), St σ b (mA μ 0 (uI (uI (uI (uI (uI (uI (sZer (uI (μ.1 0) 0 (μ.1 0 0 + 1)) (μ.1 0 0) 8) (1 + 8 * μ.1 0 0 + 0) l) (1 + 8 * μ.1 0 0 + 1) x) (1 + 8 * μ.1 0 0 + 2) y) (1 + 8 * μ.1 0 0 + 5) (-1)) (1 + 8 * μ.1 0 0 + 6) (-1)) (1 + 8 * μ.1 0 0 + 7) 1000000))) := by
    intro h
    unfold gX3_makes_b78
    simp (disch := omega) only [decide_true, decide_false, reduceIte, and_self, and_true, true_and, and_false, false_and, or_true, true_or, or_false, false_or, not_true_eq_false, not_false_eq_true, reduceCtorEq, mA_ss, mI_ss, ↓St_rc, ↓fn_B, ↓fn_nn_none, ↓fn_nn_some, rZ_0, rZ_1, rZ_b, b2_z, b2_1, b2_or, b2_or0, b2_or1, iI_add, iI_sub, iI_mul, iI_neg, lI_add, lI_sub, lI_mul, iI_lt, iI_le, iI_eq, iI_to64, lI_cmp_lt, lI_cmp_gt, lI_cmp_ge, lI_cmp_le, lI_cmp_eq, mA_s, mA_o, mI_s, mI_o, mB_s, mB_o, mA_I, mA_B, mA_T, mA_F, mI_A, mI_B, mI_T, mI_F, mB_A, mB_I, mB_T, mB_F, mT_A, mT_I, mT_B, mT_F, mF_A, mF_I, mF_B, mF_T, ↓md_gA0, md_a0, md_s0, ↓md_gA1, md_a1, md_s1, ↓md_gA2, md_a2, md_s2, ↓md_gA3, md_a3, md_s3, ↓md_gA4, md_a4, md_s4, ↓md_g5, ↓md_p5, ↓md_g6, ↓md_p6, ↓md_g7, ↓md_p7, ↓md_g8, ↓md_p8, ↓md_gA9, md_a9, md_s9, ↓md_gA10, md_a10, md_s10, ↓md_gA11, md_a11, md_s11, ↓md_gA12, md_a12, md_s12, ↓md_gA13, md_a13, md_s13, ↓md_g14, ↓md_p14, ↓md_g15, ↓md_p15, ↓md_g16, ↓md_p16, ↓md_gA17, md_a17, md_s17, ↓md_gA18, md_a18, md_s18, ↓md_g19, ↓md_p19, ↓md_gA20, md_a20, md_s20, ↓md_g21, ↓md_p21, ↓md_gA22, md_a22, md_s22, ↓md_gA23, md_a23, md_s23, ↓md_gA24, md_a24, md_s24]
    have q := X3_makes_l (ρ := ρ) (σ := σ) (b := b) (μ := mA μ 0 (uI (μ.1 0) 0 (μ.1 0 0 + 1))) (l := μ.1 0 0) (ab := l) (st := x) (rn := y) (by omega) 8 0 fnGas (by decide) (by decide)
    rw [mA_ss, mA_ss, mA_s] at q
    exact q
  have mid : (l = -1 ∨ 0 ≤ l ∧ l < μ.1 0 0) → gX3_makes_b19 ρ b (iI l) (iI x) (iI y) (St σ b μ) = some (iI (cMakes (μ.1 0) l x y).1, St σ b (cRes μ (cMakes (μ.1 0) l x y))) := by
    intro hl
    unfold gX3_makes_b19 cMakes
    rw [if_neg (by omega)]
    by_cases h2 : 0 ≤ x ∧ x ≤ 3599
    · by_cases h3 : 1 ≤ y ∧ y ≤ 1000000
      · by_cases h4 : μ.1 0 0 = 10
        · simp (disch := omega) only [X3_isIn, X3_isDay, X3_no, h2, h3, h4, decide_true, decide_false, reduceIte, and_self, and_true, true_and, and_false, false_and, or_true, true_or, or_false, false_or, not_true_eq_false, not_false_eq_true, reduceCtorEq, mA_ss, mI_ss, ↓St_rc, ↓fn_B, ↓fn_nn_none, ↓fn_nn_some, rZ_0, rZ_1, rZ_b, b2_z, b2_1, b2_or, b2_or0, b2_or1, iI_add, iI_sub, iI_mul, iI_neg, lI_add, lI_sub, lI_mul, iI_lt, iI_le, iI_eq, iI_to64, lI_cmp_lt, lI_cmp_gt, lI_cmp_ge, lI_cmp_le, lI_cmp_eq, mA_s, mA_o, mI_s, mI_o, mB_s, mB_o, mA_I, mA_B, mA_T, mA_F, mI_A, mI_B, mI_T, mI_F, mB_A, mB_I, mB_T, mB_F, mT_A, mT_I, mT_B, mT_F, mF_A, mF_I, mF_B, mF_T, ↓md_gA0, md_a0, md_s0, ↓md_gA1, md_a1, md_s1, ↓md_gA2, md_a2, md_s2, ↓md_gA3, md_a3, md_s3, ↓md_gA4, md_a4, md_s4, ↓md_g5, ↓md_p5, ↓md_g6, ↓md_p6, ↓md_g7, ↓md_p7, ↓md_g8, ↓md_p8, ↓md_gA9, md_a9, md_s9, ↓md_gA10, md_a10, md_s10, ↓md_gA11, md_a11, md_s11, ↓md_gA12, md_a12, md_s12, ↓md_gA13, md_a13, md_s13, ↓md_g14, ↓md_p14, ↓md_g15, ↓md_p15, ↓md_g16, ↓md_p16, ↓md_gA17, md_a17, md_s17, ↓md_gA18, md_a18, md_s18, ↓md_g19, ↓md_p19, ↓md_gA20, md_a20, md_s20, ↓md_g21, ↓md_p21, ↓md_gA22, md_a22, md_s22, ↓md_gA23, md_a23, md_s23, ↓md_gA24, md_a24, md_s24]
          rfl
        · by_cases h5 : l < 0
          · simp (disch := omega) only [X3_isIn, X3_isDay, X3_no, h2, h3, h4, h5, decide_true, decide_false, reduceIte, and_self, and_true, true_and, and_false, false_and, or_true, true_or, or_false, false_or, not_true_eq_false, not_false_eq_true, reduceCtorEq, mA_ss, mI_ss, ↓St_rc, ↓fn_B, ↓fn_nn_none, ↓fn_nn_some, rZ_0, rZ_1, rZ_b, b2_z, b2_1, b2_or, b2_or0, b2_or1, iI_add, iI_sub, iI_mul, iI_neg, lI_add, lI_sub, lI_mul, iI_lt, iI_le, iI_eq, iI_to64, lI_cmp_lt, lI_cmp_gt, lI_cmp_ge, lI_cmp_le, lI_cmp_eq, mA_s, mA_o, mI_s, mI_o, mB_s, mB_o, mA_I, mA_B, mA_T, mA_F, mI_A, mI_B, mI_T, mI_F, mB_A, mB_I, mB_T, mB_F, mT_A, mT_I, mT_B, mT_F, mF_A, mF_I, mF_B, mF_T, ↓md_gA0, md_a0, md_s0, ↓md_gA1, md_a1, md_s1, ↓md_gA2, md_a2, md_s2, ↓md_gA3, md_a3, md_s3, ↓md_gA4, md_a4, md_s4, ↓md_g5, ↓md_p5, ↓md_g6, ↓md_p6, ↓md_g7, ↓md_p7, ↓md_g8, ↓md_p8, ↓md_gA9, md_a9, md_s9, ↓md_gA10, md_a10, md_s10, ↓md_gA11, md_a11, md_s11, ↓md_gA12, md_a12, md_s12, ↓md_gA13, md_a13, md_s13, ↓md_g14, ↓md_p14, ↓md_g15, ↓md_p15, ↓md_g16, ↓md_p16, ↓md_gA17, md_a17, md_s17, ↓md_gA18, md_a18, md_s18, ↓md_g19, ↓md_p19, ↓md_gA20, md_a20, md_s20, ↓md_g21, ↓md_p21, ↓md_gA22, md_a22, md_s22, ↓md_gA23, md_a23, md_s23, ↓md_gA24, md_a24, md_s24]
            rw [if_neg (by omega), fin h4]
            rfl
          · by_cases h6 : μ.1 0 (1 + 8 * l + 1) ≤ x ∧ x ≤ endOf (μ.1 0) l
            · simp (disch := omega) only [X3_isIn, X3_isDay, X3_no, X3_runs hv, h2, h3, h4, h5, h6, decide_true, decide_false, reduceIte, and_self, and_true, true_and, and_false, false_and, or_true, true_or, or_false, false_or, not_true_eq_false, not_false_eq_true, reduceCtorEq, mA_ss, mI_ss, ↓St_rc, ↓fn_B, ↓fn_nn_none, ↓fn_nn_some, rZ_0, rZ_1, rZ_b, b2_z, b2_1, b2_or, b2_or0, b2_or1, iI_add, iI_sub, iI_mul, iI_neg, lI_add, lI_sub, lI_mul, iI_lt, iI_le, iI_eq, iI_to64, lI_cmp_lt, lI_cmp_gt, lI_cmp_ge, lI_cmp_le, lI_cmp_eq, mA_s, mA_o, mI_s, mI_o, mB_s, mB_o, mA_I, mA_B, mA_T, mA_F, mI_A, mI_B, mI_T, mI_F, mB_A, mB_I, mB_T, mB_F, mT_A, mT_I, mT_B, mT_F, mF_A, mF_I, mF_B, mF_T, ↓md_gA0, md_a0, md_s0, ↓md_gA1, md_a1, md_s1, ↓md_gA2, md_a2, md_s2, ↓md_gA3, md_a3, md_s3, ↓md_gA4, md_a4, md_s4, ↓md_g5, ↓md_p5, ↓md_g6, ↓md_p6, ↓md_g7, ↓md_p7, ↓md_g8, ↓md_p8, ↓md_gA9, md_a9, md_s9, ↓md_gA10, md_a10, md_s10, ↓md_gA11, md_a11, md_s11, ↓md_gA12, md_a12, md_s12, ↓md_gA13, md_a13, md_s13, ↓md_g14, ↓md_p14, ↓md_g15, ↓md_p15, ↓md_g16, ↓md_p16, ↓md_gA17, md_a17, md_s17, ↓md_gA18, md_a18, md_s18, ↓md_g19, ↓md_p19, ↓md_gA20, md_a20, md_s20, ↓md_g21, ↓md_p21, ↓md_gA22, md_a22, md_s22, ↓md_gA23, md_a23, md_s23, ↓md_gA24, md_a24, md_s24]
              rw [fin h4]
              rfl
            · simp (disch := omega) only [X3_isIn, X3_isDay, X3_no, X3_runs hv, h2, h3, h4, h5, h6, decide_true, decide_false, reduceIte, and_self, and_true, true_and, and_false, false_and, or_true, true_or, or_false, false_or, not_true_eq_false, not_false_eq_true, reduceCtorEq, mA_ss, mI_ss, ↓St_rc, ↓fn_B, ↓fn_nn_none, ↓fn_nn_some, rZ_0, rZ_1, rZ_b, b2_z, b2_1, b2_or, b2_or0, b2_or1, iI_add, iI_sub, iI_mul, iI_neg, lI_add, lI_sub, lI_mul, iI_lt, iI_le, iI_eq, iI_to64, lI_cmp_lt, lI_cmp_gt, lI_cmp_ge, lI_cmp_le, lI_cmp_eq, mA_s, mA_o, mI_s, mI_o, mB_s, mB_o, mA_I, mA_B, mA_T, mA_F, mI_A, mI_B, mI_T, mI_F, mB_A, mB_I, mB_T, mB_F, mT_A, mT_I, mT_B, mT_F, mF_A, mF_I, mF_B, mF_T, ↓md_gA0, md_a0, md_s0, ↓md_gA1, md_a1, md_s1, ↓md_gA2, md_a2, md_s2, ↓md_gA3, md_a3, md_s3, ↓md_gA4, md_a4, md_s4, ↓md_g5, ↓md_p5, ↓md_g6, ↓md_p6, ↓md_g7, ↓md_p7, ↓md_g8, ↓md_p8, ↓md_gA9, md_a9, md_s9, ↓md_gA10, md_a10, md_s10, ↓md_gA11, md_a11, md_s11, ↓md_gA12, md_a12, md_s12, ↓md_gA13, md_a13, md_s13, ↓md_g14, ↓md_p14, ↓md_g15, ↓md_p15, ↓md_g16, ↓md_p16, ↓md_gA17, md_a17, md_s17, ↓md_gA18, md_a18, md_s18, ↓md_g19, ↓md_p19, ↓md_gA20, md_a20, md_s20, ↓md_g21, ↓md_p21, ↓md_gA22, md_a22, md_s22, ↓md_gA23, md_a23, md_s23, ↓md_gA24, md_a24, md_s24]
              rw [if_pos (by omega)]
              rfl
      · simp (disch := omega) only [X3_isIn, X3_isDay, X3_no, h2, h3, decide_true, decide_false, reduceIte, and_self, and_true, true_and, and_false, false_and, or_true, true_or, or_false, false_or, not_true_eq_false, not_false_eq_true, reduceCtorEq, mA_ss, mI_ss, ↓St_rc, ↓fn_B, ↓fn_nn_none, ↓fn_nn_some, rZ_0, rZ_1, rZ_b, b2_z, b2_1, b2_or, b2_or0, b2_or1, iI_add, iI_sub, iI_mul, iI_neg, lI_add, lI_sub, lI_mul, iI_lt, iI_le, iI_eq, iI_to64, lI_cmp_lt, lI_cmp_gt, lI_cmp_ge, lI_cmp_le, lI_cmp_eq, mA_s, mA_o, mI_s, mI_o, mB_s, mB_o, mA_I, mA_B, mA_T, mA_F, mI_A, mI_B, mI_T, mI_F, mB_A, mB_I, mB_T, mB_F, mT_A, mT_I, mT_B, mT_F, mF_A, mF_I, mF_B, mF_T, ↓md_gA0, md_a0, md_s0, ↓md_gA1, md_a1, md_s1, ↓md_gA2, md_a2, md_s2, ↓md_gA3, md_a3, md_s3, ↓md_gA4, md_a4, md_s4, ↓md_g5, ↓md_p5, ↓md_g6, ↓md_p6, ↓md_g7, ↓md_p7, ↓md_g8, ↓md_p8, ↓md_gA9, md_a9, md_s9, ↓md_gA10, md_a10, md_s10, ↓md_gA11, md_a11, md_s11, ↓md_gA12, md_a12, md_s12, ↓md_gA13, md_a13, md_s13, ↓md_g14, ↓md_p14, ↓md_g15, ↓md_p15, ↓md_g16, ↓md_p16, ↓md_gA17, md_a17, md_s17, ↓md_gA18, md_a18, md_s18, ↓md_g19, ↓md_p19, ↓md_gA20, md_a20, md_s20, ↓md_g21, ↓md_p21, ↓md_gA22, md_a22, md_s22, ↓md_gA23, md_a23, md_s23, ↓md_gA24, md_a24, md_s24]
        rfl
    · simp (disch := omega) only [X3_isDay, X3_no, h2, decide_true, decide_false, reduceIte, and_self, and_true, true_and, and_false, false_and, or_true, true_or, or_false, false_or, not_true_eq_false, not_false_eq_true, reduceCtorEq, mA_ss, mI_ss, ↓St_rc, ↓fn_B, ↓fn_nn_none, ↓fn_nn_some, rZ_0, rZ_1, rZ_b, b2_z, b2_1, b2_or, b2_or0, b2_or1, iI_add, iI_sub, iI_mul, iI_neg, lI_add, lI_sub, lI_mul, iI_lt, iI_le, iI_eq, iI_to64, lI_cmp_lt, lI_cmp_gt, lI_cmp_ge, lI_cmp_le, lI_cmp_eq, mA_s, mA_o, mI_s, mI_o, mB_s, mB_o, mA_I, mA_B, mA_T, mA_F, mI_A, mI_B, mI_T, mI_F, mB_A, mB_I, mB_T, mB_F, mT_A, mT_I, mT_B, mT_F, mF_A, mF_I, mF_B, mF_T, ↓md_gA0, md_a0, md_s0, ↓md_gA1, md_a1, md_s1, ↓md_gA2, md_a2, md_s2, ↓md_gA3, md_a3, md_s3, ↓md_gA4, md_a4, md_s4, ↓md_g5, ↓md_p5, ↓md_g6, ↓md_p6, ↓md_g7, ↓md_p7, ↓md_g8, ↓md_p8, ↓md_gA9, md_a9, md_s9, ↓md_gA10, md_a10, md_s10, ↓md_gA11, md_a11, md_s11, ↓md_gA12, md_a12, md_s12, ↓md_gA13, md_a13, md_s13, ↓md_g14, ↓md_p14, ↓md_g15, ↓md_p15, ↓md_g16, ↓md_p16, ↓md_gA17, md_a17, md_s17, ↓md_gA18, md_a18, md_s18, ↓md_g19, ↓md_p19, ↓md_gA20, md_a20, md_s20, ↓md_g21, ↓md_p21, ↓md_gA22, md_a22, md_s22, ↓md_gA23, md_a23, md_s23, ↓md_gA24, md_a24, md_s24]
      rfl
  unfold gX3_makes
  by_cases h1 : l = -1
  · simp (disch := omega) only [h1, decide_true, decide_false, reduceIte, and_self, and_true, true_and, and_false, false_and, or_true, true_or, or_false, false_or, not_true_eq_false, not_false_eq_true, reduceCtorEq, mA_ss, mI_ss, ↓St_rc, ↓fn_B, ↓fn_nn_none, ↓fn_nn_some, rZ_0, rZ_1, rZ_b, b2_z, b2_1, b2_or, b2_or0, b2_or1, iI_add, iI_sub, iI_mul, iI_neg, lI_add, lI_sub, lI_mul, iI_lt, iI_le, iI_eq, iI_to64, lI_cmp_lt, lI_cmp_gt, lI_cmp_ge, lI_cmp_le, lI_cmp_eq, mA_s, mA_o, mI_s, mI_o, mB_s, mB_o, mA_I, mA_B, mA_T, mA_F, mI_A, mI_B, mI_T, mI_F, mB_A, mB_I, mB_T, mB_F, mT_A, mT_I, mT_B, mT_F, mF_A, mF_I, mF_B, mF_T, ↓md_gA0, md_a0, md_s0, ↓md_gA1, md_a1, md_s1, ↓md_gA2, md_a2, md_s2, ↓md_gA3, md_a3, md_s3, ↓md_gA4, md_a4, md_s4, ↓md_g5, ↓md_p5, ↓md_g6, ↓md_p6, ↓md_g7, ↓md_p7, ↓md_g8, ↓md_p8, ↓md_gA9, md_a9, md_s9, ↓md_gA10, md_a10, md_s10, ↓md_gA11, md_a11, md_s11, ↓md_gA12, md_a12, md_s12, ↓md_gA13, md_a13, md_s13, ↓md_g14, ↓md_p14, ↓md_g15, ↓md_p15, ↓md_g16, ↓md_p16, ↓md_gA17, md_a17, md_s17, ↓md_gA18, md_a18, md_s18, ↓md_g19, ↓md_p19, ↓md_gA20, md_a20, md_s20, ↓md_g21, ↓md_p21, ↓md_gA22, md_a22, md_s22, ↓md_gA23, md_a23, md_s23, ↓md_gA24, md_a24, md_s24]
    rw [h1] at mid
    exact mid (Or.inl rfl)
  · by_cases h2 : 0 ≤ l ∧ l < μ.1 0 0
    · simp (disch := omega) only [h1, X3_isLease, h2, decide_true, decide_false, reduceIte, and_self, and_true, true_and, and_false, false_and, or_true, true_or, or_false, false_or, not_true_eq_false, not_false_eq_true, reduceCtorEq, mA_ss, mI_ss, ↓St_rc, ↓fn_B, ↓fn_nn_none, ↓fn_nn_some, rZ_0, rZ_1, rZ_b, b2_z, b2_1, b2_or, b2_or0, b2_or1, iI_add, iI_sub, iI_mul, iI_neg, lI_add, lI_sub, lI_mul, iI_lt, iI_le, iI_eq, iI_to64, lI_cmp_lt, lI_cmp_gt, lI_cmp_ge, lI_cmp_le, lI_cmp_eq, mA_s, mA_o, mI_s, mI_o, mB_s, mB_o, mA_I, mA_B, mA_T, mA_F, mI_A, mI_B, mI_T, mI_F, mB_A, mB_I, mB_T, mB_F, mT_A, mT_I, mT_B, mT_F, mF_A, mF_I, mF_B, mF_T, ↓md_gA0, md_a0, md_s0, ↓md_gA1, md_a1, md_s1, ↓md_gA2, md_a2, md_s2, ↓md_gA3, md_a3, md_s3, ↓md_gA4, md_a4, md_s4, ↓md_g5, ↓md_p5, ↓md_g6, ↓md_p6, ↓md_g7, ↓md_p7, ↓md_g8, ↓md_p8, ↓md_gA9, md_a9, md_s9, ↓md_gA10, md_a10, md_s10, ↓md_gA11, md_a11, md_s11, ↓md_gA12, md_a12, md_s12, ↓md_gA13, md_a13, md_s13, ↓md_g14, ↓md_p14, ↓md_g15, ↓md_p15, ↓md_g16, ↓md_p16, ↓md_gA17, md_a17, md_s17, ↓md_gA18, md_a18, md_s18, ↓md_g19, ↓md_p19, ↓md_gA20, md_a20, md_s20, ↓md_g21, ↓md_p21, ↓md_gA22, md_a22, md_s22, ↓md_gA23, md_a23, md_s23, ↓md_gA24, md_a24, md_s24]
      exact mid (Or.inr h2)
    · unfold cMakes
      simp (disch := omega) only [h1, X3_isLease, h2, X3_no, decide_true, decide_false, reduceIte, and_self, and_true, true_and, and_false, false_and, or_true, true_or, or_false, false_or, not_true_eq_false, not_false_eq_true, reduceCtorEq, mA_ss, mI_ss, ↓St_rc, ↓fn_B, ↓fn_nn_none, ↓fn_nn_some, rZ_0, rZ_1, rZ_b, b2_z, b2_1, b2_or, b2_or0, b2_or1, iI_add, iI_sub, iI_mul, iI_neg, lI_add, lI_sub, lI_mul, iI_lt, iI_le, iI_eq, iI_to64, lI_cmp_lt, lI_cmp_gt, lI_cmp_ge, lI_cmp_le, lI_cmp_eq, mA_s, mA_o, mI_s, mI_o, mB_s, mB_o, mA_I, mA_B, mA_T, mA_F, mI_A, mI_B, mI_T, mI_F, mB_A, mB_I, mB_T, mB_F, mT_A, mT_I, mT_B, mT_F, mF_A, mF_I, mF_B, mF_T, ↓md_gA0, md_a0, md_s0, ↓md_gA1, md_a1, md_s1, ↓md_gA2, md_a2, md_s2, ↓md_gA3, md_a3, md_s3, ↓md_gA4, md_a4, md_s4, ↓md_g5, ↓md_p5, ↓md_g6, ↓md_p6, ↓md_g7, ↓md_p7, ↓md_g8, ↓md_p8, ↓md_gA9, md_a9, md_s9, ↓md_gA10, md_a10, md_s10, ↓md_gA11, md_a11, md_s11, ↓md_gA12, md_a12, md_s12, ↓md_gA13, md_a13, md_s13, ↓md_g14, ↓md_p14, ↓md_g15, ↓md_p15, ↓md_g16, ↓md_p16, ↓md_gA17, md_a17, md_s17, ↓md_gA18, md_a18, md_s18, ↓md_g19, ↓md_p19, ↓md_gA20, md_a20, md_s20, ↓md_g21, ↓md_p21, ↓md_gA22, md_a22, md_s22, ↓md_gA23, md_a23, md_s23, ↓md_gA24, md_a24, md_s24]
      rw [if_pos (fun q => h1 q)]
      rfl
end Change
end
section
/-! the end of a change: what was there is kept -/
def shI (i : Int) (p : Int → Int) : Int → Int := fun j => if 0 ≤ j ∧ j < i then p (j + 3960) else p j
def stI (u i : Int) (ah p : Int → Int) : Int → Int := fun j => if u * 3960 ≤ j ∧ j < u * 3960 + i then ah (j - u * 3960) else p j
theorem shI_0 (p : Int → Int) : shI 0 p = p := by
  funext j
  unfold shI
  rw [if_neg (by omega)]
theorem shI_s {i : Int} {p : Int → Int} (h : 0 ≤ i) : uI (shI i p) i (shI i p (i + 3960)) = shI (i + 1) p := by
  funext j
  unfold uI shI
  by_cases h1 : j = i
  · rw [if_pos h1, if_neg (by omega), if_pos (by omega), h1]
  · rw [if_neg h1]
    by_cases h2 : 0 ≤ j ∧ j < i
    · rw [if_pos h2, if_pos (by omega)]
    · rw [if_neg h2, if_neg (by omega)]
theorem stI_0 (u : Int) (ah p : Int → Int) : stI u 0 ah p = p := by
  funext j
  unfold stI
  rw [if_neg (by omega)]
theorem stI_s {u i : Int} {ah p : Int → Int} (h : 0 ≤ i) : uI (stI u i ah p) (u * 3960 + i) (ah i) = stI u (i + 1) ah p := by
  funext j
  unfold uI stI
  by_cases h1 : j = u * 3960 + i
  · rw [if_pos h1, if_pos (by omega), h1]
    congr 1
    omega
  · rw [if_neg h1]
    by_cases h2 : u * 3960 ≤ j ∧ j < u * 3960 + i
    · rw [if_pos h2, if_pos (by omega)]
    · rw [if_neg h2, if_neg (by omega)]
/-- what was kept, with one more; how many -/
def sPush (p ah : Int → Int) (u : Int) : Int → Int := if u = 6 then stI 5 3960 ah (shI 19800 p) else stI u 3960 ah p
def sMore (u : Int) : Int := if u = 6 then 6 else u + 1
section Change2
variable {ρ : Nat → Nat} {σ : mS} {b : Nat} {μ : MM}
theorem X3_ends_b (x : Int) (hu : 0 ≤ μ.2.1 5 ∧ μ.2.1 5 ≤ 5) : ∀ (n : Nat) (i : Int) (gas : Nat), i + n = 3960 → n < gas → 0 ≤ i → fnFix (fun _ _ _ => none) (gX3_ends_b52 ρ b) gas (iI x) (iI i) (St σ b (mA μ 4 (stI (μ.2.1 5) i (μ.1 1) (μ.1 4)))) =
    some (iI x, St σ b (mI (mA μ 4 (stI (μ.2.1 5) 3960 (μ.1 1) (μ.1 4))) 5 (μ.2.1 5 + 1))) := by
  intro n
  induction n with
  | zero =>
    intro i gas h1 h2 h3
    obtain ⟨g, rfl⟩ := gas_s h2
    rw [fnFix_s, gX3_ends_b52]
    simp (disch := omega) only [decide_true, decide_false, reduceIte, and_self, and_true, true_and, and_false, false_and, or_true, true_or, or_false, false_or, not_true_eq_false, not_false_eq_true, reduceCtorEq, mA_ss, mI_ss, ↓St_rc, ↓fn_B, ↓fn_nn_none, ↓fn_nn_some, rZ_0, rZ_1, rZ_b, b2_z, b2_1, b2_or, b2_or0, b2_or1, iI_add, iI_sub, iI_mul, iI_neg, lI_add, lI_sub, lI_mul, iI_lt, iI_le, iI_eq, iI_to64, lI_cmp_lt, lI_cmp_gt, lI_cmp_ge, lI_cmp_le, lI_cmp_eq, mA_s, mA_o, mI_s, mI_o, mB_s, mB_o, mA_I, mA_B, mA_T, mA_F, mI_A, mI_B, mI_T, mI_F, mB_A, mB_I, mB_T, mB_F, mT_A, mT_I, mT_B, mT_F, mF_A, mF_I, mF_B, mF_T, ↓md_gA0, md_a0, md_s0, ↓md_gA1, md_a1, md_s1, ↓md_gA2, md_a2, md_s2, ↓md_gA3, md_a3, md_s3, ↓md_gA4, md_a4, md_s4, ↓md_g5, ↓md_p5, ↓md_g6, ↓md_p6, ↓md_g7, ↓md_p7, ↓md_g8, ↓md_p8, ↓md_gA9, md_a9, md_s9, ↓md_gA10, md_a10, md_s10, ↓md_gA11, md_a11, md_s11, ↓md_gA12, md_a12, md_s12, ↓md_gA13, md_a13, md_s13, ↓md_g14, ↓md_p14, ↓md_g15, ↓md_p15, ↓md_g16, ↓md_p16, ↓md_gA17, md_a17, md_s17, ↓md_gA18, md_a18, md_s18, ↓md_g19, ↓md_p19, ↓md_gA20, md_a20, md_s20, ↓md_g21, ↓md_p21, ↓md_gA22, md_a22, md_s22, ↓md_gA23, md_a23, md_s23, ↓md_gA24, md_a24, md_s24]
    rw [if_pos (by omega), show i = 3960 by omega]
  | succ n ih =>
    intro i gas h1 h2 h3
    obtain ⟨g, rfl⟩ := gas_s h2
    rw [fnFix_s, gX3_ends_b52]
    simp (disch := omega) only [decide_true, decide_false, reduceIte, and_self, and_true, true_and, and_false, false_and, or_true, true_or, or_false, false_or, not_true_eq_false, not_false_eq_true, reduceCtorEq, mA_ss, mI_ss, ↓St_rc, ↓fn_B, ↓fn_nn_none, ↓fn_nn_some, rZ_0, rZ_1, rZ_b, b2_z, b2_1, b2_or, b2_or0, b2_or1, iI_add, iI_sub, iI_mul, iI_neg, lI_add, lI_sub, lI_mul, iI_lt, iI_le, iI_eq, iI_to64, lI_cmp_lt, lI_cmp_gt, lI_cmp_ge, lI_cmp_le, lI_cmp_eq, mA_s, mA_o, mI_s, mI_o, mB_s, mB_o, mA_I, mA_B, mA_T, mA_F, mI_A, mI_B, mI_T, mI_F, mB_A, mB_I, mB_T, mB_F, mT_A, mT_I, mT_B, mT_F, mF_A, mF_I, mF_B, mF_T, ↓md_gA0, md_a0, md_s0, ↓md_gA1, md_a1, md_s1, ↓md_gA2, md_a2, md_s2, ↓md_gA3, md_a3, md_s3, ↓md_gA4, md_a4, md_s4, ↓md_g5, ↓md_p5, ↓md_g6, ↓md_p6, ↓md_g7, ↓md_p7, ↓md_g8, ↓md_p8, ↓md_gA9, md_a9, md_s9, ↓md_gA10, md_a10, md_s10, ↓md_gA11, md_a11, md_s11, ↓md_gA12, md_a12, md_s12, ↓md_gA13, md_a13, md_s13, ↓md_g14, ↓md_p14, ↓md_g15, ↓md_p15, ↓md_g16, ↓md_p16, ↓md_gA17, md_a17, md_s17, ↓md_gA18, md_a18, md_s18, ↓md_g19, ↓md_p19, ↓md_gA20, md_a20, md_s20, ↓md_g21, ↓md_p21, ↓md_gA22, md_a22, md_s22, ↓md_gA23, md_a23, md_s23, ↓md_gA24, md_a24, md_s24]
    rw [if_neg (by omega), stI_s h3]
    exact ih (i + 1) g (by omega) (by omega) (by omega)
theorem X3_ends_c (x : Int) (hu : 0 ≤ μ.2.1 5 ∧ μ.2.1 5 ≤ 5) : gX3_ends_b50 ρ b (iI x) (St σ b μ) = some (iI x, St σ b (mI (mA μ 4 (stI (μ.2.1 5) 3960 (μ.1 1) (μ.1 4))) 5 (μ.2.1 5 + 1))) := by
  have h := X3_ends_b (ρ := ρ) (σ := σ) (b := b) (μ := μ) x hu 3960 0 fnGas (by decide) (by decide) (by decide)
  rw [stI_0, mA_self] at h
  exact h
theorem X3_ends_a (x : Int) (hu : μ.2.1 5 = 6) : ∀ (n : Nat) (i : Int) (gas : Nat), i + n = 19800 → n < gas → 0 ≤ i → fnFix (fun _ _ _ => none) (gX3_ends_b11 ρ b) gas (iI x) (iI i) (St σ b (mA μ 4 (shI i (μ.1 4)))) =
    some (iI x, St σ b (mI (mA μ 4 (stI 5 3960 (μ.1 1) (shI 19800 (μ.1 4)))) 5 6)) := by
  intro n
  induction n with
  | zero =>
    intro i gas h1 h2 h3
    obtain ⟨g, rfl⟩ := gas_s h2
    rw [fnFix_s, gX3_ends_b11]
    simp (disch := omega) only [decide_true, decide_false, reduceIte, and_self, and_true, true_and, and_false, false_and, or_true, true_or, or_false, false_or, not_true_eq_false, not_false_eq_true, reduceCtorEq, mA_ss, mI_ss, ↓St_rc, ↓fn_B, ↓fn_nn_none, ↓fn_nn_some, rZ_0, rZ_1, rZ_b, b2_z, b2_1, b2_or, b2_or0, b2_or1, iI_add, iI_sub, iI_mul, iI_neg, lI_add, lI_sub, lI_mul, iI_lt, iI_le, iI_eq, iI_to64, lI_cmp_lt, lI_cmp_gt, lI_cmp_ge, lI_cmp_le, lI_cmp_eq, mA_s, mA_o, mI_s, mI_o, mB_s, mB_o, mA_I, mA_B, mA_T, mA_F, mI_A, mI_B, mI_T, mI_F, mB_A, mB_I, mB_T, mB_F, mT_A, mT_I, mT_B, mT_F, mF_A, mF_I, mF_B, mF_T, ↓md_gA0, md_a0, md_s0, ↓md_gA1, md_a1, md_s1, ↓md_gA2, md_a2, md_s2, ↓md_gA3, md_a3, md_s3, ↓md_gA4, md_a4, md_s4, ↓md_g5, ↓md_p5, ↓md_g6, ↓md_p6, ↓md_g7, ↓md_p7, ↓md_g8, ↓md_p8, ↓md_gA9, md_a9, md_s9, ↓md_gA10, md_a10, md_s10, ↓md_gA11, md_a11, md_s11, ↓md_gA12, md_a12, md_s12, ↓md_gA13, md_a13, md_s13, ↓md_g14, ↓md_p14, ↓md_g15, ↓md_p15, ↓md_g16, ↓md_p16, ↓md_gA17, md_a17, md_s17, ↓md_gA18, md_a18, md_s18, ↓md_g19, ↓md_p19, ↓md_gA20, md_a20, md_s20, ↓md_g21, ↓md_p21, ↓md_gA22, md_a22, md_s22, ↓md_gA23, md_a23, md_s23, ↓md_gA24, md_a24, md_s24]
    rw [if_pos (by omega), X3_ends_c x (by rw [mI_s, hu]; decide), hu]
    simp (disch := omega) only [decide_true, decide_false, reduceIte, and_self, and_true, true_and, and_false, false_and, or_true, true_or, or_false, false_or, not_true_eq_false, not_false_eq_true, reduceCtorEq, mA_ss, mI_ss, ↓St_rc, ↓fn_B, ↓fn_nn_none, ↓fn_nn_some, rZ_0, rZ_1, rZ_b, b2_z, b2_1, b2_or, b2_or0, b2_or1, iI_add, iI_sub, iI_mul, iI_neg, lI_add, lI_sub, lI_mul, iI_lt, iI_le, iI_eq, iI_to64, lI_cmp_lt, lI_cmp_gt, lI_cmp_ge, lI_cmp_le, lI_cmp_eq, mA_s, mA_o, mI_s, mI_o, mB_s, mB_o, mA_I, mA_B, mA_T, mA_F, mI_A, mI_B, mI_T, mI_F, mB_A, mB_I, mB_T, mB_F, mT_A, mT_I, mT_B, mT_F, mF_A, mF_I, mF_B, mF_T, ↓md_gA0, md_a0, md_s0, ↓md_gA1, md_a1, md_s1, ↓md_gA2, md_a2, md_s2, ↓md_gA3, md_a3, md_s3, ↓md_gA4, md_a4, md_s4, ↓md_g5, ↓md_p5, ↓md_g6, ↓md_p6, ↓md_g7, ↓md_p7, ↓md_g8, ↓md_p8, ↓md_gA9, md_a9, md_s9, ↓md_gA10, md_a10, md_s10, ↓md_gA11, md_a11, md_s11, ↓md_gA12, md_a12, md_s12, ↓md_gA13, md_a13, md_s13, ↓md_g14, ↓md_p14, ↓md_g15, ↓md_p15, ↓md_g16, ↓md_p16, ↓md_gA17, md_a17, md_s17, ↓md_gA18, md_a18, md_s18, ↓md_g19, ↓md_p19, ↓md_gA20, md_a20, md_s20, ↓md_g21, ↓md_p21, ↓md_gA22, md_a22, md_s22, ↓md_gA23, md_a23, md_s23, ↓md_gA24, md_a24, md_s24]
    rw [show i = 19800 by omega]
    rfl
  | succ n ih =>
    intro i gas h1 h2 h3
    obtain ⟨g, rfl⟩ := gas_s h2
    rw [fnFix_s, gX3_ends_b11]
    simp (disch := omega) only [decide_true, decide_false, reduceIte, and_self, and_true, true_and, and_false, false_and, or_true, true_or, or_false, false_or, not_true_eq_false, not_false_eq_true, reduceCtorEq, mA_ss, mI_ss, ↓St_rc, ↓fn_B, ↓fn_nn_none, ↓fn_nn_some, rZ_0, rZ_1, rZ_b, b2_z, b2_1, b2_or, b2_or0, b2_or1, iI_add, iI_sub, iI_mul, iI_neg, lI_add, lI_sub, lI_mul, iI_lt, iI_le, iI_eq, iI_to64, lI_cmp_lt, lI_cmp_gt, lI_cmp_ge, lI_cmp_le, lI_cmp_eq, mA_s, mA_o, mI_s, mI_o, mB_s, mB_o, mA_I, mA_B, mA_T, mA_F, mI_A, mI_B, mI_T, mI_F, mB_A, mB_I, mB_T, mB_F, mT_A, mT_I, mT_B, mT_F, mF_A, mF_I, mF_B, mF_T, ↓md_gA0, md_a0, md_s0, ↓md_gA1, md_a1, md_s1, ↓md_gA2, md_a2, md_s2, ↓md_gA3, md_a3, md_s3, ↓md_gA4, md_a4, md_s4, ↓md_g5, ↓md_p5, ↓md_g6, ↓md_p6, ↓md_g7, ↓md_p7, ↓md_g8, ↓md_p8, ↓md_gA9, md_a9, md_s9, ↓md_gA10, md_a10, md_s10, ↓md_gA11, md_a11, md_s11, ↓md_gA12, md_a12, md_s12, ↓md_gA13, md_a13, md_s13, ↓md_g14, ↓md_p14, ↓md_g15, ↓md_p15, ↓md_g16, ↓md_p16, ↓md_gA17, md_a17, md_s17, ↓md_gA18, md_a18, md_s18, ↓md_g19, ↓md_p19, ↓md_gA20, md_a20, md_s20, ↓md_g21, ↓md_p21, ↓md_gA22, md_a22, md_s22, ↓md_gA23, md_a23, md_s23, ↓md_gA24, md_a24, md_s24]
    rw [if_neg (by omega), shI_s h3]
    exact ih (i + 1) g (by omega) (by omega) (by omega)
theorem X3_ends (x : Int) (hu : 0 ≤ μ.2.1 5 ∧ μ.2.1 5 ≤ 6) : gX3_ends ρ b (iI x) (St σ b μ) = some (iI x, St σ b (mI (mA μ 4 (sPush (μ.1 4) (μ.1 1) (μ.2.1 5))) 5 (sMore (μ.2.1 5)))) := by
  unfold gX3_ends sPush sMore
  by_cases h : μ.2.1 5 = 6
  · simp (disch := omega) only [h, decide_true, decide_false, reduceIte, and_self, and_true, true_and, and_false, false_and, or_true, true_or, or_false, false_or, not_true_eq_false, not_false_eq_true, reduceCtorEq, mA_ss, mI_ss, ↓St_rc, ↓fn_B, ↓fn_nn_none, ↓fn_nn_some, rZ_0, rZ_1, rZ_b, b2_z, b2_1, b2_or, b2_or0, b2_or1, iI_add, iI_sub, iI_mul, iI_neg, lI_add, lI_sub, lI_mul, iI_lt, iI_le, iI_eq, iI_to64, lI_cmp_lt, lI_cmp_gt, lI_cmp_ge, lI_cmp_le, lI_cmp_eq, mA_s, mA_o, mI_s, mI_o, mB_s, mB_o, mA_I, mA_B, mA_T, mA_F, mI_A, mI_B, mI_T, mI_F, mB_A, mB_I, mB_T, mB_F, mT_A, mT_I, mT_B, mT_F, mF_A, mF_I, mF_B, mF_T, ↓md_gA0, md_a0, md_s0, ↓md_gA1, md_a1, md_s1, ↓md_gA2, md_a2, md_s2, ↓md_gA3, md_a3, md_s3, ↓md_gA4, md_a4, md_s4, ↓md_g5, ↓md_p5, ↓md_g6, ↓md_p6, ↓md_g7, ↓md_p7, ↓md_g8, ↓md_p8, ↓md_gA9, md_a9, md_s9, ↓md_gA10, md_a10, md_s10, ↓md_gA11, md_a11, md_s11, ↓md_gA12, md_a12, md_s12, ↓md_gA13, md_a13, md_s13, ↓md_g14, ↓md_p14, ↓md_g15, ↓md_p15, ↓md_g16, ↓md_p16, ↓md_gA17, md_a17, md_s17, ↓md_gA18, md_a18, md_s18, ↓md_g19, ↓md_p19, ↓md_gA20, md_a20, md_s20, ↓md_g21, ↓md_p21, ↓md_gA22, md_a22, md_s22, ↓md_gA23, md_a23, md_s23, ↓md_gA24, md_a24, md_s24]
    have q := X3_ends_a (ρ := ρ) (σ := σ) (b := b) (μ := μ) x h 19800 0 fnGas (by decide) (by decide) (by decide)
    rw [shI_0, mA_self] at q
    exact q
  · simp (disch := omega) only [h, decide_true, decide_false, reduceIte, and_self, and_true, true_and, and_false, false_and, or_true, true_or, or_false, false_or, not_true_eq_false, not_false_eq_true, reduceCtorEq, mA_ss, mI_ss, ↓St_rc, ↓fn_B, ↓fn_nn_none, ↓fn_nn_some, rZ_0, rZ_1, rZ_b, b2_z, b2_1, b2_or, b2_or0, b2_or1, iI_add, iI_sub, iI_mul, iI_neg, lI_add, lI_sub, lI_mul, iI_lt, iI_le, iI_eq, iI_to64, lI_cmp_lt, lI_cmp_gt, lI_cmp_ge, lI_cmp_le, lI_cmp_eq, mA_s, mA_o, mI_s, mI_o, mB_s, mB_o, mA_I, mA_B, mA_T, mA_F, mI_A, mI_B, mI_T, mI_F, mB_A, mB_I, mB_T, mB_F, mT_A, mT_I, mT_B, mT_F, mF_A, mF_I, mF_B, mF_T, ↓md_gA0, md_a0, md_s0, ↓md_gA1, md_a1, md_s1, ↓md_gA2, md_a2, md_s2, ↓md_gA3, md_a3, md_s3, ↓md_gA4, md_a4, md_s4, ↓md_g5, ↓md_p5, ↓md_g6, ↓md_p6, ↓md_g7, ↓md_p7, ↓md_g8, ↓md_p8, ↓md_gA9, md_a9, md_s9, ↓md_gA10, md_a10, md_s10, ↓md_gA11, md_a11, md_s11, ↓md_gA12, md_a12, md_s12, ↓md_gA13, md_a13, md_s13, ↓md_g14, ↓md_p14, ↓md_g15, ↓md_p15, ↓md_g16, ↓md_p16, ↓md_gA17, md_a17, md_s17, ↓md_gA18, md_a18, md_s18, ↓md_g19, ↓md_p19, ↓md_gA20, md_a20, md_s20, ↓md_g21, ↓md_p21, ↓md_gA22, md_a22, md_s22, ↓md_gA23, md_a23, md_s23, ↓md_gA24, md_a24, md_s24]
    rw [X3_ends_c x (by omega)]
/-- a change's answer, and the memory behind it -/
def eRes (μ : MM) (r : cT) : MM := if r.2.1 = 0 then mI (mA (mA (mI (mA μ 1 (cpI 3960 (μ.1 0) (μ.1 1))) 8 0) 0 r.2.2) 4 (sPush (μ.1 4) (cpI 3960 (μ.1 0) (μ.1 1)) (μ.2.1 5))) 5 (sMore (μ.2.1 5)) else mI (mI (mA μ 1 (cpI 3960 (μ.1 0) (μ.1 1))) 8 r.2.1) 6 r.2.1
def eAns (r : cT) : Int := if r.2.1 = 0 then r.1 else -3
theorem X3_closes (r : cT) (hr : 0 ≤ r.2.1 ∧ r.2.1 ≤ 6) (hu : 0 ≤ μ.2.1 5 ∧ μ.2.1 5 ≤ 6) : gX3_closes ρ b (iI r.1) (St σ b (cRes (mI (mA μ 1 (cpI 3960 (μ.1 0) (μ.1 1))) 8 0) r)) = some (iI (eAns r), St σ b (eRes μ r)) := by
  unfold gX3_closes cRes eRes eAns
  by_cases h : r.2.1 = 0
  · rw [if_pos h, if_pos h, if_pos h]
    simp (disch := omega) only [decide_true, decide_false, reduceIte, and_self, and_true, true_and, and_false, false_and, or_true, true_or, or_false, false_or, not_true_eq_false, not_false_eq_true, reduceCtorEq, mA_ss, mI_ss, ↓St_rc, ↓fn_B, ↓fn_nn_none, ↓fn_nn_some, rZ_0, rZ_1, rZ_b, b2_z, b2_1, b2_or, b2_or0, b2_or1, iI_add, iI_sub, iI_mul, iI_neg, lI_add, lI_sub, lI_mul, iI_lt, iI_le, iI_eq, iI_to64, lI_cmp_lt, lI_cmp_gt, lI_cmp_ge, lI_cmp_le, lI_cmp_eq, mA_s, mA_o, mI_s, mI_o, mB_s, mB_o, mA_I, mA_B, mA_T, mA_F, mI_A, mI_B, mI_T, mI_F, mB_A, mB_I, mB_T, mB_F, mT_A, mT_I, mT_B, mT_F, mF_A, mF_I, mF_B, mF_T, ↓md_gA0, md_a0, md_s0, ↓md_gA1, md_a1, md_s1, ↓md_gA2, md_a2, md_s2, ↓md_gA3, md_a3, md_s3, ↓md_gA4, md_a4, md_s4, ↓md_g5, ↓md_p5, ↓md_g6, ↓md_p6, ↓md_g7, ↓md_p7, ↓md_g8, ↓md_p8, ↓md_gA9, md_a9, md_s9, ↓md_gA10, md_a10, md_s10, ↓md_gA11, md_a11, md_s11, ↓md_gA12, md_a12, md_s12, ↓md_gA13, md_a13, md_s13, ↓md_g14, ↓md_p14, ↓md_g15, ↓md_p15, ↓md_g16, ↓md_p16, ↓md_gA17, md_a17, md_s17, ↓md_gA18, md_a18, md_s18, ↓md_g19, ↓md_p19, ↓md_gA20, md_a20, md_s20, ↓md_g21, ↓md_p21, ↓md_gA22, md_a22, md_s22, ↓md_gA23, md_a23, md_s23, ↓md_gA24, md_a24, md_s24]
    rw [X3_ends r.1 (by exact hu)]
    rfl
  · rw [if_neg h, if_neg h, if_neg h]
    simp (disch := omega) only [decide_true, decide_false, reduceIte, and_self, and_true, true_and, and_false, false_and, or_true, true_or, or_false, false_or, not_true_eq_false, not_false_eq_true, reduceCtorEq, mA_ss, mI_ss, ↓St_rc, ↓fn_B, ↓fn_nn_none, ↓fn_nn_some, rZ_0, rZ_1, rZ_b, b2_z, b2_1, b2_or, b2_or0, b2_or1, iI_add, iI_sub, iI_mul, iI_neg, lI_add, lI_sub, lI_mul, iI_lt, iI_le, iI_eq, iI_to64, lI_cmp_lt, lI_cmp_gt, lI_cmp_ge, lI_cmp_le, lI_cmp_eq, mA_s, mA_o, mI_s, mI_o, mB_s, mB_o, mA_I, mA_B, mA_T, mA_F, mI_A, mI_B, mI_T, mI_F, mB_A, mB_I, mB_T, mB_F, mT_A, mT_I, mT_B, mT_F, mF_A, mF_I, mF_B, mF_T, ↓md_gA0, md_a0, md_s0, ↓md_gA1, md_a1, md_s1, ↓md_gA2, md_a2, md_s2, ↓md_gA3, md_a3, md_s3, ↓md_gA4, md_a4, md_s4, ↓md_g5, ↓md_p5, ↓md_g6, ↓md_p6, ↓md_g7, ↓md_p7, ↓md_g8, ↓md_p8, ↓md_gA9, md_a9, md_s9, ↓md_gA10, md_a10, md_s10, ↓md_gA11, md_a11, md_s11, ↓md_gA12, md_a12, md_s12, ↓md_gA13, md_a13, md_s13, ↓md_g14, ↓md_p14, ↓md_g15, ↓md_p15, ↓md_g16, ↓md_p16, ↓md_gA17, md_a17, md_s17, ↓md_gA18, md_a18, md_s18, ↓md_g19, ↓md_p19, ↓md_gA20, md_a20, md_s20, ↓md_g21, ↓md_p21, ↓md_gA22, md_a22, md_s22, ↓md_gA23, md_a23, md_s23, ↓md_gA24, md_a24, md_s24]
    rw [if_neg h]
theorem cOk (v : Int → Int) : (∀ a c e, 0 ≤ (cMakes v a c e).2.1 ∧ (cMakes v a c e).2.1 ≤ 6) ∧ (∀ a c, 0 ≤ (cTells v a c).2.1 ∧ (cTells v a c).2.1 ≤ 6) ∧ (∀ a c e, 0 ≤ (cClauses v a c e).2.1 ∧ (cClauses v a c e).2.1 ≤ 6) ∧ (∀ a c e, 0 ≤ (cFaults v a c e).2.1 ∧ (cFaults v a c e).2.1 ≤ 6) ∧ (∀ a c, 0 ≤ (cMends v a c).2.1 ∧ (cMends v a c).2.1 ≤ 6)
  ∧ (∀ a c e, 0 ≤ (cPays v a c e).2.1 ∧ (cPays v a c e).2.1 ≤ 6) ∧ (∀ a c e, 0 ≤ (cLays v a c e).2.1 ∧ (cLays v a c e).2.1 ≤ 6) ∧ (∀ a c e, 0 ≤ (cGives v a c e).2.1 ∧ (cGives v a c e).2.1 ≤ 6) ∧ (∀ a, 0 ≤ (cDraws v a).2.1 ∧ (cDraws v a).2.1 ≤ 6) ∧ (∀ a c, 0 ≤ (cRate v a c).2.1 ∧ (cRate v a c).2.1 ≤ 6) := by
  refine ⟨?_, ?_, ?_, ?_, ?_, ?_, ?_, ?_, ?_, ?_⟩
  · intro a c e; unfold cMakes; repeat' split
    all_goals (dsimp only; omega)
  · intro a c; unfold cTells; repeat' split
    all_goals (dsimp only; omega)
  · intro a c e; unfold cClauses; repeat' split
    all_goals (dsimp only; omega)
  · intro a c e; unfold cFaults; repeat' split
    all_goals (dsimp only; omega)
  · intro a c; unfold cMends; repeat' split
    all_goals (dsimp only; omega)
  · intro a c e; unfold cPays; repeat' split
    all_goals (dsimp only; omega)
  · intro a c e; unfold cLays; repeat' split
    all_goals (dsimp only; omega)
  · intro a c e; unfold cGives; repeat' split
    all_goals (dsimp only; omega)
  · intro a; unfold cDraws; repeat' split
    all_goals (dsimp only; omega)
  · intro a c; unfold cRate; repeat' split
    all_goals (dsimp only; omega)
theorem X3_lease (hv : okD (μ.1 0)) (hu : 0 ≤ μ.2.1 5 ∧ μ.2.1 5 ≤ 6) {l x y : Int} (r1 : r32 l) (r2 : r32 x) (r3 : r32 y) : gX3_lease ρ b (iI l) (iI x) (iI y) (St σ b μ) = some (iI (eAns (cMakes (μ.1 0) l x y)), St σ b (eRes μ (cMakes (μ.1 0) l x y))) := by
  unfold gX3_lease
  have q : gX3_makes ρ b (iI l) (iI x) (iI y) (St σ b (mI (mA μ 1 (cpI 3960 (μ.1 0) (μ.1 1))) 8 0)) = some (iI (cMakes (μ.1 0) l x y).1, St σ b (cRes (mI (mA μ 1 (cpI 3960 (μ.1 0) (μ.1 1))) 8 0) (cMakes (μ.1 0) l x y))) := X3_makes (ρ := ρ) (σ := σ) (b := b) (μ := mI (mA μ 1 (cpI 3960 (μ.1 0) (μ.1 1))) 8 0) hv r1 r2 r3
  have q2 := X3_closes (ρ := ρ) (σ := σ) (b := b) (μ := μ) (cMakes (μ.1 0) l x y) ((cOk (μ.1 0)).1 l x y) hu
  rw [St_rc, X3_begins, fn_B_some, md_p8, St_rc, q, fn_B_some, St_rc, q2]
  rfl
theorem X3_index (hv : okD (μ.1 0)) (hu : 0 ≤ μ.2.1 5 ∧ μ.2.1 5 ≤ 6) {l x y : Int} (r1 : r32 l) (r2 : r32 x) (r3 : r32 y) : gX3_index ρ b (iI l) (iI x) (St σ b μ) = some (iI (eAns (cTells (μ.1 0) l x)), St σ b (eRes μ (cTells (μ.1 0) l x))) := by
  unfold gX3_index
  have q : gX3_tells ρ b (iI l) (iI x) (St σ b (mI (mA μ 1 (cpI 3960 (μ.1 0) (μ.1 1))) 8 0)) = some (iI (cTells (μ.1 0) l x).1, St σ b (cRes (mI (mA μ 1 (cpI 3960 (μ.1 0) (μ.1 1))) 8 0) (cTells (μ.1 0) l x))) := X3_tells (ρ := ρ) (σ := σ) (b := b) (μ := mI (mA μ 1 (cpI 3960 (μ.1 0) (μ.1 1))) 8 0) hv r1 r2
  have q2 := X3_closes (ρ := ρ) (σ := σ) (b := b) (μ := μ) (cTells (μ.1 0) l x) ((cOk (μ.1 0)).2.1 l x) hu
  rw [St_rc, X3_begins, fn_B_some, md_p8, St_rc, q, fn_B_some, St_rc, q2]
  rfl
theorem X3_clause (hv : okD (μ.1 0)) (hu : 0 ≤ μ.2.1 5 ∧ μ.2.1 5 ≤ 6) {l x y : Int} (r1 : r32 l) (r2 : r32 x) (r3 : r32 y) : gX3_clause ρ b (iI l) (iI x) (iI y) (St σ b μ) = some (iI (eAns (cClauses (μ.1 0) l x y)), St σ b (eRes μ (cClauses (μ.1 0) l x y))) := by
  unfold gX3_clause
  have q : gX3_clauses ρ b (iI l) (iI x) (iI y) (St σ b (mI (mA μ 1 (cpI 3960 (μ.1 0) (μ.1 1))) 8 0)) = some (iI (cClauses (μ.1 0) l x y).1, St σ b (cRes (mI (mA μ 1 (cpI 3960 (μ.1 0) (μ.1 1))) 8 0) (cClauses (μ.1 0) l x y))) := X3_clauses (ρ := ρ) (σ := σ) (b := b) (μ := mI (mA μ 1 (cpI 3960 (μ.1 0) (μ.1 1))) 8 0) hv r1 r2 r3
  have q2 := X3_closes (ρ := ρ) (σ := σ) (b := b) (μ := μ) (cClauses (μ.1 0) l x y) ((cOk (μ.1 0)).2.2.1 l x y) hu
  rw [St_rc, X3_begins, fn_B_some, md_p8, St_rc, q, fn_B_some, St_rc, q2]
  rfl
theorem X3_defect (hv : okD (μ.1 0)) (hu : 0 ≤ μ.2.1 5 ∧ μ.2.1 5 ≤ 6) {l x y : Int} (r1 : r32 l) (r2 : r32 x) (r3 : r32 y) : gX3_defect ρ b (iI l) (iI x) (iI y) (St σ b μ) = some (iI (eAns (cFaults (μ.1 0) l x y)), St σ b (eRes μ (cFaults (μ.1 0) l x y))) := by
  unfold gX3_defect
  have q : gX3_faults ρ b (iI l) (iI x) (iI y) (St σ b (mI (mA μ 1 (cpI 3960 (μ.1 0) (μ.1 1))) 8 0)) = some (iI (cFaults (μ.1 0) l x y).1, St σ b (cRes (mI (mA μ 1 (cpI 3960 (μ.1 0) (μ.1 1))) 8 0) (cFaults (μ.1 0) l x y))) := X3_faults (ρ := ρ) (σ := σ) (b := b) (μ := mI (mA μ 1 (cpI 3960 (μ.1 0) (μ.1 1))) 8 0) hv r1 r2 r3
  have q2 := X3_closes (ρ := ρ) (σ := σ) (b := b) (μ := μ) (cFaults (μ.1 0) l x y) ((cOk (μ.1 0)).2.2.2.1 l x y) hu
  rw [St_rc, X3_begins, fn_B_some, md_p8, St_rc, q, fn_B_some, St_rc, q2]
  rfl
theorem X3_repair (hv : okD (μ.1 0)) (hu : 0 ≤ μ.2.1 5 ∧ μ.2.1 5 ≤ 6) {l x y : Int} (r1 : r32 l) (r2 : r32 x) (r3 : r32 y) : gX3_repair ρ b (iI l) (iI x) (St σ b μ) = some (iI (eAns (cMends (μ.1 0) l x)), St σ b (eRes μ (cMends (μ.1 0) l x))) := by
  unfold gX3_repair
  have q : gX3_mends ρ b (iI l) (iI x) (St σ b (mI (mA μ 1 (cpI 3960 (μ.1 0) (μ.1 1))) 8 0)) = some (iI (cMends (μ.1 0) l x).1, St σ b (cRes (mI (mA μ 1 (cpI 3960 (μ.1 0) (μ.1 1))) 8 0) (cMends (μ.1 0) l x))) := X3_mends (ρ := ρ) (σ := σ) (b := b) (μ := mI (mA μ 1 (cpI 3960 (μ.1 0) (μ.1 1))) 8 0) hv r1 r2
  have q2 := X3_closes (ρ := ρ) (σ := σ) (b := b) (μ := μ) (cMends (μ.1 0) l x) ((cOk (μ.1 0)).2.2.2.2.1 l x) hu
  rw [St_rc, X3_begins, fn_B_some, md_p8, St_rc, q, fn_B_some, St_rc, q2]
  rfl
theorem X3_pay (hv : okD (μ.1 0)) (hu : 0 ≤ μ.2.1 5 ∧ μ.2.1 5 ≤ 6) {l x y : Int} (r1 : r32 l) (r2 : r32 x) (r3 : r32 y) : gX3_pay ρ b (iI l) (iI x) (iI y) (St σ b μ) = some (iI (eAns (cPays (μ.1 0) l x y)), St σ b (eRes μ (cPays (μ.1 0) l x y))) := by
  unfold gX3_pay
  have q : gX3_pays ρ b (iI l) (iI x) (iI y) (St σ b (mI (mA μ 1 (cpI 3960 (μ.1 0) (μ.1 1))) 8 0)) = some (iI (cPays (μ.1 0) l x y).1, St σ b (cRes (mI (mA μ 1 (cpI 3960 (μ.1 0) (μ.1 1))) 8 0) (cPays (μ.1 0) l x y))) := X3_pays (ρ := ρ) (σ := σ) (b := b) (μ := mI (mA μ 1 (cpI 3960 (μ.1 0) (μ.1 1))) 8 0) hv r1 r2 r3
  have q2 := X3_closes (ρ := ρ) (σ := σ) (b := b) (μ := μ) (cPays (μ.1 0) l x y) ((cOk (μ.1 0)).2.2.2.2.2.1 l x y) hu
  rw [St_rc, X3_begins, fn_B_some, md_p8, St_rc, q, fn_B_some, St_rc, q2]
  rfl
theorem X3_deposit (hv : okD (μ.1 0)) (hu : 0 ≤ μ.2.1 5 ∧ μ.2.1 5 ≤ 6) {l x y : Int} (r1 : r32 l) (r2 : r32 x) (r3 : r32 y) : gX3_deposit ρ b (iI l) (iI x) (iI y) (St σ b μ) = some (iI (eAns (cLays (μ.1 0) l x y)), St σ b (eRes μ (cLays (μ.1 0) l x y))) := by
  unfold gX3_deposit
  have q : gX3_lays ρ b (iI l) (iI x) (iI y) (St σ b (mI (mA μ 1 (cpI 3960 (μ.1 0) (μ.1 1))) 8 0)) = some (iI (cLays (μ.1 0) l x y).1, St σ b (cRes (mI (mA μ 1 (cpI 3960 (μ.1 0) (μ.1 1))) 8 0) (cLays (μ.1 0) l x y))) := X3_lays (ρ := ρ) (σ := σ) (b := b) (μ := mI (mA μ 1 (cpI 3960 (μ.1 0) (μ.1 1))) 8 0) hv r1 r2 r3
  have q2 := X3_closes (ρ := ρ) (σ := σ) (b := b) (μ := μ) (cLays (μ.1 0) l x y) ((cOk (μ.1 0)).2.2.2.2.2.2.1 l x y) hu
  rw [St_rc, X3_begins, fn_B_some, md_p8, St_rc, q, fn_B_some, St_rc, q2]
  rfl
theorem X3_notice (hv : okD (μ.1 0)) (hu : 0 ≤ μ.2.1 5 ∧ μ.2.1 5 ≤ 6) {l x y : Int} (r1 : r32 l) (r2 : r32 x) (r3 : r32 y) : gX3_notice ρ b (iI l) (iI x) (iI y) (St σ b μ) = some (iI (eAns (cGives (μ.1 0) l x y)), St σ b (eRes μ (cGives (μ.1 0) l x y))) := by
  unfold gX3_notice
  have q : gX3_gives ρ b (iI l) (iI x) (iI y) (St σ b (mI (mA μ 1 (cpI 3960 (μ.1 0) (μ.1 1))) 8 0)) = some (iI (cGives (μ.1 0) l x y).1, St σ b (cRes (mI (mA μ 1 (cpI 3960 (μ.1 0) (μ.1 1))) 8 0) (cGives (μ.1 0) l x y))) := X3_gives (ρ := ρ) (σ := σ) (b := b) (μ := mI (mA μ 1 (cpI 3960 (μ.1 0) (μ.1 1))) 8 0) hv r1 r2 r3
  have q2 := X3_closes (ρ := ρ) (σ := σ) (b := b) (μ := μ) (cGives (μ.1 0) l x y) ((cOk (μ.1 0)).2.2.2.2.2.2.2.1 l x y) hu
  rw [St_rc, X3_begins, fn_B_some, md_p8, St_rc, q, fn_B_some, St_rc, q2]
  rfl
theorem X3_withdraw (hv : okD (μ.1 0)) (hu : 0 ≤ μ.2.1 5 ∧ μ.2.1 5 ≤ 6) {l x y : Int} (r1 : r32 l) (r2 : r32 x) (r3 : r32 y) : gX3_withdraw ρ b (iI l) (St σ b μ) = some (iI (eAns (cDraws (μ.1 0) l)), St σ b (eRes μ (cDraws (μ.1 0) l))) := by
  unfold gX3_withdraw
  have q : gX3_draws ρ b (iI l) (St σ b (mI (mA μ 1 (cpI 3960 (μ.1 0) (μ.1 1))) 8 0)) = some (iI (cDraws (μ.1 0) l).1, St σ b (cRes (mI (mA μ 1 (cpI 3960 (μ.1 0) (μ.1 1))) 8 0) (cDraws (μ.1 0) l))) := X3_draws (ρ := ρ) (σ := σ) (b := b) (μ := mI (mA μ 1 (cpI 3960 (μ.1 0) (μ.1 1))) 8 0) hv r1
  have q2 := X3_closes (ρ := ρ) (σ := σ) (b := b) (μ := μ) (cDraws (μ.1 0) l) ((cOk (μ.1 0)).2.2.2.2.2.2.2.2.1 l) hu
  rw [St_rc, X3_begins, fn_B_some, md_p8, St_rc, q, fn_B_some, St_rc, q2]
  rfl
theorem X3_rate (hv : okD (μ.1 0)) (hu : 0 ≤ μ.2.1 5 ∧ μ.2.1 5 ≤ 6) {x y : Int} (r1 : r32 x) (r2 : r32 y) : gX3_rate ρ b (iI x) (iI y) (St σ b μ) = some (iI (eAns (cRate (μ.1 0) x y)), St σ b (eRes μ (cRate (μ.1 0) x y))) := by
  have bad : gX3_rate_b27 ρ b (iI x) (iI y) (some b) (St σ b (mA μ 1 (cpI 3960 (μ.1 0) (μ.1 1)))) = some (iI (-3), St σ b (mI (mI (mA μ 1 (cpI 3960 (μ.1 0) (μ.1 1))) 8 2) 6 2)) := by
    unfold gX3_rate_b27 gX3_rate_b28 gX3_closes
    simp (disch := omega) only [decide_true, decide_false, reduceIte, and_self, and_true, true_and, and_false, false_and, or_true, true_or, or_false, false_or, not_true_eq_false, not_false_eq_true, reduceCtorEq, mA_ss, mI_ss, ↓St_rc, ↓fn_B, ↓fn_nn_none, ↓fn_nn_some, rZ_0, rZ_1, rZ_b, b2_z, b2_1, b2_or, b2_or0, b2_or1, iI_add, iI_sub, iI_mul, iI_neg, lI_add, lI_sub, lI_mul, iI_lt, iI_le, iI_eq, iI_to64, lI_cmp_lt, lI_cmp_gt, lI_cmp_ge, lI_cmp_le, lI_cmp_eq, mA_s, mA_o, mI_s, mI_o, mB_s, mB_o, mA_I, mA_B, mA_T, mA_F, mI_A, mI_B, mI_T, mI_F, mB_A, mB_I, mB_T, mB_F, mT_A, mT_I, mT_B, mT_F, mF_A, mF_I, mF_B, mF_T, ↓md_gA0, md_a0, md_s0, ↓md_gA1, md_a1, md_s1, ↓md_gA2, md_a2, md_s2, ↓md_gA3, md_a3, md_s3, ↓md_gA4, md_a4, md_s4, ↓md_g5, ↓md_p5, ↓md_g6, ↓md_p6, ↓md_g7, ↓md_p7, ↓md_g8, ↓md_p8, ↓md_gA9, md_a9, md_s9, ↓md_gA10, md_a10, md_s10, ↓md_gA11, md_a11, md_s11, ↓md_gA12, md_a12, md_s12, ↓md_gA13, md_a13, md_s13, ↓md_g14, ↓md_p14, ↓md_g15, ↓md_p15, ↓md_g16, ↓md_p16, ↓md_gA17, md_a17, md_s17, ↓md_gA18, md_a18, md_s18, ↓md_g19, ↓md_p19, ↓md_gA20, md_a20, md_s20, ↓md_g21, ↓md_p21, ↓md_gA22, md_a22, md_s22, ↓md_gA23, md_a23, md_s23, ↓md_gA24, md_a24, md_s24]
    rfl
  unfold gX3_rate
  rw [St_rc, X3_begins, fn_B_some]
  by_cases h1 : 0 ≤ x ∧ x ≤ 3599
  · rw [fn_Bt (s := St σ b (mA μ 1 (cpI 3960 (μ.1 0) (μ.1 1)))) (by rw [X3_isDay r1, decide_eq_true h1])]
    by_cases h2 : 0 ≤ y ∧ y ≤ 2000
    · rw [fn_Bt (s := St σ b (mA μ 1 (cpI 3960 (μ.1 0) (μ.1 1)))) (by rw [X3_isIn r2 (by decide) (by decide), decide_eq_true h2])]
      have q2 := X3_closes (ρ := ρ) (σ := σ) (b := b) (μ := μ) (cRate (μ.1 0) x y) ((cOk (μ.1 0)).2.2.2.2.2.2.2.2.2 x y) hu
      have e : cRate (μ.1 0) x y = (sRate (μ.1 0) (x + 1).toNat, 0, uI (μ.1 0) (360 + x) y) := by unfold cRate; rw [if_neg (by omega)]
      unfold gX3_rate_b28
      simp (disch := omega) only [decide_true, decide_false, reduceIte, and_self, and_true, true_and, and_false, false_and, or_true, true_or, or_false, false_or, not_true_eq_false, not_false_eq_true, reduceCtorEq, mA_ss, mI_ss, ↓St_rc, ↓fn_B, ↓fn_nn_none, ↓fn_nn_some, rZ_0, rZ_1, rZ_b, b2_z, b2_1, b2_or, b2_or0, b2_or1, iI_add, iI_sub, iI_mul, iI_neg, lI_add, lI_sub, lI_mul, iI_lt, iI_le, iI_eq, iI_to64, lI_cmp_lt, lI_cmp_gt, lI_cmp_ge, lI_cmp_le, lI_cmp_eq, mA_s, mA_o, mI_s, mI_o, mB_s, mB_o, mA_I, mA_B, mA_T, mA_F, mI_A, mI_B, mI_T, mI_F, mB_A, mB_I, mB_T, mB_F, mT_A, mT_I, mT_B, mT_F, mF_A, mF_I, mF_B, mF_T, ↓md_gA0, md_a0, md_s0, ↓md_gA1, md_a1, md_s1, ↓md_gA2, md_a2, md_s2, ↓md_gA3, md_a3, md_s3, ↓md_gA4, md_a4, md_s4, ↓md_g5, ↓md_p5, ↓md_g6, ↓md_p6, ↓md_g7, ↓md_p7, ↓md_g8, ↓md_p8, ↓md_gA9, md_a9, md_s9, ↓md_gA10, md_a10, md_s10, ↓md_gA11, md_a11, md_s11, ↓md_gA12, md_a12, md_s12, ↓md_gA13, md_a13, md_s13, ↓md_g14, ↓md_p14, ↓md_g15, ↓md_p15, ↓md_g16, ↓md_p16, ↓md_gA17, md_a17, md_s17, ↓md_gA18, md_a18, md_s18, ↓md_g19, ↓md_p19, ↓md_gA20, md_a20, md_s20, ↓md_g21, ↓md_p21, ↓md_gA22, md_a22, md_s22, ↓md_gA23, md_a23, md_s23, ↓md_gA24, md_a24, md_s24]
      rw [if_pos (by decide), X3_rateOn (μ := mI (mA μ 1 (cpI 3960 (μ.1 0) (μ.1 1))) 8 0) hv (by omega)]
      simp (disch := omega) only [decide_true, decide_false, reduceIte, and_self, and_true, true_and, and_false, false_and, or_true, true_or, or_false, false_or, not_true_eq_false, not_false_eq_true, reduceCtorEq, mA_ss, mI_ss, ↓St_rc, ↓fn_B, ↓fn_nn_none, ↓fn_nn_some, rZ_0, rZ_1, rZ_b, b2_z, b2_1, b2_or, b2_or0, b2_or1, iI_add, iI_sub, iI_mul, iI_neg, lI_add, lI_sub, lI_mul, iI_lt, iI_le, iI_eq, iI_to64, lI_cmp_lt, lI_cmp_gt, lI_cmp_ge, lI_cmp_le, lI_cmp_eq, mA_s, mA_o, mI_s, mI_o, mB_s, mB_o, mA_I, mA_B, mA_T, mA_F, mI_A, mI_B, mI_T, mI_F, mB_A, mB_I, mB_T, mB_F, mT_A, mT_I, mT_B, mT_F, mF_A, mF_I, mF_B, mF_T, ↓md_gA0, md_a0, md_s0, ↓md_gA1, md_a1, md_s1, ↓md_gA2, md_a2, md_s2, ↓md_gA3, md_a3, md_s3, ↓md_gA4, md_a4, md_s4, ↓md_g5, ↓md_p5, ↓md_g6, ↓md_p6, ↓md_g7, ↓md_p7, ↓md_g8, ↓md_p8, ↓md_gA9, md_a9, md_s9, ↓md_gA10, md_a10, md_s10, ↓md_gA11, md_a11, md_s11, ↓md_gA12, md_a12, md_s12, ↓md_gA13, md_a13, md_s13, ↓md_g14, ↓md_p14, ↓md_g15, ↓md_p15, ↓md_g16, ↓md_p16, ↓md_gA17, md_a17, md_s17, ↓md_gA18, md_a18, md_s18, ↓md_g19, ↓md_p19, ↓md_gA20, md_a20, md_s20, ↓md_g21, ↓md_p21, ↓md_gA22, md_a22, md_s22, ↓md_gA23, md_a23, md_s23, ↓md_gA24, md_a24, md_s24]
      rw [e] at q2 ⊢
      unfold cRes at q2
      rw [if_pos rfl] at q2
      rw [q2]
    · rw [fn_Bf (s := St σ b (mA μ 1 (cpI 3960 (μ.1 0) (μ.1 1)))) (by rw [X3_isIn r2 (by decide) (by decide), decide_eq_false h2]), bad]
      unfold cRate
      rw [if_pos (Or.inr h2)]
      rfl
  · rw [fn_Bf (s := St σ b (mA μ 1 (cpI 3960 (μ.1 0) (μ.1 1)))) (by rw [X3_isDay r1, decide_eq_false h1]), bad]
    unfold cRate
    rw [if_pos (Or.inl h1)]
    rfl
end Change2
end
section
/-! rents -/
theorem dn_eq {a b : Int} (hb : 0 < b) : (if 0 ≤ a then a.tdiv b else if a.tdiv b * b = a then a.tdiv b else a.tdiv b - 1) = a / b := by
  by_cases h : 0 ≤ a
  · rw [if_pos h, tdiv_p h]
  · rw [if_neg h]
    have e : a.tdiv b = -((-a) / b) := by
      have h2 := Int.neg_tdiv (a := -a) (b := b)
      rw [Int.neg_neg] at h2
      rw [h2, tdiv_p (by omega)]
    have h3 := Int.mul_ediv_add_emod (-a) b
    have h4 := Int.emod_nonneg (-a) (show b ≠ 0 by omega)
    have h5 := Int.emod_lt_of_pos (-a) hb
    rw [e]
    generalize hq : (-a) / b = q at *
    generalize hr : (-a) % b = r at *
    have e2 : -q * b = -(b * q) := by rw [Int.neg_mul, Int.mul_comm]
    rw [e2]
    generalize hp : b * q = p at *
    by_cases h6 : -p = a
    · rw [if_pos h6]
      refine ((Int.ediv_emod_unique (r := 0) (q := -q) hb).mpr ⟨?_, by omega, by omega⟩).1.symm
      rw [Int.mul_neg, hp]
      omega
    · rw [if_neg h6]
      refine ((Int.ediv_emod_unique (r := b - r) (q := -q - 1) hb).mpr ⟨?_, by omega, by omega⟩).1.symm
      rw [Int.mul_sub, Int.mul_neg, hp, Int.mul_one]
      omega
theorem up_r {r o s : Int} (h1 : 1 ≤ r ∧ r ≤ 9999999) (h2 : -9899 ≤ o ∧ o ≤ 9899) (h3 : 0 ≤ s ∧ s ≤ 100) : -9898999010100 ≤ r * o * s ∧ r * o * s ≤ 9898999010100 := by
  have e : r * o * s = r * s * o := by rw [Int.mul_assoc, Int.mul_comm o s, ← Int.mul_assoc]
  rw [e]
  have k1 : 0 ≤ r * s := Int.mul_nonneg (by omega) h3.1
  have k2 : r * s ≤ 9999999 * 100 := Int.mul_le_mul h1.2 h3.2 h3.1 (by decide)
  generalize r * s = t at *
  have k3 : t * o ≤ t * 9899 := Int.mul_le_mul_of_nonneg_left h2.2 k1
  have k4 : t * -9899 ≤ t * o := Int.mul_le_mul_of_nonneg_left h2.1 k1
  omega
theorem dn_r {a b : Int} (ha : -9898999010100 ≤ a ∧ a ≤ 9898999010100) (hb : 100 ≤ b) : -1000000000 ≤ a / (100 * b) ∧ a / (100 * b) ≤ 1000000000 := by
  have h1 := Int.mul_ediv_add_emod a (100 * b)
  have h2 := Int.emod_nonneg a (show 100 * b ≠ 0 by omega)
  have h3 := Int.emod_lt_of_pos a (show 0 < 100 * b by omega)
  generalize a / (100 * b) = q at *
  generalize a % (100 * b) = r at *
  constructor
  · apply Int.not_lt.mp
    intro h
    have k : (100 * b) * (q + 1) ≤ 10000 * (q + 1) := by
      have := Int.mul_le_mul_of_nonneg_right (show (10000 : Int) ≤ 100 * b by omega) (show 0 ≤ -(q + 1) by omega)
      rw [Int.mul_neg, Int.mul_neg] at this
      omega
    rw [Int.mul_add, Int.mul_one] at k
    generalize (100 * b) * q = z at *
    omega
  · apply Int.not_lt.mp
    intro h
    have k : 10000 * q ≤ (100 * b) * q := Int.mul_le_mul_of_nonneg_right (by omega) (by omega)
    generalize (100 * b) * q = z at *
    omega
def bgn (v : Int → Int) (l : Int) : Nat := (v (1 + 8 * l + 1) / 30).toNat
def sClamp (x : Int) : Int := if 1 ≤ x then (if x ≤ 9999999 then x else 9999999) else 1
def sAbs (x : Int) : Int := if 0 ≤ x then x else -x
def sStep (v : Int → Int) (l : Int) (rb : Int × Int) (now : Int) : Int × Int :=
  if v (1 + 8 * l + 3) ≤ 0 then rb else if sAbs (now - rb.2) * 1000 < v (1 + 8 * l + 3) * rb.2 then rb else (sClamp (rb.1 + rb.1 * (now - rb.2) * v (1 + 8 * l + 4) / (100 * rb.2)), now)
def sRent (v : Int → Int) (l : Int) : Nat → Int × Int
  | 0 => (v (1 + 8 * l + 2), sIdx v (bgn v l + 1))
  | k + 1 => sStep v l (sRent v l k) (sIdx v (bgn v l + 1 + k + 1))
def rentAt (v : Int → Int) (l m : Int) : Int := (sRent v l (m.toNat - bgn v l)).1
def rA (v : Int → Int) (l : Int) (k : Int) (old : Int → Int) : Int → Int := fun j => if bgn v l ≤ j ∧ j < k then rentAt v l j else old j
theorem sIdx_r {v : Int → Int} (hv : okD v) : ∀ n : Nat, n ≤ 120 → 100 ≤ sIdx v n ∧ sIdx v n ≤ 9999
  | 0, _ => ⟨show (100 : Int) ≤ 1000 by decide, show (1000 : Int) ≤ 9999 by decide⟩
  | n + 1, h => by
    have k := hv.2.2.2.2.2.2.2.2.1 n (by omega) (by omega)
    unfold sIdx
    split
    · exact sIdx_r hv n (by omega)
    · omega
theorem sClamp_r (x : Int) : 1 ≤ sClamp x ∧ sClamp x ≤ 9999999 := by
  unfold sClamp
  split
  · split <;> omega
  · omega
theorem sRent_r {v : Int → Int} (hv : okD v) {l : Int} (hl : 0 ≤ l ∧ l < v 0) : ∀ k : Nat, bgn v l + 1 + k ≤ 120 → (1 ≤ (sRent v l k).1 ∧ (sRent v l k).1 ≤ 9999999) ∧ (100 ≤ (sRent v l k).2 ∧ (sRent v l k).2 ≤ 9999)
  | 0, h => by
    obtain ⟨-, -, k1, -⟩ := hv.2.2.2.2.1 l hl.1 hl.2
    exact ⟨⟨k1.1, Int.le_trans k1.2 (by decide)⟩, sIdx_r hv _ (by omega)⟩
  | k + 1, h => by
    have ih := sRent_r hv hl k (by omega)
    unfold sRent sStep
    split
    · exact ih
    · split
      · exact ih
      · exact ⟨sClamp_r _, sIdx_r hv _ (by omega)⟩
theorem bgn_r {v : Int → Int} (hv : okD v) {l : Int} (hl : 0 ≤ l ∧ l < v 0) : (bgn v l : Int) = v (1 + 8 * l + 1) / 30 ∧ bgn v l < 120 := by
  obtain ⟨-, k1, -⟩ := hv.2.2.2.2.1 l hl.1 hl.2
  unfold bgn
  omega
section Rents
variable {ρ : Nat → Nat} {σ : mS} {b : Nat} {μ : MM}
theorem X3_down {a c : Int} (ha : r64 a) (hc : 0 < c ∧ c < 9000000000000000) (hq : r32 (a / c)) {s : mS} : gX3_down ρ (lI a) (lI c) s = some (iI (a / c), s) := by
  unfold gX3_down
  have hd : r64 (a.tdiv c * c) := by
    rcases Int.le_total 0 a with h | h
    · rw [tdiv_p h, Int.mul_comm]
      have h1 := Int.mul_ediv_add_emod a c
      have h2 := Int.emod_nonneg a (show c ≠ 0 by omega)
      have h3 := Int.mul_nonneg (Int.le_of_lt hc.1) (Int.ediv_nonneg h (Int.le_of_lt hc.1))
      omega
    · have h2 := Int.neg_tdiv (a := -a) (b := c)
      rw [Int.neg_neg] at h2
      rw [h2, tdiv_p (by omega), Int.neg_mul, Int.mul_comm]
      have h1 := Int.mul_ediv_add_emod (-a) c
      have h2 := Int.emod_nonneg (-a) (show c ≠ 0 by omega)
      have h3 := Int.mul_nonneg (Int.le_of_lt hc.1) (Int.ediv_nonneg (show 0 ≤ -a by omega) (Int.le_of_lt hc.1))
      omega
  rw [if_neg (by rw [lI_eq ⟨by omega, by omega⟩ (by decide)]; omega), lI_div ha ⟨hc.1, by omega⟩, lI_mul]
  simp (disch := omega) only [lI_cmp_ge, lI_cmp_eq, lI_sub]
  have e := dn_eq (a := a) hc.1
  by_cases h1 : 0 ≤ a
  · rw [if_pos h1] at e ⊢
    rw [e, lI_to32 hq]
  · rw [if_neg h1] at e ⊢
    by_cases h2 : a.tdiv c * c = a
    · rw [if_pos h2] at e ⊢
      rw [e, lI_to32 hq]
    · rw [if_neg h2] at e ⊢
      rw [e, lI_to32 hq]
theorem X3_lr177 {K : Int32 → Int32 → Int32 → Int32 → Int32 → mS → Option (Unit × mS)} {x1 x4 x5 : Int32} {r m : Int} (hm : 0 ≤ m ∧ m < 120) : gX3_laysRents_b177 ρ b K x1 (iI r) x4 x5 (iI m) (St σ b μ) = K x1 (iI r) x4 x5 (iI (m + 1)) (St σ b (mA μ 17 (uI (μ.1 17) m r))) := by
  unfold gX3_laysRents_b177
  simp (disch := omega) only [decide_true, decide_false, reduceIte, and_self, and_true, true_and, and_false, false_and, or_true, true_or, or_false, false_or, not_true_eq_false, not_false_eq_true, reduceCtorEq, mA_ss, mI_ss, ↓St_rc, ↓fn_B, ↓fn_nn_none, ↓fn_nn_some, rZ_0, rZ_1, rZ_b, b2_z, b2_1, b2_or, b2_or0, b2_or1, iI_add, iI_sub, iI_mul, iI_neg, lI_add, lI_sub, lI_mul, iI_lt, iI_le, iI_eq, iI_to64, lI_cmp_lt, lI_cmp_gt, lI_cmp_ge, lI_cmp_le, lI_cmp_eq, mA_s, mA_o, mI_s, mI_o, mB_s, mB_o, mA_I, mA_B, mA_T, mA_F, mI_A, mI_B, mI_T, mI_F, mB_A, mB_I, mB_T, mB_F, mT_A, mT_I, mT_B, mT_F, mF_A, mF_I, mF_B, mF_T, ↓md_gA0, md_a0, md_s0, ↓md_gA1, md_a1, md_s1, ↓md_gA2, md_a2, md_s2, ↓md_gA3, md_a3, md_s3, ↓md_gA4, md_a4, md_s4, ↓md_g5, ↓md_p5, ↓md_g6, ↓md_p6, ↓md_g7, ↓md_p7, ↓md_g8, ↓md_p8, ↓md_gA9, md_a9, md_s9, ↓md_gA10, md_a10, md_s10, ↓md_gA11, md_a11, md_s11, ↓md_gA12, md_a12, md_s12, ↓md_gA13, md_a13, md_s13, ↓md_g14, ↓md_p14, ↓md_g15, ↓md_p15, ↓md_g16, ↓md_p16, ↓md_gA17, md_a17, md_s17, ↓md_gA18, md_a18, md_s18, ↓md_g19, ↓md_p19, ↓md_gA20, md_a20, md_s20, ↓md_g21, ↓md_p21, ↓md_gA22, md_a22, md_s22, ↓md_gA23, md_a23, md_s23, ↓md_gA24, md_a24, md_s24]
theorem mul_r5 {a c : Int} (h1 : 0 ≤ a ∧ a ≤ 500) (h2 : 0 ≤ c ∧ c ≤ 9999) : 0 ≤ a * c ∧ a * c ≤ 5000000 := by
  have k1 : 0 ≤ a * c := Int.mul_nonneg h1.1 h2.1
  have k2 : a * c ≤ 500 * 9999 := Int.mul_le_mul h1.2 h2.2 h2.1 (by decide)
  omega
theorem X3_lr108 (hv : okD (μ.1 0)) {K : Int32 → Int32 → Int32 → Int32 → Int32 → mS → Option (Unit × mS)} {l r base now m : Int} (hl : 0 ≤ l ∧ l < μ.1 0 0) (hr : 1 ≤ r ∧ r ≤ 9999999) (hb : 100 ≤ base ∧ base ≤ 9999) (hn : 100 ≤ now ∧ now ≤ 9999) (hm : 0 ≤ m ∧ m < 120) (ht : ¬ μ.1 0 (1 + 8 * l + 3) ≤ 0) :
    gX3_laysRents_b108 ρ b K (iI l) (iI r) (iI base) (iI now) (iI m) (iI (now - base)) (iI (sAbs (now - base))) (St σ b μ) =
      K (iI l) (iI (sStep (μ.1 0) l (r, base) now).1) (iI (sStep (μ.1 0) l (r, base) now).2) (iI now) (iI (m + 1)) (St σ b (mA μ 17 (uI (μ.1 17) m (sStep (μ.1 0) l (r, base) now).1))) := by
  have h0 := hv.1
  obtain ⟨-, -, -, k3, k4, -⟩ := hv.2.2.2.2.1 l hl.1 hl.2
  have k5 := mul_r5 k3 ⟨show 0 ≤ base by omega, hb.2⟩
  have k6 : 0 ≤ sAbs (now - base) ∧ sAbs (now - base) ≤ 9899 := by unfold sAbs; split <;> omega
  have k7 := up_r hr (show -9899 ≤ now - base ∧ now - base ≤ 9899 by omega) k4
  have k8 := dn_r k7 hb.1
  unfold gX3_laysRents_b108 sStep
  rw [if_neg ht]
  simp (disch := omega) only [X3_told, decide_true, decide_false, reduceIte, and_self, and_true, true_and, and_false, false_and, or_true, true_or, or_false, false_or, not_true_eq_false, not_false_eq_true, reduceCtorEq, mA_ss, mI_ss, ↓St_rc, ↓fn_B, ↓fn_nn_none, ↓fn_nn_some, rZ_0, rZ_1, rZ_b, b2_z, b2_1, b2_or, b2_or0, b2_or1, iI_add, iI_sub, iI_mul, iI_neg, lI_add, lI_sub, lI_mul, iI_lt, iI_le, iI_eq, iI_to64, lI_cmp_lt, lI_cmp_gt, lI_cmp_ge, lI_cmp_le, lI_cmp_eq, mA_s, mA_o, mI_s, mI_o, mB_s, mB_o, mA_I, mA_B, mA_T, mA_F, mI_A, mI_B, mI_T, mI_F, mB_A, mB_I, mB_T, mB_F, mT_A, mT_I, mT_B, mT_F, mF_A, mF_I, mF_B, mF_T, ↓md_gA0, md_a0, md_s0, ↓md_gA1, md_a1, md_s1, ↓md_gA2, md_a2, md_s2, ↓md_gA3, md_a3, md_s3, ↓md_gA4, md_a4, md_s4, ↓md_g5, ↓md_p5, ↓md_g6, ↓md_p6, ↓md_g7, ↓md_p7, ↓md_g8, ↓md_p8, ↓md_gA9, md_a9, md_s9, ↓md_gA10, md_a10, md_s10, ↓md_gA11, md_a11, md_s11, ↓md_gA12, md_a12, md_s12, ↓md_gA13, md_a13, md_s13, ↓md_g14, ↓md_p14, ↓md_g15, ↓md_p15, ↓md_g16, ↓md_p16, ↓md_gA17, md_a17, md_s17, ↓md_gA18, md_a18, md_s18, ↓md_g19, ↓md_p19, ↓md_gA20, md_a20, md_s20, ↓md_g21, ↓md_p21, ↓md_gA22, md_a22, md_s22, ↓md_gA23, md_a23, md_s23, ↓md_gA24, md_a24, md_s24]
  by_cases h1 : sAbs (now - base) * 1000 < μ.1 0 (1 + 8 * l + 3) * base
  · rw [if_pos h1, if_pos h1, X3_lr177 hm]
  · rw [if_neg h1, if_neg h1, X3_down ⟨by omega, by omega⟩ ⟨by omega, by omega⟩ ⟨by omega, by omega⟩]
    generalize r * (now - base) * μ.1 0 (1 + 8 * l + 4) / (100 * base) = q at *
    simp (disch := omega) only [gX3_laysRents_b172, X3_lr177, decide_true, decide_false, reduceIte, and_self, and_true, true_and, and_false, false_and, or_true, true_or, or_false, false_or, not_true_eq_false, not_false_eq_true, reduceCtorEq, mA_ss, mI_ss, ↓St_rc, ↓fn_B, ↓fn_nn_none, ↓fn_nn_some, rZ_0, rZ_1, rZ_b, b2_z, b2_1, b2_or, b2_or0, b2_or1, iI_add, iI_sub, iI_mul, iI_neg, lI_add, lI_sub, lI_mul, iI_lt, iI_le, iI_eq, iI_to64, lI_cmp_lt, lI_cmp_gt, lI_cmp_ge, lI_cmp_le, lI_cmp_eq, mA_s, mA_o, mI_s, mI_o, mB_s, mB_o, mA_I, mA_B, mA_T, mA_F, mI_A, mI_B, mI_T, mI_F, mB_A, mB_I, mB_T, mB_F, mT_A, mT_I, mT_B, mT_F, mF_A, mF_I, mF_B, mF_T, ↓md_gA0, md_a0, md_s0, ↓md_gA1, md_a1, md_s1, ↓md_gA2, md_a2, md_s2, ↓md_gA3, md_a3, md_s3, ↓md_gA4, md_a4, md_s4, ↓md_g5, ↓md_p5, ↓md_g6, ↓md_p6, ↓md_g7, ↓md_p7, ↓md_g8, ↓md_p8, ↓md_gA9, md_a9, md_s9, ↓md_gA10, md_a10, md_s10, ↓md_gA11, md_a11, md_s11, ↓md_gA12, md_a12, md_s12, ↓md_gA13, md_a13, md_s13, ↓md_g14, ↓md_p14, ↓md_g15, ↓md_p15, ↓md_g16, ↓md_p16, ↓md_gA17, md_a17, md_s17, ↓md_gA18, md_a18, md_s18, ↓md_g19, ↓md_p19, ↓md_gA20, md_a20, md_s20, ↓md_g21, ↓md_p21, ↓md_gA22, md_a22, md_s22, ↓md_gA23, md_a23, md_s23, ↓md_gA24, md_a24, md_s24]
    unfold sClamp
    by_cases h2 : 1 ≤ r + q
    · rw [if_pos h2, if_pos h2]
      by_cases h3 : r + q ≤ 9999999
      · rw [if_pos h3, if_pos h3]
      · rw [if_neg h3, if_neg h3]
    · rw [if_neg h2, if_neg h2]
theorem X3_lr77 (hv : okD (μ.1 0)) {K : Int32 → Int32 → Int32 → Int32 → Int32 → mS → Option (Unit × mS)} {l r base now m : Int} (hl : 0 ≤ l ∧ l < μ.1 0 0) (hr : 1 ≤ r ∧ r ≤ 9999999) (hb : 100 ≤ base ∧ base ≤ 9999) (hn : 100 ≤ now ∧ now ≤ 9999) (hm : 0 ≤ m ∧ m < 120) :
    gX3_laysRents_b77 ρ b K (iI l) (iI r) (iI base) (iI m) (iI now) (St σ b μ) =
      K (iI l) (iI (sStep (μ.1 0) l (r, base) now).1) (iI (sStep (μ.1 0) l (r, base) now).2) (iI now) (iI (m + 1)) (St σ b (mA μ 17 (uI (μ.1 17) m (sStep (μ.1 0) l (r, base) now).1))) := by
  have h0 := hv.1
  obtain ⟨-, -, -, k3, k4, -⟩ := hv.2.2.2.2.1 l hl.1 hl.2
  unfold gX3_laysRents_b77
  by_cases ht : μ.1 0 (1 + 8 * l + 3) ≤ 0
  · unfold sStep
    simp (disch := omega) only [X3_told, decide_true, decide_false, reduceIte, and_self, and_true, true_and, and_false, false_and, or_true, true_or, or_false, false_or, not_true_eq_false, not_false_eq_true, reduceCtorEq, mA_ss, mI_ss, ↓St_rc, ↓fn_B, ↓fn_nn_none, ↓fn_nn_some, rZ_0, rZ_1, rZ_b, b2_z, b2_1, b2_or, b2_or0, b2_or1, iI_add, iI_sub, iI_mul, iI_neg, lI_add, lI_sub, lI_mul, iI_lt, iI_le, iI_eq, iI_to64, lI_cmp_lt, lI_cmp_gt, lI_cmp_ge, lI_cmp_le, lI_cmp_eq, mA_s, mA_o, mI_s, mI_o, mB_s, mB_o, mA_I, mA_B, mA_T, mA_F, mI_A, mI_B, mI_T, mI_F, mB_A, mB_I, mB_T, mB_F, mT_A, mT_I, mT_B, mT_F, mF_A, mF_I, mF_B, mF_T, ↓md_gA0, md_a0, md_s0, ↓md_gA1, md_a1, md_s1, ↓md_gA2, md_a2, md_s2, ↓md_gA3, md_a3, md_s3, ↓md_gA4, md_a4, md_s4, ↓md_g5, ↓md_p5, ↓md_g6, ↓md_p6, ↓md_g7, ↓md_p7, ↓md_g8, ↓md_p8, ↓md_gA9, md_a9, md_s9, ↓md_gA10, md_a10, md_s10, ↓md_gA11, md_a11, md_s11, ↓md_gA12, md_a12, md_s12, ↓md_gA13, md_a13, md_s13, ↓md_g14, ↓md_p14, ↓md_g15, ↓md_p15, ↓md_g16, ↓md_p16, ↓md_gA17, md_a17, md_s17, ↓md_gA18, md_a18, md_s18, ↓md_g19, ↓md_p19, ↓md_gA20, md_a20, md_s20, ↓md_g21, ↓md_p21, ↓md_gA22, md_a22, md_s22, ↓md_gA23, md_a23, md_s23, ↓md_gA24, md_a24, md_s24]
    rw [if_pos ht, if_pos ht, X3_lr177 hm]
  · have q := X3_lr108 (ρ := ρ) (σ := σ) (b := b) hv (K := K) hl hr hb hn hm ht
    unfold sAbs at q
    simp (disch := omega) only [X3_told, decide_true, decide_false, reduceIte, and_self, and_true, true_and, and_false, false_and, or_true, true_or, or_false, false_or, not_true_eq_false, not_false_eq_true, reduceCtorEq, mA_ss, mI_ss, ↓St_rc, ↓fn_B, ↓fn_nn_none, ↓fn_nn_some, rZ_0, rZ_1, rZ_b, b2_z, b2_1, b2_or, b2_or0, b2_or1, iI_add, iI_sub, iI_mul, iI_neg, lI_add, lI_sub, lI_mul, iI_lt, iI_le, iI_eq, iI_to64, lI_cmp_lt, lI_cmp_gt, lI_cmp_ge, lI_cmp_le, lI_cmp_eq, mA_s, mA_o, mI_s, mI_o, mB_s, mB_o, mA_I, mA_B, mA_T, mA_F, mI_A, mI_B, mI_T, mI_F, mB_A, mB_I, mB_T, mB_F, mT_A, mT_I, mT_B, mT_F, mF_A, mF_I, mF_B, mF_T, ↓md_gA0, md_a0, md_s0, ↓md_gA1, md_a1, md_s1, ↓md_gA2, md_a2, md_s2, ↓md_gA3, md_a3, md_s3, ↓md_gA4, md_a4, md_s4, ↓md_g5, ↓md_p5, ↓md_g6, ↓md_p6, ↓md_g7, ↓md_p7, ↓md_g8, ↓md_p8, ↓md_gA9, md_a9, md_s9, ↓md_gA10, md_a10, md_s10, ↓md_gA11, md_a11, md_s11, ↓md_gA12, md_a12, md_s12, ↓md_gA13, md_a13, md_s13, ↓md_g14, ↓md_p14, ↓md_g15, ↓md_p15, ↓md_g16, ↓md_p16, ↓md_gA17, md_a17, md_s17, ↓md_gA18, md_a18, md_s18, ↓md_g19, ↓md_p19, ↓md_gA20, md_a20, md_s20, ↓md_g21, ↓md_p21, ↓md_gA22, md_a22, md_s22, ↓md_gA23, md_a23, md_s23, ↓md_gA24, md_a24, md_s24]
    rw [if_neg ht]
    by_cases h1 : 0 ≤ now - base
    · rw [if_pos h1] at q ⊢
      exact q
    · rw [if_neg h1] at q ⊢
      exact q
theorem rA_s {v old : Int → Int} {l : Int} {k : Nat} (h : bgn v l ≤ k) : uI (rA v l k old) k (rentAt v l k) = rA v l (k + 1) old := by
  funext j
  unfold uI rA
  by_cases h1 : j = k
  · rw [if_pos h1, if_pos (by omega), h1]
  · rw [if_neg h1]
    by_cases h2 : bgn v l ≤ j ∧ j < k
    · rw [if_pos h2, if_pos (by omega)]
    · rw [if_neg h2, if_neg (by omega)]
theorem X3_laysRents_l (hv : okD (μ.1 0)) {l : Int} (hl : 0 ≤ l ∧ l < μ.1 0 0) (old : Int → Int) : ∀ (n k : Nat) (gas : Nat), bgn (μ.1 0) l + 1 + k + n = 120 → n < gas → fnFix (fun _ _ _ _ _ _ => none) (gX3_laysRents_b40 ρ b) gas (iI l) (iI (sRent (μ.1 0) l k).1) (iI (sRent (μ.1 0) l k).2) (iI (sIdx (μ.1 0) (bgn (μ.1 0) l + 1 + k))) (iI ((bgn (μ.1 0) l + 1 + k : Nat) : Int)) (St σ b (mA μ 17 (rA (μ.1 0) l ((bgn (μ.1 0) l + 1 + k : Nat) : Int) old))) = some ((), St σ b (mA μ 17 (rA (μ.1 0) l 120 old))) := by
  intro n
  induction n with
  | zero =>
    intro k gas h1 h2
    obtain ⟨g, rfl⟩ := gas_s h2
    rw [fnFix_s, gX3_laysRents_b40]
    simp (disch := omega) only [decide_true, decide_false, reduceIte, and_self, and_true, true_and, and_false, false_and, or_true, true_or, or_false, false_or, not_true_eq_false, not_false_eq_true, reduceCtorEq, mA_ss, mI_ss, ↓St_rc, ↓fn_B, ↓fn_nn_none, ↓fn_nn_some, rZ_0, rZ_1, rZ_b, b2_z, b2_1, b2_or, b2_or0, b2_or1, iI_add, iI_sub, iI_mul, iI_neg, lI_add, lI_sub, lI_mul, iI_lt, iI_le, iI_eq, iI_to64, lI_cmp_lt, lI_cmp_gt, lI_cmp_ge, lI_cmp_le, lI_cmp_eq, mA_s, mA_o, mI_s, mI_o, mB_s, mB_o, mA_I, mA_B, mA_T, mA_F, mI_A, mI_B, mI_T, mI_F, mB_A, mB_I, mB_T, mB_F, mT_A, mT_I, mT_B, mT_F, mF_A, mF_I, mF_B, mF_T, ↓md_gA0, md_a0, md_s0, ↓md_gA1, md_a1, md_s1, ↓md_gA2, md_a2, md_s2, ↓md_gA3, md_a3, md_s3, ↓md_gA4, md_a4, md_s4, ↓md_g5, ↓md_p5, ↓md_g6, ↓md_p6, ↓md_g7, ↓md_p7, ↓md_g8, ↓md_p8, ↓md_gA9, md_a9, md_s9, ↓md_gA10, md_a10, md_s10, ↓md_gA11, md_a11, md_s11, ↓md_gA12, md_a12, md_s12, ↓md_gA13, md_a13, md_s13, ↓md_g14, ↓md_p14, ↓md_g15, ↓md_p15, ↓md_g16, ↓md_p16, ↓md_gA17, md_a17, md_s17, ↓md_gA18, md_a18, md_s18, ↓md_g19, ↓md_p19, ↓md_gA20, md_a20, md_s20, ↓md_g21, ↓md_p21, ↓md_gA22, md_a22, md_s22, ↓md_gA23, md_a23, md_s23, ↓md_gA24, md_a24, md_s24]
    rw [if_pos (by omega), show bgn (μ.1 0) l + 1 + k = 120 by omega]
    rfl
  | succ n ih =>
    intro k gas h1 h2
    obtain ⟨g, rfl⟩ := gas_s h2
    have k1 := sRent_r hv hl k (by omega)
    have k2 := sIdx_r hv (bgn (μ.1 0) l + 1 + k + 1) (by omega)
    have k3 := sIdx_r hv (bgn (μ.1 0) l + 1 + k) (by omega)
    have k4 := hv.2.2.2.2.2.2.2.2.1 ((bgn (μ.1 0) l + 1 + k : Nat) : Int) (by omega) (by omega)
    have e : sIdx (μ.1 0) (bgn (μ.1 0) l + 1 + k + 1) = if μ.1 0 (240 + ((bgn (μ.1 0) l + 1 + k : Nat) : Int)) ≤ 0 then sIdx (μ.1 0) (bgn (μ.1 0) l + 1 + k) else μ.1 0 (240 + ((bgn (μ.1 0) l + 1 + k : Nat) : Int)) := rfl
    have e2 : (sStep (μ.1 0) l (sRent (μ.1 0) l k) (sIdx (μ.1 0) (bgn (μ.1 0) l + 1 + k + 1))).1 = rentAt (μ.1 0) l ((bgn (μ.1 0) l + 1 + k : Nat) : Int) := by
      unfold rentAt
      rw [show ((bgn (μ.1 0) l + 1 + k : Nat) : Int).toNat - bgn (μ.1 0) l = k + 1 by omega]
      rfl
    have ih := ih (k + 1) g (by omega) (by omega)
    have q := X3_lr77 (ρ := ρ) (σ := σ) (b := b) (μ := mA μ 17 (rA (μ.1 0) l ((bgn (μ.1 0) l + 1 + k : Nat) : Int) old)) hv (K := fnFix (fun _ _ _ _ _ _ => none) (gX3_laysRents_b40 ρ b) g) hl k1.1 k1.2 k2 (m := ((bgn (μ.1 0) l + 1 + k : Nat) : Int)) (by omega)
    simp (disch := omega) only [mA_s, mA_ss, mA_o] at q
    have q : gX3_laysRents_b77 ρ b (fnFix (fun _ _ _ _ _ _ => none) (gX3_laysRents_b40 ρ b) g) (iI l) (iI (sRent (μ.1 0) l k).1) (iI (sRent (μ.1 0) l k).2) (iI ((bgn (μ.1 0) l + 1 + k : Nat) : Int)) (iI (sIdx (μ.1 0) (bgn (μ.1 0) l + 1 + k + 1))) (St σ b (mA μ 17 (rA (μ.1 0) l ((bgn (μ.1 0) l + 1 + k : Nat) : Int) old))) = some ((), St σ b (mA μ 17 (rA (μ.1 0) l 120 old))) := by
      refine q.trans ?_
      have e3 : uI (rA (μ.1 0) l ((bgn (μ.1 0) l + 1 + k : Nat) : Int) old) ((bgn (μ.1 0) l + 1 + k : Nat) : Int) (sStep (μ.1 0) l ((sRent (μ.1 0) l k).1, (sRent (μ.1 0) l k).2) (sIdx (μ.1 0) (bgn (μ.1 0) l + 1 + k + 1))).1 = rA (μ.1 0) l (((bgn (μ.1 0) l + 1 + k : Nat) : Int) + 1) old := by
        refine Eq.trans ?_ (rA_s (by omega))
        exact congrArg (uI _ _) e2
      rw [e3]
      exact ih
    rw [fnFix_s, gX3_laysRents_b40]
    simp (disch := omega) only [decide_true, decide_false, reduceIte, and_self, and_true, true_and, and_false, false_and, or_true, true_or, or_false, false_or, not_true_eq_false, not_false_eq_true, reduceCtorEq, mA_ss, mI_ss, ↓St_rc, ↓fn_B, ↓fn_nn_none, ↓fn_nn_some, rZ_0, rZ_1, rZ_b, b2_z, b2_1, b2_or, b2_or0, b2_or1, iI_add, iI_sub, iI_mul, iI_neg, lI_add, lI_sub, lI_mul, iI_lt, iI_le, iI_eq, iI_to64, lI_cmp_lt, lI_cmp_gt, lI_cmp_ge, lI_cmp_le, lI_cmp_eq, mA_s, mA_o, mI_s, mI_o, mB_s, mB_o, mA_I, mA_B, mA_T, mA_F, mI_A, mI_B, mI_T, mI_F, mB_A, mB_I, mB_T, mB_F, mT_A, mT_I, mT_B, mT_F, mF_A, mF_I, mF_B, mF_T, ↓md_gA0, md_a0, md_s0, ↓md_gA1, md_a1, md_s1, ↓md_gA2, md_a2, md_s2, ↓md_gA3, md_a3, md_s3, ↓md_gA4, md_a4, md_s4, ↓md_g5, ↓md_p5, ↓md_g6, ↓md_p6, ↓md_g7, ↓md_p7, ↓md_g8, ↓md_p8, ↓md_gA9, md_a9, md_s9, ↓md_gA10, md_a10, md_s10, ↓md_gA11, md_a11, md_s11, ↓md_gA12, md_a12, md_s12, ↓md_gA13, md_a13, md_s13, ↓md_g14, ↓md_p14, ↓md_g15, ↓md_p15, ↓md_g16, ↓md_p16, ↓md_gA17, md_a17, md_s17, ↓md_gA18, md_a18, md_s18, ↓md_g19, ↓md_p19, ↓md_gA20, md_a20, md_s20, ↓md_g21, ↓md_p21, ↓md_gA22, md_a22, md_s22, ↓md_gA23, md_a23, md_s23, ↓md_gA24, md_a24, md_s24]
    rw [if_neg (by omega)]
    rw [e] at q
    by_cases h5 : μ.1 0 (240 + ((bgn (μ.1 0) l + 1 + k : Nat) : Int)) ≤ 0
    · rw [if_pos h5] at q ⊢
      exact q
    · rw [if_neg h5] at q ⊢
      exact q
theorem X3_laysRents (hv : okD (μ.1 0)) {l : Int} (hl : 0 ≤ l ∧ l < μ.1 0 0) : gX3_laysRents ρ b (iI l) (St σ b μ) = some ((), St σ b (mA μ 17 (rA (μ.1 0) l 120 (μ.1 17)))) := by
  have h0 := hv.1
  obtain ⟨-, k1, -⟩ := hv.2.2.2.2.1 l hl.1 hl.2
  have k2 := bgn_r hv hl
  have q := X3_laysRents_l (ρ := ρ) (σ := σ) (b := b) hv hl (μ.1 17) (119 - bgn (μ.1 0) l) 0 fnGas (by omega) (by unfold fnGas; omega)
  have e : rA (μ.1 0) l ((bgn (μ.1 0) l + 1 + 0 : Nat) : Int) (μ.1 17) = uI (μ.1 17) (bgn (μ.1 0) l : Int) (μ.1 0 (1 + 8 * l + 2)) := by
    funext j
    unfold rA uI
    by_cases h : j = (bgn (μ.1 0) l : Int)
    · rw [if_pos h, if_pos (by omega), h]
      unfold rentAt
      rw [show (bgn (μ.1 0) l : Int).toNat - bgn (μ.1 0) l = 0 by omega]
      rfl
    · rw [if_neg h, if_neg (by omega)]
  rw [e] at q
  unfold gX3_laysRents
  simp (disch := omega) only [X3_told, decide_true, decide_false, reduceIte, and_self, and_true, true_and, and_false, false_and, or_true, true_or, or_false, false_or, not_true_eq_false, not_false_eq_true, reduceCtorEq, mA_ss, mI_ss, ↓St_rc, ↓fn_B, ↓fn_nn_none, ↓fn_nn_some, rZ_0, rZ_1, rZ_b, b2_z, b2_1, b2_or, b2_or0, b2_or1, iI_add, iI_sub, iI_mul, iI_neg, lI_add, lI_sub, lI_mul, iI_lt, iI_le, iI_eq, iI_to64, lI_cmp_lt, lI_cmp_gt, lI_cmp_ge, lI_cmp_le, lI_cmp_eq, mA_s, mA_o, mI_s, mI_o, mB_s, mB_o, mA_I, mA_B, mA_T, mA_F, mI_A, mI_B, mI_T, mI_F, mB_A, mB_I, mB_T, mB_F, mT_A, mT_I, mT_B, mT_F, mF_A, mF_I, mF_B, mF_T, ↓md_gA0, md_a0, md_s0, ↓md_gA1, md_a1, md_s1, ↓md_gA2, md_a2, md_s2, ↓md_gA3, md_a3, md_s3, ↓md_gA4, md_a4, md_s4, ↓md_g5, ↓md_p5, ↓md_g6, ↓md_p6, ↓md_g7, ↓md_p7, ↓md_g8, ↓md_p8, ↓md_gA9, md_a9, md_s9, ↓md_gA10, md_a10, md_s10, ↓md_gA11, md_a11, md_s11, ↓md_gA12, md_a12, md_s12, ↓md_gA13, md_a13, md_s13, ↓md_g14, ↓md_p14, ↓md_g15, ↓md_p15, ↓md_g16, ↓md_p16, ↓md_gA17, md_a17, md_s17, ↓md_gA18, md_a18, md_s18, ↓md_g19, ↓md_p19, ↓md_gA20, md_a20, md_s20, ↓md_g21, ↓md_p21, ↓md_gA22, md_a22, md_s22, ↓md_gA23, md_a23, md_s23, ↓md_gA24, md_a24, md_s24]
  rw [if_neg (by decide), iI_div30 (by omega), ← k2.1]
  simp (disch := omega) only [X3_told, decide_true, decide_false, reduceIte, and_self, and_true, true_and, and_false, false_and, or_true, true_or, or_false, false_or, not_true_eq_false, not_false_eq_true, reduceCtorEq, mA_ss, mI_ss, ↓St_rc, ↓fn_B, ↓fn_nn_none, ↓fn_nn_some, rZ_0, rZ_1, rZ_b, b2_z, b2_1, b2_or, b2_or0, b2_or1, iI_add, iI_sub, iI_mul, iI_neg, lI_add, lI_sub, lI_mul, iI_lt, iI_le, iI_eq, iI_to64, lI_cmp_lt, lI_cmp_gt, lI_cmp_ge, lI_cmp_le, lI_cmp_eq, mA_s, mA_o, mI_s, mI_o, mB_s, mB_o, mA_I, mA_B, mA_T, mA_F, mI_A, mI_B, mI_T, mI_F, mB_A, mB_I, mB_T, mB_F, mT_A, mT_I, mT_B, mT_F, mF_A, mF_I, mF_B, mF_T, ↓md_gA0, md_a0, md_s0, ↓md_gA1, md_a1, md_s1, ↓md_gA2, md_a2, md_s2, ↓md_gA3, md_a3, md_s3, ↓md_gA4, md_a4, md_s4, ↓md_g5, ↓md_p5, ↓md_g6, ↓md_p6, ↓md_g7, ↓md_p7, ↓md_g8, ↓md_p8, ↓md_gA9, md_a9, md_s9, ↓md_gA10, md_a10, md_s10, ↓md_gA11, md_a11, md_s11, ↓md_gA12, md_a12, md_s12, ↓md_gA13, md_a13, md_s13, ↓md_g14, ↓md_p14, ↓md_g15, ↓md_p15, ↓md_g16, ↓md_p16, ↓md_gA17, md_a17, md_s17, ↓md_gA18, md_a18, md_s18, ↓md_g19, ↓md_p19, ↓md_gA20, md_a20, md_s20, ↓md_g21, ↓md_p21, ↓md_gA22, md_a22, md_s22, ↓md_gA23, md_a23, md_s23, ↓md_gA24, md_a24, md_s24]
  rw [X3_indexOf hv (by omega)]
  simp (disch := omega) only [decide_true, decide_false, reduceIte, and_self, and_true, true_and, and_false, false_and, or_true, true_or, or_false, false_or, not_true_eq_false, not_false_eq_true, reduceCtorEq, mA_ss, mI_ss, ↓St_rc, ↓fn_B, ↓fn_nn_none, ↓fn_nn_some, rZ_0, rZ_1, rZ_b, b2_z, b2_1, b2_or, b2_or0, b2_or1, iI_add, iI_sub, iI_mul, iI_neg, lI_add, lI_sub, lI_mul, iI_lt, iI_le, iI_eq, iI_to64, lI_cmp_lt, lI_cmp_gt, lI_cmp_ge, lI_cmp_le, lI_cmp_eq, mA_s, mA_o, mI_s, mI_o, mB_s, mB_o, mA_I, mA_B, mA_T, mA_F, mI_A, mI_B, mI_T, mI_F, mB_A, mB_I, mB_T, mB_F, mT_A, mT_I, mT_B, mT_F, mF_A, mF_I, mF_B, mF_T, ↓md_gA0, md_a0, md_s0, ↓md_gA1, md_a1, md_s1, ↓md_gA2, md_a2, md_s2, ↓md_gA3, md_a3, md_s3, ↓md_gA4, md_a4, md_s4, ↓md_g5, ↓md_p5, ↓md_g6, ↓md_p6, ↓md_g7, ↓md_p7, ↓md_g8, ↓md_p8, ↓md_gA9, md_a9, md_s9, ↓md_gA10, md_a10, md_s10, ↓md_gA11, md_a11, md_s11, ↓md_gA12, md_a12, md_s12, ↓md_gA13, md_a13, md_s13, ↓md_g14, ↓md_p14, ↓md_g15, ↓md_p15, ↓md_g16, ↓md_p16, ↓md_gA17, md_a17, md_s17, ↓md_gA18, md_a18, md_s18, ↓md_g19, ↓md_p19, ↓md_gA20, md_a20, md_s20, ↓md_g21, ↓md_p21, ↓md_gA22, md_a22, md_s22, ↓md_gA23, md_a23, md_s23, ↓md_gA24, md_a24, md_s24]
  rw [show ((bgn (μ.1 0) l : Int) + 1).toNat = bgn (μ.1 0) l + 1 by omega]
  exact q
end Rents
end
section
/-! defects, reductions, units -/
def sm (f : Int → Int) : Int → Nat → Int
  | _, 0 => 0
  | a, n + 1 => f a + sm f (a + 1) n
theorem sm_congr {f g : Int → Int} : ∀ (n : Nat) (a : Int), (∀ i, a ≤ i → i < a + n → f i = g i) → sm f a n = sm g a n
  | 0, _, _ => rfl
  | n + 1, a, h => by
    unfold sm
    rw [h a (by omega) (by omega), sm_congr n (a + 1) (fun i h1 h2 => h i (by omega) (by omega))]
theorem sm_r {f : Int → Int} {lo hi : Int} : ∀ (n : Nat) (a : Int), (∀ i, a ≤ i → i < a + n → lo ≤ f i ∧ f i ≤ hi) → lo * n ≤ sm f a n ∧ sm f a n ≤ hi * n
  | 0, _, _ => by unfold sm; simp
  | n + 1, a, h => by
    unfold sm
    have h1 := h a (by omega) (by omega)
    have h2 := sm_r (f := f) (lo := lo) (hi := hi) n (a + 1) (fun i h1 h2 => h i (by omega) (by omega))
    have e : ((n + 1 : Nat) : Int) = (n : Int) + 1 := by omega
    rw [e, Int.mul_add, Int.mul_add]
    omega
theorem sm_last (f : Int → Int) : ∀ (n : Nat) (a : Int), sm f a (n + 1) = sm f a n + f (a + n)
  | 0, a => by unfold sm; unfold sm; simp
  | n + 1, a => by
    have h := sm_last f n (a + 1)
    rw [show sm f a (n + 1 + 1) = f a + sm f (a + 1) (n + 1) from rfl, h, show sm f a (n + 1) = f a + sm f (a + 1) n from rfl]
    rw [show a + 1 + (n : Int) = a + ((n + 1 : Nat) : Int) by omega]
    omega
def sUnder (v : Int → Int) (t : Int) : Nat → Int → Bool
  | 0, _ => false
  | n + 1, k => if k < 0 then false else (decide (t = k) || sUnder v t n (v (1 + 8 * k)))
def sHolds (v : Int → Int) (d day : Int) : Bool := decide (v (82 + 4 * d + 2) ≤ day ∧ day < v (82 + 4 * d + 3))
def sRedS (v : Int → Int) (t : Int → Bool) (day : Int) : Int := sm (fun d => if t d = true ∧ sHolds v d day = true then v (82 + 4 * d + 1) else 0) 0 (v 81).toNat
def sRed (v : Int → Int) (l day : Int) : Int := if sRedS v (fun d => sUnder v (v (82 + 4 * d)) 11 l) day ≤ 100 then sRedS v (fun d => sUnder v (v (82 + 4 * d)) 11 l) day else 100
theorem sRedS_r {v : Int → Int} (hv : okD v) (t : Int → Bool) (day : Int) : 0 ≤ sRedS v t day ∧ sRedS v t day ≤ 1200 := by
  have h := hv.2.1
  have q := sm_r (f := fun d => if t d = true ∧ sHolds v d day = true then v (82 + 4 * d + 1) else 0) (lo := 0) (hi := 100) (v 81).toNat 0 (fun i h1 h2 => by
    obtain ⟨-, k, -⟩ := hv.2.2.2.2.2.1 i h1 (by omega)
    split <;> omega)
  unfold sRedS
  omega
theorem sRed_r {v : Int → Int} (hv : okD v) (l day : Int) : 0 ≤ sRed v l day ∧ sRed v l day ≤ 100 := by
  have := sRedS_r hv (fun d => sUnder v (v (82 + 4 * d)) 11 l) day
  unfold sRed
  split <;> omega
def setT (μ : MM) (f : Int → Bool) : MM := (μ.1, μ.2.1, μ.2.2.1, f, μ.2.2.2.2)
theorem setT_self {μ : MM} : setT μ μ.2.2.2.1 = μ := rfl
def tch (v : Int → Int) (l k : Int) (old : Int → Bool) : Int → Bool := fun d => if 0 ≤ d ∧ d < k then sUnder v (v (82 + 4 * d)) 11 l else old d
theorem tch_0 (v : Int → Int) (l : Int) (old : Int → Bool) : tch v l 0 old = old := by
  funext d
  unfold tch
  rw [if_neg (by omega)]
section Red
variable {ρ : Nat → Nat} {σ : mS} {b : Nat} {μ : MM}
theorem mT_ss {i : Int} {x y : Bool} : mT (mT μ i x) i y = mT μ i y := by
  unfold mT
  refine Prod.ext rfl (Prod.ext rfl (Prod.ext rfl (Prod.ext (funext fun j => ?_) rfl)))
  dsimp only
  by_cases h : j = i
  · rw [if_pos h, if_pos h]
  · rw [if_neg h, if_neg h, if_neg h]
theorem mT_s {i : Int} {x : Bool} : (mT μ i x).2.2.2.1 i = x := if_pos rfl
theorem X3_fd22 (hv : okD (μ.1 0)) {K : Int32 → Int32 → mS → Option (Unit × mS)} {x1 : Int32} {d : Int} (hd : 0 ≤ d ∧ d < μ.1 0 81) : ∀ (n : Nat) (k : Int) (acc : Bool) (gas : Nat), k < n → n < gas → -1 ≤ k → k < μ.1 0 0 → fnFix (fun _ _ _ _ => none) (gX3_findsDefects_b22 ρ b K) gas x1 (iI d) (iI k) (St σ b (mT μ d acc)) = K x1 (iI (d + 1)) (St σ b (mT μ d (acc || sUnder (μ.1 0) (μ.1 0 (82 + 4 * d)) n k))) := by
  intro n
  induction n with
  | zero =>
    intro k acc gas h1 h2 h3 h4
    obtain ⟨g, rfl⟩ := gas_s h2
    rw [fnFix_s, gX3_findsDefects_b22]
    simp (disch := omega) only [decide_true, decide_false, reduceIte, and_self, and_true, true_and, and_false, false_and, or_true, true_or, or_false, false_or, not_true_eq_false, not_false_eq_true, reduceCtorEq, mA_ss, mI_ss, ↓St_rc, ↓fn_B, ↓fn_nn_none, ↓fn_nn_some, rZ_0, rZ_1, rZ_b, b2_z, b2_1, b2_or, b2_or0, b2_or1, iI_add, iI_sub, iI_mul, iI_neg, lI_add, lI_sub, lI_mul, iI_lt, iI_le, iI_eq, iI_to64, lI_cmp_lt, lI_cmp_gt, lI_cmp_ge, lI_cmp_le, lI_cmp_eq, mA_s, mA_o, mI_s, mI_o, mB_s, mB_o, mA_I, mA_B, mA_T, mA_F, mI_A, mI_B, mI_T, mI_F, mB_A, mB_I, mB_T, mB_F, mT_A, mT_I, mT_B, mT_F, mF_A, mF_I, mF_B, mF_T, ↓md_gA0, md_a0, md_s0, ↓md_gA1, md_a1, md_s1, ↓md_gA2, md_a2, md_s2, ↓md_gA3, md_a3, md_s3, ↓md_gA4, md_a4, md_s4, ↓md_g5, ↓md_p5, ↓md_g6, ↓md_p6, ↓md_g7, ↓md_p7, ↓md_g8, ↓md_p8, ↓md_gA9, md_a9, md_s9, ↓md_gA10, md_a10, md_s10, ↓md_gA11, md_a11, md_s11, ↓md_gA12, md_a12, md_s12, ↓md_gA13, md_a13, md_s13, ↓md_g14, ↓md_p14, ↓md_g15, ↓md_p15, ↓md_g16, ↓md_p16, ↓md_gA17, md_a17, md_s17, ↓md_gA18, md_a18, md_s18, ↓md_g19, ↓md_p19, ↓md_gA20, md_a20, md_s20, ↓md_g21, ↓md_p21, ↓md_gA22, md_a22, md_s22, ↓md_gA23, md_a23, md_s23, ↓md_gA24, md_a24, md_s24]
    rw [if_pos (by omega), sUnder, Bool.or_false]
  | succ n ih =>
    intro k acc gas h1 h2 h3 h4
    obtain ⟨g, rfl⟩ := gas_s h2
    have h0 := hv.1
    have h9 := hv.2.1
    rw [fnFix_s, gX3_findsDefects_b22, sUnder]
    by_cases hk : k < 0
    · simp (disch := omega) only [hk, decide_true, decide_false, reduceIte, and_self, and_true, true_and, and_false, false_and, or_true, true_or, or_false, false_or, not_true_eq_false, not_false_eq_true, reduceCtorEq, mA_ss, mI_ss, ↓St_rc, ↓fn_B, ↓fn_nn_none, ↓fn_nn_some, rZ_0, rZ_1, rZ_b, b2_z, b2_1, b2_or, b2_or0, b2_or1, iI_add, iI_sub, iI_mul, iI_neg, lI_add, lI_sub, lI_mul, iI_lt, iI_le, iI_eq, iI_to64, lI_cmp_lt, lI_cmp_gt, lI_cmp_ge, lI_cmp_le, lI_cmp_eq, mA_s, mA_o, mI_s, mI_o, mB_s, mB_o, mA_I, mA_B, mA_T, mA_F, mI_A, mI_B, mI_T, mI_F, mB_A, mB_I, mB_T, mB_F, mT_A, mT_I, mT_B, mT_F, mF_A, mF_I, mF_B, mF_T, ↓md_gA0, md_a0, md_s0, ↓md_gA1, md_a1, md_s1, ↓md_gA2, md_a2, md_s2, ↓md_gA3, md_a3, md_s3, ↓md_gA4, md_a4, md_s4, ↓md_g5, ↓md_p5, ↓md_g6, ↓md_p6, ↓md_g7, ↓md_p7, ↓md_g8, ↓md_p8, ↓md_gA9, md_a9, md_s9, ↓md_gA10, md_a10, md_s10, ↓md_gA11, md_a11, md_s11, ↓md_gA12, md_a12, md_s12, ↓md_gA13, md_a13, md_s13, ↓md_g14, ↓md_p14, ↓md_g15, ↓md_p15, ↓md_g16, ↓md_p16, ↓md_gA17, md_a17, md_s17, ↓md_gA18, md_a18, md_s18, ↓md_g19, ↓md_p19, ↓md_gA20, md_a20, md_s20, ↓md_g21, ↓md_p21, ↓md_gA22, md_a22, md_s22, ↓md_gA23, md_a23, md_s23, ↓md_gA24, md_a24, md_s24]
      rw [Bool.or_false]
    · obtain ⟨k1, -⟩ := hv.2.2.2.2.1 k (by omega) h4
      obtain ⟨k2, -⟩ := hv.2.2.2.2.2.1 d hd.1 hd.2
      have e : 1 + 8 * k + 0 = 1 + 8 * k := by omega
      by_cases ht : μ.1 0 (82 + 4 * d) = k
      · simp (disch := omega) only [gX3_findsDefects_b53, X3_told, ht, hk, mT_s, mT_ss, e, decide_true, decide_false, reduceIte, and_self, and_true, true_and, and_false, false_and, or_true, true_or, or_false, false_or, not_true_eq_false, not_false_eq_true, reduceCtorEq, mA_ss, mI_ss, ↓St_rc, ↓fn_B, ↓fn_nn_none, ↓fn_nn_some, rZ_0, rZ_1, rZ_b, b2_z, b2_1, b2_or, b2_or0, b2_or1, iI_add, iI_sub, iI_mul, iI_neg, lI_add, lI_sub, lI_mul, iI_lt, iI_le, iI_eq, iI_to64, lI_cmp_lt, lI_cmp_gt, lI_cmp_ge, lI_cmp_le, lI_cmp_eq, mA_s, mA_o, mI_s, mI_o, mB_s, mB_o, mA_I, mA_B, mA_T, mA_F, mI_A, mI_B, mI_T, mI_F, mB_A, mB_I, mB_T, mB_F, mT_A, mT_I, mT_B, mT_F, mF_A, mF_I, mF_B, mF_T, ↓md_gA0, md_a0, md_s0, ↓md_gA1, md_a1, md_s1, ↓md_gA2, md_a2, md_s2, ↓md_gA3, md_a3, md_s3, ↓md_gA4, md_a4, md_s4, ↓md_g5, ↓md_p5, ↓md_g6, ↓md_p6, ↓md_g7, ↓md_p7, ↓md_g8, ↓md_p8, ↓md_gA9, md_a9, md_s9, ↓md_gA10, md_a10, md_s10, ↓md_gA11, md_a11, md_s11, ↓md_gA12, md_a12, md_s12, ↓md_gA13, md_a13, md_s13, ↓md_g14, ↓md_p14, ↓md_g15, ↓md_p15, ↓md_g16, ↓md_p16, ↓md_gA17, md_a17, md_s17, ↓md_gA18, md_a18, md_s18, ↓md_g19, ↓md_p19, ↓md_gA20, md_a20, md_s20, ↓md_g21, ↓md_p21, ↓md_gA22, md_a22, md_s22, ↓md_gA23, md_a23, md_s23, ↓md_gA24, md_a24, md_s24]
        rw [ih _ _ _ (by omega) (by omega) (by omega) (by omega), ← ht]
        rw [Bool.true_or, Bool.or_true]
      · simp (disch := omega) only [gX3_findsDefects_b53, X3_told, ht, hk, mT_s, mT_ss, e, decide_true, decide_false, reduceIte, and_self, and_true, true_and, and_false, false_and, or_true, true_or, or_false, false_or, not_true_eq_false, not_false_eq_true, reduceCtorEq, mA_ss, mI_ss, ↓St_rc, ↓fn_B, ↓fn_nn_none, ↓fn_nn_some, rZ_0, rZ_1, rZ_b, b2_z, b2_1, b2_or, b2_or0, b2_or1, iI_add, iI_sub, iI_mul, iI_neg, lI_add, lI_sub, lI_mul, iI_lt, iI_le, iI_eq, iI_to64, lI_cmp_lt, lI_cmp_gt, lI_cmp_ge, lI_cmp_le, lI_cmp_eq, mA_s, mA_o, mI_s, mI_o, mB_s, mB_o, mA_I, mA_B, mA_T, mA_F, mI_A, mI_B, mI_T, mI_F, mB_A, mB_I, mB_T, mB_F, mT_A, mT_I, mT_B, mT_F, mF_A, mF_I, mF_B, mF_T, ↓md_gA0, md_a0, md_s0, ↓md_gA1, md_a1, md_s1, ↓md_gA2, md_a2, md_s2, ↓md_gA3, md_a3, md_s3, ↓md_gA4, md_a4, md_s4, ↓md_g5, ↓md_p5, ↓md_g6, ↓md_p6, ↓md_g7, ↓md_p7, ↓md_g8, ↓md_p8, ↓md_gA9, md_a9, md_s9, ↓md_gA10, md_a10, md_s10, ↓md_gA11, md_a11, md_s11, ↓md_gA12, md_a12, md_s12, ↓md_gA13, md_a13, md_s13, ↓md_g14, ↓md_p14, ↓md_g15, ↓md_p15, ↓md_g16, ↓md_p16, ↓md_gA17, md_a17, md_s17, ↓md_gA18, md_a18, md_s18, ↓md_g19, ↓md_p19, ↓md_gA20, md_a20, md_s20, ↓md_g21, ↓md_p21, ↓md_gA22, md_a22, md_s22, ↓md_gA23, md_a23, md_s23, ↓md_gA24, md_a24, md_s24]
        rw [ih _ _ _ (by omega) (by omega) (by omega) (by omega)]
        rw [Bool.false_or]
theorem X3_fd2 (hv : okD (μ.1 0)) {l : Int} (hl : 0 ≤ l ∧ l < μ.1 0 0) (old : Int → Bool) : ∀ (n : Nat) (d : Int) (gas : Nat), d + n = μ.1 0 81 → n < gas → 0 ≤ d → fnFix (fun _ _ _ => none) (gX3_findsDefects_b2 ρ b) gas (iI l) (iI d) (St σ b (setT μ (tch (μ.1 0) l d old))) = some ((), St σ b (setT μ (tch (μ.1 0) l (μ.1 0 81) old))) := by
  intro n
  induction n with
  | zero =>
    intro d gas h1 h2 h3
    have h9 := hv.2.1
    obtain ⟨g, rfl⟩ := gas_s h2
    rw [fnFix_s, gX3_findsDefects_b2]
    have e : ∀ f, (setT μ f).1 0 = μ.1 0 := fun f => rfl
    simp (disch := omega) only [e, decide_true, decide_false, reduceIte, and_self, and_true, true_and, and_false, false_and, or_true, true_or, or_false, false_or, not_true_eq_false, not_false_eq_true, reduceCtorEq, mA_ss, mI_ss, ↓St_rc, ↓fn_B, ↓fn_nn_none, ↓fn_nn_some, rZ_0, rZ_1, rZ_b, b2_z, b2_1, b2_or, b2_or0, b2_or1, iI_add, iI_sub, iI_mul, iI_neg, lI_add, lI_sub, lI_mul, iI_lt, iI_le, iI_eq, iI_to64, lI_cmp_lt, lI_cmp_gt, lI_cmp_ge, lI_cmp_le, lI_cmp_eq, mA_s, mA_o, mI_s, mI_o, mB_s, mB_o, mA_I, mA_B, mA_T, mA_F, mI_A, mI_B, mI_T, mI_F, mB_A, mB_I, mB_T, mB_F, mT_A, mT_I, mT_B, mT_F, mF_A, mF_I, mF_B, mF_T, ↓md_gA0, md_a0, md_s0, ↓md_gA1, md_a1, md_s1, ↓md_gA2, md_a2, md_s2, ↓md_gA3, md_a3, md_s3, ↓md_gA4, md_a4, md_s4, ↓md_g5, ↓md_p5, ↓md_g6, ↓md_p6, ↓md_g7, ↓md_p7, ↓md_g8, ↓md_p8, ↓md_gA9, md_a9, md_s9, ↓md_gA10, md_a10, md_s10, ↓md_gA11, md_a11, md_s11, ↓md_gA12, md_a12, md_s12, ↓md_gA13, md_a13, md_s13, ↓md_g14, ↓md_p14, ↓md_g15, ↓md_p15, ↓md_g16, ↓md_p16, ↓md_gA17, md_a17, md_s17, ↓md_gA18, md_a18, md_s18, ↓md_g19, ↓md_p19, ↓md_gA20, md_a20, md_s20, ↓md_g21, ↓md_p21, ↓md_gA22, md_a22, md_s22, ↓md_gA23, md_a23, md_s23, ↓md_gA24, md_a24, md_s24]
    rw [if_pos (by omega), show d = μ.1 0 81 by omega]
  | succ n ih =>
    intro d gas h1 h2 h3
    have h9 := hv.2.1
    obtain ⟨g, rfl⟩ := gas_s h2
    rw [fnFix_s, gX3_findsDefects_b2]
    have e : ∀ f, (setT μ f).1 0 = μ.1 0 := fun f => rfl
    simp (disch := omega) only [e, decide_true, decide_false, reduceIte, and_self, and_true, true_and, and_false, false_and, or_true, true_or, or_false, false_or, not_true_eq_false, not_false_eq_true, reduceCtorEq, mA_ss, mI_ss, ↓St_rc, ↓fn_B, ↓fn_nn_none, ↓fn_nn_some, rZ_0, rZ_1, rZ_b, b2_z, b2_1, b2_or, b2_or0, b2_or1, iI_add, iI_sub, iI_mul, iI_neg, lI_add, lI_sub, lI_mul, iI_lt, iI_le, iI_eq, iI_to64, lI_cmp_lt, lI_cmp_gt, lI_cmp_ge, lI_cmp_le, lI_cmp_eq, mA_s, mA_o, mI_s, mI_o, mB_s, mB_o, mA_I, mA_B, mA_T, mA_F, mI_A, mI_B, mI_T, mI_F, mB_A, mB_I, mB_T, mB_F, mT_A, mT_I, mT_B, mT_F, mF_A, mF_I, mF_B, mF_T, ↓md_gA0, md_a0, md_s0, ↓md_gA1, md_a1, md_s1, ↓md_gA2, md_a2, md_s2, ↓md_gA3, md_a3, md_s3, ↓md_gA4, md_a4, md_s4, ↓md_g5, ↓md_p5, ↓md_g6, ↓md_p6, ↓md_g7, ↓md_p7, ↓md_g8, ↓md_p8, ↓md_gA9, md_a9, md_s9, ↓md_gA10, md_a10, md_s10, ↓md_gA11, md_a11, md_s11, ↓md_gA12, md_a12, md_s12, ↓md_gA13, md_a13, md_s13, ↓md_g14, ↓md_p14, ↓md_g15, ↓md_p15, ↓md_g16, ↓md_p16, ↓md_gA17, md_a17, md_s17, ↓md_gA18, md_a18, md_s18, ↓md_g19, ↓md_p19, ↓md_gA20, md_a20, md_s20, ↓md_g21, ↓md_p21, ↓md_gA22, md_a22, md_s22, ↓md_gA23, md_a23, md_s23, ↓md_gA24, md_a24, md_s24]
    rw [if_neg (by omega)]
    have q0 : iI 0 = iI (b2 false) := rfl
    rw [show (fn_sZ 2 (some (b + 12)) (iI d) (iI 0) (St σ b (setT μ (tch (μ.1 0) l d old))) fun a4 => fnFix (fun _ _ _ _ => none) (gX3_findsDefects_b22 ρ b (fnFix (fun _ _ _ => none) (gX3_findsDefects_b2 ρ b) g)) fnGas (iI l) (iI d) (iI l) a4) = _ from md_s18 (x := false) (by omega)]
    have h0 := hv.1
    rw [X3_fd22 (μ := setT μ (tch (μ.1 0) l d old)) (by exact hv) (show 0 ≤ d ∧ d < μ.1 0 81 by omega) 11 l false fnGas (by omega) (by decide) (by omega) (by exact hl.2)]
    have e2 : mT (setT μ (tch (μ.1 0) l d old)) d (false || sUnder (μ.1 0) (μ.1 0 (82 + 4 * d)) 11 l) = setT μ (tch (μ.1 0) l (d + 1) old) := by
      unfold mT setT
      refine Prod.ext rfl (Prod.ext rfl (Prod.ext rfl (Prod.ext (funext fun j => ?_) rfl)))
      dsimp only
      unfold tch
      by_cases hj : j = d
      · rw [if_pos hj, if_pos (by omega), hj, Bool.false_or]
      · rw [if_neg hj]
        by_cases hj2 : 0 ≤ j ∧ j < d
        · rw [if_pos hj2, if_pos (by omega)]
        · rw [if_neg hj2, if_neg (by omega)]
    rw [show (setT μ (tch (μ.1 0) l d old)).1 0 = μ.1 0 from rfl, e2]
    exact ih (d + 1) g (by omega) (by omega) (by omega)
theorem X3_findsDefects (hv : okD (μ.1 0)) {l : Int} (hl : 0 ≤ l ∧ l < μ.1 0 0) : gX3_findsDefects ρ b (iI l) (St σ b μ) = some ((), St σ b (setT μ (tch (μ.1 0) l (μ.1 0 81) μ.2.2.2.1))) := by
  have h9 := hv.2.1
  have q := X3_fd2 (ρ := ρ) (σ := σ) (b := b) hv hl μ.2.2.2.1 (μ.1 0 81).toNat 0 fnGas (by omega) (by unfold fnGas; omega) (by decide)
  rw [tch_0] at q
  exact q
theorem X3_holds (hv : okD (μ.1 0)) {d day : Int} (hd : 0 ≤ d ∧ d < μ.1 0 81) (hy : r32 day) : gX3_holds ρ b (iI d) (iI day) (St σ b μ) = some (iI (b2 (sHolds (μ.1 0) d day)), St σ b μ) := by
  have h9 := hv.2.1
  obtain ⟨-, -, k1, k2⟩ := hv.2.2.2.2.2.1 d hd.1 hd.2
  unfold gX3_holds sHolds
  simp (disch := omega) only [decide_true, decide_false, reduceIte, and_self, and_true, true_and, and_false, false_and, or_true, true_or, or_false, false_or, not_true_eq_false, not_false_eq_true, reduceCtorEq, mA_ss, mI_ss, ↓St_rc, ↓fn_B, ↓fn_nn_none, ↓fn_nn_some, rZ_0, rZ_1, rZ_b, b2_z, b2_1, b2_or, b2_or0, b2_or1, iI_add, iI_sub, iI_mul, iI_neg, lI_add, lI_sub, lI_mul, iI_lt, iI_le, iI_eq, iI_to64, lI_cmp_lt, lI_cmp_gt, lI_cmp_ge, lI_cmp_le, lI_cmp_eq, mA_s, mA_o, mI_s, mI_o, mB_s, mB_o, mA_I, mA_B, mA_T, mA_F, mI_A, mI_B, mI_T, mI_F, mB_A, mB_I, mB_T, mB_F, mT_A, mT_I, mT_B, mT_F, mF_A, mF_I, mF_B, mF_T, ↓md_gA0, md_a0, md_s0, ↓md_gA1, md_a1, md_s1, ↓md_gA2, md_a2, md_s2, ↓md_gA3, md_a3, md_s3, ↓md_gA4, md_a4, md_s4, ↓md_g5, ↓md_p5, ↓md_g6, ↓md_p6, ↓md_g7, ↓md_p7, ↓md_g8, ↓md_p8, ↓md_gA9, md_a9, md_s9, ↓md_gA10, md_a10, md_s10, ↓md_gA11, md_a11, md_s11, ↓md_gA12, md_a12, md_s12, ↓md_gA13, md_a13, md_s13, ↓md_g14, ↓md_p14, ↓md_g15, ↓md_p15, ↓md_g16, ↓md_p16, ↓md_gA17, md_a17, md_s17, ↓md_gA18, md_a18, md_s18, ↓md_g19, ↓md_p19, ↓md_gA20, md_a20, md_s20, ↓md_g21, ↓md_p21, ↓md_gA22, md_a22, md_s22, ↓md_gA23, md_a23, md_s23, ↓md_gA24, md_a24, md_s24]
  split
  · rw [decide_eq_false (by omega)]
  · split
    · rw [decide_eq_false (by omega)]
    · rw [decide_eq_true (by omega)]
theorem X3_redOn_l (hv : okD (μ.1 0)) {day : Int} (hy : r32 day) : ∀ (n : Nat) (d acc : Int) (gas : Nat), d + n = μ.1 0 81 → n < gas → 0 ≤ d → 0 ≤ acc ∧ acc ≤ 100 * d → fnFix (fun _ _ _ _ => none) (gX3_reductionOn_b4 ρ b) gas (iI day) (iI acc) (iI d) (St σ b μ) =
    some (iI (if acc + sm (fun d => if μ.2.2.2.1 d = true ∧ sHolds (μ.1 0) d day = true then μ.1 0 (82 + 4 * d + 1) else 0) d n ≤ 100 then acc + sm (fun d => if μ.2.2.2.1 d = true ∧ sHolds (μ.1 0) d day = true then μ.1 0 (82 + 4 * d + 1) else 0) d n else 100), St σ b μ) := by
  intro n
  induction n with
  | zero =>
    intro d acc gas h1 h2 h3 h4
    have h9 := hv.2.1
    obtain ⟨g, rfl⟩ := gas_s h2
    rw [fnFix_s, gX3_reductionOn_b4, sm, Int.add_zero]
    simp (disch := omega) only [decide_true, decide_false, reduceIte, and_self, and_true, true_and, and_false, false_and, or_true, true_or, or_false, false_or, not_true_eq_false, not_false_eq_true, reduceCtorEq, mA_ss, mI_ss, ↓St_rc, ↓fn_B, ↓fn_nn_none, ↓fn_nn_some, rZ_0, rZ_1, rZ_b, b2_z, b2_1, b2_or, b2_or0, b2_or1, iI_add, iI_sub, iI_mul, iI_neg, lI_add, lI_sub, lI_mul, iI_lt, iI_le, iI_eq, iI_to64, lI_cmp_lt, lI_cmp_gt, lI_cmp_ge, lI_cmp_le, lI_cmp_eq, mA_s, mA_o, mI_s, mI_o, mB_s, mB_o, mA_I, mA_B, mA_T, mA_F, mI_A, mI_B, mI_T, mI_F, mB_A, mB_I, mB_T, mB_F, mT_A, mT_I, mT_B, mT_F, mF_A, mF_I, mF_B, mF_T, ↓md_gA0, md_a0, md_s0, ↓md_gA1, md_a1, md_s1, ↓md_gA2, md_a2, md_s2, ↓md_gA3, md_a3, md_s3, ↓md_gA4, md_a4, md_s4, ↓md_g5, ↓md_p5, ↓md_g6, ↓md_p6, ↓md_g7, ↓md_p7, ↓md_g8, ↓md_p8, ↓md_gA9, md_a9, md_s9, ↓md_gA10, md_a10, md_s10, ↓md_gA11, md_a11, md_s11, ↓md_gA12, md_a12, md_s12, ↓md_gA13, md_a13, md_s13, ↓md_g14, ↓md_p14, ↓md_g15, ↓md_p15, ↓md_g16, ↓md_p16, ↓md_gA17, md_a17, md_s17, ↓md_gA18, md_a18, md_s18, ↓md_g19, ↓md_p19, ↓md_gA20, md_a20, md_s20, ↓md_g21, ↓md_p21, ↓md_gA22, md_a22, md_s22, ↓md_gA23, md_a23, md_s23, ↓md_gA24, md_a24, md_s24]
    rw [if_pos (by omega)]
    split <;> rfl
  | succ n ih =>
    intro d acc gas h1 h2 h3 h4
    have h9 := hv.2.1
    obtain ⟨g, rfl⟩ := gas_s h2
    obtain ⟨-, k1, -⟩ := hv.2.2.2.2.2.1 d h3 (by omega)
    rw [fnFix_s, gX3_reductionOn_b4, sm]
    simp (disch := omega) only [decide_true, decide_false, reduceIte, and_self, and_true, true_and, and_false, false_and, or_true, true_or, or_false, false_or, not_true_eq_false, not_false_eq_true, reduceCtorEq, mA_ss, mI_ss, ↓St_rc, ↓fn_B, ↓fn_nn_none, ↓fn_nn_some, rZ_0, rZ_1, rZ_b, b2_z, b2_1, b2_or, b2_or0, b2_or1, iI_add, iI_sub, iI_mul, iI_neg, lI_add, lI_sub, lI_mul, iI_lt, iI_le, iI_eq, iI_to64, lI_cmp_lt, lI_cmp_gt, lI_cmp_ge, lI_cmp_le, lI_cmp_eq, mA_s, mA_o, mI_s, mI_o, mB_s, mB_o, mA_I, mA_B, mA_T, mA_F, mI_A, mI_B, mI_T, mI_F, mB_A, mB_I, mB_T, mB_F, mT_A, mT_I, mT_B, mT_F, mF_A, mF_I, mF_B, mF_T, ↓md_gA0, md_a0, md_s0, ↓md_gA1, md_a1, md_s1, ↓md_gA2, md_a2, md_s2, ↓md_gA3, md_a3, md_s3, ↓md_gA4, md_a4, md_s4, ↓md_g5, ↓md_p5, ↓md_g6, ↓md_p6, ↓md_g7, ↓md_p7, ↓md_g8, ↓md_p8, ↓md_gA9, md_a9, md_s9, ↓md_gA10, md_a10, md_s10, ↓md_gA11, md_a11, md_s11, ↓md_gA12, md_a12, md_s12, ↓md_gA13, md_a13, md_s13, ↓md_g14, ↓md_p14, ↓md_g15, ↓md_p15, ↓md_g16, ↓md_p16, ↓md_gA17, md_a17, md_s17, ↓md_gA18, md_a18, md_s18, ↓md_g19, ↓md_p19, ↓md_gA20, md_a20, md_s20, ↓md_g21, ↓md_p21, ↓md_gA22, md_a22, md_s22, ↓md_gA23, md_a23, md_s23, ↓md_gA24, md_a24, md_s24]
    rw [if_neg (by omega)]
    by_cases ht : μ.2.2.2.1 d = true
    · have hf : ¬ μ.2.2.2.1 d = false := by rw [ht]; decide
      rw [if_neg hf]
      simp (disch := omega) only [X3_holds hv, decide_true, decide_false, reduceIte, and_self, and_true, true_and, and_false, false_and, or_true, true_or, or_false, false_or, not_true_eq_false, not_false_eq_true, reduceCtorEq, mA_ss, mI_ss, ↓St_rc, ↓fn_B, ↓fn_nn_none, ↓fn_nn_some, rZ_0, rZ_1, rZ_b, b2_z, b2_1, b2_or, b2_or0, b2_or1, iI_add, iI_sub, iI_mul, iI_neg, lI_add, lI_sub, lI_mul, iI_lt, iI_le, iI_eq, iI_to64, lI_cmp_lt, lI_cmp_gt, lI_cmp_ge, lI_cmp_le, lI_cmp_eq, mA_s, mA_o, mI_s, mI_o, mB_s, mB_o, mA_I, mA_B, mA_T, mA_F, mI_A, mI_B, mI_T, mI_F, mB_A, mB_I, mB_T, mB_F, mT_A, mT_I, mT_B, mT_F, mF_A, mF_I, mF_B, mF_T, ↓md_gA0, md_a0, md_s0, ↓md_gA1, md_a1, md_s1, ↓md_gA2, md_a2, md_s2, ↓md_gA3, md_a3, md_s3, ↓md_gA4, md_a4, md_s4, ↓md_g5, ↓md_p5, ↓md_g6, ↓md_p6, ↓md_g7, ↓md_p7, ↓md_g8, ↓md_p8, ↓md_gA9, md_a9, md_s9, ↓md_gA10, md_a10, md_s10, ↓md_gA11, md_a11, md_s11, ↓md_gA12, md_a12, md_s12, ↓md_gA13, md_a13, md_s13, ↓md_g14, ↓md_p14, ↓md_g15, ↓md_p15, ↓md_g16, ↓md_p16, ↓md_gA17, md_a17, md_s17, ↓md_gA18, md_a18, md_s18, ↓md_g19, ↓md_p19, ↓md_gA20, md_a20, md_s20, ↓md_g21, ↓md_p21, ↓md_gA22, md_a22, md_s22, ↓md_gA23, md_a23, md_s23, ↓md_gA24, md_a24, md_s24]
      by_cases hh : sHolds (μ.1 0) d day = true
      · have hf2 : ¬ sHolds (μ.1 0) d day = false := by rw [hh]; decide
        rw [if_neg hf2, if_pos (c := μ.2.2.2.1 d = true ∧ sHolds (μ.1 0) d day = true) ⟨ht, hh⟩]
        simp (disch := omega) only [gX3_reductionOn_b51, decide_true, decide_false, reduceIte, and_self, and_true, true_and, and_false, false_and, or_true, true_or, or_false, false_or, not_true_eq_false, not_false_eq_true, reduceCtorEq, mA_ss, mI_ss, ↓St_rc, ↓fn_B, ↓fn_nn_none, ↓fn_nn_some, rZ_0, rZ_1, rZ_b, b2_z, b2_1, b2_or, b2_or0, b2_or1, iI_add, iI_sub, iI_mul, iI_neg, lI_add, lI_sub, lI_mul, iI_lt, iI_le, iI_eq, iI_to64, lI_cmp_lt, lI_cmp_gt, lI_cmp_ge, lI_cmp_le, lI_cmp_eq, mA_s, mA_o, mI_s, mI_o, mB_s, mB_o, mA_I, mA_B, mA_T, mA_F, mI_A, mI_B, mI_T, mI_F, mB_A, mB_I, mB_T, mB_F, mT_A, mT_I, mT_B, mT_F, mF_A, mF_I, mF_B, mF_T, ↓md_gA0, md_a0, md_s0, ↓md_gA1, md_a1, md_s1, ↓md_gA2, md_a2, md_s2, ↓md_gA3, md_a3, md_s3, ↓md_gA4, md_a4, md_s4, ↓md_g5, ↓md_p5, ↓md_g6, ↓md_p6, ↓md_g7, ↓md_p7, ↓md_g8, ↓md_p8, ↓md_gA9, md_a9, md_s9, ↓md_gA10, md_a10, md_s10, ↓md_gA11, md_a11, md_s11, ↓md_gA12, md_a12, md_s12, ↓md_gA13, md_a13, md_s13, ↓md_g14, ↓md_p14, ↓md_g15, ↓md_p15, ↓md_g16, ↓md_p16, ↓md_gA17, md_a17, md_s17, ↓md_gA18, md_a18, md_s18, ↓md_g19, ↓md_p19, ↓md_gA20, md_a20, md_s20, ↓md_g21, ↓md_p21, ↓md_gA22, md_a22, md_s22, ↓md_gA23, md_a23, md_s23, ↓md_gA24, md_a24, md_s24]
        rw [ih (d + 1) (acc + μ.1 0 (82 + 4 * d + 1)) g (by omega) (by omega) (by omega) (by omega), Int.add_assoc]
      · have hf2 : sHolds (μ.1 0) d day = false := by simpa using hh
        rw [if_pos hf2, if_neg (c := μ.2.2.2.1 d = true ∧ sHolds (μ.1 0) d day = true) (fun q => hh q.2)]
        simp (disch := omega) only [gX3_reductionOn_b51, gX3_reductionOn_b50, decide_true, decide_false, reduceIte, and_self, and_true, true_and, and_false, false_and, or_true, true_or, or_false, false_or, not_true_eq_false, not_false_eq_true, reduceCtorEq, mA_ss, mI_ss, ↓St_rc, ↓fn_B, ↓fn_nn_none, ↓fn_nn_some, rZ_0, rZ_1, rZ_b, b2_z, b2_1, b2_or, b2_or0, b2_or1, iI_add, iI_sub, iI_mul, iI_neg, lI_add, lI_sub, lI_mul, iI_lt, iI_le, iI_eq, iI_to64, lI_cmp_lt, lI_cmp_gt, lI_cmp_ge, lI_cmp_le, lI_cmp_eq, mA_s, mA_o, mI_s, mI_o, mB_s, mB_o, mA_I, mA_B, mA_T, mA_F, mI_A, mI_B, mI_T, mI_F, mB_A, mB_I, mB_T, mB_F, mT_A, mT_I, mT_B, mT_F, mF_A, mF_I, mF_B, mF_T, ↓md_gA0, md_a0, md_s0, ↓md_gA1, md_a1, md_s1, ↓md_gA2, md_a2, md_s2, ↓md_gA3, md_a3, md_s3, ↓md_gA4, md_a4, md_s4, ↓md_g5, ↓md_p5, ↓md_g6, ↓md_p6, ↓md_g7, ↓md_p7, ↓md_g8, ↓md_p8, ↓md_gA9, md_a9, md_s9, ↓md_gA10, md_a10, md_s10, ↓md_gA11, md_a11, md_s11, ↓md_gA12, md_a12, md_s12, ↓md_gA13, md_a13, md_s13, ↓md_g14, ↓md_p14, ↓md_g15, ↓md_p15, ↓md_g16, ↓md_p16, ↓md_gA17, md_a17, md_s17, ↓md_gA18, md_a18, md_s18, ↓md_g19, ↓md_p19, ↓md_gA20, md_a20, md_s20, ↓md_g21, ↓md_p21, ↓md_gA22, md_a22, md_s22, ↓md_gA23, md_a23, md_s23, ↓md_gA24, md_a24, md_s24]
        rw [Int.add_zero, ih (d + 1) acc g (by omega) (by omega) (by omega) (by omega), Int.zero_add]
    · have hf : μ.2.2.2.1 d = false := by simpa using ht
      rw [if_pos hf, if_neg (c := μ.2.2.2.1 d = true ∧ sHolds (μ.1 0) d day = true) (fun q => ht q.1)]
      simp (disch := omega) only [gX3_reductionOn_b51, gX3_reductionOn_b50, decide_true, decide_false, reduceIte, and_self, and_true, true_and, and_false, false_and, or_true, true_or, or_false, false_or, not_true_eq_false, not_false_eq_true, reduceCtorEq, mA_ss, mI_ss, ↓St_rc, ↓fn_B, ↓fn_nn_none, ↓fn_nn_some, rZ_0, rZ_1, rZ_b, b2_z, b2_1, b2_or, b2_or0, b2_or1, iI_add, iI_sub, iI_mul, iI_neg, lI_add, lI_sub, lI_mul, iI_lt, iI_le, iI_eq, iI_to64, lI_cmp_lt, lI_cmp_gt, lI_cmp_ge, lI_cmp_le, lI_cmp_eq, mA_s, mA_o, mI_s, mI_o, mB_s, mB_o, mA_I, mA_B, mA_T, mA_F, mI_A, mI_B, mI_T, mI_F, mB_A, mB_I, mB_T, mB_F, mT_A, mT_I, mT_B, mT_F, mF_A, mF_I, mF_B, mF_T, ↓md_gA0, md_a0, md_s0, ↓md_gA1, md_a1, md_s1, ↓md_gA2, md_a2, md_s2, ↓md_gA3, md_a3, md_s3, ↓md_gA4, md_a4, md_s4, ↓md_g5, ↓md_p5, ↓md_g6, ↓md_p6, ↓md_g7, ↓md_p7, ↓md_g8, ↓md_p8, ↓md_gA9, md_a9, md_s9, ↓md_gA10, md_a10, md_s10, ↓md_gA11, md_a11, md_s11, ↓md_gA12, md_a12, md_s12, ↓md_gA13, md_a13, md_s13, ↓md_g14, ↓md_p14, ↓md_g15, ↓md_p15, ↓md_g16, ↓md_p16, ↓md_gA17, md_a17, md_s17, ↓md_gA18, md_a18, md_s18, ↓md_g19, ↓md_p19, ↓md_gA20, md_a20, md_s20, ↓md_g21, ↓md_p21, ↓md_gA22, md_a22, md_s22, ↓md_gA23, md_a23, md_s23, ↓md_gA24, md_a24, md_s24]
      rw [Int.add_zero, ih (d + 1) acc g (by omega) (by omega) (by omega) (by omega), Int.zero_add]
theorem X3_reductionOn (hv : okD (μ.1 0)) {l day : Int} (hy : r32 day) (ht : ∀ d, 0 ≤ d → d < μ.1 0 81 → μ.2.2.2.1 d = sUnder (μ.1 0) (μ.1 0 (82 + 4 * d)) 11 l) : gX3_reductionOn ρ b (iI day) (St σ b μ) = some (iI (sRed (μ.1 0) l day), St σ b μ) := by
  have h9 := hv.2.1
  have q := X3_redOn_l (ρ := ρ) (σ := σ) (b := b) hv hy (μ.1 0 81).toNat 0 0 fnGas (by omega) (by unfold fnGas; omega) (by decide) (by decide)
  have e : sm (fun d => if μ.2.2.2.1 d = true ∧ sHolds (μ.1 0) d day = true then μ.1 0 (82 + 4 * d + 1) else 0) 0 (μ.1 0 81).toNat = sRedS (μ.1 0) (fun d => sUnder (μ.1 0) (μ.1 0 (82 + 4 * d)) 11 l) day := by
    unfold sRedS
    exact sm_congr _ _ (fun i h1 h2 => by rw [ht i h1 (by omega)])
  rw [Int.zero_add, e] at q
  exact q
end Red
end
section
/-! what is due, paid, deposited -/
def sUn (v : Int → Int) (l : Int) (pl : Bool) (d : Int) : Int := rentAt v l (d / 30) * (if pl = true then 100 else 100 - sRed v l d)
def sUnits (v : Int → Int) (l fr to : Int) (pl : Bool) : Int :=
  sm (sUn v l pl) (if fr ≤ v (1 + 8 * l + 1) then v (1 + 8 * l + 1) else fr) ((if endOf v l ≤ to then endOf v l else to) + 1 - (if fr ≤ v (1 + 8 * l + 1) then v (1 + 8 * l + 1) else fr)).toNat
def sDue (v : Int → Int) (l day : Int) : Int := sUnits v l 0 day false / 3000
def sPaid (v : Int → Int) (l day : Int) : Int := sm (fun p => if v (131 + 3 * p) = l ∧ v (131 + 3 * p + 1) ≤ day then v (131 + 3 * p + 2) else 0) 0 (v 130).toNat
theorem rentAt_r {v : Int → Int} (hv : okD v) {l : Int} (hl : 0 ≤ l ∧ l < v 0) {m : Int} (hm : bgn v l ≤ m ∧ m < 120) : 1 ≤ rentAt v l m ∧ rentAt v l m ≤ 9999999 := by
  have := bgn_r hv hl
  exact (sRent_r hv hl (m.toNat - bgn v l) (by omega)).1
theorem sUn_r {v : Int → Int} (hv : okD v) {l : Int} (hl : 0 ≤ l ∧ l < v 0) (pl : Bool) {d : Int} (hd : v (1 + 8 * l + 1) ≤ d ∧ d < 3600) : 0 ≤ sUn v l pl d ∧ sUn v l pl d ≤ 999999900 := by
  have h1 := bgn_r hv hl
  have h2 := rentAt_r hv hl (m := d / 30) (by omega)
  have h3 := sRed_r hv l d
  unfold sUn
  have h4 : 0 ≤ (if pl = true then 100 else 100 - sRed v l d) ∧ (if pl = true then 100 else 100 - sRed v l d) ≤ 100 := by split <;> omega
  generalize (if pl = true then 100 else 100 - sRed v l d) = z at *
  have k1 : 0 ≤ rentAt v l (d / 30) * z := Int.mul_nonneg (by omega) h4.1
  have k2 : rentAt v l (d / 30) * z ≤ 9999999 * 100 := Int.mul_le_mul h2.2 h4.2 h4.1 (by decide)
  omega
section Due
variable {ρ : Nat → Nat} {σ : mS} {b : Nat} {μ : MM}
theorem X3_units_l (hv : okD (μ.1 0)) {l : Int} (hl : 0 ≤ l ∧ l < μ.1 0 0) (pl : Bool) {last : Int} (hlast : last < 3600) (hr : ∀ m : Int, (bgn (μ.1 0) l : Int) ≤ m → m < 120 → μ.1 17 m = rentAt (μ.1 0) l m) (ht : ∀ d, 0 ≤ d → d < μ.1 0 81 → μ.2.2.2.1 d = sUnder (μ.1 0) (μ.1 0 (82 + 4 * d)) 11 l) :
    ∀ (n : Nat) (d acc : Int) (gas : Nat), (last + 1 - d).toNat = n → n < gas → μ.1 0 (1 + 8 * l + 1) ≤ d → d ≤ 3600 → -2147483648 ≤ last → fnFix (fun _ _ _ _ _ => none) (gX3_units_b59 ρ b) gas (iI (b2 pl)) (iI last) (lI acc) (iI d) (St σ b μ) = some (lI (acc + sm (sUn (μ.1 0) l pl) d n), St σ b μ) := by
  obtain ⟨-, j1, -⟩ := hv.2.2.2.2.1 l hl.1 hl.2
  intro n
  induction n with
  | zero =>
    intro d acc gas h1 h2 h3 h4 h5
    obtain ⟨g, rfl⟩ := gas_s h2
    rw [fnFix_s, gX3_units_b59, sm, Int.add_zero]
    simp (disch := omega) only [decide_true, decide_false, reduceIte, and_self, and_true, true_and, and_false, false_and, or_true, true_or, or_false, false_or, not_true_eq_false, not_false_eq_true, reduceCtorEq, mA_ss, mI_ss, ↓St_rc, ↓fn_B, ↓fn_nn_none, ↓fn_nn_some, rZ_0, rZ_1, rZ_b, b2_z, b2_1, b2_or, b2_or0, b2_or1, iI_add, iI_sub, iI_mul, iI_neg, lI_add, lI_sub, lI_mul, iI_lt, iI_le, iI_eq, iI_to64, lI_cmp_lt, lI_cmp_gt, lI_cmp_ge, lI_cmp_le, lI_cmp_eq, mA_s, mA_o, mI_s, mI_o, mB_s, mB_o, mA_I, mA_B, mA_T, mA_F, mI_A, mI_B, mI_T, mI_F, mB_A, mB_I, mB_T, mB_F, mT_A, mT_I, mT_B, mT_F, mF_A, mF_I, mF_B, mF_T, ↓md_gA0, md_a0, md_s0, ↓md_gA1, md_a1, md_s1, ↓md_gA2, md_a2, md_s2, ↓md_gA3, md_a3, md_s3, ↓md_gA4, md_a4, md_s4, ↓md_g5, ↓md_p5, ↓md_g6, ↓md_p6, ↓md_g7, ↓md_p7, ↓md_g8, ↓md_p8, ↓md_gA9, md_a9, md_s9, ↓md_gA10, md_a10, md_s10, ↓md_gA11, md_a11, md_s11, ↓md_gA12, md_a12, md_s12, ↓md_gA13, md_a13, md_s13, ↓md_g14, ↓md_p14, ↓md_g15, ↓md_p15, ↓md_g16, ↓md_p16, ↓md_gA17, md_a17, md_s17, ↓md_gA18, md_a18, md_s18, ↓md_g19, ↓md_p19, ↓md_gA20, md_a20, md_s20, ↓md_g21, ↓md_p21, ↓md_gA22, md_a22, md_s22, ↓md_gA23, md_a23, md_s23, ↓md_gA24, md_a24, md_s24]
    rw [if_pos (by omega)]
  | succ n ih =>
    intro d acc gas h1 h2 h3 h4 h5
    obtain ⟨g, rfl⟩ := gas_s h2
    have k1 := bgn_r hv hl
    have k2 := hr (d / 30) (by omega) (by omega)
    have k3 := rentAt_r hv hl (m := d / 30) (by omega)
    have k4 := sRed_r hv l d
    have q30 : (iI 30 = iI 0) = False := eq_false (by decide)
    rw [fnFix_s, gX3_units_b59, sm]
    simp (disch := omega) only [q30, iI_div30, decide_true, decide_false, reduceIte, and_self, and_true, true_and, and_false, false_and, or_true, true_or, or_false, false_or, not_true_eq_false, not_false_eq_true, reduceCtorEq, mA_ss, mI_ss, ↓St_rc, ↓fn_B, ↓fn_nn_none, ↓fn_nn_some, rZ_0, rZ_1, rZ_b, b2_z, b2_1, b2_or, b2_or0, b2_or1, iI_add, iI_sub, iI_mul, iI_neg, lI_add, lI_sub, lI_mul, iI_lt, iI_le, iI_eq, iI_to64, lI_cmp_lt, lI_cmp_gt, lI_cmp_ge, lI_cmp_le, lI_cmp_eq, mA_s, mA_o, mI_s, mI_o, mB_s, mB_o, mA_I, mA_B, mA_T, mA_F, mI_A, mI_B, mI_T, mI_F, mB_A, mB_I, mB_T, mB_F, mT_A, mT_I, mT_B, mT_F, mF_A, mF_I, mF_B, mF_T, ↓md_gA0, md_a0, md_s0, ↓md_gA1, md_a1, md_s1, ↓md_gA2, md_a2, md_s2, ↓md_gA3, md_a3, md_s3, ↓md_gA4, md_a4, md_s4, ↓md_g5, ↓md_p5, ↓md_g6, ↓md_p6, ↓md_g7, ↓md_p7, ↓md_g8, ↓md_p8, ↓md_gA9, md_a9, md_s9, ↓md_gA10, md_a10, md_s10, ↓md_gA11, md_a11, md_s11, ↓md_gA12, md_a12, md_s12, ↓md_gA13, md_a13, md_s13, ↓md_g14, ↓md_p14, ↓md_g15, ↓md_p15, ↓md_g16, ↓md_p16, ↓md_gA17, md_a17, md_s17, ↓md_gA18, md_a18, md_s18, ↓md_g19, ↓md_p19, ↓md_gA20, md_a20, md_s20, ↓md_g21, ↓md_p21, ↓md_gA22, md_a22, md_s22, ↓md_gA23, md_a23, md_s23, ↓md_gA24, md_a24, md_s24]
    rw [if_neg (by omega), k2]
    unfold sUn
    cases pl with
    | true =>
      simp (disch := omega) only [gX3_units_b98, decide_true, decide_false, reduceIte, and_self, and_true, true_and, and_false, false_and, or_true, true_or, or_false, false_or, not_true_eq_false, not_false_eq_true, reduceCtorEq, mA_ss, mI_ss, ↓St_rc, ↓fn_B, ↓fn_nn_none, ↓fn_nn_some, rZ_0, rZ_1, rZ_b, b2_z, b2_1, b2_or, b2_or0, b2_or1, iI_add, iI_sub, iI_mul, iI_neg, lI_add, lI_sub, lI_mul, iI_lt, iI_le, iI_eq, iI_to64, lI_cmp_lt, lI_cmp_gt, lI_cmp_ge, lI_cmp_le, lI_cmp_eq, mA_s, mA_o, mI_s, mI_o, mB_s, mB_o, mA_I, mA_B, mA_T, mA_F, mI_A, mI_B, mI_T, mI_F, mB_A, mB_I, mB_T, mB_F, mT_A, mT_I, mT_B, mT_F, mF_A, mF_I, mF_B, mF_T, ↓md_gA0, md_a0, md_s0, ↓md_gA1, md_a1, md_s1, ↓md_gA2, md_a2, md_s2, ↓md_gA3, md_a3, md_s3, ↓md_gA4, md_a4, md_s4, ↓md_g5, ↓md_p5, ↓md_g6, ↓md_p6, ↓md_g7, ↓md_p7, ↓md_g8, ↓md_p8, ↓md_gA9, md_a9, md_s9, ↓md_gA10, md_a10, md_s10, ↓md_gA11, md_a11, md_s11, ↓md_gA12, md_a12, md_s12, ↓md_gA13, md_a13, md_s13, ↓md_g14, ↓md_p14, ↓md_g15, ↓md_p15, ↓md_g16, ↓md_p16, ↓md_gA17, md_a17, md_s17, ↓md_gA18, md_a18, md_s18, ↓md_g19, ↓md_p19, ↓md_gA20, md_a20, md_s20, ↓md_g21, ↓md_p21, ↓md_gA22, md_a22, md_s22, ↓md_gA23, md_a23, md_s23, ↓md_gA24, md_a24, md_s24]
      rw [ih (d + 1) _ g (by omega) (by omega) (by omega) (by omega) h5, Int.add_assoc]
      rfl
    | false =>
      simp (disch := omega) only [decide_true, decide_false, reduceIte, and_self, and_true, true_and, and_false, false_and, or_true, true_or, or_false, false_or, not_true_eq_false, not_false_eq_true, reduceCtorEq, mA_ss, mI_ss, ↓St_rc, ↓fn_B, ↓fn_nn_none, ↓fn_nn_some, rZ_0, rZ_1, rZ_b, b2_z, b2_1, b2_or, b2_or0, b2_or1, iI_add, iI_sub, iI_mul, iI_neg, lI_add, lI_sub, lI_mul, iI_lt, iI_le, iI_eq, iI_to64, lI_cmp_lt, lI_cmp_gt, lI_cmp_ge, lI_cmp_le, lI_cmp_eq, mA_s, mA_o, mI_s, mI_o, mB_s, mB_o, mA_I, mA_B, mA_T, mA_F, mI_A, mI_B, mI_T, mI_F, mB_A, mB_I, mB_T, mB_F, mT_A, mT_I, mT_B, mT_F, mF_A, mF_I, mF_B, mF_T, ↓md_gA0, md_a0, md_s0, ↓md_gA1, md_a1, md_s1, ↓md_gA2, md_a2, md_s2, ↓md_gA3, md_a3, md_s3, ↓md_gA4, md_a4, md_s4, ↓md_g5, ↓md_p5, ↓md_g6, ↓md_p6, ↓md_g7, ↓md_p7, ↓md_g8, ↓md_p8, ↓md_gA9, md_a9, md_s9, ↓md_gA10, md_a10, md_s10, ↓md_gA11, md_a11, md_s11, ↓md_gA12, md_a12, md_s12, ↓md_gA13, md_a13, md_s13, ↓md_g14, ↓md_p14, ↓md_g15, ↓md_p15, ↓md_g16, ↓md_p16, ↓md_gA17, md_a17, md_s17, ↓md_gA18, md_a18, md_s18, ↓md_g19, ↓md_p19, ↓md_gA20, md_a20, md_s20, ↓md_g21, ↓md_p21, ↓md_gA22, md_a22, md_s22, ↓md_gA23, md_a23, md_s23, ↓md_gA24, md_a24, md_s24]
      rw [X3_reductionOn hv (l := l) ⟨by omega, by omega⟩ ht]
      simp (disch := omega) only [gX3_units_b98, decide_true, decide_false, reduceIte, and_self, and_true, true_and, and_false, false_and, or_true, true_or, or_false, false_or, not_true_eq_false, not_false_eq_true, reduceCtorEq, mA_ss, mI_ss, ↓St_rc, ↓fn_B, ↓fn_nn_none, ↓fn_nn_some, rZ_0, rZ_1, rZ_b, b2_z, b2_1, b2_or, b2_or0, b2_or1, iI_add, iI_sub, iI_mul, iI_neg, lI_add, lI_sub, lI_mul, iI_lt, iI_le, iI_eq, iI_to64, lI_cmp_lt, lI_cmp_gt, lI_cmp_ge, lI_cmp_le, lI_cmp_eq, mA_s, mA_o, mI_s, mI_o, mB_s, mB_o, mA_I, mA_B, mA_T, mA_F, mI_A, mI_B, mI_T, mI_F, mB_A, mB_I, mB_T, mB_F, mT_A, mT_I, mT_B, mT_F, mF_A, mF_I, mF_B, mF_T, ↓md_gA0, md_a0, md_s0, ↓md_gA1, md_a1, md_s1, ↓md_gA2, md_a2, md_s2, ↓md_gA3, md_a3, md_s3, ↓md_gA4, md_a4, md_s4, ↓md_g5, ↓md_p5, ↓md_g6, ↓md_p6, ↓md_g7, ↓md_p7, ↓md_g8, ↓md_p8, ↓md_gA9, md_a9, md_s9, ↓md_gA10, md_a10, md_s10, ↓md_gA11, md_a11, md_s11, ↓md_gA12, md_a12, md_s12, ↓md_gA13, md_a13, md_s13, ↓md_g14, ↓md_p14, ↓md_g15, ↓md_p15, ↓md_g16, ↓md_p16, ↓md_gA17, md_a17, md_s17, ↓md_gA18, md_a18, md_s18, ↓md_g19, ↓md_p19, ↓md_gA20, md_a20, md_s20, ↓md_g21, ↓md_p21, ↓md_gA22, md_a22, md_s22, ↓md_gA23, md_a23, md_s23, ↓md_gA24, md_a24, md_s24]
      rw [ih (d + 1) _ g (by omega) (by omega) (by omega) (by omega) h5, Int.add_assoc]
      rfl
/-- the model's memory behind its sums over days -/
def uMem (μ : MM) (l : Int) : MM := setT (mA μ 17 (rA (μ.1 0) l 120 (μ.1 17))) (tch (μ.1 0) l (μ.1 0 81) μ.2.2.2.1)
theorem X3_units (hv : okD (μ.1 0)) {l fr to : Int} (hl : 0 ≤ l ∧ l < μ.1 0 0) (hf : r32 fr ∧ fr ≤ 3600) (ht : r32 to ∧ to < 3600) (pl : Bool) : gX3_units ρ b (iI l) (iI fr) (iI to) (iI (b2 pl)) (St σ b μ) = some (lI (sUnits (μ.1 0) l fr to pl), St σ b (uMem μ l)) := by
  have h0 := hv.1
  obtain ⟨-, j1, -⟩ := hv.2.2.2.2.1 l hl.1 hl.2
  have h1 := endOf_r hv hl.2
  have hvu : okD ((uMem μ l).1 0) := hv
  have hlu : 0 ≤ l ∧ l < (uMem μ l).1 0 0 := hl
  have fin : ∀ a c : Int, μ.1 0 (1 + 8 * l + 1) ≤ a → a ≤ 3600 → -2147483648 ≤ c → c < 3600 → gX3_units_b50 ρ b (iI (b2 pl)) (iI a) (iI c) (St σ b (uMem μ l)) = some (lI (sm (sUn (μ.1 0) l pl) a (c + 1 - a).toNat), St σ b (uMem μ l)) := by
    intro a c q1 q2 q3 q4
    have q := X3_units_l (ρ := ρ) (σ := σ) (b := b) (μ := uMem μ l) hvu hlu pl (last := c) q4 (fun m m1 m2 => if_pos ⟨m1, m2⟩) (fun d d1 d2 => if_pos ⟨d1, d2⟩) (c + 1 - a).toNat a 0 fnGas rfl (by unfold fnGas; omega) q1 q2 q3
    rw [Int.zero_add] at q
    exact q
  have mid : ∀ a : Int, μ.1 0 (1 + 8 * l + 1) ≤ a → a ≤ 3600 → gX3_units_b30 ρ b (iI l) (iI to) (iI (b2 pl)) (iI a) (St σ b (uMem μ l)) = some (lI (sm (sUn (μ.1 0) l pl) a ((if endOf (μ.1 0) l ≤ to then endOf (μ.1 0) l else to) + 1 - a).toNat), St σ b (uMem μ l)) := by
    intro a q1 q2
    unfold gX3_units_b30
    have e : endOf ((uMem μ l).1 0) l = endOf (μ.1 0) l := rfl
    simp (disch := omega) only [X3_endOf hvu, e, decide_true, decide_false, reduceIte, and_self, and_true, true_and, and_false, false_and, or_true, true_or, or_false, false_or, not_true_eq_false, not_false_eq_true, reduceCtorEq, mA_ss, mI_ss, ↓St_rc, ↓fn_B, ↓fn_nn_none, ↓fn_nn_some, rZ_0, rZ_1, rZ_b, b2_z, b2_1, b2_or, b2_or0, b2_or1, iI_add, iI_sub, iI_mul, iI_neg, lI_add, lI_sub, lI_mul, iI_lt, iI_le, iI_eq, iI_to64, lI_cmp_lt, lI_cmp_gt, lI_cmp_ge, lI_cmp_le, lI_cmp_eq, mA_s, mA_o, mI_s, mI_o, mB_s, mB_o, mA_I, mA_B, mA_T, mA_F, mI_A, mI_B, mI_T, mI_F, mB_A, mB_I, mB_T, mB_F, mT_A, mT_I, mT_B, mT_F, mF_A, mF_I, mF_B, mF_T, ↓md_gA0, md_a0, md_s0, ↓md_gA1, md_a1, md_s1, ↓md_gA2, md_a2, md_s2, ↓md_gA3, md_a3, md_s3, ↓md_gA4, md_a4, md_s4, ↓md_g5, ↓md_p5, ↓md_g6, ↓md_p6, ↓md_g7, ↓md_p7, ↓md_g8, ↓md_p8, ↓md_gA9, md_a9, md_s9, ↓md_gA10, md_a10, md_s10, ↓md_gA11, md_a11, md_s11, ↓md_gA12, md_a12, md_s12, ↓md_gA13, md_a13, md_s13, ↓md_g14, ↓md_p14, ↓md_g15, ↓md_p15, ↓md_g16, ↓md_p16, ↓md_gA17, md_a17, md_s17, ↓md_gA18, md_a18, md_s18, ↓md_g19, ↓md_p19, ↓md_gA20, md_a20, md_s20, ↓md_g21, ↓md_p21, ↓md_gA22, md_a22, md_s22, ↓md_gA23, md_a23, md_s23, ↓md_gA24, md_a24, md_s24]
    by_cases h : endOf (μ.1 0) l ≤ to
    · rw [if_pos h, if_pos h]
      exact fin a _ q1 q2 (by omega) (by omega)
    · rw [if_neg h, if_neg h]
      exact fin a _ q1 q2 (by omega) (by omega)
  unfold gX3_units sUnits
  rw [St_rc, X3_laysRents hv hl, fn_B_some, St_rc, X3_findsDefects (μ := mA μ 17 (rA (μ.1 0) l 120 (μ.1 17))) hv hl, fn_B_some, St_rc]
  rw [show (setT (mA μ 17 (rA (μ.1 0) l 120 (μ.1 17))) (tch ((mA μ 17 (rA (μ.1 0) l 120 (μ.1 17))).1 0) l ((mA μ 17 (rA (μ.1 0) l 120 (μ.1 17))).1 0 81) (mA μ 17 (rA (μ.1 0) l 120 (μ.1 17))).2.2.2.1)) = uMem μ l from rfl]
  have e : (uMem μ l).1 0 = μ.1 0 := rfl
  simp (disch := omega) only [X3_told, e, decide_true, decide_false, reduceIte, and_self, and_true, true_and, and_false, false_and, or_true, true_or, or_false, false_or, not_true_eq_false, not_false_eq_true, reduceCtorEq, mA_ss, mI_ss, ↓St_rc, ↓fn_B, ↓fn_nn_none, ↓fn_nn_some, rZ_0, rZ_1, rZ_b, b2_z, b2_1, b2_or, b2_or0, b2_or1, iI_add, iI_sub, iI_mul, iI_neg, lI_add, lI_sub, lI_mul, iI_lt, iI_le, iI_eq, iI_to64, lI_cmp_lt, lI_cmp_gt, lI_cmp_ge, lI_cmp_le, lI_cmp_eq, mA_s, mA_o, mI_s, mI_o, mB_s, mB_o, mA_I, mA_B, mA_T, mA_F, mI_A, mI_B, mI_T, mI_F, mB_A, mB_I, mB_T, mB_F, mT_A, mT_I, mT_B, mT_F, mF_A, mF_I, mF_B, mF_T, ↓md_gA0, md_a0, md_s0, ↓md_gA1, md_a1, md_s1, ↓md_gA2, md_a2, md_s2, ↓md_gA3, md_a3, md_s3, ↓md_gA4, md_a4, md_s4, ↓md_g5, ↓md_p5, ↓md_g6, ↓md_p6, ↓md_g7, ↓md_p7, ↓md_g8, ↓md_p8, ↓md_gA9, md_a9, md_s9, ↓md_gA10, md_a10, md_s10, ↓md_gA11, md_a11, md_s11, ↓md_gA12, md_a12, md_s12, ↓md_gA13, md_a13, md_s13, ↓md_g14, ↓md_p14, ↓md_g15, ↓md_p15, ↓md_g16, ↓md_p16, ↓md_gA17, md_a17, md_s17, ↓md_gA18, md_a18, md_s18, ↓md_g19, ↓md_p19, ↓md_gA20, md_a20, md_s20, ↓md_g21, ↓md_p21, ↓md_gA22, md_a22, md_s22, ↓md_gA23, md_a23, md_s23, ↓md_gA24, md_a24, md_s24]
  by_cases h : fr ≤ μ.1 0 (1 + 8 * l + 1)
  · rw [if_pos h, if_pos h]
    exact mid _ (Int.le_refl _) (by omega)
  · rw [if_neg h, if_neg h]
    exact mid _ (by omega) (by omega)
theorem sUnits_r {v : Int → Int} (hv : okD v) {l fr to : Int} (hl : 0 ≤ l ∧ l < v 0) (hf : fr ≤ 3600) (ht : to < 3600) (pl : Bool) : 0 ≤ sUnits v l fr to pl ∧ sUnits v l fr to pl ≤ 3599999640000 := by
  obtain ⟨-, j1, -⟩ := hv.2.2.2.2.1 l hl.1 hl.2
  have h1 := endOf_r hv hl.2
  unfold sUnits
  have h2 : v (1 + 8 * l + 1) ≤ (if fr ≤ v (1 + 8 * l + 1) then v (1 + 8 * l + 1) else fr) ∧ 0 ≤ (if fr ≤ v (1 + 8 * l + 1) then v (1 + 8 * l + 1) else fr) ∧ (if fr ≤ v (1 + 8 * l + 1) then v (1 + 8 * l + 1) else fr) ≤ 3600 := by split <;> omega
  have h3 : (if endOf v l ≤ to then endOf v l else to) < 3600 := by split <;> omega
  generalize (if fr ≤ v (1 + 8 * l + 1) then v (1 + 8 * l + 1) else fr) = a at *
  generalize (if endOf v l ≤ to then endOf v l else to) = c at *
  have q := sm_r (f := sUn v l pl) (lo := 0) (hi := 999999900) (c + 1 - a).toNat a (fun i i1 i2 => sUn_r hv hl pl (by omega))
  omega
theorem X3_dueUntil (hv : okD (μ.1 0)) {l day : Int} (hl : 0 ≤ l ∧ l < μ.1 0 0) (ht : r32 day ∧ day < 3600) : gX3_dueUntil ρ b (iI l) (iI day) (St σ b μ) = some (iI (sDue (μ.1 0) l day), St σ b (uMem μ l)) := by
  unfold gX3_dueUntil sDue
  have q := X3_units (ρ := ρ) (σ := σ) (b := b) hv hl (fr := 0) (by decide) ht false
  have r := sUnits_r hv hl (fr := 0) (by decide) ht.2 false
  rw [St_rc, show iI 0 = iI (b2 false) from rfl] 
  rw [show gX3_units ρ b (iI l) (iI (b2 false)) (iI day) (iI (b2 false)) (St σ b μ) = _ from q, fn_B_some, if_neg (by decide), lI_div ⟨by omega, by omega⟩ (by decide), tdiv_p r.1, lI_to32 ⟨by omega, by omega⟩]
theorem sDue_r {v : Int → Int} (hv : okD v) {l day : Int} (hl : 0 ≤ l ∧ l < v 0) (ht : day < 3600) : 0 ≤ sDue v l day ∧ sDue v l day ≤ 1199999880 := by
  have r := sUnits_r hv hl (fr := 0) (by decide) ht false
  unfold sDue
  omega
theorem X3_paid_l (hv : okD (μ.1 0)) {l day : Int} (hl : r32 l) (hy : r32 day) : ∀ (n : Nat) (p acc : Int) (gas : Nat), p + n = μ.1 0 130 → n < gas → 0 ≤ p → fnFix (fun _ _ _ _ _ => none) (gX3_paid_b5 ρ b) gas (iI l) (iI day) (lI acc) (iI p) (St σ b μ) =
    some (lI (acc + sm (fun p => if μ.1 0 (131 + 3 * p) = l ∧ μ.1 0 (131 + 3 * p + 1) ≤ day then μ.1 0 (131 + 3 * p + 2) else 0) p n), St σ b μ) := by
  intro n
  induction n with
  | zero =>
    intro p acc gas h1 h2 h3
    have h9 := hv.2.2.1
    obtain ⟨g, rfl⟩ := gas_s h2
    rw [fnFix_s, gX3_paid_b5, sm, Int.add_zero]
    simp (disch := omega) only [decide_true, decide_false, reduceIte, and_self, and_true, true_and, and_false, false_and, or_true, true_or, or_false, false_or, not_true_eq_false, not_false_eq_true, reduceCtorEq, mA_ss, mI_ss, ↓St_rc, ↓fn_B, ↓fn_nn_none, ↓fn_nn_some, rZ_0, rZ_1, rZ_b, b2_z, b2_1, b2_or, b2_or0, b2_or1, iI_add, iI_sub, iI_mul, iI_neg, lI_add, lI_sub, lI_mul, iI_lt, iI_le, iI_eq, iI_to64, lI_cmp_lt, lI_cmp_gt, lI_cmp_ge, lI_cmp_le, lI_cmp_eq, mA_s, mA_o, mI_s, mI_o, mB_s, mB_o, mA_I, mA_B, mA_T, mA_F, mI_A, mI_B, mI_T, mI_F, mB_A, mB_I, mB_T, mB_F, mT_A, mT_I, mT_B, mT_F, mF_A, mF_I, mF_B, mF_T, ↓md_gA0, md_a0, md_s0, ↓md_gA1, md_a1, md_s1, ↓md_gA2, md_a2, md_s2, ↓md_gA3, md_a3, md_s3, ↓md_gA4, md_a4, md_s4, ↓md_g5, ↓md_p5, ↓md_g6, ↓md_p6, ↓md_g7, ↓md_p7, ↓md_g8, ↓md_p8, ↓md_gA9, md_a9, md_s9, ↓md_gA10, md_a10, md_s10, ↓md_gA11, md_a11, md_s11, ↓md_gA12, md_a12, md_s12, ↓md_gA13, md_a13, md_s13, ↓md_g14, ↓md_p14, ↓md_g15, ↓md_p15, ↓md_g16, ↓md_p16, ↓md_gA17, md_a17, md_s17, ↓md_gA18, md_a18, md_s18, ↓md_g19, ↓md_p19, ↓md_gA20, md_a20, md_s20, ↓md_g21, ↓md_p21, ↓md_gA22, md_a22, md_s22, ↓md_gA23, md_a23, md_s23, ↓md_gA24, md_a24, md_s24]
    rw [if_pos (by omega)]
  | succ n ih =>
    intro p acc gas h1 h2 h3
    have h9 := hv.2.2.1
    have h0 := hv.1
    obtain ⟨g, rfl⟩ := gas_s h2
    obtain ⟨k1, k2, k3⟩ := hv.2.2.2.2.2.2.1 p h3 (by omega)
    rw [fnFix_s, gX3_paid_b5, sm]
    simp (disch := omega) only [decide_true, decide_false, reduceIte, and_self, and_true, true_and, and_false, false_and, or_true, true_or, or_false, false_or, not_true_eq_false, not_false_eq_true, reduceCtorEq, mA_ss, mI_ss, ↓St_rc, ↓fn_B, ↓fn_nn_none, ↓fn_nn_some, rZ_0, rZ_1, rZ_b, b2_z, b2_1, b2_or, b2_or0, b2_or1, iI_add, iI_sub, iI_mul, iI_neg, lI_add, lI_sub, lI_mul, iI_lt, iI_le, iI_eq, iI_to64, lI_cmp_lt, lI_cmp_gt, lI_cmp_ge, lI_cmp_le, lI_cmp_eq, mA_s, mA_o, mI_s, mI_o, mB_s, mB_o, mA_I, mA_B, mA_T, mA_F, mI_A, mI_B, mI_T, mI_F, mB_A, mB_I, mB_T, mB_F, mT_A, mT_I, mT_B, mT_F, mF_A, mF_I, mF_B, mF_T, ↓md_gA0, md_a0, md_s0, ↓md_gA1, md_a1, md_s1, ↓md_gA2, md_a2, md_s2, ↓md_gA3, md_a3, md_s3, ↓md_gA4, md_a4, md_s4, ↓md_g5, ↓md_p5, ↓md_g6, ↓md_p6, ↓md_g7, ↓md_p7, ↓md_g8, ↓md_p8, ↓md_gA9, md_a9, md_s9, ↓md_gA10, md_a10, md_s10, ↓md_gA11, md_a11, md_s11, ↓md_gA12, md_a12, md_s12, ↓md_gA13, md_a13, md_s13, ↓md_g14, ↓md_p14, ↓md_g15, ↓md_p15, ↓md_g16, ↓md_p16, ↓md_gA17, md_a17, md_s17, ↓md_gA18, md_a18, md_s18, ↓md_g19, ↓md_p19, ↓md_gA20, md_a20, md_s20, ↓md_g21, ↓md_p21, ↓md_gA22, md_a22, md_s22, ↓md_gA23, md_a23, md_s23, ↓md_gA24, md_a24, md_s24]
    rw [if_neg (by omega)]
    by_cases q1 : μ.1 0 (131 + 3 * p) = l
    · rw [if_pos q1]
      by_cases q2 : day < μ.1 0 (131 + 3 * p + 1)
      · rw [if_pos q2, if_neg (c := μ.1 0 (131 + 3 * p) = l ∧ μ.1 0 (131 + 3 * p + 1) ≤ day) (by omega)]
        simp (disch := omega) only [gX3_paid_b74, gX3_paid_b75, decide_true, decide_false, reduceIte, and_self, and_true, true_and, and_false, false_and, or_true, true_or, or_false, false_or, not_true_eq_false, not_false_eq_true, reduceCtorEq, mA_ss, mI_ss, ↓St_rc, ↓fn_B, ↓fn_nn_none, ↓fn_nn_some, rZ_0, rZ_1, rZ_b, b2_z, b2_1, b2_or, b2_or0, b2_or1, iI_add, iI_sub, iI_mul, iI_neg, lI_add, lI_sub, lI_mul, iI_lt, iI_le, iI_eq, iI_to64, lI_cmp_lt, lI_cmp_gt, lI_cmp_ge, lI_cmp_le, lI_cmp_eq, mA_s, mA_o, mI_s, mI_o, mB_s, mB_o, mA_I, mA_B, mA_T, mA_F, mI_A, mI_B, mI_T, mI_F, mB_A, mB_I, mB_T, mB_F, mT_A, mT_I, mT_B, mT_F, mF_A, mF_I, mF_B, mF_T, ↓md_gA0, md_a0, md_s0, ↓md_gA1, md_a1, md_s1, ↓md_gA2, md_a2, md_s2, ↓md_gA3, md_a3, md_s3, ↓md_gA4, md_a4, md_s4, ↓md_g5, ↓md_p5, ↓md_g6, ↓md_p6, ↓md_g7, ↓md_p7, ↓md_g8, ↓md_p8, ↓md_gA9, md_a9, md_s9, ↓md_gA10, md_a10, md_s10, ↓md_gA11, md_a11, md_s11, ↓md_gA12, md_a12, md_s12, ↓md_gA13, md_a13, md_s13, ↓md_g14, ↓md_p14, ↓md_g15, ↓md_p15, ↓md_g16, ↓md_p16, ↓md_gA17, md_a17, md_s17, ↓md_gA18, md_a18, md_s18, ↓md_g19, ↓md_p19, ↓md_gA20, md_a20, md_s20, ↓md_g21, ↓md_p21, ↓md_gA22, md_a22, md_s22, ↓md_gA23, md_a23, md_s23, ↓md_gA24, md_a24, md_s24]
        rw [Int.add_zero, ih (p + 1) acc g (by omega) (by omega) (by omega), Int.zero_add]
      · rw [if_neg q2, if_pos (c := μ.1 0 (131 + 3 * p) = l ∧ μ.1 0 (131 + 3 * p + 1) ≤ day) (by omega)]
        simp (disch := omega) only [gX3_paid_b75, decide_true, decide_false, reduceIte, and_self, and_true, true_and, and_false, false_and, or_true, true_or, or_false, false_or, not_true_eq_false, not_false_eq_true, reduceCtorEq, mA_ss, mI_ss, ↓St_rc, ↓fn_B, ↓fn_nn_none, ↓fn_nn_some, rZ_0, rZ_1, rZ_b, b2_z, b2_1, b2_or, b2_or0, b2_or1, iI_add, iI_sub, iI_mul, iI_neg, lI_add, lI_sub, lI_mul, iI_lt, iI_le, iI_eq, iI_to64, lI_cmp_lt, lI_cmp_gt, lI_cmp_ge, lI_cmp_le, lI_cmp_eq, mA_s, mA_o, mI_s, mI_o, mB_s, mB_o, mA_I, mA_B, mA_T, mA_F, mI_A, mI_B, mI_T, mI_F, mB_A, mB_I, mB_T, mB_F, mT_A, mT_I, mT_B, mT_F, mF_A, mF_I, mF_B, mF_T, ↓md_gA0, md_a0, md_s0, ↓md_gA1, md_a1, md_s1, ↓md_gA2, md_a2, md_s2, ↓md_gA3, md_a3, md_s3, ↓md_gA4, md_a4, md_s4, ↓md_g5, ↓md_p5, ↓md_g6, ↓md_p6, ↓md_g7, ↓md_p7, ↓md_g8, ↓md_p8, ↓md_gA9, md_a9, md_s9, ↓md_gA10, md_a10, md_s10, ↓md_gA11, md_a11, md_s11, ↓md_gA12, md_a12, md_s12, ↓md_gA13, md_a13, md_s13, ↓md_g14, ↓md_p14, ↓md_g15, ↓md_p15, ↓md_g16, ↓md_p16, ↓md_gA17, md_a17, md_s17, ↓md_gA18, md_a18, md_s18, ↓md_g19, ↓md_p19, ↓md_gA20, md_a20, md_s20, ↓md_g21, ↓md_p21, ↓md_gA22, md_a22, md_s22, ↓md_gA23, md_a23, md_s23, ↓md_gA24, md_a24, md_s24]
        rw [ih (p + 1) _ g (by omega) (by omega) (by omega), Int.add_assoc]
    · rw [if_neg q1, if_neg (c := μ.1 0 (131 + 3 * p) = l ∧ μ.1 0 (131 + 3 * p + 1) ≤ day) (by omega)]
      simp (disch := omega) only [gX3_paid_b74, gX3_paid_b75, decide_true, decide_false, reduceIte, and_self, and_true, true_and, and_false, false_and, or_true, true_or, or_false, false_or, not_true_eq_false, not_false_eq_true, reduceCtorEq, mA_ss, mI_ss, ↓St_rc, ↓fn_B, ↓fn_nn_none, ↓fn_nn_some, rZ_0, rZ_1, rZ_b, b2_z, b2_1, b2_or, b2_or0, b2_or1, iI_add, iI_sub, iI_mul, iI_neg, lI_add, lI_sub, lI_mul, iI_lt, iI_le, iI_eq, iI_to64, lI_cmp_lt, lI_cmp_gt, lI_cmp_ge, lI_cmp_le, lI_cmp_eq, mA_s, mA_o, mI_s, mI_o, mB_s, mB_o, mA_I, mA_B, mA_T, mA_F, mI_A, mI_B, mI_T, mI_F, mB_A, mB_I, mB_T, mB_F, mT_A, mT_I, mT_B, mT_F, mF_A, mF_I, mF_B, mF_T, ↓md_gA0, md_a0, md_s0, ↓md_gA1, md_a1, md_s1, ↓md_gA2, md_a2, md_s2, ↓md_gA3, md_a3, md_s3, ↓md_gA4, md_a4, md_s4, ↓md_g5, ↓md_p5, ↓md_g6, ↓md_p6, ↓md_g7, ↓md_p7, ↓md_g8, ↓md_p8, ↓md_gA9, md_a9, md_s9, ↓md_gA10, md_a10, md_s10, ↓md_gA11, md_a11, md_s11, ↓md_gA12, md_a12, md_s12, ↓md_gA13, md_a13, md_s13, ↓md_g14, ↓md_p14, ↓md_g15, ↓md_p15, ↓md_g16, ↓md_p16, ↓md_gA17, md_a17, md_s17, ↓md_gA18, md_a18, md_s18, ↓md_g19, ↓md_p19, ↓md_gA20, md_a20, md_s20, ↓md_g21, ↓md_p21, ↓md_gA22, md_a22, md_s22, ↓md_gA23, md_a23, md_s23, ↓md_gA24, md_a24, md_s24]
      rw [Int.add_zero, ih (p + 1) acc g (by omega) (by omega) (by omega), Int.zero_add]
theorem X3_paid (hv : okD (μ.1 0)) {l day : Int} (hl : r32 l) (hy : r32 day) : gX3_paid ρ b (iI l) (iI day) (St σ b μ) = some (lI (sPaid (μ.1 0) l day), St σ b μ) := by
  have h9 := hv.2.2.1
  have q := X3_paid_l (ρ := ρ) (σ := σ) (b := b) hv hl hy (μ.1 0 130).toNat 0 0 fnGas (by omega) (by unfold fnGas; omega) (by decide)
  rw [Int.zero_add] at q
  exact q
theorem sPaid_r {v : Int → Int} (hv : okD v) (l day : Int) : 0 ≤ sPaid v l day ∧ sPaid v l day ≤ 239999976 := by
  have h9 := hv.2.2.1
  have q := sm_r (f := fun p => if v (131 + 3 * p) = l ∧ v (131 + 3 * p + 1) ≤ day then v (131 + 3 * p + 2) else 0) (lo := 0) (hi := 9999999) (v 130).toNat 0 (fun i i1 i2 => by
    obtain ⟨k1, k2, k3⟩ := hv.2.2.2.2.2.2.1 i i1 (by omega)
    split <;> omega)
  unfold sPaid
  omega
end Due
end
section
/-! deposits -/
theorem sm_add (f g : Int → Int) : ∀ (n : Nat) (a : Int), sm (fun i => f i + g i) a n = sm f a n + sm g a n
  | 0, _ => rfl
  | n + 1, a => by
    unfold sm
    rw [sm_add f g n (a + 1)]
    omega
def sDep (v : Int → Int) (l d : Int) : Int := sm (fun k => if v (204 + 3 * k) = l ∧ v (204 + 3 * k + 1) = d then v (204 + 3 * k + 2) else 0) 0 (v 203).toNat
def sRem (v : Int → Int) (l d : Int) : Int := sm (fun k => if v (204 + 3 * k) = l ∧ d ≤ v (204 + 3 * k + 1) then v (204 + 3 * k + 2) else 0) 0 (v 203).toNat
def sLie (v : Int → Int) (l : Int) : Nat → Int × Int
  | 0 => (0, 0)
  | n + 1 => if (n : Int) % 30 = 29 then ((sLie v l n).1 + sDep v l n + ((sLie v l n).1 + sDep v l n) * sRate v (n + 1) / 120000, (sLie v l n).2 + ((sLie v l n).1 + sDep v l n) * sRate v (n + 1) / 120000) else ((sLie v l n).1 + sDep v l n, (sLie v l n).2)
def sGrow : Nat → Int
  | 0 => 119999988
  | m + 1 => sGrow m + sGrow m / 60
theorem sGrow_p : ∀ m, 0 ≤ sGrow m
  | 0 => by decide
  | m + 1 => by
    have := sGrow_p m
    unfold sGrow
    omega
theorem sGrow_m : ∀ k m, sGrow m ≤ sGrow (m + k)
  | 0, m => Int.le_refl _
  | k + 1, m => by
    have h1 := sGrow_m k m
    have h2 := sGrow_p (m + k)
    show sGrow m ≤ sGrow (m + k) + sGrow (m + k) / 60
    omega
theorem sGrow_r {m : Nat} (h : m ≤ 120) : sGrow m ≤ 1000000000 := by
  have h1 := sGrow_m (120 - m) m
  rw [show m + (120 - m) = 120 by omega] at h1
  exact Int.le_trans h1 (by decide +kernel)
theorem sDep_rem (v : Int → Int) (l d : Int) : sRem v l d = sDep v l d + sRem v l (d + 1) := by
  unfold sRem sDep
  rw [← sm_add]
  refine sm_congr _ _ (fun i _ _ => ?_)
  by_cases h1 : v (204 + 3 * i) = l
  · by_cases h2 : v (204 + 3 * i + 1) = d
    · rw [if_pos ⟨h1, by omega⟩, if_pos ⟨h1, h2⟩, if_neg (by omega), Int.add_zero]
    · by_cases h3 : d ≤ v (204 + 3 * i + 1)
      · rw [if_pos ⟨h1, h3⟩, if_neg (by omega), if_pos ⟨h1, by omega⟩, Int.zero_add]
      · rw [if_neg (by omega), if_neg (by omega), if_neg (by omega), Int.zero_add]
  · rw [if_neg (by omega), if_neg (by omega), if_neg (by omega), Int.zero_add]
theorem sRem_r {v : Int → Int} (hv : okD v) (l d : Int) : 0 ≤ sRem v l d ∧ sRem v l d ≤ 119999988 := by
  have h9 := hv.2.2.2.1
  have q := sm_r (f := fun k => if v (204 + 3 * k) = l ∧ d ≤ v (204 + 3 * k + 1) then v (204 + 3 * k + 2) else 0) (lo := 0) (hi := 9999999) (v 203).toNat 0 (fun i i1 i2 => by
    obtain ⟨k1, k2, k3⟩ := hv.2.2.2.2.2.2.2.1 i i1 (by omega)
    split <;> omega)
  unfold sRem
  omega
theorem sDep_p {v : Int → Int} (hv : okD v) (l d : Int) : 0 ≤ sDep v l d := by
  have h9 := hv.2.2.2.1
  have q := sm_r (f := fun k => if v (204 + 3 * k) = l ∧ v (204 + 3 * k + 1) = d then v (204 + 3 * k + 2) else 0) (lo := 0) (hi := 9999999) (v 203).toNat 0 (fun i i1 i2 => by
    obtain ⟨k1, k2, k3⟩ := hv.2.2.2.2.2.2.2.1 i i1 (by omega)
    split <;> omega)
  unfold sDep
  omega
theorem sRate_r {v : Int → Int} (hv : okD v) : ∀ n : Nat, n ≤ 3600 → 0 ≤ sRate v n ∧ sRate v n ≤ 2000
  | 0, _ => ⟨show (0 : Int) ≤ 0 by decide, show (0 : Int) ≤ 2000 by decide⟩
  | n + 1, h => by
    have k := hv.2.2.2.2.2.2.2.2.2 n (by omega) (by omega)
    unfold sRate
    split
    · exact sRate_r hv n (by omega)
    · omega
theorem more_r {a r : Int} (h1 : 0 ≤ a) (h2 : 0 ≤ r ∧ r ≤ 2000) : 0 ≤ a * r ∧ a * r ≤ 2000 * a ∧ 0 ≤ a * r / 120000 ∧ a * r / 120000 ≤ a / 60 := by
  have k1 : 0 ≤ a * r := Int.mul_nonneg h1 h2.1
  have k2 : a * r ≤ a * 2000 := Int.mul_le_mul_of_nonneg_left h2.2 h1
  generalize a * r = z at *
  omega
theorem sLie_r {v : Int → Int} (hv : okD v) (l : Int) : ∀ n : Nat, n ≤ 3600 → 0 ≤ (sLie v l n).1 ∧ (sLie v l n).1 + sRem v l n ≤ sGrow (n / 30) ∧ 0 ≤ (sLie v l n).2 ∧ (sLie v l n).2 ≤ (sLie v l n).1
  | 0, _ => by
    have := sRem_r hv l (0 : Nat)
    refine ⟨Int.le_refl _, ?_, Int.le_refl _, Int.le_refl _⟩
    show 0 + sRem v l (0 : Nat) ≤ 119999988
    omega
  | n + 1, h => by
    obtain ⟨i1, i2, i3, i4⟩ := sLie_r hv l n (by omega)
    have d1 := sDep_rem v l n
    have d2 := sDep_p hv l n
    have d3 := sRem_r hv l ((n : Int) + 1)
    have d4 := sRate_r hv (n + 1) h
    have d5 := more_r (a := (sLie v l n).1 + sDep v l n) (r := sRate v (n + 1)) (by omega) d4
    have e : ((n + 1 : Nat) : Int) = (n : Int) + 1 := by omega
    rw [e]
    unfold sLie
    by_cases hm : (n : Int) % 30 = 29
    · rw [if_pos hm]
      dsimp only
      have e2 : (n + 1) / 30 = n / 30 + 1 := by omega
      rw [e2]
      have e3 : sGrow (n / 30 + 1) = sGrow (n / 30) + sGrow (n / 30) / 60 := rfl
      omega
    · rw [if_neg hm]
      dsimp only
      have e2 : (n + 1) / 30 = n / 30 := by omega
      rw [e2]
      omega
theorem sLie_b {v : Int → Int} (hv : okD v) (l : Int) {n : Nat} (h : n ≤ 3600) : 0 ≤ (sLie v l n).1 ∧ (sLie v l n).1 + sRem v l n ≤ 1000000000 ∧ 0 ≤ (sLie v l n).2 ∧ (sLie v l n).2 ≤ (sLie v l n).1 := by
  have h1 := sLie_r hv l n h
  have h2 := sGrow_r (m := n / 30) (by omega)
  omega
section Lie
variable {ρ : Nat → Nat} {σ : mS} {b : Nat} {μ : MM}
theorem X3_lies75 (hv : okD (μ.1 0)) {K : Int32 → Int64 → Int32 → Int32 → Int32 → mS → Option (Int64 × mS)} {l day rt : Int} {x6 : Int32} (hl : r32 l) (hy : 0 ≤ day ∧ day < 3600) (hr : 0 ≤ rt ∧ rt ≤ 2000) : ∀ (n : Nat) (k acc : Int) (gas : Nat), k + n = μ.1 0 203 → n < gas → 0 ≤ k → 0 ≤ acc → acc + sm (fun k => if μ.1 0 (204 + 3 * k) = l ∧ μ.1 0 (204 + 3 * k + 1) = day then μ.1 0 (204 + 3 * k + 2) else 0) k n ≤ 1000000000 →
    fnFix (fun _ _ _ _ _ _ _ => none) (gX3_lies_b75 ρ b K) gas (iI l) (lI acc) (iI rt) x6 (iI day) (iI k) (St σ b μ) =
    (if day % 30 = 29 then K (iI l) (lI (acc + sm (fun k => if μ.1 0 (204 + 3 * k) = l ∧ μ.1 0 (204 + 3 * k + 1) = day then μ.1 0 (204 + 3 * k + 2) else 0) k n + (acc + sm (fun k => if μ.1 0 (204 + 3 * k) = l ∧ μ.1 0 (204 + 3 * k + 1) = day then μ.1 0 (204 + 3 * k + 2) else 0) k n) * rt / 120000)) (iI rt) x6 (iI (day + 1)) (St σ b (mI μ 19 (μ.2.1 19 + (acc + sm (fun k => if μ.1 0 (204 + 3 * k) = l ∧ μ.1 0 (204 + 3 * k + 1) = day then μ.1 0 (204 + 3 * k + 2) else 0) k n) * rt / 120000)))
      else K (iI l) (lI (acc + sm (fun k => if μ.1 0 (204 + 3 * k) = l ∧ μ.1 0 (204 + 3 * k + 1) = day then μ.1 0 (204 + 3 * k + 2) else 0) k n)) (iI rt) x6 (iI (day + 1)) (St σ b μ)) := by
  intro n
  induction n with
  | zero =>
    intro k acc gas h1 h2 h3 h4 h5
    have h9 := hv.2.2.2.1
    obtain ⟨g, rfl⟩ := gas_s h2
    have q30 : (iI 30 = iI 0) = False := eq_false (by decide)
    have q12 : (lI 120000 = lI 0) = False := eq_false (by decide)
    have m1 := more_r h4 hr
    rw [sm, Int.add_zero] at *
    rw [fnFix_s, gX3_lies_b75]
    simp (disch := omega) only [q30, q12, iI_div30, decide_true, decide_false, reduceIte, and_self, and_true, true_and, and_false, false_and, or_true, true_or, or_false, false_or, not_true_eq_false, not_false_eq_true, reduceCtorEq, mA_ss, mI_ss, ↓St_rc, ↓fn_B, ↓fn_nn_none, ↓fn_nn_some, rZ_0, rZ_1, rZ_b, b2_z, b2_1, b2_or, b2_or0, b2_or1, iI_add, iI_sub, iI_mul, iI_neg, lI_add, lI_sub, lI_mul, iI_lt, iI_le, iI_eq, iI_to64, lI_cmp_lt, lI_cmp_gt, lI_cmp_ge, lI_cmp_le, lI_cmp_eq, mA_s, mA_o, mI_s, mI_o, mB_s, mB_o, mA_I, mA_B, mA_T, mA_F, mI_A, mI_B, mI_T, mI_F, mB_A, mB_I, mB_T, mB_F, mT_A, mT_I, mT_B, mT_F, mF_A, mF_I, mF_B, mF_T, ↓md_gA0, md_a0, md_s0, ↓md_gA1, md_a1, md_s1, ↓md_gA2, md_a2, md_s2, ↓md_gA3, md_a3, md_s3, ↓md_gA4, md_a4, md_s4, ↓md_g5, ↓md_p5, ↓md_g6, ↓md_p6, ↓md_g7, ↓md_p7, ↓md_g8, ↓md_p8, ↓md_gA9, md_a9, md_s9, ↓md_gA10, md_a10, md_s10, ↓md_gA11, md_a11, md_s11, ↓md_gA12, md_a12, md_s12, ↓md_gA13, md_a13, md_s13, ↓md_g14, ↓md_p14, ↓md_g15, ↓md_p15, ↓md_g16, ↓md_p16, ↓md_gA17, md_a17, md_s17, ↓md_gA18, md_a18, md_s18, ↓md_g19, ↓md_p19, ↓md_gA20, md_a20, md_s20, ↓md_g21, ↓md_p21, ↓md_gA22, md_a22, md_s22, ↓md_gA23, md_a23, md_s23, ↓md_gA24, md_a24, md_s24]
    rw [if_pos (by omega), show day - day / 30 * 30 = day % 30 by omega]
    by_cases hm : day % 30 = 29
    · rw [if_pos hm, if_pos hm, lI_div ⟨by omega, by omega⟩ (by decide), tdiv_p m1.1]
      simp (disch := omega) only [gX3_lies_b194, decide_true, decide_false, reduceIte, and_self, and_true, true_and, and_false, false_and, or_true, true_or, or_false, false_or, not_true_eq_false, not_false_eq_true, reduceCtorEq, mA_ss, mI_ss, ↓St_rc, ↓fn_B, ↓fn_nn_none, ↓fn_nn_some, rZ_0, rZ_1, rZ_b, b2_z, b2_1, b2_or, b2_or0, b2_or1, iI_add, iI_sub, iI_mul, iI_neg, lI_add, lI_sub, lI_mul, iI_lt, iI_le, iI_eq, iI_to64, lI_cmp_lt, lI_cmp_gt, lI_cmp_ge, lI_cmp_le, lI_cmp_eq, mA_s, mA_o, mI_s, mI_o, mB_s, mB_o, mA_I, mA_B, mA_T, mA_F, mI_A, mI_B, mI_T, mI_F, mB_A, mB_I, mB_T, mB_F, mT_A, mT_I, mT_B, mT_F, mF_A, mF_I, mF_B, mF_T, ↓md_gA0, md_a0, md_s0, ↓md_gA1, md_a1, md_s1, ↓md_gA2, md_a2, md_s2, ↓md_gA3, md_a3, md_s3, ↓md_gA4, md_a4, md_s4, ↓md_g5, ↓md_p5, ↓md_g6, ↓md_p6, ↓md_g7, ↓md_p7, ↓md_g8, ↓md_p8, ↓md_gA9, md_a9, md_s9, ↓md_gA10, md_a10, md_s10, ↓md_gA11, md_a11, md_s11, ↓md_gA12, md_a12, md_s12, ↓md_gA13, md_a13, md_s13, ↓md_g14, ↓md_p14, ↓md_g15, ↓md_p15, ↓md_g16, ↓md_p16, ↓md_gA17, md_a17, md_s17, ↓md_gA18, md_a18, md_s18, ↓md_g19, ↓md_p19, ↓md_gA20, md_a20, md_s20, ↓md_g21, ↓md_p21, ↓md_gA22, md_a22, md_s22, ↓md_gA23, md_a23, md_s23, ↓md_gA24, md_a24, md_s24]
    · rw [if_neg hm, if_neg hm]
      simp (disch := omega) only [gX3_lies_b194, decide_true, decide_false, reduceIte, and_self, and_true, true_and, and_false, false_and, or_true, true_or, or_false, false_or, not_true_eq_false, not_false_eq_true, reduceCtorEq, mA_ss, mI_ss, ↓St_rc, ↓fn_B, ↓fn_nn_none, ↓fn_nn_some, rZ_0, rZ_1, rZ_b, b2_z, b2_1, b2_or, b2_or0, b2_or1, iI_add, iI_sub, iI_mul, iI_neg, lI_add, lI_sub, lI_mul, iI_lt, iI_le, iI_eq, iI_to64, lI_cmp_lt, lI_cmp_gt, lI_cmp_ge, lI_cmp_le, lI_cmp_eq, mA_s, mA_o, mI_s, mI_o, mB_s, mB_o, mA_I, mA_B, mA_T, mA_F, mI_A, mI_B, mI_T, mI_F, mB_A, mB_I, mB_T, mB_F, mT_A, mT_I, mT_B, mT_F, mF_A, mF_I, mF_B, mF_T, ↓md_gA0, md_a0, md_s0, ↓md_gA1, md_a1, md_s1, ↓md_gA2, md_a2, md_s2, ↓md_gA3, md_a3, md_s3, ↓md_gA4, md_a4, md_s4, ↓md_g5, ↓md_p5, ↓md_g6, ↓md_p6, ↓md_g7, ↓md_p7, ↓md_g8, ↓md_p8, ↓md_gA9, md_a9, md_s9, ↓md_gA10, md_a10, md_s10, ↓md_gA11, md_a11, md_s11, ↓md_gA12, md_a12, md_s12, ↓md_gA13, md_a13, md_s13, ↓md_g14, ↓md_p14, ↓md_g15, ↓md_p15, ↓md_g16, ↓md_p16, ↓md_gA17, md_a17, md_s17, ↓md_gA18, md_a18, md_s18, ↓md_g19, ↓md_p19, ↓md_gA20, md_a20, md_s20, ↓md_g21, ↓md_p21, ↓md_gA22, md_a22, md_s22, ↓md_gA23, md_a23, md_s23, ↓md_gA24, md_a24, md_s24]
  | succ n ih =>
    intro k acc gas h1 h2 h3 h4 h5
    have h9 := hv.2.2.2.1
    have h0 := hv.1
    obtain ⟨g, rfl⟩ := gas_s h2
    obtain ⟨k1, k2, k3⟩ := hv.2.2.2.2.2.2.2.1 k h3 (by omega)
    have ns : 0 ≤ sm (fun k => if μ.1 0 (204 + 3 * k) = l ∧ μ.1 0 (204 + 3 * k + 1) = day then μ.1 0 (204 + 3 * k + 2) else 0) (k + 1) n := by
      have q := sm_r (f := fun k => if μ.1 0 (204 + 3 * k) = l ∧ μ.1 0 (204 + 3 * k + 1) = day then μ.1 0 (204 + 3 * k + 2) else 0) (lo := 0) (hi := 9999999) n (k + 1) (fun i i1 i2 => by
        obtain ⟨k1, k2, k3⟩ := hv.2.2.2.2.2.2.2.1 i (by omega) (by omega)
        split <;> omega)
      omega
    rw [sm] at *
    rw [fnFix_s, gX3_lies_b75]
    simp (disch := omega) only [decide_true, decide_false, reduceIte, and_self, and_true, true_and, and_false, false_and, or_true, true_or, or_false, false_or, not_true_eq_false, not_false_eq_true, reduceCtorEq, mA_ss, mI_ss, ↓St_rc, ↓fn_B, ↓fn_nn_none, ↓fn_nn_some, rZ_0, rZ_1, rZ_b, b2_z, b2_1, b2_or, b2_or0, b2_or1, iI_add, iI_sub, iI_mul, iI_neg, lI_add, lI_sub, lI_mul, iI_lt, iI_le, iI_eq, iI_to64, lI_cmp_lt, lI_cmp_gt, lI_cmp_ge, lI_cmp_le, lI_cmp_eq, mA_s, mA_o, mI_s, mI_o, mB_s, mB_o, mA_I, mA_B, mA_T, mA_F, mI_A, mI_B, mI_T, mI_F, mB_A, mB_I, mB_T, mB_F, mT_A, mT_I, mT_B, mT_F, mF_A, mF_I, mF_B, mF_T, ↓md_gA0, md_a0, md_s0, ↓md_gA1, md_a1, md_s1, ↓md_gA2, md_a2, md_s2, ↓md_gA3, md_a3, md_s3, ↓md_gA4, md_a4, md_s4, ↓md_g5, ↓md_p5, ↓md_g6, ↓md_p6, ↓md_g7, ↓md_p7, ↓md_g8, ↓md_p8, ↓md_gA9, md_a9, md_s9, ↓md_gA10, md_a10, md_s10, ↓md_gA11, md_a11, md_s11, ↓md_gA12, md_a12, md_s12, ↓md_gA13, md_a13, md_s13, ↓md_g14, ↓md_p14, ↓md_g15, ↓md_p15, ↓md_g16, ↓md_p16, ↓md_gA17, md_a17, md_s17, ↓md_gA18, md_a18, md_s18, ↓md_g19, ↓md_p19, ↓md_gA20, md_a20, md_s20, ↓md_g21, ↓md_p21, ↓md_gA22, md_a22, md_s22, ↓md_gA23, md_a23, md_s23, ↓md_gA24, md_a24, md_s24]
    rw [if_neg (by omega)]
    by_cases q1 : μ.1 0 (204 + 3 * k) = l
    · rw [if_pos q1]
      by_cases q2 : μ.1 0 (204 + 3 * k + 1) = day
      · rw [if_pos q2]
        rw [if_pos (c := μ.1 0 (204 + 3 * k) = l ∧ μ.1 0 (204 + 3 * k + 1) = day) (by omega)] at *
        simp (disch := omega) only [gX3_lies_b146, decide_true, decide_false, reduceIte, and_self, and_true, true_and, and_false, false_and, or_true, true_or, or_false, false_or, not_true_eq_false, not_false_eq_true, reduceCtorEq, mA_ss, mI_ss, ↓St_rc, ↓fn_B, ↓fn_nn_none, ↓fn_nn_some, rZ_0, rZ_1, rZ_b, b2_z, b2_1, b2_or, b2_or0, b2_or1, iI_add, iI_sub, iI_mul, iI_neg, lI_add, lI_sub, lI_mul, iI_lt, iI_le, iI_eq, iI_to64, lI_cmp_lt, lI_cmp_gt, lI_cmp_ge, lI_cmp_le, lI_cmp_eq, mA_s, mA_o, mI_s, mI_o, mB_s, mB_o, mA_I, mA_B, mA_T, mA_F, mI_A, mI_B, mI_T, mI_F, mB_A, mB_I, mB_T, mB_F, mT_A, mT_I, mT_B, mT_F, mF_A, mF_I, mF_B, mF_T, ↓md_gA0, md_a0, md_s0, ↓md_gA1, md_a1, md_s1, ↓md_gA2, md_a2, md_s2, ↓md_gA3, md_a3, md_s3, ↓md_gA4, md_a4, md_s4, ↓md_g5, ↓md_p5, ↓md_g6, ↓md_p6, ↓md_g7, ↓md_p7, ↓md_g8, ↓md_p8, ↓md_gA9, md_a9, md_s9, ↓md_gA10, md_a10, md_s10, ↓md_gA11, md_a11, md_s11, ↓md_gA12, md_a12, md_s12, ↓md_gA13, md_a13, md_s13, ↓md_g14, ↓md_p14, ↓md_g15, ↓md_p15, ↓md_g16, ↓md_p16, ↓md_gA17, md_a17, md_s17, ↓md_gA18, md_a18, md_s18, ↓md_g19, ↓md_p19, ↓md_gA20, md_a20, md_s20, ↓md_g21, ↓md_p21, ↓md_gA22, md_a22, md_s22, ↓md_gA23, md_a23, md_s23, ↓md_gA24, md_a24, md_s24]
        rw [ih (k + 1) (acc + μ.1 0 (204 + 3 * k + 2)) g (by omega) (by omega) (by omega) (by omega) (by omega)]
        simp only [Int.add_assoc]
      · rw [if_neg q2]
        rw [if_neg (c := μ.1 0 (204 + 3 * k) = l ∧ μ.1 0 (204 + 3 * k + 1) = day) (by omega), Int.zero_add] at *
        simp (disch := omega) only [gX3_lies_b145, gX3_lies_b146, decide_true, decide_false, reduceIte, and_self, and_true, true_and, and_false, false_and, or_true, true_or, or_false, false_or, not_true_eq_false, not_false_eq_true, reduceCtorEq, mA_ss, mI_ss, ↓St_rc, ↓fn_B, ↓fn_nn_none, ↓fn_nn_some, rZ_0, rZ_1, rZ_b, b2_z, b2_1, b2_or, b2_or0, b2_or1, iI_add, iI_sub, iI_mul, iI_neg, lI_add, lI_sub, lI_mul, iI_lt, iI_le, iI_eq, iI_to64, lI_cmp_lt, lI_cmp_gt, lI_cmp_ge, lI_cmp_le, lI_cmp_eq, mA_s, mA_o, mI_s, mI_o, mB_s, mB_o, mA_I, mA_B, mA_T, mA_F, mI_A, mI_B, mI_T, mI_F, mB_A, mB_I, mB_T, mB_F, mT_A, mT_I, mT_B, mT_F, mF_A, mF_I, mF_B, mF_T, ↓md_gA0, md_a0, md_s0, ↓md_gA1, md_a1, md_s1, ↓md_gA2, md_a2, md_s2, ↓md_gA3, md_a3, md_s3, ↓md_gA4, md_a4, md_s4, ↓md_g5, ↓md_p5, ↓md_g6, ↓md_p6, ↓md_g7, ↓md_p7, ↓md_g8, ↓md_p8, ↓md_gA9, md_a9, md_s9, ↓md_gA10, md_a10, md_s10, ↓md_gA11, md_a11, md_s11, ↓md_gA12, md_a12, md_s12, ↓md_gA13, md_a13, md_s13, ↓md_g14, ↓md_p14, ↓md_g15, ↓md_p15, ↓md_g16, ↓md_p16, ↓md_gA17, md_a17, md_s17, ↓md_gA18, md_a18, md_s18, ↓md_g19, ↓md_p19, ↓md_gA20, md_a20, md_s20, ↓md_g21, ↓md_p21, ↓md_gA22, md_a22, md_s22, ↓md_gA23, md_a23, md_s23, ↓md_gA24, md_a24, md_s24]
        rw [Int.add_zero, ih (k + 1) acc g (by omega) (by omega) (by omega) (by omega) (by omega)]
    · rw [if_neg q1]
      rw [if_neg (c := μ.1 0 (204 + 3 * k) = l ∧ μ.1 0 (204 + 3 * k + 1) = day) (by omega), Int.zero_add] at *
      simp (disch := omega) only [gX3_lies_b145, gX3_lies_b146, decide_true, decide_false, reduceIte, and_self, and_true, true_and, and_false, false_and, or_true, true_or, or_false, false_or, not_true_eq_false, not_false_eq_true, reduceCtorEq, mA_ss, mI_ss, ↓St_rc, ↓fn_B, ↓fn_nn_none, ↓fn_nn_some, rZ_0, rZ_1, rZ_b, b2_z, b2_1, b2_or, b2_or0, b2_or1, iI_add, iI_sub, iI_mul, iI_neg, lI_add, lI_sub, lI_mul, iI_lt, iI_le, iI_eq, iI_to64, lI_cmp_lt, lI_cmp_gt, lI_cmp_ge, lI_cmp_le, lI_cmp_eq, mA_s, mA_o, mI_s, mI_o, mB_s, mB_o, mA_I, mA_B, mA_T, mA_F, mI_A, mI_B, mI_T, mI_F, mB_A, mB_I, mB_T, mB_F, mT_A, mT_I, mT_B, mT_F, mF_A, mF_I, mF_B, mF_T, ↓md_gA0, md_a0, md_s0, ↓md_gA1, md_a1, md_s1, ↓md_gA2, md_a2, md_s2, ↓md_gA3, md_a3, md_s3, ↓md_gA4, md_a4, md_s4, ↓md_g5, ↓md_p5, ↓md_g6, ↓md_p6, ↓md_g7, ↓md_p7, ↓md_g8, ↓md_p8, ↓md_gA9, md_a9, md_s9, ↓md_gA10, md_a10, md_s10, ↓md_gA11, md_a11, md_s11, ↓md_gA12, md_a12, md_s12, ↓md_gA13, md_a13, md_s13, ↓md_g14, ↓md_p14, ↓md_g15, ↓md_p15, ↓md_g16, ↓md_p16, ↓md_gA17, md_a17, md_s17, ↓md_gA18, md_a18, md_s18, ↓md_g19, ↓md_p19, ↓md_gA20, md_a20, md_s20, ↓md_g21, ↓md_p21, ↓md_gA22, md_a22, md_s22, ↓md_gA23, md_a23, md_s23, ↓md_gA24, md_a24, md_s24]
      rw [Int.add_zero, ih (k + 1) acc g (by omega) (by omega) (by omega) (by omega) (by omega)]
theorem X3_lies33 (hv : okD (μ.1 0)) {l last : Int} (hl : r32 l) (hlast : -1 ≤ last ∧ last < 3600) : ∀ (n d : Nat) (gas : Nat), (last + 1 - d).toNat = n → n < gas → (d : Int) ≤ last + 1 → fnFix (fun _ _ _ _ _ _ => none) (gX3_lies_b33 ρ b) gas (iI l) (lI (sLie (μ.1 0) l d).1) (iI (sRate (μ.1 0) d)) (iI last) (iI (d : Int)) (St σ b (mI μ 19 (sLie (μ.1 0) l d).2)) =
    some (lI (sLie (μ.1 0) l (last + 1).toNat).1, St σ b (mI μ 19 (sLie (μ.1 0) l (last + 1).toNat).2)) := by
  intro n
  induction n with
  | zero =>
    intro d gas h1 h2 h3
    obtain ⟨g, rfl⟩ := gas_s h2
    rw [fnFix_s, gX3_lies_b33]
    simp (disch := omega) only [decide_true, decide_false, reduceIte, and_self, and_true, true_and, and_false, false_and, or_true, true_or, or_false, false_or, not_true_eq_false, not_false_eq_true, reduceCtorEq, mA_ss, mI_ss, ↓St_rc, ↓fn_B, ↓fn_nn_none, ↓fn_nn_some, rZ_0, rZ_1, rZ_b, b2_z, b2_1, b2_or, b2_or0, b2_or1, iI_add, iI_sub, iI_mul, iI_neg, lI_add, lI_sub, lI_mul, iI_lt, iI_le, iI_eq, iI_to64, lI_cmp_lt, lI_cmp_gt, lI_cmp_ge, lI_cmp_le, lI_cmp_eq, mA_s, mA_o, mI_s, mI_o, mB_s, mB_o, mA_I, mA_B, mA_T, mA_F, mI_A, mI_B, mI_T, mI_F, mB_A, mB_I, mB_T, mB_F, mT_A, mT_I, mT_B, mT_F, mF_A, mF_I, mF_B, mF_T, ↓md_gA0, md_a0, md_s0, ↓md_gA1, md_a1, md_s1, ↓md_gA2, md_a2, md_s2, ↓md_gA3, md_a3, md_s3, ↓md_gA4, md_a4, md_s4, ↓md_g5, ↓md_p5, ↓md_g6, ↓md_p6, ↓md_g7, ↓md_p7, ↓md_g8, ↓md_p8, ↓md_gA9, md_a9, md_s9, ↓md_gA10, md_a10, md_s10, ↓md_gA11, md_a11, md_s11, ↓md_gA12, md_a12, md_s12, ↓md_gA13, md_a13, md_s13, ↓md_g14, ↓md_p14, ↓md_g15, ↓md_p15, ↓md_g16, ↓md_p16, ↓md_gA17, md_a17, md_s17, ↓md_gA18, md_a18, md_s18, ↓md_g19, ↓md_p19, ↓md_gA20, md_a20, md_s20, ↓md_g21, ↓md_p21, ↓md_gA22, md_a22, md_s22, ↓md_gA23, md_a23, md_s23, ↓md_gA24, md_a24, md_s24]
    rw [if_pos (by omega), show (last + 1).toNat = d by omega]
  | succ n ih =>
    intro d gas h1 h2 h3
    have h9 := hv.2.2.2.1
    obtain ⟨g, rfl⟩ := gas_s h2
    have k1 := hv.2.2.2.2.2.2.2.2.2 (d : Int) (by omega) (by omega)
    have k2 := sRate_r hv d (by omega)
    have k3 := sRate_r hv (d + 1) (by omega)
    have k4 := sLie_b hv l (n := d) (by omega)
    have k5 := sDep_rem (μ.1 0) l d
    have k6 := sRem_r hv l ((d : Int) + 1)
    have e : sRate (μ.1 0) (d + 1) = if μ.1 0 (360 + d) < 0 then sRate (μ.1 0) d else μ.1 0 (360 + d) := rfl
    have ih := ih (d + 1) g (by omega) (by omega) (by omega)
    have q := X3_lies75 (ρ := ρ) (σ := σ) (b := b) (μ := mI μ 19 (sLie (μ.1 0) l d).2) hv (K := fnFix (fun _ _ _ _ _ _ => none) (gX3_lies_b33 ρ b) g) (day := (d : Int)) (rt := sRate (μ.1 0) (d + 1)) (x6 := iI last) hl (by omega) k3 (μ.1 0 203).toNat 0 (sLie (μ.1 0) l d).1 fnGas (by show (0 : Int) + _ = μ.1 0 203; omega) (by unfold fnGas; omega) (by decide) k4.1 (by show (sLie (μ.1 0) l d).1 + sDep (μ.1 0) l d ≤ _; omega)
    have q : fnFix (fun _ _ _ _ _ _ _ => none) (gX3_lies_b75 ρ b (fnFix (fun _ _ _ _ _ _ => none) (gX3_lies_b33 ρ b) g)) fnGas (iI l) (lI (sLie (μ.1 0) l d).1) (iI (sRate (μ.1 0) (d + 1))) (iI last) (iI (d : Int)) (iI 0) (St σ b (mI μ 19 (sLie (μ.1 0) l d).2)) = some (lI (sLie (μ.1 0) l (last + 1).toNat).1, St σ b (mI μ 19 (sLie (μ.1 0) l (last + 1).toNat).2)) := by
      refine q.trans ?_
      rw [← ih]
      have e9 : ((d + 1 : Nat) : Int) = (d : Int) + 1 := by omega
      rw [e9]
      by_cases hm : (d : Int) % 30 = 29
      · rw [if_pos hm]
        have e1 : sLie (μ.1 0) l (d + 1) = ((sLie (μ.1 0) l d).1 + sDep (μ.1 0) l d + ((sLie (μ.1 0) l d).1 + sDep (μ.1 0) l d) * sRate (μ.1 0) (d + 1) / 120000, (sLie (μ.1 0) l d).2 + ((sLie (μ.1 0) l d).1 + sDep (μ.1 0) l d) * sRate (μ.1 0) (d + 1) / 120000) := if_pos hm
        rw [e1]
        simp (disch := omega) only [decide_true, decide_false, reduceIte, and_self, and_true, true_and, and_false, false_and, or_true, true_or, or_false, false_or, not_true_eq_false, not_false_eq_true, reduceCtorEq, mA_ss, mI_ss, ↓St_rc, ↓fn_B, ↓fn_nn_none, ↓fn_nn_some, rZ_0, rZ_1, rZ_b, b2_z, b2_1, b2_or, b2_or0, b2_or1, iI_add, iI_sub, iI_mul, iI_neg, lI_add, lI_sub, lI_mul, iI_lt, iI_le, iI_eq, iI_to64, lI_cmp_lt, lI_cmp_gt, lI_cmp_ge, lI_cmp_le, lI_cmp_eq, mA_s, mA_o, mI_s, mI_o, mB_s, mB_o, mA_I, mA_B, mA_T, mA_F, mI_A, mI_B, mI_T, mI_F, mB_A, mB_I, mB_T, mB_F, mT_A, mT_I, mT_B, mT_F, mF_A, mF_I, mF_B, mF_T, ↓md_gA0, md_a0, md_s0, ↓md_gA1, md_a1, md_s1, ↓md_gA2, md_a2, md_s2, ↓md_gA3, md_a3, md_s3, ↓md_gA4, md_a4, md_s4, ↓md_g5, ↓md_p5, ↓md_g6, ↓md_p6, ↓md_g7, ↓md_p7, ↓md_g8, ↓md_p8, ↓md_gA9, md_a9, md_s9, ↓md_gA10, md_a10, md_s10, ↓md_gA11, md_a11, md_s11, ↓md_gA12, md_a12, md_s12, ↓md_gA13, md_a13, md_s13, ↓md_g14, ↓md_p14, ↓md_g15, ↓md_p15, ↓md_g16, ↓md_p16, ↓md_gA17, md_a17, md_s17, ↓md_gA18, md_a18, md_s18, ↓md_g19, ↓md_p19, ↓md_gA20, md_a20, md_s20, ↓md_g21, ↓md_p21, ↓md_gA22, md_a22, md_s22, ↓md_gA23, md_a23, md_s23, ↓md_gA24, md_a24, md_s24]
        rfl
      · rw [if_neg hm]
        have e1 : sLie (μ.1 0) l (d + 1) = ((sLie (μ.1 0) l d).1 + sDep (μ.1 0) l d, (sLie (μ.1 0) l d).2) := if_neg hm
        rw [e1]
        rfl
    rw [fnFix_s, gX3_lies_b33]
    simp (disch := omega) only [decide_true, decide_false, reduceIte, and_self, and_true, true_and, and_false, false_and, or_true, true_or, or_false, false_or, not_true_eq_false, not_false_eq_true, reduceCtorEq, mA_ss, mI_ss, ↓St_rc, ↓fn_B, ↓fn_nn_none, ↓fn_nn_some, rZ_0, rZ_1, rZ_b, b2_z, b2_1, b2_or, b2_or0, b2_or1, iI_add, iI_sub, iI_mul, iI_neg, lI_add, lI_sub, lI_mul, iI_lt, iI_le, iI_eq, iI_to64, lI_cmp_lt, lI_cmp_gt, lI_cmp_ge, lI_cmp_le, lI_cmp_eq, mA_s, mA_o, mI_s, mI_o, mB_s, mB_o, mA_I, mA_B, mA_T, mA_F, mI_A, mI_B, mI_T, mI_F, mB_A, mB_I, mB_T, mB_F, mT_A, mT_I, mT_B, mT_F, mF_A, mF_I, mF_B, mF_T, ↓md_gA0, md_a0, md_s0, ↓md_gA1, md_a1, md_s1, ↓md_gA2, md_a2, md_s2, ↓md_gA3, md_a3, md_s3, ↓md_gA4, md_a4, md_s4, ↓md_g5, ↓md_p5, ↓md_g6, ↓md_p6, ↓md_g7, ↓md_p7, ↓md_g8, ↓md_p8, ↓md_gA9, md_a9, md_s9, ↓md_gA10, md_a10, md_s10, ↓md_gA11, md_a11, md_s11, ↓md_gA12, md_a12, md_s12, ↓md_gA13, md_a13, md_s13, ↓md_g14, ↓md_p14, ↓md_g15, ↓md_p15, ↓md_g16, ↓md_p16, ↓md_gA17, md_a17, md_s17, ↓md_gA18, md_a18, md_s18, ↓md_g19, ↓md_p19, ↓md_gA20, md_a20, md_s20, ↓md_g21, ↓md_p21, ↓md_gA22, md_a22, md_s22, ↓md_gA23, md_a23, md_s23, ↓md_gA24, md_a24, md_s24]
    rw [if_neg (by omega)]
    rw [e] at q
    by_cases h5 : μ.1 0 (360 + d) < 0
    · rw [if_pos h5] at q ⊢
      exact q
    · rw [if_neg h5] at q ⊢
      exact q
/-- the last day on which a lease's deposit is counted -/
def lastOf (v : Int → Int) (l day : Int) : Int := if endOf v l ≤ day then endOf v l else day
theorem X3_lies (hv : okD (μ.1 0)) {l day : Int} (hl : 0 ≤ l ∧ l < μ.1 0 0) (hy : -1 ≤ day ∧ day < 3600) : gX3_lies ρ b (iI l) (iI day) (St σ b μ) = some (lI (sLie (μ.1 0) l (lastOf (μ.1 0) l day + 1).toNat).1, St σ b (mI μ 19 (sLie (μ.1 0) l (lastOf (μ.1 0) l day + 1).toNat).2)) := by
  have h0 := hv.1
  have h1 := endOf_r hv hl.2
  have fin : ∀ last : Int, -1 ≤ last → last < 3600 → gX3_lies_b28 ρ b (iI l) (lI 0) (iI 0) (iI last) (St σ b (mI μ 19 0)) = some (lI (sLie (μ.1 0) l (last + 1).toNat).1, St σ b (mI μ 19 (sLie (μ.1 0) l (last + 1).toNat).2)) := by
    intro last q1 q2
    exact X3_lies33 (ρ := ρ) (σ := σ) (b := b) hv ⟨by omega, by omega⟩ ⟨q1, q2⟩ (last + 1).toNat 0 fnGas (by omega) (by unfold fnGas; omega) (by omega)
  unfold gX3_lies
  rw [md_p19, St_rc, X3_endOf (μ := mI μ 19 0) hv (by exact ⟨by omega, hl.2⟩), fn_B_some]
  have e : endOf ((mI μ 19 0).1 0) l = endOf (μ.1 0) l := rfl
  rw [e]
  unfold lastOf
  by_cases h : endOf (μ.1 0) l ≤ day
  · rw [if_pos ((iI_le ⟨by omega, by omega⟩ ⟨by omega, by omega⟩).mpr h), if_pos h, St_rc, X3_endOf (μ := mI μ 19 0) hv (by exact ⟨by omega, hl.2⟩), fn_B_some, e]
    exact fin _ (by omega) (by omega)
  · rw [if_neg (fun q => h ((iI_le ⟨by omega, by omega⟩ ⟨by omega, by omega⟩).mp q)), if_neg h]
    exact fin _ (by omega) (by omega)
end Lie
end
section
/-! questions to the model. mEq: what matters of its memory is as it was -/
def mEq (μ μ1 : MM) : Prop := μ1.1 0 = μ.1 0 ∧ μ1.1 3 = μ.1 3 ∧ μ1.1 4 = μ.1 4 ∧ μ1.1 9 = μ.1 9 ∧ μ1.1 22 = μ.1 22 ∧ μ1.1 23 = μ.1 23 ∧ μ1.2.1 5 = μ.2.1 5 ∧ μ1.2.1 6 = μ.2.1 6 ∧ μ1.2.1 14 = μ.2.1 14 ∧ μ1.2.2.1 7 = μ.2.2.1 7 ∧ μ1.2.2.2.2 = μ.2.2.2.2
theorem mEq.rf (μ : MM) : mEq μ μ := ⟨rfl, rfl, rfl, rfl, rfl, rfl, rfl, rfl, rfl, rfl, rfl⟩
theorem mEq.tr {a c e : MM} (h1 : mEq a c) (h2 : mEq c e) : mEq a e := by
  obtain ⟨a1, a2, a3, a4, a5, a6, a7, a8, a9, a10, a11⟩ := h1
  obtain ⟨b1, b2, b3, b4, b5, b6, b7, b8, b9, b10, b11⟩ := h2
  exact ⟨b1.trans a1, b2.trans a2, b3.trans a3, b4.trans a4, b5.trans a5, b6.trans a6, b7.trans a7, b8.trans a8, b9.trans a9, b10.trans a10, b11.trans a11⟩
theorem mEq.u (μ : MM) (l : Int) : mEq μ (uMem μ l) := ⟨rfl, rfl, rfl, rfl, rfl, rfl, rfl, rfl, rfl, rfl, rfl⟩
theorem mEq.i (μ : MM) (x : Int) : mEq μ (mI μ 19 x) := ⟨rfl, rfl, rfl, rfl, rfl, rfl, rfl, rfl, rfl, rfl, rfl⟩
def nNo : Int := -9223372036854775808
def qRent (v : Int → Int) (l m : Int) : Int := if ¬ (0 ≤ l ∧ l < v 0) then -1 else if ¬ (0 ≤ m ∧ m ≤ 119) then -2 else if ¬ (v (1 + 8 * l + 1) / 30 ≤ m) then -5 else rentAt v l m
def qRed (v : Int → Int) (l day : Int) : Int := if ¬ (0 ≤ l ∧ l < v 0) then -1 else if ¬ (0 ≤ day ∧ day ≤ 3599) then -2 else sRed v l day
def qDue (v : Int → Int) (l day : Int) : Int := if ¬ (0 ≤ l ∧ l < v 0) then -1 else if ¬ (0 ≤ day ∧ day ≤ 3599) then -2 else sDue v l day
def qMonthly (v : Int → Int) (l m : Int) : Int := if ¬ (0 ≤ l ∧ l < v 0) then -1 else if ¬ (0 ≤ m ∧ m ≤ 119) then -2 else sDue v l (30 * m + 29) - (if m = 0 then 0 else sDue v l (30 * m - 1))
def qBal (v : Int → Int) (l day : Int) : Int := if ¬ (0 ≤ l ∧ l < v 0) then nNo else if ¬ (0 ≤ day ∧ day ≤ 3599) then nNo else sDue v l day - sPaid v l day
def qDep (v : Int → Int) (l day w : Int) : Int := if ¬ (0 ≤ l ∧ l < v 0) then nNo else if ¬ (0 ≤ day ∧ day ≤ 3599) then nNo else if ¬ (0 ≤ w ∧ w ≤ 1) then nNo else if w = 1 then (sLie v l (lastOf v l day + 1).toNat).2 else (sLie v l (lastOf v l day + 1).toNat).1
def sOwed (v : Int → Int) (l day : Int) : Int := sDue v l day - sPaid v l day
def sThere (v : Int → Int) (l day : Int) : Int := (sLie v l (lastOf v l day + 1).toNat).1
def sTakes (v : Int → Int) (l day : Int) : Int := if 0 < sOwed v l day then (if sThere v l day ≤ sOwed v l day then sThere v l day else sOwed v l day) else 0
def qSettle (v : Int → Int) (l w : Int) : Int := if ¬ (0 ≤ l ∧ l < v 0) then nNo else if ¬ (0 ≤ w ∧ w ≤ 2) then nNo else
  if w = 0 then sThere v l (lastOf v l 3599) - sTakes v l (lastOf v l 3599) else if w = 2 then sTakes v l (lastOf v l 3599) else if sOwed v l (lastOf v l 3599) ≤ sTakes v l (lastOf v l 3599) then 0 else sOwed v l (lastOf v l 3599) - sTakes v l (lastOf v l 3599)
section Query
variable {ρ : Nat → Nat} {σ : mS} {b : Nat} {μ : MM}
theorem X3_rent (hv : okD (μ.1 0)) {l m : Int} (r1 : r32 l) (r2 : r32 m) : ∃ μ1, gX3_rent ρ b (iI l) (iI m) (St σ b μ) = some (iI (qRent (μ.1 0) l m), St σ b μ1) ∧ mEq μ μ1 := by
  have h0 := hv.1
  have q30 : (iI 30 = iI 0) = False := eq_false (by decide)
  unfold gX3_rent qRent
  by_cases h1 : 0 ≤ l ∧ l < μ.1 0 0
  · obtain ⟨-, j1, -⟩ := hv.2.2.2.2.1 l h1.1 h1.2
    have k1 := bgn_r hv h1
    rw [St_rc, fn_Bt (s := St σ b μ) (by rw [X3_isLease r1 (by omega), decide_eq_true h1]), if_neg (by simpa using h1)]
    by_cases h2 : 0 ≤ m ∧ m ≤ 119
    · rw [fn_Bt (s := St σ b μ) (by rw [X3_isIn r2 (by decide) (by decide), decide_eq_true h2]), if_neg (by simpa using h2), St_rc, X3_told (by omega), fn_B_some, if_neg (by decide), iI_div30 (by omega)]
      by_cases h3 : μ.1 0 (1 + 8 * l + 1) / 30 ≤ m
      · rw [if_pos ((iI_le ⟨by omega, by omega⟩ r2).mpr h3), if_neg (by simpa using h3), St_rc, X3_laysRents hv h1, fn_B_some]
        refine ⟨mA μ 17 (rA (μ.1 0) l 120 (μ.1 17)), ?_, ⟨rfl, rfl, rfl, rfl, rfl, rfl, rfl, rfl, rfl, rfl, rfl⟩⟩
        simp (disch := omega) only [decide_true, decide_false, reduceIte, and_self, and_true, true_and, and_false, false_and, or_true, true_or, or_false, false_or, not_true_eq_false, not_false_eq_true, reduceCtorEq, mA_ss, mI_ss, ↓St_rc, ↓fn_B, ↓fn_nn_none, ↓fn_nn_some, rZ_0, rZ_1, rZ_b, b2_z, b2_1, b2_or, b2_or0, b2_or1, iI_add, iI_sub, iI_mul, iI_neg, lI_add, lI_sub, lI_mul, iI_lt, iI_le, iI_eq, iI_to64, lI_cmp_lt, lI_cmp_gt, lI_cmp_ge, lI_cmp_le, lI_cmp_eq, mA_s, mA_o, mI_s, mI_o, mB_s, mB_o, mA_I, mA_B, mA_T, mA_F, mI_A, mI_B, mI_T, mI_F, mB_A, mB_I, mB_T, mB_F, mT_A, mT_I, mT_B, mT_F, mF_A, mF_I, mF_B, mF_T, ↓md_gA0, md_a0, md_s0, ↓md_gA1, md_a1, md_s1, ↓md_gA2, md_a2, md_s2, ↓md_gA3, md_a3, md_s3, ↓md_gA4, md_a4, md_s4, ↓md_g5, ↓md_p5, ↓md_g6, ↓md_p6, ↓md_g7, ↓md_p7, ↓md_g8, ↓md_p8, ↓md_gA9, md_a9, md_s9, ↓md_gA10, md_a10, md_s10, ↓md_gA11, md_a11, md_s11, ↓md_gA12, md_a12, md_s12, ↓md_gA13, md_a13, md_s13, ↓md_g14, ↓md_p14, ↓md_g15, ↓md_p15, ↓md_g16, ↓md_p16, ↓md_gA17, md_a17, md_s17, ↓md_gA18, md_a18, md_s18, ↓md_g19, ↓md_p19, ↓md_gA20, md_a20, md_s20, ↓md_g21, ↓md_p21, ↓md_gA22, md_a22, md_s22, ↓md_gA23, md_a23, md_s23, ↓md_gA24, md_a24, md_s24]
        unfold rA
        rw [if_pos (by omega)]
      · rw [if_neg (fun q => h3 ((iI_le ⟨by omega, by omega⟩ r2).mp q)), if_pos h3]
        exact ⟨μ, rfl, mEq.rf μ⟩
    · rw [fn_Bf (s := St σ b μ) (by rw [X3_isIn r2 (by decide) (by decide), decide_eq_false h2]), if_pos h2]
      exact ⟨μ, rfl, mEq.rf μ⟩
  · rw [St_rc, fn_Bf (s := St σ b μ) (by rw [X3_isLease r1 (by omega), decide_eq_false h1]), if_pos h1]
    exact ⟨μ, rfl, mEq.rf μ⟩
theorem X3_reduction (hv : okD (μ.1 0)) {l day : Int} (r1 : r32 l) (r2 : r32 day) : ∃ μ1, gX3_reduction ρ b (iI l) (iI day) (St σ b μ) = some (iI (qRed (μ.1 0) l day), St σ b μ1) ∧ mEq μ μ1 := by
  have h0 := hv.1
  unfold gX3_reduction qRed
  by_cases h1 : 0 ≤ l ∧ l < μ.1 0 0
  · rw [St_rc, fn_Bt (s := St σ b μ) (by rw [X3_isLease r1 (by omega), decide_eq_true h1]), if_neg (by simpa using h1)]
    by_cases h2 : 0 ≤ day ∧ day ≤ 3599
    · rw [fn_Bt (s := St σ b μ) (by rw [X3_isDay r2, decide_eq_true h2]), if_neg (by simpa using h2), St_rc, X3_findsDefects hv h1, fn_B_some, St_rc]
      rw [X3_reductionOn (μ := setT μ (tch (μ.1 0) l (μ.1 0 81) μ.2.2.2.1)) (by exact hv) (l := l) r2 (fun d d1 d2 => if_pos ⟨d1, d2⟩), fn_B_some]
      exact ⟨_, rfl, ⟨rfl, rfl, rfl, rfl, rfl, rfl, rfl, rfl, rfl, rfl, rfl⟩⟩
    · rw [fn_Bf (s := St σ b μ) (by rw [X3_isDay r2, decide_eq_false h2]), if_pos h2]
      exact ⟨μ, rfl, mEq.rf μ⟩
  · rw [St_rc, fn_Bf (s := St σ b μ) (by rw [X3_isLease r1 (by omega), decide_eq_false h1]), if_pos h1]
    exact ⟨μ, rfl, mEq.rf μ⟩
theorem X3_due (hv : okD (μ.1 0)) {l day : Int} (r1 : r32 l) (r2 : r32 day) : ∃ μ1, gX3_due ρ b (iI l) (iI day) (St σ b μ) = some (iI (qDue (μ.1 0) l day), St σ b μ1) ∧ mEq μ μ1 := by
  have h0 := hv.1
  unfold gX3_due qDue
  by_cases h1 : 0 ≤ l ∧ l < μ.1 0 0
  · rw [St_rc, fn_Bt (s := St σ b μ) (by rw [X3_isLease r1 (by omega), decide_eq_true h1]), if_neg (by simpa using h1)]
    by_cases h2 : 0 ≤ day ∧ day ≤ 3599
    · rw [fn_Bt (s := St σ b μ) (by rw [X3_isDay r2, decide_eq_true h2]), if_neg (by simpa using h2), St_rc, X3_dueUntil hv h1 ⟨r2, by omega⟩, fn_B_some]
      exact ⟨_, rfl, mEq.u μ l⟩
    · rw [fn_Bf (s := St σ b μ) (by rw [X3_isDay r2, decide_eq_false h2]), if_pos h2]
      exact ⟨μ, rfl, mEq.rf μ⟩
  · rw [St_rc, fn_Bf (s := St σ b μ) (by rw [X3_isLease r1 (by omega), decide_eq_false h1]), if_pos h1]
    exact ⟨μ, rfl, mEq.rf μ⟩
theorem X3_again (hv : okD (μ.1 0)) {l day : Int} (r1 : r32 l) (r2 : r32 day) : ∃ μ1, gX3_again ρ b (iI l) (iI day) (St σ b μ) = some (iI (qDue (μ.1 0) l day), St σ b μ1) ∧ mEq μ μ1 := by
  obtain ⟨μ1, h1, h2⟩ := X3_due (ρ := ρ) (σ := σ) (b := b) hv r1 r2
  unfold gX3_again
  rw [St_rc, h1, fn_B_some]
  exact ⟨μ1, rfl, h2⟩
theorem X3_monthly (hv : okD (μ.1 0)) {l m : Int} (r1 : r32 l) (r2 : r32 m) : ∃ μ1, gX3_monthly ρ b (iI l) (iI m) (St σ b μ) = some (iI (qMonthly (μ.1 0) l m), St σ b μ1) ∧ mEq μ μ1 := by
  have h0 := hv.1
  unfold gX3_monthly qMonthly
  by_cases h1 : 0 ≤ l ∧ l < μ.1 0 0
  · rw [St_rc, fn_Bt (s := St σ b μ) (by rw [X3_isLease r1 (by omega), decide_eq_true h1]), if_neg (by simpa using h1)]
    by_cases h2 : 0 ≤ m ∧ m ≤ 119
    · rw [fn_Bt (s := St σ b μ) (by rw [X3_isIn r2 (by decide) (by decide), decide_eq_true h2]), if_neg (by simpa using h2), St_rc, iI_mul, iI_add, X3_dueUntil hv h1 ⟨⟨by omega, by omega⟩, by omega⟩, fn_B_some]
      by_cases h3 : m = 0
      · rw [if_pos (by rw [h3]), if_pos h3, iI_sub]
        exact ⟨_, rfl, mEq.u μ l⟩
      · rw [if_neg (fun q => h3 ((iI_eq r2 (by decide)).mp q)), if_neg h3, St_rc, iI_sub, X3_dueUntil (μ := uMem μ l) (by exact hv) (by exact h1) ⟨⟨by omega, by omega⟩, by omega⟩, fn_B_some, iI_sub]
        exact ⟨_, rfl, (mEq.u μ l).tr (mEq.u _ l)⟩
    · rw [fn_Bf (s := St σ b μ) (by rw [X3_isIn r2 (by decide) (by decide), decide_eq_false h2]), if_pos h2]
      exact ⟨μ, rfl, mEq.rf μ⟩
  · rw [St_rc, fn_Bf (s := St σ b μ) (by rw [X3_isLease r1 (by omega), decide_eq_false h1]), if_pos h1]
    exact ⟨μ, rfl, mEq.rf μ⟩
theorem X3_balance (hv : okD (μ.1 0)) {l day : Int} (r1 : r32 l) (r2 : r32 day) : ∃ μ1, gX3_balance ρ b (iI l) (iI day) (St σ b μ) = some (lI (qBal (μ.1 0) l day), St σ b μ1) ∧ mEq μ μ1 := by
  have h0 := hv.1
  unfold gX3_balance qBal
  by_cases h1 : 0 ≤ l ∧ l < μ.1 0 0
  · rw [St_rc, fn_Bt (s := St σ b μ) (by rw [X3_isLease r1 (by omega), decide_eq_true h1]), if_neg (by simpa using h1)]
    by_cases h2 : 0 ≤ day ∧ day ≤ 3599
    · have k := sDue_r hv h1 (day := day) (by omega)
      rw [fn_Bt (s := St σ b μ) (by rw [X3_isDay r2, decide_eq_true h2]), if_neg (by simpa using h2), St_rc, X3_dueUntil hv h1 ⟨r2, by omega⟩, fn_B_some, St_rc, X3_paid (μ := uMem μ l) (by exact hv) r1 r2, fn_B_some, iI_to64 ⟨by omega, by omega⟩, lI_sub]
      exact ⟨_, rfl, mEq.u μ l⟩
    · rw [fn_Bf (s := St σ b μ) (by rw [X3_isDay r2, decide_eq_false h2]), if_pos h2]
      exact ⟨μ, rfl, mEq.rf μ⟩
  · rw [St_rc, fn_Bf (s := St σ b μ) (by rw [X3_isLease r1 (by omega), decide_eq_false h1]), if_pos h1]
    exact ⟨μ, rfl, mEq.rf μ⟩
theorem X3_deposited (hv : okD (μ.1 0)) {l day w : Int} (r1 : r32 l) (r2 : r32 day) (r3 : r32 w) : ∃ μ1, gX3_deposited ρ b (iI l) (iI day) (iI w) (St σ b μ) = some (lI (qDep (μ.1 0) l day w), St σ b μ1) ∧ mEq μ μ1 := by
  have h0 := hv.1
  unfold gX3_deposited qDep
  by_cases h1 : 0 ≤ l ∧ l < μ.1 0 0
  · rw [St_rc, fn_Bt (s := St σ b μ) (by rw [X3_isLease r1 (by omega), decide_eq_true h1]), if_neg (by simpa using h1)]
    by_cases h2 : 0 ≤ day ∧ day ≤ 3599
    · rw [fn_Bt (s := St σ b μ) (by rw [X3_isDay r2, decide_eq_true h2]), if_neg (by simpa using h2)]
      by_cases h3 : 0 ≤ w ∧ w ≤ 1
      · rw [fn_Bt (s := St σ b μ) (by rw [X3_isIn r3 (by decide) (by decide), decide_eq_true h3]), if_neg (by simpa using h3), St_rc, X3_lies hv h1 (by omega), fn_B_some]
        by_cases h4 : w = 1
        · rw [if_pos (by rw [h4]), if_pos h4, md_g19, mI_s]
          exact ⟨_, rfl, mEq.i μ _⟩
        · rw [if_neg (fun q => h4 ((iI_eq r3 (by decide)).mp q)), if_neg h4]
          exact ⟨_, rfl, mEq.i μ _⟩
      · rw [fn_Bf (s := St σ b μ) (by rw [X3_isIn r3 (by decide) (by decide), decide_eq_false h3]), if_pos h3]
        exact ⟨μ, rfl, mEq.rf μ⟩
    · rw [fn_Bf (s := St σ b μ) (by rw [X3_isDay r2, decide_eq_false h2]), if_pos h2]
      exact ⟨μ, rfl, mEq.rf μ⟩
  · rw [St_rc, fn_Bf (s := St σ b μ) (by rw [X3_isLease r1 (by omega), decide_eq_false h1]), if_pos h1]
    exact ⟨μ, rfl, mEq.rf μ⟩
theorem sThere_r {v : Int → Int} (hv : okD v) {l day : Int} (hl : l < v 0) (hd : -1 ≤ day ∧ day < 3600) : 0 ≤ sThere v l day ∧ sThere v l day ≤ 1000000000 := by
  have h1 := endOf_r hv hl
  have h3 : lastOf v l day < 3600 := by unfold lastOf; split <;> omega
  have h2 := sLie_b hv l (n := (lastOf v l day + 1).toNat) (by omega)
  have h4 := sRem_r hv l ((lastOf v l day + 1).toNat : Nat)
  unfold sThere
  omega
theorem X3_settle_f (hv : okD (μ.1 0)) {l w day : Int} (hl : 0 ≤ l ∧ l < μ.1 0 0) (hd : 0 ≤ day ∧ day < 3600) (hw : 0 ≤ w ∧ w ≤ 2) : ∃ μ1, gX3_settlement_b43 ρ b (iI l) (iI w) (iI day) (St σ b μ) = some (lI (if w = 0 then sThere (μ.1 0) l day - sTakes (μ.1 0) l day else if w = 2 then sTakes (μ.1 0) l day else if sOwed (μ.1 0) l day ≤ sTakes (μ.1 0) l day then 0 else sOwed (μ.1 0) l day - sTakes (μ.1 0) l day), St σ b μ1) ∧ mEq μ μ1 := by
  have h0 := hv.1
  have k1 := sDue_r hv hl (day := day) hd.2
  have k2 := sPaid_r hv l day
  have k3 := sThere_r hv hl.2 (day := day) (by omega)
  have k4 : -300000000 ≤ sOwed (μ.1 0) l day ∧ sOwed (μ.1 0) l day ≤ 1200000000 := by unfold sOwed; omega
  have e1 : sDue (μ.1 0) l day - sPaid (μ.1 0) l day = sOwed (μ.1 0) l day := rfl
  refine ⟨mI (uMem μ l) 19 (sLie (μ.1 0) l (lastOf (μ.1 0) l day + 1).toNat).2, ?_, (mEq.u μ l).tr (mEq.i _ _)⟩
  unfold gX3_settlement_b43
  rw [St_rc, X3_dueUntil hv hl ⟨⟨by omega, by omega⟩, hd.2⟩, fn_B_some, St_rc, X3_paid (μ := uMem μ l) (by exact hv) ⟨by omega, by omega⟩ ⟨by omega, by omega⟩, fn_B_some, St_rc, X3_lies (μ := uMem μ l) (by exact hv) (by exact hl) (by omega), fn_B_some, iI_to64 ⟨by omega, by omega⟩, lI_sub]
  rw [show (uMem μ l).1 0 = μ.1 0 from rfl, e1]
  rw [show (sLie (μ.1 0) l (lastOf (μ.1 0) l day + 1).toNat).1 = sThere (μ.1 0) l day from rfl]
  have fin : ∀ (t : Int) (s : mS), -1000000000 ≤ t → t ≤ 1200000000 → gX3_settlement_b94 ρ b (iI w) (lI (sOwed (μ.1 0) l day)) (lI (sThere (μ.1 0) l day)) (lI t) s = some (lI (if w = 0 then sThere (μ.1 0) l day - t else if w = 2 then t else if sOwed (μ.1 0) l day ≤ t then 0 else sOwed (μ.1 0) l day - t), s) := by
    intro t s t1 t2
    unfold gX3_settlement_b94
    simp (disch := omega) only [decide_true, decide_false, reduceIte, and_self, and_true, true_and, and_false, false_and, or_true, true_or, or_false, false_or, not_true_eq_false, not_false_eq_true, reduceCtorEq, mA_ss, mI_ss, ↓St_rc, ↓fn_B, ↓fn_nn_none, ↓fn_nn_some, rZ_0, rZ_1, rZ_b, b2_z, b2_1, b2_or, b2_or0, b2_or1, iI_add, iI_sub, iI_mul, iI_neg, lI_add, lI_sub, lI_mul, iI_lt, iI_le, iI_eq, iI_to64, lI_cmp_lt, lI_cmp_gt, lI_cmp_ge, lI_cmp_le, lI_cmp_eq, mA_s, mA_o, mI_s, mI_o, mB_s, mB_o, mA_I, mA_B, mA_T, mA_F, mI_A, mI_B, mI_T, mI_F, mB_A, mB_I, mB_T, mB_F, mT_A, mT_I, mT_B, mT_F, mF_A, mF_I, mF_B, mF_T, ↓md_gA0, md_a0, md_s0, ↓md_gA1, md_a1, md_s1, ↓md_gA2, md_a2, md_s2, ↓md_gA3, md_a3, md_s3, ↓md_gA4, md_a4, md_s4, ↓md_g5, ↓md_p5, ↓md_g6, ↓md_p6, ↓md_g7, ↓md_p7, ↓md_g8, ↓md_p8, ↓md_gA9, md_a9, md_s9, ↓md_gA10, md_a10, md_s10, ↓md_gA11, md_a11, md_s11, ↓md_gA12, md_a12, md_s12, ↓md_gA13, md_a13, md_s13, ↓md_g14, ↓md_p14, ↓md_g15, ↓md_p15, ↓md_g16, ↓md_p16, ↓md_gA17, md_a17, md_s17, ↓md_gA18, md_a18, md_s18, ↓md_g19, ↓md_p19, ↓md_gA20, md_a20, md_s20, ↓md_g21, ↓md_p21, ↓md_gA22, md_a22, md_s22, ↓md_gA23, md_a23, md_s23, ↓md_gA24, md_a24, md_s24]
    split
    · rfl
    · split
      · rfl
      · split <;> rfl
  unfold sTakes
  simp (disch := omega) only [lI_cmp_gt, lI_cmp_ge]
  by_cases h1 : 0 < sOwed (μ.1 0) l day
  · rw [if_pos h1, if_pos h1]
    by_cases h2 : sThere (μ.1 0) l day ≤ sOwed (μ.1 0) l day
    · rw [if_pos h2, if_pos h2]
      exact fin _ _ (by omega) (by omega)
    · rw [if_neg h2, if_neg h2]
      exact fin _ _ (by omega) (by omega)
  · rw [if_neg h1, if_neg h1]
    exact fin _ _ (by omega) (by omega)
theorem X3_settlement (hv : okD (μ.1 0)) {l w : Int} (r1 : r32 l) (r2 : r32 w) : ∃ μ1, gX3_settlement ρ b (iI l) (iI w) (St σ b μ) = some (lI (qSettle (μ.1 0) l w), St σ b μ1) ∧ mEq μ μ1 := by
  have h0 := hv.1
  unfold gX3_settlement qSettle
  by_cases h1 : 0 ≤ l ∧ l < μ.1 0 0
  · have h5 := endOf_r hv h1.2
    rw [St_rc, fn_Bt (s := St σ b μ) (by rw [X3_isLease r1 (by omega), decide_eq_true h1]), if_neg (by simpa using h1)]
    by_cases h2 : 0 ≤ w ∧ w ≤ 2
    · rw [fn_Bt (s := St σ b μ) (by rw [X3_isIn r2 (by decide) (by decide), decide_eq_true h2]), if_neg (by simpa using h2), St_rc, X3_endOf hv (by omega), fn_B_some]
      unfold lastOf
      by_cases h3 : 3599 ≤ endOf (μ.1 0) l
      · rw [if_pos ((iI_le (by decide) ⟨by omega, by omega⟩).mpr h3)]
        have e : (if endOf (μ.1 0) l ≤ 3599 then endOf (μ.1 0) l else 3599) = 3599 := by split <;> omega
        rw [e]
        exact X3_settle_f hv h1 (day := 3599) (by decide) h2
      · rw [if_neg (fun q => h3 ((iI_le (by decide) ⟨by omega, by omega⟩).mp q)), St_rc, X3_endOf hv (by omega), fn_B_some]
        have e : (if endOf (μ.1 0) l ≤ 3599 then endOf (μ.1 0) l else 3599) = endOf (μ.1 0) l := if_pos (by omega)
        rw [e]
        exact X3_settle_f hv h1 (day := endOf (μ.1 0) l) (by omega) h2
    · rw [fn_Bf (s := St σ b μ) (by rw [X3_isIn r2 (by decide) (by decide), decide_eq_false h2]), if_pos h2]
      exact ⟨μ, rfl, mEq.rf μ⟩
  · rw [St_rc, fn_Bf (s := St σ b μ) (by rw [X3_isLease r1 (by omega), decide_eq_false h1]), if_pos h1]
    exact ⟨μ, rfl, mEq.rf μ⟩
end Query
end
section
/-! quotients of floats that are numbers -/
def gd (d : FP.Core.Datum) : Prop := match d with
  | .nan => False
  | .inf _ => True
  | .fin _ c q => c < 16777216 ∧ (c < 8388608 ∨ q ≤ 104)
theorem b32_t : FP.Core.Fmt.tails FP.Core.b32 = 8388608 := by decide
theorem b32_e : FP.Core.Fmt.exps FP.Core.b32 = 256 := by decide
theorem b32_q : FP.Core.Fmt.qmin FP.Core.b32 = -149 := by decide
theorem b32_x : FP.Core.Fmt.qmax FP.Core.b32 = 104 := by decide
theorem b32_p : 2 ^ FP.Core.b32.p = 16777216 := by decide
theorem tn_r (s : Bool) : s.toNat ≤ 1 := by cases s <;> decide
theorem enc_mag {d : FP.Core.Datum} (h : gd d) : FP.Core.encode FP.Core.b32 d % 2147483648 ≤ 2139095040 ∧ FP.Core.encode FP.Core.b32 d < 4294967296 := by
  cases d with
  | nan => exact h.elim
  | inf s =>
    have := tn_r s
    unfold FP.Core.encode FP.Core.assemble
    dsimp only
    rw [b32_t, b32_e]
    omega
  | fin s c q =>
    have := tn_r s
    obtain ⟨h1, h2⟩ := h
    unfold FP.Core.encode FP.Core.assemble
    dsimp only
    rw [b32_t, b32_e, b32_q]
    split <;> omega
theorem bd_gd {s : Bool} {c : Nat} {q : Int} (h : c < 16777216) : gd (FP.Core.bound FP.Core.b32 s c q) := by
  unfold FP.Core.bound
  rw [b32_x]
  split
  · exact ⟨h, Or.inr (by assumption)⟩
  · trivial
theorem rr_gd (s : Bool) (num den : Nat) (e : Int) : gd (FP.Core.roundRatio FP.Core.b32 s num den e) := by
  unfold FP.Core.roundRatio
  split
  · exact ⟨by decide, Or.inl (by decide)⟩
  · unfold FP.Core.roundAt FP.Core.settle
    rw [b32_p, b32_t]
    split
    · exact bd_gd (by assumption)
    · exact bd_gd (by decide)
theorem dec_nn {n : Nat} (h : n % 2147483648 ≤ 2139095040) : FP.Core.decode FP.Core.b32 n ≠ .nan := by
  unfold FP.Core.decode FP.Core.fieldE FP.Core.fieldT
  rw [b32_t, b32_e]
  intro q
  split at q
  · split at q
    · cases q
    · rename_i h1 h2
      omega
  · split at q
    · cases q
    · cases q
theorem of_nat {n : Nat} (h : n < 4294967296) : (UInt32.ofNat n).toNat = n := by
  rw [UInt32.toNat_ofNat_of_lt' h]
theorem n32_q {a c : UInt32} (ha : FP.Core.decode FP.Core.b32 a.toNat ≠ .nan) (hc : ∃ t d r, FP.Core.decode FP.Core.b32 c.toNat = .fin t d r ∧ d ≠ 0) : fn_n32 (FP.fdiv a c) = true := by
  obtain ⟨t, d, r, h1, h2⟩ := hc
  have hg : gd (FP.Core.quotient FP.Core.b32 (FP.Core.decode FP.Core.b32 a.toNat) (FP.Core.decode FP.Core.b32 c.toNat)) := by
    rw [h1]
    cases h : FP.Core.decode FP.Core.b32 a.toNat with
    | nan => exact absurd h ha
    | inf s => trivial
    | fin s x y =>
      unfold FP.Core.quotient
      dsimp only
      rw [if_neg h2]
      exact rr_gd _ _ _ _
  have hm := enc_mag hg
  unfold fn_n32
  rw [decide_eq_true_eq]
  show UInt32.ofNat (FP.Core.encode FP.Core.b32 (FP.Core.quotient FP.Core.b32 (FP.Core.decode FP.Core.b32 a.toNat) (FP.Core.decode FP.Core.b32 c.toNat))) &&& 0x7fffffff ≤ 0x7f800000
  generalize FP.Core.encode FP.Core.b32 (FP.Core.quotient FP.Core.b32 (FP.Core.decode FP.Core.b32 a.toNat) (FP.Core.decode FP.Core.b32 c.toNat)) = n at *
  rw [UInt32.le_iff_toNat_le, UInt32.toNat_and, of_nat hm.2]
  show n &&& 2147483647 ≤ 2139095040
  rw [show n &&& 2147483647 = n % 2147483648 from Nat.and_two_pow_sub_one_eq_mod n 31]
  exact hm.1
theorem fi_nn (i : Int) : FP.Core.decode FP.Core.b32 (UInt32.ofNat (FP.Core.fromInt FP.Core.b32 i)).toNat ≠ .nan := by
  have hm := enc_mag (rr_gd (decide (i < 0)) i.natAbs 1 0)
  have e : FP.Core.fromInt FP.Core.b32 i = FP.Core.encode FP.Core.b32 (FP.Core.roundRatio FP.Core.b32 (decide (i < 0)) i.natAbs 1 0) := rfl
  rw [e, of_nat hm.2]
  exact dec_nn hm.1
theorem n32_100 (x : Int32) : fn_n32 (FP.fdiv (FP.i2f x) (1120403456 : UInt32)) = true :=
  n32_q (fi_nn x.toInt) ⟨false, 13107200, -17, by decide +kernel, by decide⟩
theorem near_ge (a c : Nat) : a / c ≤ FP.Core.nearest a c := by
  unfold FP.Core.nearest
  split
  · exact Nat.le_refl _
  · split <;> omega
theorem fi_fin {i : Int} (hi : i ≠ 0) (hb : i.natAbs < 9223372036854775808) : ∃ t d r, FP.Core.decode FP.Core.b32 (UInt32.ofNat (FP.Core.fromInt FP.Core.b32 i)).toNat = .fin t d r ∧ d ≠ 0 := by
  have hm := enc_mag (rr_gd (decide (i < 0)) i.natAbs 1 0)
  have e : FP.Core.fromInt FP.Core.b32 i = FP.Core.encode FP.Core.b32 (FP.Core.roundRatio FP.Core.b32 (decide (i < 0)) i.natAbs 1 0) := rfl
  rw [e, of_nat hm.2]
  have h0 : i.natAbs ≠ 0 := by omega
  have hl : i.natAbs.log2 < 63 := (Nat.log2_lt h0).mpr (by omega)
  have hk : 2 ^ i.natAbs.log2 ≤ i.natAbs := Nat.log2_self_le h0
  have hq : FP.Core.quantum FP.Core.b32 i.natAbs 1 0 = (i.natAbs.log2 : Int) - 23 := by
    unfold FP.Core.quantum FP.Core.leading
    rw [b32_q]
    have e1 : Nat.log2 1 = 0 := by decide
    have e2 : (((i.natAbs.log2 : Int) - ((0 : Nat) : Int)).toNat) = i.natAbs.log2 := by omega
    have e3 : ((-((i.natAbs.log2 : Int) - ((0 : Nat) : Int))).toNat) = 0 := by omega
    dsimp only
    rw [e1, e2, e3, if_pos (by rw [Nat.one_mul, Nat.pow_zero, Nat.mul_one]; exact hk)]
    have e4 : ((FP.Core.b32.p : Nat) : Int) = 24 := rfl
    rw [e4]
    omega
  have hc : 8388608 ≤ FP.Core.nearest (FP.Core.unitsNum i.natAbs 0 ((i.natAbs.log2 : Int) - 23)) (FP.Core.unitsDen 1 0 ((i.natAbs.log2 : Int) - 23)) := by
    refine Nat.le_trans ?_ (near_ge _ _)
    unfold FP.Core.unitsNum FP.Core.unitsDen
    rw [Nat.one_mul, Nat.le_div_iff_mul_le (Nat.two_pow_pos _)]
    refine Nat.le_trans ?_ (Nat.mul_le_mul_right _ hk)
    rw [show (8388608 : Nat) = 2 ^ 23 from rfl, ← Nat.pow_add, ← Nat.pow_add]
    exact Nat.pow_le_pow_right (by decide) (by omega)
  unfold FP.Core.roundRatio
  rw [if_neg h0, hq]
  unfold FP.Core.roundAt
  generalize FP.Core.nearest (FP.Core.unitsNum i.natAbs 0 ((i.natAbs.log2 : Int) - 23)) (FP.Core.unitsDen 1 0 ((i.natAbs.log2 : Int) - 23)) = c at *
  generalize hQ : (i.natAbs.log2 : Int) - 23 = q at *
  have key : ∀ (c : Nat) (q : Int) (s : Bool), 8388608 ≤ c → c < 16777216 → -23 ≤ q → q ≤ 40 → ∃ t d r, FP.Core.decode FP.Core.b32 (FP.Core.encode FP.Core.b32 (FP.Core.bound FP.Core.b32 s c q)) = .fin t d r ∧ d ≠ 0 := by
    intro c q s c1 c2 q1 q2
    have := tn_r s
    unfold FP.Core.bound
    rw [b32_x, if_pos (by omega)]
    unfold FP.Core.encode FP.Core.assemble
    dsimp only
    rw [b32_t, b32_e, b32_q, if_neg (by omega)]
    unfold FP.Core.decode FP.Core.fieldE FP.Core.fieldT
    rw [b32_t, b32_e, if_neg (by omega), if_neg (by omega)]
    exact ⟨_, _, _, rfl, by omega⟩
  unfold FP.Core.settle
  rw [b32_p, b32_t]
  split
  · exact key c q _ hc (by assumption) (by omega) (by omega)
  · exact key 8388608 (q + 1) _ (by decide) (by decide) (by omega) (by omega)
theorem n32_l {x z : Int} (hz : z ≠ 0) (h64 : r64 z ∧ z ≠ -9223372036854775808) : fn_n32 (FP.fdiv (FP.l2f (lI x)) (FP.l2f (lI z))) = true := by
  refine n32_q (fi_nn (lI x).toInt) ?_
  have h := fi_fin (i := z) hz (by omega)
  show ∃ t d r, FP.Core.decode FP.Core.b32 (UInt32.ofNat (FP.Core.fromInt FP.Core.b32 (lI z).toInt)).toNat = .fin t d r ∧ d ≠ 0
  rw [lI_int h64.1]
  exact h
end
section
/-! rows of the model -/
def blk {α : Type} (st k : Int) (f g : Int → α) : Int → α := fun j => if st ≤ j ∧ j < st + k then f (j - st) else g j
theorem blk_0 {α : Type} (st : Int) (f g : Int → α) : blk st 0 f g = g := by
  funext j
  unfold blk
  rw [if_neg (by omega)]
theorem blk_s {α : Type} {st k : Int} {f g : Int → α} (h : 0 ≤ k) : (fun j => if j = st + k then f k else blk st k f g j) = blk st (k + 1) f g := by
  funext j
  unfold blk
  by_cases h1 : j = st + k
  · rw [if_pos h1, if_pos (by omega), h1]
    congr 1
    omega
  · rw [if_neg h1]
    by_cases h2 : st ≤ j ∧ j < st + k
    · rw [if_pos h2, if_pos (by omega)]
    · rw [if_neg h2, if_neg (by omega)]
theorem blk_u {st k : Int} {f g : Int → Int} (h : 0 ≤ k) : uI (blk st k f g) (st + k) (f k) = blk st (k + 1) f g := blk_s h
def setF (μ : MM) (f : Int → UInt32) : MM := (μ.1, μ.2.1, μ.2.2.1, μ.2.2.2.1, f)
theorem setF_self {μ : MM} : setF μ μ.2.2.2.2 = μ := rfl
theorem mF_set {μ : MM} {f : Int → UInt32} {i : Int} {x : UInt32} : mF (setF μ f) i x = setF μ (fun j => if j = i then x else f j) := rfl
/-- the rents in a row -/
def sRow (v : Int → Int) (l k : Int) : Int := if 120 ≤ bgn v l + k then 0 else rentAt v l (bgn v l + k)
def sRowF (v : Int → Int) (l k : Int) : UInt32 := FP.fdiv (FP.i2f (iI (sRow v l k))) 1120403456
def sMany (v : Int → Int) (l k : Int) : Int := if 120 ≤ bgn v l + k then 120 - bgn v l else k
def sBits (x : UInt32) : Int32 := if (Op.cmpValue (FP.fcmp x x) .l) = iI 0 then x.toInt32 else iI 2143289344
theorem J26_bits {ρ : Nat → Nat} {x : UInt32} {s : mS} : gJ26_floatToIntBits ρ x s = some (sBits x, s) := by
  unfold gJ26_floatToIntBits gJ26_isNaN sBits
  by_cases h : (Op.cmpValue (FP.fcmp x x) .l) = iI 0
  · rw [if_pos h, if_pos h]
    rfl
  · rw [if_neg h, if_neg h]
    rfl
section Rows
variable {ρ : Nat → Nat} {σ : mS} {b : Nat} {μ : MM}
theorem X3_isRow {x : Int} {s : mS} (h1 : r32 x) : gX3_isRow ρ (iI x) s = some (iI (b2 (decide (0 ≤ x ∧ x ≤ 2))), s) := by
  unfold gX3_isRow
  rw [X3_isIn h1 (by decide) (by decide)]
  simp (disch := omega) only [decide_true, decide_false, reduceIte, and_self, and_true, true_and, and_false, false_and, or_true, true_or, or_false, false_or, not_true_eq_false, not_false_eq_true, reduceCtorEq, mA_ss, mI_ss, ↓St_rc, ↓fn_B, ↓fn_nn_none, ↓fn_nn_some, rZ_0, rZ_1, rZ_b, b2_z, b2_1, b2_or, b2_or0, b2_or1, iI_add, iI_sub, iI_mul, iI_neg, lI_add, lI_sub, lI_mul, iI_lt, iI_le, iI_eq, iI_to64, lI_cmp_lt, lI_cmp_gt, lI_cmp_ge, lI_cmp_le, lI_cmp_eq, mA_s, mA_o, mI_s, mI_o, mB_s, mB_o, mA_I, mA_B, mA_T, mA_F, mI_A, mI_B, mI_T, mI_F, mB_A, mB_I, mB_T, mB_F, mT_A, mT_I, mT_B, mT_F, mF_A, mF_I, mF_B, mF_T, ↓md_gA0, md_a0, md_s0, ↓md_gA1, md_a1, md_s1, ↓md_gA2, md_a2, md_s2, ↓md_gA3, md_a3, md_s3, ↓md_gA4, md_a4, md_s4, ↓md_g5, ↓md_p5, ↓md_g6, ↓md_p6, ↓md_g7, ↓md_p7, ↓md_g8, ↓md_p8, ↓md_gA9, md_a9, md_s9, ↓md_gA10, md_a10, md_s10, ↓md_gA11, md_a11, md_s11, ↓md_gA12, md_a12, md_s12, ↓md_gA13, md_a13, md_s13, ↓md_g14, ↓md_p14, ↓md_g15, ↓md_p15, ↓md_g16, ↓md_p16, ↓md_gA17, md_a17, md_s17, ↓md_gA18, md_a18, md_s18, ↓md_g19, ↓md_p19, ↓md_gA20, md_a20, md_s20, ↓md_g21, ↓md_p21, ↓md_gA22, md_a22, md_s22, ↓md_gA23, md_a23, md_s23, ↓md_gA24, md_a24, md_s24]
def layM (μ : MM) (l row k : Int) : MM := setF (mA μ 22 (blk (12 * row) k (sRow (μ.1 0) l) (μ.1 22))) (blk (12 * row) k (sRowF (μ.1 0) l) μ.2.2.2.2)
theorem X3_lay_l (hv : okD (μ.1 0)) {l row : Int} (hl : 0 ≤ l ∧ l < μ.1 0 0) (hrow : 0 ≤ row ∧ row ≤ 2) (hr : ∀ m : Int, (bgn (μ.1 0) l : Int) ≤ m → m < 120 → μ.1 17 m = rentAt (μ.1 0) l m) : ∀ (n : Nat) (k : Int) (gas : Nat), k + n = 12 → n < gas → 0 ≤ k →
    fnFix (fun _ _ _ _ _ => none) (gX3_lay_b55 ρ b) gas (iI row) (iI (bgn (μ.1 0) l : Int)) (iI (sMany (μ.1 0) l k)) (iI k) (St σ b (layM μ l row k)) = some (iI (sMany (μ.1 0) l 12), St σ b (layM μ l row 12)) := by
  have hb := bgn_r hv hl
  intro n
  induction n with
  | zero =>
    intro k gas h1 h2 h3
    obtain ⟨g, rfl⟩ := gas_s h2
    rw [fnFix_s, gX3_lay_b55, show k = 12 by omega]
    simp (disch := omega) only [decide_true, decide_false, reduceIte, and_self, and_true, true_and, and_false, false_and, or_true, true_or, or_false, false_or, not_true_eq_false, not_false_eq_true, reduceCtorEq, mA_ss, mI_ss, ↓St_rc, ↓fn_B, ↓fn_nn_none, ↓fn_nn_some, rZ_0, rZ_1, rZ_b, b2_z, b2_1, b2_or, b2_or0, b2_or1, iI_add, iI_sub, iI_mul, iI_neg, lI_add, lI_sub, lI_mul, iI_lt, iI_le, iI_eq, iI_to64, lI_cmp_lt, lI_cmp_gt, lI_cmp_ge, lI_cmp_le, lI_cmp_eq, mA_s, mA_o, mI_s, mI_o, mB_s, mB_o, mA_I, mA_B, mA_T, mA_F, mI_A, mI_B, mI_T, mI_F, mB_A, mB_I, mB_T, mB_F, mT_A, mT_I, mT_B, mT_F, mF_A, mF_I, mF_B, mF_T, ↓md_gA0, md_a0, md_s0, ↓md_gA1, md_a1, md_s1, ↓md_gA2, md_a2, md_s2, ↓md_gA3, md_a3, md_s3, ↓md_gA4, md_a4, md_s4, ↓md_g5, ↓md_p5, ↓md_g6, ↓md_p6, ↓md_g7, ↓md_p7, ↓md_g8, ↓md_p8, ↓md_gA9, md_a9, md_s9, ↓md_gA10, md_a10, md_s10, ↓md_gA11, md_a11, md_s11, ↓md_gA12, md_a12, md_s12, ↓md_gA13, md_a13, md_s13, ↓md_g14, ↓md_p14, ↓md_g15, ↓md_p15, ↓md_g16, ↓md_p16, ↓md_gA17, md_a17, md_s17, ↓md_gA18, md_a18, md_s18, ↓md_g19, ↓md_p19, ↓md_gA20, md_a20, md_s20, ↓md_g21, ↓md_p21, ↓md_gA22, md_a22, md_s22, ↓md_gA23, md_a23, md_s23, ↓md_gA24, md_a24, md_s24]
    rw [if_pos (by decide)]
  | succ n ih =>
    intro k gas h1 h2 h3
    obtain ⟨g, rfl⟩ := gas_s h2
    have ih := ih (k + 1) g (by omega) (by omega) (by omega)
    have q100 : ∀ x, (fn_n32 (FP.fdiv (FP.i2f x) (1120403456 : UInt32)) = true) = True := fun x => eq_true (n32_100 x)
    have step : ∀ (x y : Int), x = sRow (μ.1 0) l k → gX3_lay_b105 ρ b (fnFix (fun _ _ _ _ _ => none) (gX3_lay_b55 ρ b) g) (iI row) (iI (bgn (μ.1 0) l : Int)) (iI k) (iI x) (iI (sMany (μ.1 0) l k)) (iI y) (St σ b (layM μ l row k)) = fnFix (fun _ _ _ _ _ => none) (gX3_lay_b55 ρ b) g (iI row) (iI (bgn (μ.1 0) l : Int)) (iI (sMany (μ.1 0) l k + y)) (iI (k + 1)) (St σ b (layM μ l row (k + 1))) := by
      intro x y hx
      subst hx
      have e1 : (layM μ l row k).1 22 = blk (12 * row) k (sRow (μ.1 0) l) (μ.1 22) := rfl
      unfold gX3_lay_b105
      simp (disch := omega) only [q100, e1, decide_true, decide_false, reduceIte, and_self, and_true, true_and, and_false, false_and, or_true, true_or, or_false, false_or, not_true_eq_false, not_false_eq_true, reduceCtorEq, mA_ss, mI_ss, ↓St_rc, ↓fn_B, ↓fn_nn_none, ↓fn_nn_some, rZ_0, rZ_1, rZ_b, b2_z, b2_1, b2_or, b2_or0, b2_or1, iI_add, iI_sub, iI_mul, iI_neg, lI_add, lI_sub, lI_mul, iI_lt, iI_le, iI_eq, iI_to64, lI_cmp_lt, lI_cmp_gt, lI_cmp_ge, lI_cmp_le, lI_cmp_eq, mA_s, mA_o, mI_s, mI_o, mB_s, mB_o, mA_I, mA_B, mA_T, mA_F, mI_A, mI_B, mI_T, mI_F, mB_A, mB_I, mB_T, mB_F, mT_A, mT_I, mT_B, mT_F, mF_A, mF_I, mF_B, mF_T, ↓md_gA0, md_a0, md_s0, ↓md_gA1, md_a1, md_s1, ↓md_gA2, md_a2, md_s2, ↓md_gA3, md_a3, md_s3, ↓md_gA4, md_a4, md_s4, ↓md_g5, ↓md_p5, ↓md_g6, ↓md_p6, ↓md_g7, ↓md_p7, ↓md_g8, ↓md_p8, ↓md_gA9, md_a9, md_s9, ↓md_gA10, md_a10, md_s10, ↓md_gA11, md_a11, md_s11, ↓md_gA12, md_a12, md_s12, ↓md_gA13, md_a13, md_s13, ↓md_g14, ↓md_p14, ↓md_g15, ↓md_p15, ↓md_g16, ↓md_p16, ↓md_gA17, md_a17, md_s17, ↓md_gA18, md_a18, md_s18, ↓md_g19, ↓md_p19, ↓md_gA20, md_a20, md_s20, ↓md_g21, ↓md_p21, ↓md_gA22, md_a22, md_s22, ↓md_gA23, md_a23, md_s23, ↓md_gA24, md_a24, md_s24]
      rw [blk_u h3]
      congr 1
      unfold layM
      have e2 : mF (mA (setF (mA μ 22 (blk (12 * row) k (sRow (μ.1 0) l) (μ.1 22))) (blk (12 * row) k (sRowF (μ.1 0) l) μ.2.2.2.2)) 22 (blk (12 * row) (k + 1) (sRow (μ.1 0) l) (μ.1 22))) (12 * row + k) (FP.fdiv (FP.i2f (iI (sRow (μ.1 0) l k))) 1120403456) = setF (mA (mA μ 22 (blk (12 * row) k (sRow (μ.1 0) l) (μ.1 22))) 22 (blk (12 * row) (k + 1) (sRow (μ.1 0) l) (μ.1 22))) (fun j => if j = 12 * row + k then sRowF (μ.1 0) l k else blk (12 * row) k (sRowF (μ.1 0) l) μ.2.2.2.2 j) := rfl
      rw [e2, blk_s h3, mA_ss]
    have e9 : (layM μ l row k).1 17 = μ.1 17 := rfl
    rw [fnFix_s, gX3_lay_b55]
    simp (disch := omega) only [e9, decide_true, decide_false, reduceIte, and_self, and_true, true_and, and_false, false_and, or_true, true_or, or_false, false_or, not_true_eq_false, not_false_eq_true, reduceCtorEq, mA_ss, mI_ss, ↓St_rc, ↓fn_B, ↓fn_nn_none, ↓fn_nn_some, rZ_0, rZ_1, rZ_b, b2_z, b2_1, b2_or, b2_or0, b2_or1, iI_add, iI_sub, iI_mul, iI_neg, lI_add, lI_sub, lI_mul, iI_lt, iI_le, iI_eq, iI_to64, lI_cmp_lt, lI_cmp_gt, lI_cmp_ge, lI_cmp_le, lI_cmp_eq, mA_s, mA_o, mI_s, mI_o, mB_s, mB_o, mA_I, mA_B, mA_T, mA_F, mI_A, mI_B, mI_T, mI_F, mB_A, mB_I, mB_T, mB_F, mT_A, mT_I, mT_B, mT_F, mF_A, mF_I, mF_B, mF_T, ↓md_gA0, md_a0, md_s0, ↓md_gA1, md_a1, md_s1, ↓md_gA2, md_a2, md_s2, ↓md_gA3, md_a3, md_s3, ↓md_gA4, md_a4, md_s4, ↓md_g5, ↓md_p5, ↓md_g6, ↓md_p6, ↓md_g7, ↓md_p7, ↓md_g8, ↓md_p8, ↓md_gA9, md_a9, md_s9, ↓md_gA10, md_a10, md_s10, ↓md_gA11, md_a11, md_s11, ↓md_gA12, md_a12, md_s12, ↓md_gA13, md_a13, md_s13, ↓md_g14, ↓md_p14, ↓md_g15, ↓md_p15, ↓md_g16, ↓md_p16, ↓md_gA17, md_a17, md_s17, ↓md_gA18, md_a18, md_s18, ↓md_g19, ↓md_p19, ↓md_gA20, md_a20, md_s20, ↓md_g21, ↓md_p21, ↓md_gA22, md_a22, md_s22, ↓md_gA23, md_a23, md_s23, ↓md_gA24, md_a24, md_s24]
    rw [if_neg (by omega)]
    by_cases h5 : 120 ≤ (bgn (μ.1 0) l : Int) + k
    · rw [if_pos h5, gX3_lay_b86]
      simp (disch := omega) only [decide_true, decide_false, reduceIte, and_self, and_true, true_and, and_false, false_and, or_true, true_or, or_false, false_or, not_true_eq_false, not_false_eq_true, reduceCtorEq, mA_ss, mI_ss, ↓St_rc, ↓fn_B, ↓fn_nn_none, ↓fn_nn_some, rZ_0, rZ_1, rZ_b, b2_z, b2_1, b2_or, b2_or0, b2_or1, iI_add, iI_sub, iI_mul, iI_neg, lI_add, lI_sub, lI_mul, iI_lt, iI_le, iI_eq, iI_to64, lI_cmp_lt, lI_cmp_gt, lI_cmp_ge, lI_cmp_le, lI_cmp_eq, mA_s, mA_o, mI_s, mI_o, mB_s, mB_o, mA_I, mA_B, mA_T, mA_F, mI_A, mI_B, mI_T, mI_F, mB_A, mB_I, mB_T, mB_F, mT_A, mT_I, mT_B, mT_F, mF_A, mF_I, mF_B, mF_T, ↓md_gA0, md_a0, md_s0, ↓md_gA1, md_a1, md_s1, ↓md_gA2, md_a2, md_s2, ↓md_gA3, md_a3, md_s3, ↓md_gA4, md_a4, md_s4, ↓md_g5, ↓md_p5, ↓md_g6, ↓md_p6, ↓md_g7, ↓md_p7, ↓md_g8, ↓md_p8, ↓md_gA9, md_a9, md_s9, ↓md_gA10, md_a10, md_s10, ↓md_gA11, md_a11, md_s11, ↓md_gA12, md_a12, md_s12, ↓md_gA13, md_a13, md_s13, ↓md_g14, ↓md_p14, ↓md_g15, ↓md_p15, ↓md_g16, ↓md_p16, ↓md_gA17, md_a17, md_s17, ↓md_gA18, md_a18, md_s18, ↓md_g19, ↓md_p19, ↓md_gA20, md_a20, md_s20, ↓md_g21, ↓md_p21, ↓md_gA22, md_a22, md_s22, ↓md_gA23, md_a23, md_s23, ↓md_gA24, md_a24, md_s24]
      rw [if_pos h5, step 0 0 (by unfold sRow; rw [if_pos h5]), ← ih]
      have e : sMany (μ.1 0) l k + 0 = sMany (μ.1 0) l (k + 1) := by unfold sMany; rw [if_pos h5, if_pos (by omega)]; omega
      rw [e]
    · rw [if_neg h5]
      rw [gX3_lay_b86]
      simp (disch := omega) only [decide_true, decide_false, reduceIte, and_self, and_true, true_and, and_false, false_and, or_true, true_or, or_false, false_or, not_true_eq_false, not_false_eq_true, reduceCtorEq, mA_ss, mI_ss, ↓St_rc, ↓fn_B, ↓fn_nn_none, ↓fn_nn_some, rZ_0, rZ_1, rZ_b, b2_z, b2_1, b2_or, b2_or0, b2_or1, iI_add, iI_sub, iI_mul, iI_neg, lI_add, lI_sub, lI_mul, iI_lt, iI_le, iI_eq, iI_to64, lI_cmp_lt, lI_cmp_gt, lI_cmp_ge, lI_cmp_le, lI_cmp_eq, mA_s, mA_o, mI_s, mI_o, mB_s, mB_o, mA_I, mA_B, mA_T, mA_F, mI_A, mI_B, mI_T, mI_F, mB_A, mB_I, mB_T, mB_F, mT_A, mT_I, mT_B, mT_F, mF_A, mF_I, mF_B, mF_T, ↓md_gA0, md_a0, md_s0, ↓md_gA1, md_a1, md_s1, ↓md_gA2, md_a2, md_s2, ↓md_gA3, md_a3, md_s3, ↓md_gA4, md_a4, md_s4, ↓md_g5, ↓md_p5, ↓md_g6, ↓md_p6, ↓md_g7, ↓md_p7, ↓md_g8, ↓md_p8, ↓md_gA9, md_a9, md_s9, ↓md_gA10, md_a10, md_s10, ↓md_gA11, md_a11, md_s11, ↓md_gA12, md_a12, md_s12, ↓md_gA13, md_a13, md_s13, ↓md_g14, ↓md_p14, ↓md_g15, ↓md_p15, ↓md_g16, ↓md_p16, ↓md_gA17, md_a17, md_s17, ↓md_gA18, md_a18, md_s18, ↓md_g19, ↓md_p19, ↓md_gA20, md_a20, md_s20, ↓md_g21, ↓md_p21, ↓md_gA22, md_a22, md_s22, ↓md_gA23, md_a23, md_s23, ↓md_gA24, md_a24, md_s24]
      rw [if_neg h5, step (μ.1 17 (bgn (μ.1 0) l + k)) 1 (by unfold sRow; rw [if_neg h5, hr _ (by omega) (by omega)]), ← ih]
      have e : sMany (μ.1 0) l k + 1 = sMany (μ.1 0) l (k + 1) := by
        unfold sMany
        rw [if_neg h5]
        split <;> omega
      rw [e]
/-- the rows behind a question or change: as they were, but for scratch -/
def mEqR (μ μ1 : MM) : Prop := μ1.1 0 = μ.1 0 ∧ μ1.1 3 = μ.1 3 ∧ μ1.1 4 = μ.1 4 ∧ μ1.1 9 = μ.1 9 ∧ μ1.2.1 5 = μ.2.1 5 ∧ μ1.2.1 6 = μ.2.1 6 ∧ μ1.2.1 14 = μ.2.1 14 ∧ μ1.2.2.1 7 = μ.2.2.1 7
theorem X3_lay_t (hv : okD (μ.1 0)) {row l kind : Int} (h1 : 0 ≤ row ∧ row ≤ 2) (h2 : 0 ≤ l ∧ l < μ.1 0 0) (h3 : 0 ≤ kind ∧ kind ≤ 1) : ∃ μ1, gX3_lay ρ b (iI row) (iI l) (iI kind) (St σ b μ) = some (iI (sMany (μ.1 0) l 12), St σ b μ1) ∧ mEqR μ μ1 ∧ μ1.1 23 = uI (μ.1 23) row kind ∧ μ1.1 22 = blk (12 * row) 12 (sRow (μ.1 0) l) (μ.1 22) ∧ μ1.2.2.2.2 = blk (12 * row) 12 (sRowF (μ.1 0) l) μ.2.2.2.2 := by
  have h0 := hv.1
  have hb := bgn_r hv h2
  obtain ⟨-, j1, -⟩ := hv.2.2.2.2.1 l h2.1 h2.2
  refine ⟨layM (mA (mA μ 17 (rA (μ.1 0) l 120 (μ.1 17))) 23 (uI (μ.1 23) row kind)) l row 12, ?_, ⟨rfl, rfl, rfl, rfl, rfl, rfl, rfl, rfl⟩, rfl, rfl, rfl⟩
  unfold gX3_lay
  rw [fn_Bt (s := St σ b μ) (by rw [X3_isRow ⟨by omega, by omega⟩, decide_eq_true h1]), St_rc, fn_Bt (s := St σ b μ) (by rw [X3_isLease ⟨by omega, by omega⟩ (by omega), decide_eq_true h2]), fn_Bt (s := St σ b μ) (by rw [X3_isIn ⟨by omega, by omega⟩ (by decide) (by decide), decide_eq_true h3]), St_rc, X3_laysRents hv h2, fn_B_some, St_rc]
  simp (disch := omega) only [X3_told, decide_true, decide_false, reduceIte, and_self, and_true, true_and, and_false, false_and, or_true, true_or, or_false, false_or, not_true_eq_false, not_false_eq_true, reduceCtorEq, mA_ss, mI_ss, ↓St_rc, ↓fn_B, ↓fn_nn_none, ↓fn_nn_some, rZ_0, rZ_1, rZ_b, b2_z, b2_1, b2_or, b2_or0, b2_or1, iI_add, iI_sub, iI_mul, iI_neg, lI_add, lI_sub, lI_mul, iI_lt, iI_le, iI_eq, iI_to64, lI_cmp_lt, lI_cmp_gt, lI_cmp_ge, lI_cmp_le, lI_cmp_eq, mA_s, mA_o, mI_s, mI_o, mB_s, mB_o, mA_I, mA_B, mA_T, mA_F, mI_A, mI_B, mI_T, mI_F, mB_A, mB_I, mB_T, mB_F, mT_A, mT_I, mT_B, mT_F, mF_A, mF_I, mF_B, mF_T, ↓md_gA0, md_a0, md_s0, ↓md_gA1, md_a1, md_s1, ↓md_gA2, md_a2, md_s2, ↓md_gA3, md_a3, md_s3, ↓md_gA4, md_a4, md_s4, ↓md_g5, ↓md_p5, ↓md_g6, ↓md_p6, ↓md_g7, ↓md_p7, ↓md_g8, ↓md_p8, ↓md_gA9, md_a9, md_s9, ↓md_gA10, md_a10, md_s10, ↓md_gA11, md_a11, md_s11, ↓md_gA12, md_a12, md_s12, ↓md_gA13, md_a13, md_s13, ↓md_g14, ↓md_p14, ↓md_g15, ↓md_p15, ↓md_g16, ↓md_p16, ↓md_gA17, md_a17, md_s17, ↓md_gA18, md_a18, md_s18, ↓md_g19, ↓md_p19, ↓md_gA20, md_a20, md_s20, ↓md_g21, ↓md_p21, ↓md_gA22, md_a22, md_s22, ↓md_gA23, md_a23, md_s23, ↓md_gA24, md_a24, md_s24]
  rw [if_neg (by decide), iI_div30 (by omega), ← hb.1]
  have q := X3_lay_l (ρ := ρ) (σ := σ) (b := b) (μ := mA (mA μ 17 (rA (μ.1 0) l 120 (μ.1 17))) 23 (uI (μ.1 23) row kind)) hv (l := l) (row := row) h2 h1 (fun m m1 m2 => if_pos ⟨m1, m2⟩) 12 0 fnGas (by decide) (by decide) (by decide)
  have e1 : sMany (μ.1 0) l 0 = 0 := by unfold sMany; rw [if_neg (by omega)]
  have e2 : layM (mA (mA μ 17 (rA (μ.1 0) l 120 (μ.1 17))) 23 (uI (μ.1 23) row kind)) l row 0 = mA (mA μ 17 (rA (μ.1 0) l 120 (μ.1 17))) 23 (uI (μ.1 23) row kind) := by
    unfold layM
    rw [blk_0, blk_0, mA_self]
    rfl
  rw [e2] at q
  have q : fnFix (fun _ _ _ _ _ => none) (gX3_lay_b55 ρ b) fnGas (iI row) (iI (bgn (μ.1 0) l : Int)) (iI (sMany (μ.1 0) l 0)) (iI 0) (St σ b (mA (mA μ 17 (rA (μ.1 0) l 120 (μ.1 17))) 23 (uI (μ.1 23) row kind))) = some (iI (sMany (μ.1 0) l 12), _) := q
  rw [e1] at q
  exact q
end Rows
end
section
/-! more questions to the model -/
def qLook (rs wh : Int → Int) (pa : Int → UInt32) (row i : Int) : Int32 :=
  if ¬ (0 ≤ row ∧ row ≤ 2) then iI (-1) else if ¬ (0 ≤ i ∧ i ≤ 11) then iI (-1) else if ¬ 0 ≤ rs row then iI (-3) else if rs row = 0 then iI (wh (12 * row + i)) else sBits (pa (12 * row + i))
def sDiff (x y : UInt32) : Bool := decide ¬ (Op.cmpValue (FP.fcmp x y) .l) = iI 0
def qCntI (v : Int → Int) : Int := sm (fun m => if v (240 + m) ≤ 0 then 0 else 1) 0 120
def qCntR (v : Int → Int) : Int := sm (fun d => if v (360 + d) < 0 then 0 else 1) 0 3600
def qCount (v : Int → Int) (tp un w : Int) : Int := if w = 0 then v 0 else if w = 1 then v 81 else if w = 2 then v 130 else if w = 3 then v 203 else if w = 4 then tp else if w = 5 then un else if w = 6 then qCntI v else if w = 7 then qCntR v else -1
def qLeft (v : Int → Int) (l fr to : Int) : Int32 :=
  if ¬ (0 ≤ l ∧ l < v 0) then iI (-1) else if ¬ (0 ≤ fr ∧ fr ≤ 3599) then iI (-2) else if ¬ (0 ≤ to ∧ to ≤ 3599) then iI (-2) else if ¬ fr ≤ to then iI (-2) else if sUnits v l fr to true = 0 then iI (-5) else sBits (FP.fdiv (FP.l2f (lI (sUnits v l fr to false))) (FP.l2f (lI (sUnits v l fr to true))))
section More
variable {ρ : Nat → Nat} {σ : mS} {b : Nat} {μ : MM}
theorem X3_look {row i : Int} (r1 : r32 row) (r2 : r32 i) (hrs : ∀ r, 0 ≤ r → r ≤ 2 → -1 ≤ μ.1 23 r ∧ μ.1 23 r ≤ 1) : gX3_look ρ b (iI row) (iI i) (St σ b μ) = some (qLook (μ.1 23) (μ.1 22) μ.2.2.2.2 row i, St σ b μ) := by
  unfold gX3_look qLook
  by_cases h1 : 0 ≤ row ∧ row ≤ 2
  · have h9 := hrs row h1.1 h1.2
    rw [fn_Bt (s := St σ b μ) (by rw [X3_isRow r1, decide_eq_true h1]), if_neg (by simpa using h1)]
    by_cases h2 : 0 ≤ i ∧ i ≤ 11
    · rw [fn_Bt (s := St σ b μ) (by rw [X3_isIn r2 (by decide) (by decide), decide_eq_true h2]), if_neg (by simpa using h2)]
      by_cases h3 : 0 ≤ μ.1 23 row
      · by_cases h4 : μ.1 23 row = 0
        · rw [if_neg (c := ¬ 0 ≤ μ.1 23 row) (by simpa using h3), if_pos h4]
          simp (disch := omega) only [h3, h4, decide_true, decide_false, reduceIte, and_self, and_true, true_and, and_false, false_and, or_true, true_or, or_false, false_or, not_true_eq_false, not_false_eq_true, reduceCtorEq, mA_ss, mI_ss, ↓St_rc, ↓fn_B, ↓fn_nn_none, ↓fn_nn_some, rZ_0, rZ_1, rZ_b, b2_z, b2_1, b2_or, b2_or0, b2_or1, iI_add, iI_sub, iI_mul, iI_neg, lI_add, lI_sub, lI_mul, iI_lt, iI_le, iI_eq, iI_to64, lI_cmp_lt, lI_cmp_gt, lI_cmp_ge, lI_cmp_le, lI_cmp_eq, mA_s, mA_o, mI_s, mI_o, mB_s, mB_o, mA_I, mA_B, mA_T, mA_F, mI_A, mI_B, mI_T, mI_F, mB_A, mB_I, mB_T, mB_F, mT_A, mT_I, mT_B, mT_F, mF_A, mF_I, mF_B, mF_T, ↓md_gA0, md_a0, md_s0, ↓md_gA1, md_a1, md_s1, ↓md_gA2, md_a2, md_s2, ↓md_gA3, md_a3, md_s3, ↓md_gA4, md_a4, md_s4, ↓md_g5, ↓md_p5, ↓md_g6, ↓md_p6, ↓md_g7, ↓md_p7, ↓md_g8, ↓md_p8, ↓md_gA9, md_a9, md_s9, ↓md_gA10, md_a10, md_s10, ↓md_gA11, md_a11, md_s11, ↓md_gA12, md_a12, md_s12, ↓md_gA13, md_a13, md_s13, ↓md_g14, ↓md_p14, ↓md_g15, ↓md_p15, ↓md_g16, ↓md_p16, ↓md_gA17, md_a17, md_s17, ↓md_gA18, md_a18, md_s18, ↓md_g19, ↓md_p19, ↓md_gA20, md_a20, md_s20, ↓md_g21, ↓md_p21, ↓md_gA22, md_a22, md_s22, ↓md_gA23, md_a23, md_s23, ↓md_gA24, md_a24, md_s24]
          rw [if_pos (by decide)]
        · simp (disch := omega) only [h3, h4, J26_bits, decide_true, decide_false, reduceIte, and_self, and_true, true_and, and_false, false_and, or_true, true_or, or_false, false_or, not_true_eq_false, not_false_eq_true, reduceCtorEq, mA_ss, mI_ss, ↓St_rc, ↓fn_B, ↓fn_nn_none, ↓fn_nn_some, rZ_0, rZ_1, rZ_b, b2_z, b2_1, b2_or, b2_or0, b2_or1, iI_add, iI_sub, iI_mul, iI_neg, lI_add, lI_sub, lI_mul, iI_lt, iI_le, iI_eq, iI_to64, lI_cmp_lt, lI_cmp_gt, lI_cmp_ge, lI_cmp_le, lI_cmp_eq, mA_s, mA_o, mI_s, mI_o, mB_s, mB_o, mA_I, mA_B, mA_T, mA_F, mI_A, mI_B, mI_T, mI_F, mB_A, mB_I, mB_T, mB_F, mT_A, mT_I, mT_B, mT_F, mF_A, mF_I, mF_B, mF_T, ↓md_gA0, md_a0, md_s0, ↓md_gA1, md_a1, md_s1, ↓md_gA2, md_a2, md_s2, ↓md_gA3, md_a3, md_s3, ↓md_gA4, md_a4, md_s4, ↓md_g5, ↓md_p5, ↓md_g6, ↓md_p6, ↓md_g7, ↓md_p7, ↓md_g8, ↓md_p8, ↓md_gA9, md_a9, md_s9, ↓md_gA10, md_a10, md_s10, ↓md_gA11, md_a11, md_s11, ↓md_gA12, md_a12, md_s12, ↓md_gA13, md_a13, md_s13, ↓md_g14, ↓md_p14, ↓md_g15, ↓md_p15, ↓md_g16, ↓md_p16, ↓md_gA17, md_a17, md_s17, ↓md_gA18, md_a18, md_s18, ↓md_g19, ↓md_p19, ↓md_gA20, md_a20, md_s20, ↓md_g21, ↓md_p21, ↓md_gA22, md_a22, md_s22, ↓md_gA23, md_a23, md_s23, ↓md_gA24, md_a24, md_s24]
      · simp (disch := omega) only [h3, decide_true, decide_false, reduceIte, and_self, and_true, true_and, and_false, false_and, or_true, true_or, or_false, false_or, not_true_eq_false, not_false_eq_true, reduceCtorEq, mA_ss, mI_ss, ↓St_rc, ↓fn_B, ↓fn_nn_none, ↓fn_nn_some, rZ_0, rZ_1, rZ_b, b2_z, b2_1, b2_or, b2_or0, b2_or1, iI_add, iI_sub, iI_mul, iI_neg, lI_add, lI_sub, lI_mul, iI_lt, iI_le, iI_eq, iI_to64, lI_cmp_lt, lI_cmp_gt, lI_cmp_ge, lI_cmp_le, lI_cmp_eq, mA_s, mA_o, mI_s, mI_o, mB_s, mB_o, mA_I, mA_B, mA_T, mA_F, mI_A, mI_B, mI_T, mI_F, mB_A, mB_I, mB_T, mB_F, mT_A, mT_I, mT_B, mT_F, mF_A, mF_I, mF_B, mF_T, ↓md_gA0, md_a0, md_s0, ↓md_gA1, md_a1, md_s1, ↓md_gA2, md_a2, md_s2, ↓md_gA3, md_a3, md_s3, ↓md_gA4, md_a4, md_s4, ↓md_g5, ↓md_p5, ↓md_g6, ↓md_p6, ↓md_g7, ↓md_p7, ↓md_g8, ↓md_p8, ↓md_gA9, md_a9, md_s9, ↓md_gA10, md_a10, md_s10, ↓md_gA11, md_a11, md_s11, ↓md_gA12, md_a12, md_s12, ↓md_gA13, md_a13, md_s13, ↓md_g14, ↓md_p14, ↓md_g15, ↓md_p15, ↓md_g16, ↓md_p16, ↓md_gA17, md_a17, md_s17, ↓md_gA18, md_a18, md_s18, ↓md_g19, ↓md_p19, ↓md_gA20, md_a20, md_s20, ↓md_g21, ↓md_p21, ↓md_gA22, md_a22, md_s22, ↓md_gA23, md_a23, md_s23, ↓md_gA24, md_a24, md_s24]
    · rw [fn_Bf (s := St σ b μ) (by rw [X3_isIn r2 (by decide) (by decide), decide_eq_false h2]), if_pos h2]
  · rw [fn_Bf (s := St σ b μ) (by rw [X3_isRow r1, decide_eq_false h1]), if_pos h1]
theorem X3_reason (h : 0 ≤ μ.2.1 6 ∧ μ.2.1 6 ≤ 6) : gX3_reason ρ b (St σ b μ) = some (iI (if μ.2.1 6 = 0 then -5 else μ.2.1 6), St σ b μ) := by
  unfold gX3_reason
  simp (disch := omega) only [decide_true, decide_false, reduceIte, and_self, and_true, true_and, and_false, false_and, or_true, true_or, or_false, false_or, not_true_eq_false, not_false_eq_true, reduceCtorEq, mA_ss, mI_ss, ↓St_rc, ↓fn_B, ↓fn_nn_none, ↓fn_nn_some, rZ_0, rZ_1, rZ_b, b2_z, b2_1, b2_or, b2_or0, b2_or1, iI_add, iI_sub, iI_mul, iI_neg, lI_add, lI_sub, lI_mul, iI_lt, iI_le, iI_eq, iI_to64, lI_cmp_lt, lI_cmp_gt, lI_cmp_ge, lI_cmp_le, lI_cmp_eq, mA_s, mA_o, mI_s, mI_o, mB_s, mB_o, mA_I, mA_B, mA_T, mA_F, mI_A, mI_B, mI_T, mI_F, mB_A, mB_I, mB_T, mB_F, mT_A, mT_I, mT_B, mT_F, mF_A, mF_I, mF_B, mF_T, ↓md_gA0, md_a0, md_s0, ↓md_gA1, md_a1, md_s1, ↓md_gA2, md_a2, md_s2, ↓md_gA3, md_a3, md_s3, ↓md_gA4, md_a4, md_s4, ↓md_g5, ↓md_p5, ↓md_g6, ↓md_p6, ↓md_g7, ↓md_p7, ↓md_g8, ↓md_p8, ↓md_gA9, md_a9, md_s9, ↓md_gA10, md_a10, md_s10, ↓md_gA11, md_a11, md_s11, ↓md_gA12, md_a12, md_s12, ↓md_gA13, md_a13, md_s13, ↓md_g14, ↓md_p14, ↓md_g15, ↓md_p15, ↓md_g16, ↓md_p16, ↓md_gA17, md_a17, md_s17, ↓md_gA18, md_a18, md_s18, ↓md_g19, ↓md_p19, ↓md_gA20, md_a20, md_s20, ↓md_g21, ↓md_p21, ↓md_gA22, md_a22, md_s22, ↓md_gA23, md_a23, md_s23, ↓md_gA24, md_a24, md_s24]
  split <;> rfl
theorem X3_cntI (hv : okD (μ.1 0)) : ∀ (n : Nat) (m acc : Int) (gas : Nat), m + n = 120 → n < gas → 0 ≤ m → fnFix (fun _ _ _ => none) (gX3_count_b93 ρ b) gas (iI acc) (iI m) (St σ b μ) = some (iI (acc + sm (fun m => if μ.1 0 (240 + m) ≤ 0 then 0 else 1) m n), St σ b μ) := by
  intro n
  induction n with
  | zero =>
    intro m acc gas h1 h2 h3
    obtain ⟨g, rfl⟩ := gas_s h2
    rw [fnFix_s, gX3_count_b93, sm, Int.add_zero]
    simp (disch := omega) only [decide_true, decide_false, reduceIte, and_self, and_true, true_and, and_false, false_and, or_true, true_or, or_false, false_or, not_true_eq_false, not_false_eq_true, reduceCtorEq, mA_ss, mI_ss, ↓St_rc, ↓fn_B, ↓fn_nn_none, ↓fn_nn_some, rZ_0, rZ_1, rZ_b, b2_z, b2_1, b2_or, b2_or0, b2_or1, iI_add, iI_sub, iI_mul, iI_neg, lI_add, lI_sub, lI_mul, iI_lt, iI_le, iI_eq, iI_to64, lI_cmp_lt, lI_cmp_gt, lI_cmp_ge, lI_cmp_le, lI_cmp_eq, mA_s, mA_o, mI_s, mI_o, mB_s, mB_o, mA_I, mA_B, mA_T, mA_F, mI_A, mI_B, mI_T, mI_F, mB_A, mB_I, mB_T, mB_F, mT_A, mT_I, mT_B, mT_F, mF_A, mF_I, mF_B, mF_T, ↓md_gA0, md_a0, md_s0, ↓md_gA1, md_a1, md_s1, ↓md_gA2, md_a2, md_s2, ↓md_gA3, md_a3, md_s3, ↓md_gA4, md_a4, md_s4, ↓md_g5, ↓md_p5, ↓md_g6, ↓md_p6, ↓md_g7, ↓md_p7, ↓md_g8, ↓md_p8, ↓md_gA9, md_a9, md_s9, ↓md_gA10, md_a10, md_s10, ↓md_gA11, md_a11, md_s11, ↓md_gA12, md_a12, md_s12, ↓md_gA13, md_a13, md_s13, ↓md_g14, ↓md_p14, ↓md_g15, ↓md_p15, ↓md_g16, ↓md_p16, ↓md_gA17, md_a17, md_s17, ↓md_gA18, md_a18, md_s18, ↓md_g19, ↓md_p19, ↓md_gA20, md_a20, md_s20, ↓md_g21, ↓md_p21, ↓md_gA22, md_a22, md_s22, ↓md_gA23, md_a23, md_s23, ↓md_gA24, md_a24, md_s24]
    rw [if_pos (by omega)]
  | succ n ih =>
    intro m acc gas h1 h2 h3
    obtain ⟨g, rfl⟩ := gas_s h2
    have k := hv.2.2.2.2.2.2.2.2.1 m (by omega) (by omega)
    rw [fnFix_s, gX3_count_b93, sm]
    simp (disch := omega) only [gX3_count_b118, decide_true, decide_false, reduceIte, and_self, and_true, true_and, and_false, false_and, or_true, true_or, or_false, false_or, not_true_eq_false, not_false_eq_true, reduceCtorEq, mA_ss, mI_ss, ↓St_rc, ↓fn_B, ↓fn_nn_none, ↓fn_nn_some, rZ_0, rZ_1, rZ_b, b2_z, b2_1, b2_or, b2_or0, b2_or1, iI_add, iI_sub, iI_mul, iI_neg, lI_add, lI_sub, lI_mul, iI_lt, iI_le, iI_eq, iI_to64, lI_cmp_lt, lI_cmp_gt, lI_cmp_ge, lI_cmp_le, lI_cmp_eq, mA_s, mA_o, mI_s, mI_o, mB_s, mB_o, mA_I, mA_B, mA_T, mA_F, mI_A, mI_B, mI_T, mI_F, mB_A, mB_I, mB_T, mB_F, mT_A, mT_I, mT_B, mT_F, mF_A, mF_I, mF_B, mF_T, ↓md_gA0, md_a0, md_s0, ↓md_gA1, md_a1, md_s1, ↓md_gA2, md_a2, md_s2, ↓md_gA3, md_a3, md_s3, ↓md_gA4, md_a4, md_s4, ↓md_g5, ↓md_p5, ↓md_g6, ↓md_p6, ↓md_g7, ↓md_p7, ↓md_g8, ↓md_p8, ↓md_gA9, md_a9, md_s9, ↓md_gA10, md_a10, md_s10, ↓md_gA11, md_a11, md_s11, ↓md_gA12, md_a12, md_s12, ↓md_gA13, md_a13, md_s13, ↓md_g14, ↓md_p14, ↓md_g15, ↓md_p15, ↓md_g16, ↓md_p16, ↓md_gA17, md_a17, md_s17, ↓md_gA18, md_a18, md_s18, ↓md_g19, ↓md_p19, ↓md_gA20, md_a20, md_s20, ↓md_g21, ↓md_p21, ↓md_gA22, md_a22, md_s22, ↓md_gA23, md_a23, md_s23, ↓md_gA24, md_a24, md_s24]
    rw [if_neg (by omega)]
    by_cases h : μ.1 0 (240 + m) ≤ 0
    · rw [if_pos h, if_pos h, Int.add_zero, Int.zero_add]
      exact ih (m + 1) acc g (by omega) (by omega) (by omega)
    · rw [if_neg h, if_neg h, ← Int.add_assoc]
      exact ih (m + 1) _ g (by omega) (by omega) (by omega)
theorem X3_cntR (hv : okD (μ.1 0)) : ∀ (n : Nat) (m acc : Int) (gas : Nat), m + n = 3600 → n < gas → 0 ≤ m → fnFix (fun _ _ _ => none) (gX3_count_b130 ρ b) gas (iI acc) (iI m) (St σ b μ) = some (iI (acc + sm (fun d => if μ.1 0 (360 + d) < 0 then 0 else 1) m n), St σ b μ) := by
  intro n
  induction n with
  | zero =>
    intro m acc gas h1 h2 h3
    obtain ⟨g, rfl⟩ := gas_s h2
    rw [fnFix_s, gX3_count_b130, sm, Int.add_zero]
    simp (disch := omega) only [decide_true, decide_false, reduceIte, and_self, and_true, true_and, and_false, false_and, or_true, true_or, or_false, false_or, not_true_eq_false, not_false_eq_true, reduceCtorEq, mA_ss, mI_ss, ↓St_rc, ↓fn_B, ↓fn_nn_none, ↓fn_nn_some, rZ_0, rZ_1, rZ_b, b2_z, b2_1, b2_or, b2_or0, b2_or1, iI_add, iI_sub, iI_mul, iI_neg, lI_add, lI_sub, lI_mul, iI_lt, iI_le, iI_eq, iI_to64, lI_cmp_lt, lI_cmp_gt, lI_cmp_ge, lI_cmp_le, lI_cmp_eq, mA_s, mA_o, mI_s, mI_o, mB_s, mB_o, mA_I, mA_B, mA_T, mA_F, mI_A, mI_B, mI_T, mI_F, mB_A, mB_I, mB_T, mB_F, mT_A, mT_I, mT_B, mT_F, mF_A, mF_I, mF_B, mF_T, ↓md_gA0, md_a0, md_s0, ↓md_gA1, md_a1, md_s1, ↓md_gA2, md_a2, md_s2, ↓md_gA3, md_a3, md_s3, ↓md_gA4, md_a4, md_s4, ↓md_g5, ↓md_p5, ↓md_g6, ↓md_p6, ↓md_g7, ↓md_p7, ↓md_g8, ↓md_p8, ↓md_gA9, md_a9, md_s9, ↓md_gA10, md_a10, md_s10, ↓md_gA11, md_a11, md_s11, ↓md_gA12, md_a12, md_s12, ↓md_gA13, md_a13, md_s13, ↓md_g14, ↓md_p14, ↓md_g15, ↓md_p15, ↓md_g16, ↓md_p16, ↓md_gA17, md_a17, md_s17, ↓md_gA18, md_a18, md_s18, ↓md_g19, ↓md_p19, ↓md_gA20, md_a20, md_s20, ↓md_g21, ↓md_p21, ↓md_gA22, md_a22, md_s22, ↓md_gA23, md_a23, md_s23, ↓md_gA24, md_a24, md_s24]
    rw [if_pos (by omega)]
  | succ n ih =>
    intro m acc gas h1 h2 h3
    obtain ⟨g, rfl⟩ := gas_s h2
    have k := hv.2.2.2.2.2.2.2.2.2 m (by omega) (by omega)
    rw [fnFix_s, gX3_count_b130, sm]
    simp (disch := omega) only [gX3_count_b156, decide_true, decide_false, reduceIte, and_self, and_true, true_and, and_false, false_and, or_true, true_or, or_false, false_or, not_true_eq_false, not_false_eq_true, reduceCtorEq, mA_ss, mI_ss, ↓St_rc, ↓fn_B, ↓fn_nn_none, ↓fn_nn_some, rZ_0, rZ_1, rZ_b, b2_z, b2_1, b2_or, b2_or0, b2_or1, iI_add, iI_sub, iI_mul, iI_neg, lI_add, lI_sub, lI_mul, iI_lt, iI_le, iI_eq, iI_to64, lI_cmp_lt, lI_cmp_gt, lI_cmp_ge, lI_cmp_le, lI_cmp_eq, mA_s, mA_o, mI_s, mI_o, mB_s, mB_o, mA_I, mA_B, mA_T, mA_F, mI_A, mI_B, mI_T, mI_F, mB_A, mB_I, mB_T, mB_F, mT_A, mT_I, mT_B, mT_F, mF_A, mF_I, mF_B, mF_T, ↓md_gA0, md_a0, md_s0, ↓md_gA1, md_a1, md_s1, ↓md_gA2, md_a2, md_s2, ↓md_gA3, md_a3, md_s3, ↓md_gA4, md_a4, md_s4, ↓md_g5, ↓md_p5, ↓md_g6, ↓md_p6, ↓md_g7, ↓md_p7, ↓md_g8, ↓md_p8, ↓md_gA9, md_a9, md_s9, ↓md_gA10, md_a10, md_s10, ↓md_gA11, md_a11, md_s11, ↓md_gA12, md_a12, md_s12, ↓md_gA13, md_a13, md_s13, ↓md_g14, ↓md_p14, ↓md_g15, ↓md_p15, ↓md_g16, ↓md_p16, ↓md_gA17, md_a17, md_s17, ↓md_gA18, md_a18, md_s18, ↓md_g19, ↓md_p19, ↓md_gA20, md_a20, md_s20, ↓md_g21, ↓md_p21, ↓md_gA22, md_a22, md_s22, ↓md_gA23, md_a23, md_s23, ↓md_gA24, md_a24, md_s24]
    rw [if_neg (by omega)]
    by_cases h : μ.1 0 (360 + m) < 0
    · rw [if_pos h, if_pos h, Int.add_zero, Int.zero_add]
      exact ih (m + 1) acc g (by omega) (by omega) (by omega)
    · rw [if_neg h, if_neg h, ← Int.add_assoc]
      exact ih (m + 1) _ g (by omega) (by omega) (by omega)
theorem X3_count (hv : okD (μ.1 0)) {w : Int} (r1 : r32 w) : gX3_count ρ b (iI w) (St σ b μ) = some (iI (qCount (μ.1 0) (μ.2.1 14) (μ.2.1 5) w), St σ b μ) := by
  have q1 := X3_cntI (ρ := ρ) (σ := σ) (b := b) hv 120 0 0 fnGas (by decide) (by decide) (by decide)
  have q2 := X3_cntR (ρ := ρ) (σ := σ) (b := b) hv 3600 0 0 fnGas (by decide) (by decide) (by decide)
  rw [Int.zero_add] at q1 q2
  unfold gX3_count qCount
  simp (disch := omega) only [decide_true, decide_false, reduceIte, and_self, and_true, true_and, and_false, false_and, or_true, true_or, or_false, false_or, not_true_eq_false, not_false_eq_true, reduceCtorEq, mA_ss, mI_ss, ↓St_rc, ↓fn_B, ↓fn_nn_none, ↓fn_nn_some, rZ_0, rZ_1, rZ_b, b2_z, b2_1, b2_or, b2_or0, b2_or1, iI_add, iI_sub, iI_mul, iI_neg, lI_add, lI_sub, lI_mul, iI_lt, iI_le, iI_eq, iI_to64, lI_cmp_lt, lI_cmp_gt, lI_cmp_ge, lI_cmp_le, lI_cmp_eq, mA_s, mA_o, mI_s, mI_o, mB_s, mB_o, mA_I, mA_B, mA_T, mA_F, mI_A, mI_B, mI_T, mI_F, mB_A, mB_I, mB_T, mB_F, mT_A, mT_I, mT_B, mT_F, mF_A, mF_I, mF_B, mF_T, ↓md_gA0, md_a0, md_s0, ↓md_gA1, md_a1, md_s1, ↓md_gA2, md_a2, md_s2, ↓md_gA3, md_a3, md_s3, ↓md_gA4, md_a4, md_s4, ↓md_g5, ↓md_p5, ↓md_g6, ↓md_p6, ↓md_g7, ↓md_p7, ↓md_g8, ↓md_p8, ↓md_gA9, md_a9, md_s9, ↓md_gA10, md_a10, md_s10, ↓md_gA11, md_a11, md_s11, ↓md_gA12, md_a12, md_s12, ↓md_gA13, md_a13, md_s13, ↓md_g14, ↓md_p14, ↓md_g15, ↓md_p15, ↓md_g16, ↓md_p16, ↓md_gA17, md_a17, md_s17, ↓md_gA18, md_a18, md_s18, ↓md_g19, ↓md_p19, ↓md_gA20, md_a20, md_s20, ↓md_g21, ↓md_p21, ↓md_gA22, md_a22, md_s22, ↓md_gA23, md_a23, md_s23, ↓md_gA24, md_a24, md_s24]
  by_cases h0 : w = 0
  · rw [if_pos h0, if_pos h0]
  rw [if_neg h0, if_neg h0]
  by_cases h1 : w = 1
  · rw [if_pos h1, if_pos h1]
  rw [if_neg h1, if_neg h1]
  by_cases h2 : w = 2
  · rw [if_pos h2, if_pos h2]
  rw [if_neg h2, if_neg h2]
  by_cases h3 : w = 3
  · rw [if_pos h3, if_pos h3]
  rw [if_neg h3, if_neg h3]
  by_cases h4 : w = 4
  · rw [if_pos h4, if_pos h4]
  rw [if_neg h4, if_neg h4]
  by_cases h5 : w = 5
  · rw [if_pos h5, if_pos h5]
  rw [if_neg h5, if_neg h5]
  by_cases h6 : w = 6
  · rw [if_pos h6, if_pos h6]
    exact q1
  rw [if_neg h6, if_neg h6]
  by_cases h7 : w = 7
  · rw [if_pos h7, if_pos h7]
    exact q2
  rw [if_neg h7, if_neg h7]
theorem X3_image (hv : okD (μ.1 0)) : gX3_image ρ b (St σ b μ) = some (iI (μ.1 0 0), St σ b (mB (mA μ 3 (cpI 3960 (μ.1 0) (μ.1 3))) 7 true)) := by
  unfold gX3_image
  rw [md_gA0, md_gA3, St_rc, X3_copies03, fn_B_some, show iI 1 = iI (b2 true) from rfl, md_p7]
  simp (disch := omega) only [decide_true, decide_false, reduceIte, and_self, and_true, true_and, and_false, false_and, or_true, true_or, or_false, false_or, not_true_eq_false, not_false_eq_true, reduceCtorEq, mA_ss, mI_ss, ↓St_rc, ↓fn_B, ↓fn_nn_none, ↓fn_nn_some, rZ_0, rZ_1, rZ_b, b2_z, b2_1, b2_or, b2_or0, b2_or1, iI_add, iI_sub, iI_mul, iI_neg, lI_add, lI_sub, lI_mul, iI_lt, iI_le, iI_eq, iI_to64, lI_cmp_lt, lI_cmp_gt, lI_cmp_ge, lI_cmp_le, lI_cmp_eq, mA_s, mA_o, mI_s, mI_o, mB_s, mB_o, mA_I, mA_B, mA_T, mA_F, mI_A, mI_B, mI_T, mI_F, mB_A, mB_I, mB_T, mB_F, mT_A, mT_I, mT_B, mT_F, mF_A, mF_I, mF_B, mF_T, ↓md_gA0, md_a0, md_s0, ↓md_gA1, md_a1, md_s1, ↓md_gA2, md_a2, md_s2, ↓md_gA3, md_a3, md_s3, ↓md_gA4, md_a4, md_s4, ↓md_g5, ↓md_p5, ↓md_g6, ↓md_p6, ↓md_g7, ↓md_p7, ↓md_g8, ↓md_p8, ↓md_gA9, md_a9, md_s9, ↓md_gA10, md_a10, md_s10, ↓md_gA11, md_a11, md_s11, ↓md_gA12, md_a12, md_s12, ↓md_gA13, md_a13, md_s13, ↓md_g14, ↓md_p14, ↓md_g15, ↓md_p15, ↓md_g16, ↓md_p16, ↓md_gA17, md_a17, md_s17, ↓md_gA18, md_a18, md_s18, ↓md_g19, ↓md_p19, ↓md_gA20, md_a20, md_s20, ↓md_g21, ↓md_p21, ↓md_gA22, md_a22, md_s22, ↓md_gA23, md_a23, md_s23, ↓md_gA24, md_a24, md_s24]
theorem X3_undo (hv : okD (μ.1 3)) : gX3_undo ρ b (St σ b μ) = if μ.2.2.1 7 = false then some (iI (-3), St σ b μ) else some (iI (μ.1 3 0), St σ b (mI (mA μ 0 (cpI 3960 (μ.1 3) (μ.1 0))) 5 0)) := by
  unfold gX3_undo
  simp (disch := omega) only [decide_true, decide_false, reduceIte, and_self, and_true, true_and, and_false, false_and, or_true, true_or, or_false, false_or, not_true_eq_false, not_false_eq_true, reduceCtorEq, mA_ss, mI_ss, ↓St_rc, ↓fn_B, ↓fn_nn_none, ↓fn_nn_some, rZ_0, rZ_1, rZ_b, b2_z, b2_1, b2_or, b2_or0, b2_or1, iI_add, iI_sub, iI_mul, iI_neg, lI_add, lI_sub, lI_mul, iI_lt, iI_le, iI_eq, iI_to64, lI_cmp_lt, lI_cmp_gt, lI_cmp_ge, lI_cmp_le, lI_cmp_eq, mA_s, mA_o, mI_s, mI_o, mB_s, mB_o, mA_I, mA_B, mA_T, mA_F, mI_A, mI_B, mI_T, mI_F, mB_A, mB_I, mB_T, mB_F, mT_A, mT_I, mT_B, mT_F, mF_A, mF_I, mF_B, mF_T, ↓md_gA0, md_a0, md_s0, ↓md_gA1, md_a1, md_s1, ↓md_gA2, md_a2, md_s2, ↓md_gA3, md_a3, md_s3, ↓md_gA4, md_a4, md_s4, ↓md_g5, ↓md_p5, ↓md_g6, ↓md_p6, ↓md_g7, ↓md_p7, ↓md_g8, ↓md_p8, ↓md_gA9, md_a9, md_s9, ↓md_gA10, md_a10, md_s10, ↓md_gA11, md_a11, md_s11, ↓md_gA12, md_a12, md_s12, ↓md_gA13, md_a13, md_s13, ↓md_g14, ↓md_p14, ↓md_g15, ↓md_p15, ↓md_g16, ↓md_p16, ↓md_gA17, md_a17, md_s17, ↓md_gA18, md_a18, md_s18, ↓md_g19, ↓md_p19, ↓md_gA20, md_a20, md_s20, ↓md_g21, ↓md_p21, ↓md_gA22, md_a22, md_s22, ↓md_gA23, md_a23, md_s23, ↓md_gA24, md_a24, md_s24]
  by_cases h : μ.2.2.1 7 = false
  · rw [if_pos h, if_pos h]
  · rw [if_neg h, if_neg h, X3_copies30]
    simp (disch := omega) only [decide_true, decide_false, reduceIte, and_self, and_true, true_and, and_false, false_and, or_true, true_or, or_false, false_or, not_true_eq_false, not_false_eq_true, reduceCtorEq, mA_ss, mI_ss, ↓St_rc, ↓fn_B, ↓fn_nn_none, ↓fn_nn_some, rZ_0, rZ_1, rZ_b, b2_z, b2_1, b2_or, b2_or0, b2_or1, iI_add, iI_sub, iI_mul, iI_neg, lI_add, lI_sub, lI_mul, iI_lt, iI_le, iI_eq, iI_to64, lI_cmp_lt, lI_cmp_gt, lI_cmp_ge, lI_cmp_le, lI_cmp_eq, mA_s, mA_o, mI_s, mI_o, mB_s, mB_o, mA_I, mA_B, mA_T, mA_F, mI_A, mI_B, mI_T, mI_F, mB_A, mB_I, mB_T, mB_F, mT_A, mT_I, mT_B, mT_F, mF_A, mF_I, mF_B, mF_T, ↓md_gA0, md_a0, md_s0, ↓md_gA1, md_a1, md_s1, ↓md_gA2, md_a2, md_s2, ↓md_gA3, md_a3, md_s3, ↓md_gA4, md_a4, md_s4, ↓md_g5, ↓md_p5, ↓md_g6, ↓md_p6, ↓md_g7, ↓md_p7, ↓md_g8, ↓md_p8, ↓md_gA9, md_a9, md_s9, ↓md_gA10, md_a10, md_s10, ↓md_gA11, md_a11, md_s11, ↓md_gA12, md_a12, md_s12, ↓md_gA13, md_a13, md_s13, ↓md_g14, ↓md_p14, ↓md_g15, ↓md_p15, ↓md_g16, ↓md_p16, ↓md_gA17, md_a17, md_s17, ↓md_gA18, md_a18, md_s18, ↓md_g19, ↓md_p19, ↓md_gA20, md_a20, md_s20, ↓md_g21, ↓md_p21, ↓md_gA22, md_a22, md_s22, ↓md_gA23, md_a23, md_s23, ↓md_gA24, md_a24, md_s24]
    rfl
theorem X3_back_l (u : Int) (hu : 0 ≤ u ∧ u ≤ 5) : ∀ (n : Nat) (k : Int) (gas : Nat), k + n = 3960 → n < gas → 0 ≤ k → fnFix (fun _ _ => none) (gX3_back_b22 ρ b) gas (iI k) (St σ b (mA (mI μ 5 u) 0 (cpI k (fun j => μ.1 4 (u * 3960 + j)) (μ.1 0)))) = some (iI u, St σ b (mA (mI μ 5 u) 0 (cpI 3960 (fun j => μ.1 4 (u * 3960 + j)) (μ.1 0)))) := by
  intro n
  induction n with
  | zero =>
    intro k gas h1 h2 h3
    obtain ⟨g, rfl⟩ := gas_s h2
    rw [fnFix_s, gX3_back_b22]
    simp (disch := omega) only [decide_true, decide_false, reduceIte, and_self, and_true, true_and, and_false, false_and, or_true, true_or, or_false, false_or, not_true_eq_false, not_false_eq_true, reduceCtorEq, mA_ss, mI_ss, ↓St_rc, ↓fn_B, ↓fn_nn_none, ↓fn_nn_some, rZ_0, rZ_1, rZ_b, b2_z, b2_1, b2_or, b2_or0, b2_or1, iI_add, iI_sub, iI_mul, iI_neg, lI_add, lI_sub, lI_mul, iI_lt, iI_le, iI_eq, iI_to64, lI_cmp_lt, lI_cmp_gt, lI_cmp_ge, lI_cmp_le, lI_cmp_eq, mA_s, mA_o, mI_s, mI_o, mB_s, mB_o, mA_I, mA_B, mA_T, mA_F, mI_A, mI_B, mI_T, mI_F, mB_A, mB_I, mB_T, mB_F, mT_A, mT_I, mT_B, mT_F, mF_A, mF_I, mF_B, mF_T, ↓md_gA0, md_a0, md_s0, ↓md_gA1, md_a1, md_s1, ↓md_gA2, md_a2, md_s2, ↓md_gA3, md_a3, md_s3, ↓md_gA4, md_a4, md_s4, ↓md_g5, ↓md_p5, ↓md_g6, ↓md_p6, ↓md_g7, ↓md_p7, ↓md_g8, ↓md_p8, ↓md_gA9, md_a9, md_s9, ↓md_gA10, md_a10, md_s10, ↓md_gA11, md_a11, md_s11, ↓md_gA12, md_a12, md_s12, ↓md_gA13, md_a13, md_s13, ↓md_g14, ↓md_p14, ↓md_g15, ↓md_p15, ↓md_g16, ↓md_p16, ↓md_gA17, md_a17, md_s17, ↓md_gA18, md_a18, md_s18, ↓md_g19, ↓md_p19, ↓md_gA20, md_a20, md_s20, ↓md_g21, ↓md_p21, ↓md_gA22, md_a22, md_s22, ↓md_gA23, md_a23, md_s23, ↓md_gA24, md_a24, md_s24]
    rw [if_pos (by omega), show k = 3960 by omega]
  | succ n ih =>
    intro k gas h1 h2 h3
    obtain ⟨g, rfl⟩ := gas_s h2
    have e := cpI_s k (fun j => μ.1 4 (u * 3960 + j)) (μ.1 0) h3
    rw [fnFix_s, gX3_back_b22]
    simp (disch := omega) only [decide_true, decide_false, reduceIte, and_self, and_true, true_and, and_false, false_and, or_true, true_or, or_false, false_or, not_true_eq_false, not_false_eq_true, reduceCtorEq, mA_ss, mI_ss, ↓St_rc, ↓fn_B, ↓fn_nn_none, ↓fn_nn_some, rZ_0, rZ_1, rZ_b, b2_z, b2_1, b2_or, b2_or0, b2_or1, iI_add, iI_sub, iI_mul, iI_neg, lI_add, lI_sub, lI_mul, iI_lt, iI_le, iI_eq, iI_to64, lI_cmp_lt, lI_cmp_gt, lI_cmp_ge, lI_cmp_le, lI_cmp_eq, mA_s, mA_o, mI_s, mI_o, mB_s, mB_o, mA_I, mA_B, mA_T, mA_F, mI_A, mI_B, mI_T, mI_F, mB_A, mB_I, mB_T, mB_F, mT_A, mT_I, mT_B, mT_F, mF_A, mF_I, mF_B, mF_T, ↓md_gA0, md_a0, md_s0, ↓md_gA1, md_a1, md_s1, ↓md_gA2, md_a2, md_s2, ↓md_gA3, md_a3, md_s3, ↓md_gA4, md_a4, md_s4, ↓md_g5, ↓md_p5, ↓md_g6, ↓md_p6, ↓md_g7, ↓md_p7, ↓md_g8, ↓md_p8, ↓md_gA9, md_a9, md_s9, ↓md_gA10, md_a10, md_s10, ↓md_gA11, md_a11, md_s11, ↓md_gA12, md_a12, md_s12, ↓md_gA13, md_a13, md_s13, ↓md_g14, ↓md_p14, ↓md_g15, ↓md_p15, ↓md_g16, ↓md_p16, ↓md_gA17, md_a17, md_s17, ↓md_gA18, md_a18, md_s18, ↓md_g19, ↓md_p19, ↓md_gA20, md_a20, md_s20, ↓md_g21, ↓md_p21, ↓md_gA22, md_a22, md_s22, ↓md_gA23, md_a23, md_s23, ↓md_gA24, md_a24, md_s24]
    rw [if_neg (by omega), e]
    exact ih (k + 1) g (by omega) (by omega) (by omega)
theorem X3_back (hu : 0 ≤ μ.2.1 5 ∧ μ.2.1 5 ≤ 6) : gX3_back ρ b (St σ b μ) = if μ.2.1 5 = 0 then some (iI (-3), St σ b μ) else some (iI (μ.2.1 5 - 1), St σ b (mA (mI μ 5 (μ.2.1 5 - 1)) 0 (cpI 3960 (fun j => μ.1 4 ((μ.2.1 5 - 1) * 3960 + j)) (μ.1 0)))) := by
  unfold gX3_back
  simp (disch := omega) only [decide_true, decide_false, reduceIte, and_self, and_true, true_and, and_false, false_and, or_true, true_or, or_false, false_or, not_true_eq_false, not_false_eq_true, reduceCtorEq, mA_ss, mI_ss, ↓St_rc, ↓fn_B, ↓fn_nn_none, ↓fn_nn_some, rZ_0, rZ_1, rZ_b, b2_z, b2_1, b2_or, b2_or0, b2_or1, iI_add, iI_sub, iI_mul, iI_neg, lI_add, lI_sub, lI_mul, iI_lt, iI_le, iI_eq, iI_to64, lI_cmp_lt, lI_cmp_gt, lI_cmp_ge, lI_cmp_le, lI_cmp_eq, mA_s, mA_o, mI_s, mI_o, mB_s, mB_o, mA_I, mA_B, mA_T, mA_F, mI_A, mI_B, mI_T, mI_F, mB_A, mB_I, mB_T, mB_F, mT_A, mT_I, mT_B, mT_F, mF_A, mF_I, mF_B, mF_T, ↓md_gA0, md_a0, md_s0, ↓md_gA1, md_a1, md_s1, ↓md_gA2, md_a2, md_s2, ↓md_gA3, md_a3, md_s3, ↓md_gA4, md_a4, md_s4, ↓md_g5, ↓md_p5, ↓md_g6, ↓md_p6, ↓md_g7, ↓md_p7, ↓md_g8, ↓md_p8, ↓md_gA9, md_a9, md_s9, ↓md_gA10, md_a10, md_s10, ↓md_gA11, md_a11, md_s11, ↓md_gA12, md_a12, md_s12, ↓md_gA13, md_a13, md_s13, ↓md_g14, ↓md_p14, ↓md_g15, ↓md_p15, ↓md_g16, ↓md_p16, ↓md_gA17, md_a17, md_s17, ↓md_gA18, md_a18, md_s18, ↓md_g19, ↓md_p19, ↓md_gA20, md_a20, md_s20, ↓md_g21, ↓md_p21, ↓md_gA22, md_a22, md_s22, ↓md_gA23, md_a23, md_s23, ↓md_gA24, md_a24, md_s24]
  by_cases h : μ.2.1 5 = 0
  · rw [if_pos h, if_pos h]
  · rw [if_neg h, if_neg h]
    have q := X3_back_l (ρ := ρ) (σ := σ) (b := b) (μ := μ) (μ.2.1 5 - 1) (by omega) 3960 0 fnGas (by decide) (by decide) (by decide)
    rw [cpI_0] at q
    have e : mA (mI μ 5 (μ.2.1 5 - 1)) 0 (μ.1 0) = mI μ 5 (μ.2.1 5 - 1) := mA_self (μ := mI μ 5 (μ.2.1 5 - 1)) (j := 0)
    rw [e] at q
    exact q
theorem X3_left (hv : okD (μ.1 0)) {l fr to : Int} (r1 : r32 l) (r2 : r32 fr) (r3 : r32 to) : ∃ μ1, gX3_left ρ b (iI l) (iI fr) (iI to) (St σ b μ) = some (qLeft (μ.1 0) l fr to, St σ b μ1) ∧ mEq μ μ1 := by
  have h0 := hv.1
  unfold gX3_left qLeft
  by_cases h1 : 0 ≤ l ∧ l < μ.1 0 0
  · rw [St_rc, fn_Bt (s := St σ b μ) (by rw [X3_isLease r1 (by omega), decide_eq_true h1]), if_neg (by simpa using h1)]
    by_cases h2 : 0 ≤ fr ∧ fr ≤ 3599
    · rw [fn_Bt (s := St σ b μ) (by rw [X3_isDay r2, decide_eq_true h2]), if_neg (by simpa using h2)]
      by_cases h3 : 0 ≤ to ∧ to ≤ 3599
      · rw [fn_Bt (s := St σ b μ) (by rw [X3_isDay r3, decide_eq_true h3]), if_neg (c := ¬ (0 ≤ to ∧ to ≤ 3599)) (by simpa using h3)]
        by_cases h4 : fr ≤ to
        · have k1 := sUnits_r hv h1 (fr := fr) (to := to) (by omega) (by omega) true
          rw [if_pos ((iI_le r2 r3).mpr h4), if_neg (c := ¬ fr ≤ to) (by simpa using h4), St_rc, show iI 1 = iI (b2 true) from rfl, X3_units hv h1 ⟨r2, by omega⟩ ⟨r3, by omega⟩, fn_B_some]
          by_cases h5 : sUnits (μ.1 0) l fr to true = 0
          · rw [if_pos ((lI_cmp_eq ⟨by omega, by omega⟩ (by decide)).mpr h5), if_pos h5]
            exact ⟨_, rfl, mEq.u μ l⟩
          · rw [if_neg (fun q => h5 ((lI_cmp_eq ⟨by omega, by omega⟩ (by decide)).mp q)), if_neg h5, St_rc, show iI 0 = iI (b2 false) from rfl, X3_units (μ := uMem μ l) (by exact hv) (by exact h1) ⟨r2, by omega⟩ ⟨r3, by omega⟩, fn_B_some, if_pos (n32_l h5 ⟨⟨by omega, by omega⟩, by omega⟩), J26_bits, fn_B_some]
            exact ⟨_, rfl, (mEq.u μ l).tr (mEq.u _ l)⟩
        · rw [if_neg (fun q => h4 ((iI_le r2 r3).mp q)), if_pos h4]
          exact ⟨μ, rfl, mEq.rf μ⟩
      · rw [fn_Bf (s := St σ b μ) (by rw [X3_isDay r3, decide_eq_false h3]), if_pos h3]
        exact ⟨μ, rfl, mEq.rf μ⟩
    · rw [fn_Bf (s := St σ b μ) (by rw [X3_isDay r2, decide_eq_false h2]), if_pos h2]
      exact ⟨μ, rfl, mEq.rf μ⟩
  · rw [St_rc, fn_Bf (s := St σ b μ) (by rw [X3_isLease r1 (by omega), decide_eq_false h1]), if_pos h1]
    exact ⟨μ, rfl, mEq.rf μ⟩
end More
end
section
/-! and more -/
def qPut (rs wh : Int → Int) (pa : Int → UInt32) (row i x : Int) : Int :=
  if ¬ (0 ≤ row ∧ row ≤ 2) then -1 else if ¬ (0 ≤ i ∧ i ≤ 11) then -1 else if ¬ 0 ≤ rs row then -3 else b2 (if rs row = 0 then decide ¬ wh (12 * row + i) = x else sDiff (pa (12 * row + i)) (FP.i2f (iI x)))
/-- the kinds of commands' letters aside: what a run of questions about a lease answers -/
def sSub (v : Int → Int) (l : Int) : Int := sm (fun k => if v (1 + 8 * k) = l then 1 else 0) 0 (v 0).toNat
def sDep8 (v : Int → Int) : Nat → Int → Int
  | 0, _ => 0
  | n + 1, k => if k < 0 then 0 else 1 + sDep8 v n (v (1 + 8 * k))
def qOf (v : Int → Int) (l w : Int) : Int :=
  if ¬ (0 ≤ l ∧ l < v 0) then -1 else if ¬ (0 ≤ w ∧ w ≤ 9) then -1 else
  if w = 0 then (if 0 ≤ v (1 + 8 * l) then v (1 + 8 * l) else -5) else if w = 1 then v (1 + 8 * l + 1) else if w = 2 then v (1 + 8 * l + 2) else if w = 3 then v (1 + 8 * l + 3) else if w = 4 then v (1 + 8 * l + 4)
  else if w = 5 then (if endOf v l = 1000000 then -5 else endOf v l) else if w = 6 then (if 0 ≤ v (1 + 8 * l + 6) then v (1 + 8 * l + 6) else -5) else if w = 7 then sSub v l else if w = 8 then sDep8 v 11 (v (1 + 8 * l)) else (if 0 ≤ v (1 + 8 * l + 5) then v (1 + 8 * l + 5) else -5)
def sAcc (v : Int → Int) (day w l : Int) : Int :=
  if w = 0 then b2 (decide (v (1 + 8 * l + 1) ≤ day ∧ day ≤ endOf v l)) else if w = 2 then sDue v l day else if w = 3 then sPaid v l day else if w = 4 then sThere v l day else if w = 5 then b2 (decide (endOf v l < v (1 + 8 * l + 1))) else 0
def qAcc (v : Int → Int) (day w : Int) : Int :=
  if ¬ (0 ≤ day ∧ day ≤ 3599) then nNo else if ¬ (0 ≤ w ∧ w ≤ 7) then nNo else
  (if w = 1 then sm (fun d => b2 (sHolds v d day)) 0 (v 81).toNat else if w = 6 then sIdx v (day / 30 + 1).toNat else if w = 7 then sRate v (day + 1).toNat else 0) + sm (sAcc v day w) 0 (v 0).toNat
def qFeed (n a c d e f tp : Int) : Int := if ¬ (1 ≤ n ∧ n ≤ 5) then -2 else if ¬ (0 ≤ a ∧ a ≤ 127) ∨ ¬ (0 ≤ c ∧ c ≤ 127) ∨ ¬ (0 ≤ d ∧ d ≤ 127) ∨ ¬ (0 ≤ e ∧ e ≤ 127) ∨ ¬ (0 ≤ f ∧ f ≤ 127) then -2 else if ¬ tp + n ≤ 60 then -4 else tp + n
def sFed (a c d e f k : Int) : Int := if k = 0 then a else if k = 1 then c else if k = 2 then d else if k = 3 then e else f
section More2
variable {ρ : Nat → Nat} {σ : mS} {b : Nat} {μ : MM}
theorem X3_like_l {fr to : Int} (h1 : 0 ≤ fr ∧ fr ≤ 2) (h2 : 0 ≤ to ∧ to ≤ 2) (hto : r32 (μ.1 23 to)) : ∀ (n : Nat) (k : Int) (gas : Nat), k + n = 12 → n < gas → 0 ≤ k →
    fnFix (fun _ _ _ _ => none) (gX3_like_b42 ρ b) gas (iI fr) (iI to) (iI k) (St σ b (setF (mA μ 22 (blk (12 * to) k (fun j => μ.1 22 (12 * fr + j)) (μ.1 22))) (blk (12 * to) k (fun j => μ.2.2.2.2 (12 * fr + j)) μ.2.2.2.2))) =
    some (iI (μ.1 23 to), St σ b (setF (mA μ 22 (blk (12 * to) 12 (fun j => μ.1 22 (12 * fr + j)) (μ.1 22))) (blk (12 * to) 12 (fun j => μ.2.2.2.2 (12 * fr + j)) μ.2.2.2.2))) := by
  intro n
  induction n with
  | zero =>
    intro k gas a1 a2 a3
    obtain ⟨g, rfl⟩ := gas_s a2
    rw [fnFix_s, gX3_like_b42, show k = 12 by omega]
    have e : ∀ f, (setF (mA μ 22 f) (blk (12 * to) 12 (fun j => μ.2.2.2.2 (12 * fr + j)) μ.2.2.2.2)).1 23 = μ.1 23 := fun _ => rfl
    simp (disch := omega) only [e, decide_true, decide_false, reduceIte, and_self, and_true, true_and, and_false, false_and, or_true, true_or, or_false, false_or, not_true_eq_false, not_false_eq_true, reduceCtorEq, mA_ss, mI_ss, ↓St_rc, ↓fn_B, ↓fn_nn_none, ↓fn_nn_some, rZ_0, rZ_1, rZ_b, b2_z, b2_1, b2_or, b2_or0, b2_or1, iI_add, iI_sub, iI_mul, iI_neg, lI_add, lI_sub, lI_mul, iI_lt, iI_le, iI_eq, iI_to64, lI_cmp_lt, lI_cmp_gt, lI_cmp_ge, lI_cmp_le, lI_cmp_eq, mA_s, mA_o, mI_s, mI_o, mB_s, mB_o, mA_I, mA_B, mA_T, mA_F, mI_A, mI_B, mI_T, mI_F, mB_A, mB_I, mB_T, mB_F, mT_A, mT_I, mT_B, mT_F, mF_A, mF_I, mF_B, mF_T, ↓md_gA0, md_a0, md_s0, ↓md_gA1, md_a1, md_s1, ↓md_gA2, md_a2, md_s2, ↓md_gA3, md_a3, md_s3, ↓md_gA4, md_a4, md_s4, ↓md_g5, ↓md_p5, ↓md_g6, ↓md_p6, ↓md_g7, ↓md_p7, ↓md_g8, ↓md_p8, ↓md_gA9, md_a9, md_s9, ↓md_gA10, md_a10, md_s10, ↓md_gA11, md_a11, md_s11, ↓md_gA12, md_a12, md_s12, ↓md_gA13, md_a13, md_s13, ↓md_g14, ↓md_p14, ↓md_g15, ↓md_p15, ↓md_g16, ↓md_p16, ↓md_gA17, md_a17, md_s17, ↓md_gA18, md_a18, md_s18, ↓md_g19, ↓md_p19, ↓md_gA20, md_a20, md_s20, ↓md_g21, ↓md_p21, ↓md_gA22, md_a22, md_s22, ↓md_gA23, md_a23, md_s23, ↓md_gA24, md_a24, md_s24]
    rw [if_pos (by decide)]
  | succ n ih =>
    intro k gas a1 a2 a3
    obtain ⟨g, rfl⟩ := gas_s a2
    have ih := ih (k + 1) g (by omega) (by omega) (by omega)
    have e1 : ∀ f, (setF (mA μ 22 (blk (12 * to) k (fun j => μ.1 22 (12 * fr + j)) (μ.1 22))) f).1 22 = blk (12 * to) k (fun j => μ.1 22 (12 * fr + j)) (μ.1 22) := fun _ => rfl
    have e2 : blk (12 * to) k (fun j => μ.1 22 (12 * fr + j)) (μ.1 22) (12 * fr + k) = μ.1 22 (12 * fr + k) := by
      unfold blk
      split
      · congr 1
        omega
      · rfl
    have e3 : blk (12 * to) k (fun j => μ.2.2.2.2 (12 * fr + j)) μ.2.2.2.2 (12 * fr + k) = μ.2.2.2.2 (12 * fr + k) := by
      unfold blk
      split
      · congr 1
        omega
      · rfl
    have e4 := blk_u (st := 12 * to) (k := k) (f := fun j => μ.1 22 (12 * fr + j)) (g := μ.1 22) a3
    have e5 := blk_s (st := 12 * to) (k := k) (f := fun j => μ.2.2.2.2 (12 * fr + j)) (g := μ.2.2.2.2) a3
    rw [fnFix_s, gX3_like_b42]
    simp (disch := omega) only [e1, decide_true, decide_false, reduceIte, and_self, and_true, true_and, and_false, false_and, or_true, true_or, or_false, false_or, not_true_eq_false, not_false_eq_true, reduceCtorEq, mA_ss, mI_ss, ↓St_rc, ↓fn_B, ↓fn_nn_none, ↓fn_nn_some, rZ_0, rZ_1, rZ_b, b2_z, b2_1, b2_or, b2_or0, b2_or1, iI_add, iI_sub, iI_mul, iI_neg, lI_add, lI_sub, lI_mul, iI_lt, iI_le, iI_eq, iI_to64, lI_cmp_lt, lI_cmp_gt, lI_cmp_ge, lI_cmp_le, lI_cmp_eq, mA_s, mA_o, mI_s, mI_o, mB_s, mB_o, mA_I, mA_B, mA_T, mA_F, mI_A, mI_B, mI_T, mI_F, mB_A, mB_I, mB_T, mB_F, mT_A, mT_I, mT_B, mT_F, mF_A, mF_I, mF_B, mF_T, ↓md_gA0, md_a0, md_s0, ↓md_gA1, md_a1, md_s1, ↓md_gA2, md_a2, md_s2, ↓md_gA3, md_a3, md_s3, ↓md_gA4, md_a4, md_s4, ↓md_g5, ↓md_p5, ↓md_g6, ↓md_p6, ↓md_g7, ↓md_p7, ↓md_g8, ↓md_p8, ↓md_gA9, md_a9, md_s9, ↓md_gA10, md_a10, md_s10, ↓md_gA11, md_a11, md_s11, ↓md_gA12, md_a12, md_s12, ↓md_gA13, md_a13, md_s13, ↓md_g14, ↓md_p14, ↓md_g15, ↓md_p15, ↓md_g16, ↓md_p16, ↓md_gA17, md_a17, md_s17, ↓md_gA18, md_a18, md_s18, ↓md_g19, ↓md_p19, ↓md_gA20, md_a20, md_s20, ↓md_g21, ↓md_p21, ↓md_gA22, md_a22, md_s22, ↓md_gA23, md_a23, md_s23, ↓md_gA24, md_a24, md_s24]
    rw [if_neg (by omega), e2, e4]
    have e6 : mF (mA (setF (mA μ 22 (blk (12 * to) k (fun j => μ.1 22 (12 * fr + j)) (μ.1 22))) (blk (12 * to) k (fun j => μ.2.2.2.2 (12 * fr + j)) μ.2.2.2.2)) 22 (blk (12 * to) (k + 1) (fun j => μ.1 22 (12 * fr + j)) (μ.1 22))) (12 * to + k) (blk (12 * to) k (fun j => μ.2.2.2.2 (12 * fr + j)) μ.2.2.2.2 (12 * fr + k)) = setF (mA (mA μ 22 (blk (12 * to) k (fun j => μ.1 22 (12 * fr + j)) (μ.1 22))) 22 (blk (12 * to) (k + 1) (fun j => μ.1 22 (12 * fr + j)) (μ.1 22))) (fun j => if j = 12 * to + k then blk (12 * to) k (fun j => μ.2.2.2.2 (12 * fr + j)) μ.2.2.2.2 (12 * fr + k) else blk (12 * to) k (fun j => μ.2.2.2.2 (12 * fr + j)) μ.2.2.2.2 j) := rfl
    refine (congrArg (fun m => fnFix (fun _ _ _ _ => none) (gX3_like_b42 ρ b) g (iI fr) (iI to) (iI (k + 1)) (St σ b m)) (e6.trans ?_)).trans ih
    rw [e3, e5, mA_ss]
theorem X3_like_t {fr to : Int} (h1 : 0 ≤ fr ∧ fr ≤ 2) (h2 : 0 ≤ to ∧ to ≤ 2) (hrs : ∀ r, 0 ≤ r → r ≤ 2 → -1 ≤ μ.1 23 r ∧ μ.1 23 r ≤ 1) (h3 : 0 ≤ μ.1 23 fr) : ∃ μ1, gX3_like ρ b (iI fr) (iI to) (St σ b μ) = some (iI (μ.1 23 fr), St σ b μ1) ∧ mEqR μ μ1 ∧ μ1.1 23 = uI (μ.1 23) to (μ.1 23 fr) ∧ μ1.1 22 = blk (12 * to) 12 (fun j => μ.1 22 (12 * fr + j)) (μ.1 22) ∧ μ1.2.2.2.2 = blk (12 * to) 12 (fun j => μ.2.2.2.2 (12 * fr + j)) μ.2.2.2.2 := by
  have h9 := hrs fr h1.1 h1.2
  have q := X3_like_l (ρ := ρ) (σ := σ) (b := b) (μ := mA μ 23 (uI (μ.1 23) to (μ.1 23 fr))) h1 h2 (by show r32 (uI (μ.1 23) to (μ.1 23 fr) to); rw [uI_s]; exact ⟨by omega, by omega⟩) 12 0 fnGas (by decide) (by decide) (by decide)
  rw [blk_0, blk_0, mA_self, setF_self] at q
  have e : (mA μ 23 (uI (μ.1 23) to (μ.1 23 fr))).1 23 to = μ.1 23 fr := uI_s _ _ _
  rw [e] at q
  refine ⟨setF (mA (mA μ 23 (uI (μ.1 23) to (μ.1 23 fr))) 22 (blk (12 * to) 12 (fun j => μ.1 22 (12 * fr + j)) (μ.1 22))) (blk (12 * to) 12 (fun j => μ.2.2.2.2 (12 * fr + j)) μ.2.2.2.2), ?_, ⟨rfl, rfl, rfl, rfl, rfl, rfl, rfl, rfl⟩, rfl, rfl, rfl⟩
  unfold gX3_like
  rw [fn_Bt (s := St σ b μ) (by rw [X3_isRow ⟨by omega, by omega⟩, decide_eq_true h1]), fn_Bt (s := St σ b μ) (by rw [X3_isRow ⟨by omega, by omega⟩, decide_eq_true h2])]
  simp (disch := omega) only [h3, decide_true, decide_false, reduceIte, and_self, and_true, true_and, and_false, false_and, or_true, true_or, or_false, false_or, not_true_eq_false, not_false_eq_true, reduceCtorEq, mA_ss, mI_ss, ↓St_rc, ↓fn_B, ↓fn_nn_none, ↓fn_nn_some, rZ_0, rZ_1, rZ_b, b2_z, b2_1, b2_or, b2_or0, b2_or1, iI_add, iI_sub, iI_mul, iI_neg, lI_add, lI_sub, lI_mul, iI_lt, iI_le, iI_eq, iI_to64, lI_cmp_lt, lI_cmp_gt, lI_cmp_ge, lI_cmp_le, lI_cmp_eq, mA_s, mA_o, mI_s, mI_o, mB_s, mB_o, mA_I, mA_B, mA_T, mA_F, mI_A, mI_B, mI_T, mI_F, mB_A, mB_I, mB_T, mB_F, mT_A, mT_I, mT_B, mT_F, mF_A, mF_I, mF_B, mF_T, ↓md_gA0, md_a0, md_s0, ↓md_gA1, md_a1, md_s1, ↓md_gA2, md_a2, md_s2, ↓md_gA3, md_a3, md_s3, ↓md_gA4, md_a4, md_s4, ↓md_g5, ↓md_p5, ↓md_g6, ↓md_p6, ↓md_g7, ↓md_p7, ↓md_g8, ↓md_p8, ↓md_gA9, md_a9, md_s9, ↓md_gA10, md_a10, md_s10, ↓md_gA11, md_a11, md_s11, ↓md_gA12, md_a12, md_s12, ↓md_gA13, md_a13, md_s13, ↓md_g14, ↓md_p14, ↓md_g15, ↓md_p15, ↓md_g16, ↓md_p16, ↓md_gA17, md_a17, md_s17, ↓md_gA18, md_a18, md_s18, ↓md_g19, ↓md_p19, ↓md_gA20, md_a20, md_s20, ↓md_g21, ↓md_p21, ↓md_gA22, md_a22, md_s22, ↓md_gA23, md_a23, md_s23, ↓md_gA24, md_a24, md_s24]
  exact q
theorem X3_put_t {row i x : Int} (h1 : 0 ≤ row ∧ row ≤ 2) (h2 : 0 ≤ i ∧ i ≤ 11) (r3 : r32 x) (hrs : ∀ r, 0 ≤ r → r ≤ 2 → -1 ≤ μ.1 23 r ∧ μ.1 23 r ≤ 1) (h3 : 0 ≤ μ.1 23 row) (hw : r32 (μ.1 22 (12 * row + i))) : gX3_put ρ b (iI row) (iI i) (iI x) (St σ b μ) = some (iI (qPut (μ.1 23) (μ.1 22) μ.2.2.2.2 row i x), St σ b (mF (mA μ 22 (uI (μ.1 22) (12 * row + i) x)) (12 * row + i) (FP.i2f (iI x)))) := by
  have h9 := hrs row h1.1 h1.2
  unfold gX3_put qPut
  rw [if_neg (by simpa using h1), if_neg (by simpa using h2), if_neg (by simpa using h3), fn_Bt (s := St σ b μ) (by rw [X3_isRow ⟨by omega, by omega⟩, decide_eq_true h1]), fn_Bt (s := St σ b μ) (by rw [X3_isIn ⟨by omega, by omega⟩ (by decide) (by decide), decide_eq_true h2])]
  have fin : ∀ z : Bool, gX3_put_b85 ρ b (iI row) (iI i) (iI x) (iI (b2 z)) (St σ b μ) = some (iI (b2 z), St σ b (mF (mA μ 22 (uI (μ.1 22) (12 * row + i) x)) (12 * row + i) (FP.i2f (iI x)))) := by
    intro z
    unfold gX3_put_b85
    simp (disch := omega) only [decide_true, decide_false, reduceIte, and_self, and_true, true_and, and_false, false_and, or_true, true_or, or_false, false_or, not_true_eq_false, not_false_eq_true, reduceCtorEq, mA_ss, mI_ss, ↓St_rc, ↓fn_B, ↓fn_nn_none, ↓fn_nn_some, rZ_0, rZ_1, rZ_b, b2_z, b2_1, b2_or, b2_or0, b2_or1, iI_add, iI_sub, iI_mul, iI_neg, lI_add, lI_sub, lI_mul, iI_lt, iI_le, iI_eq, iI_to64, lI_cmp_lt, lI_cmp_gt, lI_cmp_ge, lI_cmp_le, lI_cmp_eq, mA_s, mA_o, mI_s, mI_o, mB_s, mB_o, mA_I, mA_B, mA_T, mA_F, mI_A, mI_B, mI_T, mI_F, mB_A, mB_I, mB_T, mB_F, mT_A, mT_I, mT_B, mT_F, mF_A, mF_I, mF_B, mF_T, ↓md_gA0, md_a0, md_s0, ↓md_gA1, md_a1, md_s1, ↓md_gA2, md_a2, md_s2, ↓md_gA3, md_a3, md_s3, ↓md_gA4, md_a4, md_s4, ↓md_g5, ↓md_p5, ↓md_g6, ↓md_p6, ↓md_g7, ↓md_p7, ↓md_g8, ↓md_p8, ↓md_gA9, md_a9, md_s9, ↓md_gA10, md_a10, md_s10, ↓md_gA11, md_a11, md_s11, ↓md_gA12, md_a12, md_s12, ↓md_gA13, md_a13, md_s13, ↓md_g14, ↓md_p14, ↓md_g15, ↓md_p15, ↓md_g16, ↓md_p16, ↓md_gA17, md_a17, md_s17, ↓md_gA18, md_a18, md_s18, ↓md_g19, ↓md_p19, ↓md_gA20, md_a20, md_s20, ↓md_g21, ↓md_p21, ↓md_gA22, md_a22, md_s22, ↓md_gA23, md_a23, md_s23, ↓md_gA24, md_a24, md_s24]
    cases z
    · rfl
    · rfl
  by_cases h4 : μ.1 23 row = 0
  · by_cases h5 : μ.1 22 (12 * row + i) = x
    · simp (disch := omega) only [h3, h4, h5, decide_true, decide_false, reduceIte, and_self, and_true, true_and, and_false, false_and, or_true, true_or, or_false, false_or, not_true_eq_false, not_false_eq_true, reduceCtorEq, mA_ss, mI_ss, ↓St_rc, ↓fn_B, ↓fn_nn_none, ↓fn_nn_some, rZ_0, rZ_1, rZ_b, b2_z, b2_1, b2_or, b2_or0, b2_or1, iI_add, iI_sub, iI_mul, iI_neg, lI_add, lI_sub, lI_mul, iI_lt, iI_le, iI_eq, iI_to64, lI_cmp_lt, lI_cmp_gt, lI_cmp_ge, lI_cmp_le, lI_cmp_eq, mA_s, mA_o, mI_s, mI_o, mB_s, mB_o, mA_I, mA_B, mA_T, mA_F, mI_A, mI_B, mI_T, mI_F, mB_A, mB_I, mB_T, mB_F, mT_A, mT_I, mT_B, mT_F, mF_A, mF_I, mF_B, mF_T, ↓md_gA0, md_a0, md_s0, ↓md_gA1, md_a1, md_s1, ↓md_gA2, md_a2, md_s2, ↓md_gA3, md_a3, md_s3, ↓md_gA4, md_a4, md_s4, ↓md_g5, ↓md_p5, ↓md_g6, ↓md_p6, ↓md_g7, ↓md_p7, ↓md_g8, ↓md_p8, ↓md_gA9, md_a9, md_s9, ↓md_gA10, md_a10, md_s10, ↓md_gA11, md_a11, md_s11, ↓md_gA12, md_a12, md_s12, ↓md_gA13, md_a13, md_s13, ↓md_g14, ↓md_p14, ↓md_g15, ↓md_p15, ↓md_g16, ↓md_p16, ↓md_gA17, md_a17, md_s17, ↓md_gA18, md_a18, md_s18, ↓md_g19, ↓md_p19, ↓md_gA20, md_a20, md_s20, ↓md_g21, ↓md_p21, ↓md_gA22, md_a22, md_s22, ↓md_gA23, md_a23, md_s23, ↓md_gA24, md_a24, md_s24]
      rw [if_pos (by decide), show iI 0 = iI (b2 false) from rfl, fin]
    · simp (disch := omega) only [h3, h4, h5, decide_true, decide_false, reduceIte, and_self, and_true, true_and, and_false, false_and, or_true, true_or, or_false, false_or, not_true_eq_false, not_false_eq_true, reduceCtorEq, mA_ss, mI_ss, ↓St_rc, ↓fn_B, ↓fn_nn_none, ↓fn_nn_some, rZ_0, rZ_1, rZ_b, b2_z, b2_1, b2_or, b2_or0, b2_or1, iI_add, iI_sub, iI_mul, iI_neg, lI_add, lI_sub, lI_mul, iI_lt, iI_le, iI_eq, iI_to64, lI_cmp_lt, lI_cmp_gt, lI_cmp_ge, lI_cmp_le, lI_cmp_eq, mA_s, mA_o, mI_s, mI_o, mB_s, mB_o, mA_I, mA_B, mA_T, mA_F, mI_A, mI_B, mI_T, mI_F, mB_A, mB_I, mB_T, mB_F, mT_A, mT_I, mT_B, mT_F, mF_A, mF_I, mF_B, mF_T, ↓md_gA0, md_a0, md_s0, ↓md_gA1, md_a1, md_s1, ↓md_gA2, md_a2, md_s2, ↓md_gA3, md_a3, md_s3, ↓md_gA4, md_a4, md_s4, ↓md_g5, ↓md_p5, ↓md_g6, ↓md_p6, ↓md_g7, ↓md_p7, ↓md_g8, ↓md_p8, ↓md_gA9, md_a9, md_s9, ↓md_gA10, md_a10, md_s10, ↓md_gA11, md_a11, md_s11, ↓md_gA12, md_a12, md_s12, ↓md_gA13, md_a13, md_s13, ↓md_g14, ↓md_p14, ↓md_g15, ↓md_p15, ↓md_g16, ↓md_p16, ↓md_gA17, md_a17, md_s17, ↓md_gA18, md_a18, md_s18, ↓md_g19, ↓md_p19, ↓md_gA20, md_a20, md_s20, ↓md_g21, ↓md_p21, ↓md_gA22, md_a22, md_s22, ↓md_gA23, md_a23, md_s23, ↓md_gA24, md_a24, md_s24]
      rw [if_pos (by decide), show iI 1 = iI (b2 true) from rfl, fin]
  · simp (disch := omega) only [h3, h4, decide_true, decide_false, reduceIte, and_self, and_true, true_and, and_false, false_and, or_true, true_or, or_false, false_or, not_true_eq_false, not_false_eq_true, reduceCtorEq, mA_ss, mI_ss, ↓St_rc, ↓fn_B, ↓fn_nn_none, ↓fn_nn_some, rZ_0, rZ_1, rZ_b, b2_z, b2_1, b2_or, b2_or0, b2_or1, iI_add, iI_sub, iI_mul, iI_neg, lI_add, lI_sub, lI_mul, iI_lt, iI_le, iI_eq, iI_to64, lI_cmp_lt, lI_cmp_gt, lI_cmp_ge, lI_cmp_le, lI_cmp_eq, mA_s, mA_o, mI_s, mI_o, mB_s, mB_o, mA_I, mA_B, mA_T, mA_F, mI_A, mI_B, mI_T, mI_F, mB_A, mB_I, mB_T, mB_F, mT_A, mT_I, mT_B, mT_F, mF_A, mF_I, mF_B, mF_T, ↓md_gA0, md_a0, md_s0, ↓md_gA1, md_a1, md_s1, ↓md_gA2, md_a2, md_s2, ↓md_gA3, md_a3, md_s3, ↓md_gA4, md_a4, md_s4, ↓md_g5, ↓md_p5, ↓md_g6, ↓md_p6, ↓md_g7, ↓md_p7, ↓md_g8, ↓md_p8, ↓md_gA9, md_a9, md_s9, ↓md_gA10, md_a10, md_s10, ↓md_gA11, md_a11, md_s11, ↓md_gA12, md_a12, md_s12, ↓md_gA13, md_a13, md_s13, ↓md_g14, ↓md_p14, ↓md_g15, ↓md_p15, ↓md_g16, ↓md_p16, ↓md_gA17, md_a17, md_s17, ↓md_gA18, md_a18, md_s18, ↓md_g19, ↓md_p19, ↓md_gA20, md_a20, md_s20, ↓md_g21, ↓md_p21, ↓md_gA22, md_a22, md_s22, ↓md_gA23, md_a23, md_s23, ↓md_gA24, md_a24, md_s24]
    unfold sDiff
    by_cases h5 : (Op.cmpValue (FP.fcmp (μ.2.2.2.2 (12 * row + i)) (FP.i2f (iI x))) .l) = iI 0
    · rw [if_pos h5, show iI 0 = iI (b2 false) from rfl, fin, decide_eq_false (fun q => q h5)]
    · rw [if_neg h5, show iI 1 = iI (b2 true) from rfl, fin, decide_eq_true h5]
theorem X3_of_b (hv : okD (μ.1 0)) {l : Int} (hl : 0 ≤ l ∧ l < μ.1 0 0) : ∀ (n : Nat) (k acc : Int) (gas : Nat), k + n = μ.1 0 0 → n < gas → 0 ≤ k → fnFix (fun _ _ _ _ => none) (gX3_of_b147 ρ b) gas (iI l) (iI acc) (iI k) (St σ b μ) = some (iI (acc + sm (fun k => if μ.1 0 (1 + 8 * k) = l then 1 else 0) k n), St σ b μ) := by
  have h0 := hv.1
  intro n
  induction n with
  | zero =>
    intro k acc gas h1 h2 h3
    obtain ⟨g, rfl⟩ := gas_s h2
    rw [fnFix_s, gX3_of_b147, sm, Int.add_zero]
    simp (disch := omega) only [decide_true, decide_false, reduceIte, and_self, and_true, true_and, and_false, false_and, or_true, true_or, or_false, false_or, not_true_eq_false, not_false_eq_true, reduceCtorEq, mA_ss, mI_ss, ↓St_rc, ↓fn_B, ↓fn_nn_none, ↓fn_nn_some, rZ_0, rZ_1, rZ_b, b2_z, b2_1, b2_or, b2_or0, b2_or1, iI_add, iI_sub, iI_mul, iI_neg, lI_add, lI_sub, lI_mul, iI_lt, iI_le, iI_eq, iI_to64, lI_cmp_lt, lI_cmp_gt, lI_cmp_ge, lI_cmp_le, lI_cmp_eq, mA_s, mA_o, mI_s, mI_o, mB_s, mB_o, mA_I, mA_B, mA_T, mA_F, mI_A, mI_B, mI_T, mI_F, mB_A, mB_I, mB_T, mB_F, mT_A, mT_I, mT_B, mT_F, mF_A, mF_I, mF_B, mF_T, ↓md_gA0, md_a0, md_s0, ↓md_gA1, md_a1, md_s1, ↓md_gA2, md_a2, md_s2, ↓md_gA3, md_a3, md_s3, ↓md_gA4, md_a4, md_s4, ↓md_g5, ↓md_p5, ↓md_g6, ↓md_p6, ↓md_g7, ↓md_p7, ↓md_g8, ↓md_p8, ↓md_gA9, md_a9, md_s9, ↓md_gA10, md_a10, md_s10, ↓md_gA11, md_a11, md_s11, ↓md_gA12, md_a12, md_s12, ↓md_gA13, md_a13, md_s13, ↓md_g14, ↓md_p14, ↓md_g15, ↓md_p15, ↓md_g16, ↓md_p16, ↓md_gA17, md_a17, md_s17, ↓md_gA18, md_a18, md_s18, ↓md_g19, ↓md_p19, ↓md_gA20, md_a20, md_s20, ↓md_g21, ↓md_p21, ↓md_gA22, md_a22, md_s22, ↓md_gA23, md_a23, md_s23, ↓md_gA24, md_a24, md_s24]
    rw [if_pos (by omega)]
  | succ n ih =>
    intro k acc gas h1 h2 h3
    obtain ⟨g, rfl⟩ := gas_s h2
    obtain ⟨k1, -⟩ := hv.2.2.2.2.1 k h3 (by omega)
    have e : 1 + 8 * k + 0 = 1 + 8 * k := by omega
    rw [fnFix_s, gX3_of_b147, sm]
    simp (disch := omega) only [X3_told, gX3_of_b175, e, decide_true, decide_false, reduceIte, and_self, and_true, true_and, and_false, false_and, or_true, true_or, or_false, false_or, not_true_eq_false, not_false_eq_true, reduceCtorEq, mA_ss, mI_ss, ↓St_rc, ↓fn_B, ↓fn_nn_none, ↓fn_nn_some, rZ_0, rZ_1, rZ_b, b2_z, b2_1, b2_or, b2_or0, b2_or1, iI_add, iI_sub, iI_mul, iI_neg, lI_add, lI_sub, lI_mul, iI_lt, iI_le, iI_eq, iI_to64, lI_cmp_lt, lI_cmp_gt, lI_cmp_ge, lI_cmp_le, lI_cmp_eq, mA_s, mA_o, mI_s, mI_o, mB_s, mB_o, mA_I, mA_B, mA_T, mA_F, mI_A, mI_B, mI_T, mI_F, mB_A, mB_I, mB_T, mB_F, mT_A, mT_I, mT_B, mT_F, mF_A, mF_I, mF_B, mF_T, ↓md_gA0, md_a0, md_s0, ↓md_gA1, md_a1, md_s1, ↓md_gA2, md_a2, md_s2, ↓md_gA3, md_a3, md_s3, ↓md_gA4, md_a4, md_s4, ↓md_g5, ↓md_p5, ↓md_g6, ↓md_p6, ↓md_g7, ↓md_p7, ↓md_g8, ↓md_p8, ↓md_gA9, md_a9, md_s9, ↓md_gA10, md_a10, md_s10, ↓md_gA11, md_a11, md_s11, ↓md_gA12, md_a12, md_s12, ↓md_gA13, md_a13, md_s13, ↓md_g14, ↓md_p14, ↓md_g15, ↓md_p15, ↓md_g16, ↓md_p16, ↓md_gA17, md_a17, md_s17, ↓md_gA18, md_a18, md_s18, ↓md_g19, ↓md_p19, ↓md_gA20, md_a20, md_s20, ↓md_g21, ↓md_p21, ↓md_gA22, md_a22, md_s22, ↓md_gA23, md_a23, md_s23, ↓md_gA24, md_a24, md_s24]
    rw [if_neg (by omega)]
    by_cases h : μ.1 0 (1 + 8 * k) = l
    · rw [if_pos h, if_pos h, ← Int.add_assoc]
      exact ih (k + 1) _ g (by omega) (by omega) (by omega)
    · rw [if_neg h, if_neg h, Int.add_zero, Int.zero_add]
      exact ih (k + 1) _ g (by omega) (by omega) (by omega)
theorem X3_of_c (hv : okD (μ.1 0)) : ∀ (n : Nat) (k acc : Int) (gas : Nat), k < n → n < gas → -1 ≤ k → k < μ.1 0 0 → fnFix (fun _ _ _ => none) (gX3_of_b193 ρ b) gas (iI acc) (iI k) (St σ b μ) = some (iI (acc + sDep8 (μ.1 0) n k), St σ b μ) := by
  have h0 := hv.1
  intro n
  induction n with
  | zero =>
    intro k acc gas h1 h2 h3 h4
    obtain ⟨g, rfl⟩ := gas_s h2
    rw [fnFix_s, gX3_of_b193, sDep8, Int.add_zero]
    simp (disch := omega) only [decide_true, decide_false, reduceIte, and_self, and_true, true_and, and_false, false_and, or_true, true_or, or_false, false_or, not_true_eq_false, not_false_eq_true, reduceCtorEq, mA_ss, mI_ss, ↓St_rc, ↓fn_B, ↓fn_nn_none, ↓fn_nn_some, rZ_0, rZ_1, rZ_b, b2_z, b2_1, b2_or, b2_or0, b2_or1, iI_add, iI_sub, iI_mul, iI_neg, lI_add, lI_sub, lI_mul, iI_lt, iI_le, iI_eq, iI_to64, lI_cmp_lt, lI_cmp_gt, lI_cmp_ge, lI_cmp_le, lI_cmp_eq, mA_s, mA_o, mI_s, mI_o, mB_s, mB_o, mA_I, mA_B, mA_T, mA_F, mI_A, mI_B, mI_T, mI_F, mB_A, mB_I, mB_T, mB_F, mT_A, mT_I, mT_B, mT_F, mF_A, mF_I, mF_B, mF_T, ↓md_gA0, md_a0, md_s0, ↓md_gA1, md_a1, md_s1, ↓md_gA2, md_a2, md_s2, ↓md_gA3, md_a3, md_s3, ↓md_gA4, md_a4, md_s4, ↓md_g5, ↓md_p5, ↓md_g6, ↓md_p6, ↓md_g7, ↓md_p7, ↓md_g8, ↓md_p8, ↓md_gA9, md_a9, md_s9, ↓md_gA10, md_a10, md_s10, ↓md_gA11, md_a11, md_s11, ↓md_gA12, md_a12, md_s12, ↓md_gA13, md_a13, md_s13, ↓md_g14, ↓md_p14, ↓md_g15, ↓md_p15, ↓md_g16, ↓md_p16, ↓md_gA17, md_a17, md_s17, ↓md_gA18, md_a18, md_s18, ↓md_g19, ↓md_p19, ↓md_gA20, md_a20, md_s20, ↓md_g21, ↓md_p21, ↓md_gA22, md_a22, md_s22, ↓md_gA23, md_a23, md_s23, ↓md_gA24, md_a24, md_s24]
    rw [if_pos (by omega)]
  | succ n ih =>
    intro k acc gas h1 h2 h3 h4
    obtain ⟨g, rfl⟩ := gas_s h2
    rw [fnFix_s, gX3_of_b193, sDep8]
    by_cases hk : k < 0
    · simp (disch := omega) only [hk, decide_true, decide_false, reduceIte, and_self, and_true, true_and, and_false, false_and, or_true, true_or, or_false, false_or, not_true_eq_false, not_false_eq_true, reduceCtorEq, mA_ss, mI_ss, ↓St_rc, ↓fn_B, ↓fn_nn_none, ↓fn_nn_some, rZ_0, rZ_1, rZ_b, b2_z, b2_1, b2_or, b2_or0, b2_or1, iI_add, iI_sub, iI_mul, iI_neg, lI_add, lI_sub, lI_mul, iI_lt, iI_le, iI_eq, iI_to64, lI_cmp_lt, lI_cmp_gt, lI_cmp_ge, lI_cmp_le, lI_cmp_eq, mA_s, mA_o, mI_s, mI_o, mB_s, mB_o, mA_I, mA_B, mA_T, mA_F, mI_A, mI_B, mI_T, mI_F, mB_A, mB_I, mB_T, mB_F, mT_A, mT_I, mT_B, mT_F, mF_A, mF_I, mF_B, mF_T, ↓md_gA0, md_a0, md_s0, ↓md_gA1, md_a1, md_s1, ↓md_gA2, md_a2, md_s2, ↓md_gA3, md_a3, md_s3, ↓md_gA4, md_a4, md_s4, ↓md_g5, ↓md_p5, ↓md_g6, ↓md_p6, ↓md_g7, ↓md_p7, ↓md_g8, ↓md_p8, ↓md_gA9, md_a9, md_s9, ↓md_gA10, md_a10, md_s10, ↓md_gA11, md_a11, md_s11, ↓md_gA12, md_a12, md_s12, ↓md_gA13, md_a13, md_s13, ↓md_g14, ↓md_p14, ↓md_g15, ↓md_p15, ↓md_g16, ↓md_p16, ↓md_gA17, md_a17, md_s17, ↓md_gA18, md_a18, md_s18, ↓md_g19, ↓md_p19, ↓md_gA20, md_a20, md_s20, ↓md_g21, ↓md_p21, ↓md_gA22, md_a22, md_s22, ↓md_gA23, md_a23, md_s23, ↓md_gA24, md_a24, md_s24]
      rw [Int.add_zero]
    · obtain ⟨k1, -⟩ := hv.2.2.2.2.1 k (by omega) h4
      have e : 1 + 8 * k + 0 = 1 + 8 * k := by omega
      simp (disch := omega) only [X3_told, hk, e, decide_true, decide_false, reduceIte, and_self, and_true, true_and, and_false, false_and, or_true, true_or, or_false, false_or, not_true_eq_false, not_false_eq_true, reduceCtorEq, mA_ss, mI_ss, ↓St_rc, ↓fn_B, ↓fn_nn_none, ↓fn_nn_some, rZ_0, rZ_1, rZ_b, b2_z, b2_1, b2_or, b2_or0, b2_or1, iI_add, iI_sub, iI_mul, iI_neg, lI_add, lI_sub, lI_mul, iI_lt, iI_le, iI_eq, iI_to64, lI_cmp_lt, lI_cmp_gt, lI_cmp_ge, lI_cmp_le, lI_cmp_eq, mA_s, mA_o, mI_s, mI_o, mB_s, mB_o, mA_I, mA_B, mA_T, mA_F, mI_A, mI_B, mI_T, mI_F, mB_A, mB_I, mB_T, mB_F, mT_A, mT_I, mT_B, mT_F, mF_A, mF_I, mF_B, mF_T, ↓md_gA0, md_a0, md_s0, ↓md_gA1, md_a1, md_s1, ↓md_gA2, md_a2, md_s2, ↓md_gA3, md_a3, md_s3, ↓md_gA4, md_a4, md_s4, ↓md_g5, ↓md_p5, ↓md_g6, ↓md_p6, ↓md_g7, ↓md_p7, ↓md_g8, ↓md_p8, ↓md_gA9, md_a9, md_s9, ↓md_gA10, md_a10, md_s10, ↓md_gA11, md_a11, md_s11, ↓md_gA12, md_a12, md_s12, ↓md_gA13, md_a13, md_s13, ↓md_g14, ↓md_p14, ↓md_g15, ↓md_p15, ↓md_g16, ↓md_p16, ↓md_gA17, md_a17, md_s17, ↓md_gA18, md_a18, md_s18, ↓md_g19, ↓md_p19, ↓md_gA20, md_a20, md_s20, ↓md_g21, ↓md_p21, ↓md_gA22, md_a22, md_s22, ↓md_gA23, md_a23, md_s23, ↓md_gA24, md_a24, md_s24]
      rw [ih _ _ g (by omega) (by omega) (by omega) (by omega), Int.add_assoc]
theorem X3_of (hv : okD (μ.1 0)) {l w : Int} (r1 : r32 l) (r2 : r32 w) : gX3_of ρ b (iI l) (iI w) (St σ b μ) = some (iI (qOf (μ.1 0) l w), St σ b μ) := by
  have h0 := hv.1
  unfold gX3_of qOf
  by_cases h1 : 0 ≤ l ∧ l < μ.1 0 0
  · rw [St_rc, fn_Bt (s := St σ b μ) (by rw [X3_isLease r1 (by omega), decide_eq_true h1]), if_neg (by simpa using h1)]
    by_cases h2 : 0 ≤ w ∧ w ≤ 9
    · obtain ⟨k1, k2, k3, k4, k5, k6⟩ := hv.2.2.2.2.1 l h1.1 h1.2
      have k7 := endOf_r hv h1.2
      have e : 1 + 8 * l + 0 = 1 + 8 * l := by omega
      rw [fn_Bt (s := St σ b μ) (by rw [X3_isIn r2 (by decide) (by decide), decide_eq_true h2]), if_neg (c := ¬ (0 ≤ w ∧ w ≤ 9)) (by simpa using h2)]
      by_cases w0 : w = 0
      · rw [if_pos (by rw [w0]), if_pos w0]
        simp (disch := omega) only [X3_told, e, decide_true, decide_false, reduceIte, and_self, and_true, true_and, and_false, false_and, or_true, true_or, or_false, false_or, not_true_eq_false, not_false_eq_true, reduceCtorEq, mA_ss, mI_ss, ↓St_rc, ↓fn_B, ↓fn_nn_none, ↓fn_nn_some, rZ_0, rZ_1, rZ_b, b2_z, b2_1, b2_or, b2_or0, b2_or1, iI_add, iI_sub, iI_mul, iI_neg, lI_add, lI_sub, lI_mul, iI_lt, iI_le, iI_eq, iI_to64, lI_cmp_lt, lI_cmp_gt, lI_cmp_ge, lI_cmp_le, lI_cmp_eq, mA_s, mA_o, mI_s, mI_o, mB_s, mB_o, mA_I, mA_B, mA_T, mA_F, mI_A, mI_B, mI_T, mI_F, mB_A, mB_I, mB_T, mB_F, mT_A, mT_I, mT_B, mT_F, mF_A, mF_I, mF_B, mF_T, ↓md_gA0, md_a0, md_s0, ↓md_gA1, md_a1, md_s1, ↓md_gA2, md_a2, md_s2, ↓md_gA3, md_a3, md_s3, ↓md_gA4, md_a4, md_s4, ↓md_g5, ↓md_p5, ↓md_g6, ↓md_p6, ↓md_g7, ↓md_p7, ↓md_g8, ↓md_p8, ↓md_gA9, md_a9, md_s9, ↓md_gA10, md_a10, md_s10, ↓md_gA11, md_a11, md_s11, ↓md_gA12, md_a12, md_s12, ↓md_gA13, md_a13, md_s13, ↓md_g14, ↓md_p14, ↓md_g15, ↓md_p15, ↓md_g16, ↓md_p16, ↓md_gA17, md_a17, md_s17, ↓md_gA18, md_a18, md_s18, ↓md_g19, ↓md_p19, ↓md_gA20, md_a20, md_s20, ↓md_g21, ↓md_p21, ↓md_gA22, md_a22, md_s22, ↓md_gA23, md_a23, md_s23, ↓md_gA24, md_a24, md_s24]
        split <;> rfl
      rw [if_neg (fun q => w0 ((iI_eq r2 (by decide)).mp q)), if_neg w0]
      by_cases w1 : w = 1
      · rw [if_pos (by rw [w1]), if_pos w1, w1]
        simp (disch := omega) only [X3_told, decide_true, decide_false, reduceIte, and_self, and_true, true_and, and_false, false_and, or_true, true_or, or_false, false_or, not_true_eq_false, not_false_eq_true, reduceCtorEq, mA_ss, mI_ss, ↓St_rc, ↓fn_B, ↓fn_nn_none, ↓fn_nn_some, rZ_0, rZ_1, rZ_b, b2_z, b2_1, b2_or, b2_or0, b2_or1, iI_add, iI_sub, iI_mul, iI_neg, lI_add, lI_sub, lI_mul, iI_lt, iI_le, iI_eq, iI_to64, lI_cmp_lt, lI_cmp_gt, lI_cmp_ge, lI_cmp_le, lI_cmp_eq, mA_s, mA_o, mI_s, mI_o, mB_s, mB_o, mA_I, mA_B, mA_T, mA_F, mI_A, mI_B, mI_T, mI_F, mB_A, mB_I, mB_T, mB_F, mT_A, mT_I, mT_B, mT_F, mF_A, mF_I, mF_B, mF_T, ↓md_gA0, md_a0, md_s0, ↓md_gA1, md_a1, md_s1, ↓md_gA2, md_a2, md_s2, ↓md_gA3, md_a3, md_s3, ↓md_gA4, md_a4, md_s4, ↓md_g5, ↓md_p5, ↓md_g6, ↓md_p6, ↓md_g7, ↓md_p7, ↓md_g8, ↓md_p8, ↓md_gA9, md_a9, md_s9, ↓md_gA10, md_a10, md_s10, ↓md_gA11, md_a11, md_s11, ↓md_gA12, md_a12, md_s12, ↓md_gA13, md_a13, md_s13, ↓md_g14, ↓md_p14, ↓md_g15, ↓md_p15, ↓md_g16, ↓md_p16, ↓md_gA17, md_a17, md_s17, ↓md_gA18, md_a18, md_s18, ↓md_g19, ↓md_p19, ↓md_gA20, md_a20, md_s20, ↓md_g21, ↓md_p21, ↓md_gA22, md_a22, md_s22, ↓md_gA23, md_a23, md_s23, ↓md_gA24, md_a24, md_s24]
      rw [if_neg (fun q => w1 ((iI_eq r2 (by decide)).mp q)), if_neg w1]
      by_cases w2 : w = 2
      · rw [if_pos (by rw [w2]), if_pos w2, w2]
        simp (disch := omega) only [X3_told, decide_true, decide_false, reduceIte, and_self, and_true, true_and, and_false, false_and, or_true, true_or, or_false, false_or, not_true_eq_false, not_false_eq_true, reduceCtorEq, mA_ss, mI_ss, ↓St_rc, ↓fn_B, ↓fn_nn_none, ↓fn_nn_some, rZ_0, rZ_1, rZ_b, b2_z, b2_1, b2_or, b2_or0, b2_or1, iI_add, iI_sub, iI_mul, iI_neg, lI_add, lI_sub, lI_mul, iI_lt, iI_le, iI_eq, iI_to64, lI_cmp_lt, lI_cmp_gt, lI_cmp_ge, lI_cmp_le, lI_cmp_eq, mA_s, mA_o, mI_s, mI_o, mB_s, mB_o, mA_I, mA_B, mA_T, mA_F, mI_A, mI_B, mI_T, mI_F, mB_A, mB_I, mB_T, mB_F, mT_A, mT_I, mT_B, mT_F, mF_A, mF_I, mF_B, mF_T, ↓md_gA0, md_a0, md_s0, ↓md_gA1, md_a1, md_s1, ↓md_gA2, md_a2, md_s2, ↓md_gA3, md_a3, md_s3, ↓md_gA4, md_a4, md_s4, ↓md_g5, ↓md_p5, ↓md_g6, ↓md_p6, ↓md_g7, ↓md_p7, ↓md_g8, ↓md_p8, ↓md_gA9, md_a9, md_s9, ↓md_gA10, md_a10, md_s10, ↓md_gA11, md_a11, md_s11, ↓md_gA12, md_a12, md_s12, ↓md_gA13, md_a13, md_s13, ↓md_g14, ↓md_p14, ↓md_g15, ↓md_p15, ↓md_g16, ↓md_p16, ↓md_gA17, md_a17, md_s17, ↓md_gA18, md_a18, md_s18, ↓md_g19, ↓md_p19, ↓md_gA20, md_a20, md_s20, ↓md_g21, ↓md_p21, ↓md_gA22, md_a22, md_s22, ↓md_gA23, md_a23, md_s23, ↓md_gA24, md_a24, md_s24]
      rw [if_neg (fun q => w2 ((iI_eq r2 (by decide)).mp q)), if_neg w2]
      by_cases w3 : w = 3
      · rw [if_pos (by rw [w3]), if_pos w3, w3]
        simp (disch := omega) only [X3_told, decide_true, decide_false, reduceIte, and_self, and_true, true_and, and_false, false_and, or_true, true_or, or_false, false_or, not_true_eq_false, not_false_eq_true, reduceCtorEq, mA_ss, mI_ss, ↓St_rc, ↓fn_B, ↓fn_nn_none, ↓fn_nn_some, rZ_0, rZ_1, rZ_b, b2_z, b2_1, b2_or, b2_or0, b2_or1, iI_add, iI_sub, iI_mul, iI_neg, lI_add, lI_sub, lI_mul, iI_lt, iI_le, iI_eq, iI_to64, lI_cmp_lt, lI_cmp_gt, lI_cmp_ge, lI_cmp_le, lI_cmp_eq, mA_s, mA_o, mI_s, mI_o, mB_s, mB_o, mA_I, mA_B, mA_T, mA_F, mI_A, mI_B, mI_T, mI_F, mB_A, mB_I, mB_T, mB_F, mT_A, mT_I, mT_B, mT_F, mF_A, mF_I, mF_B, mF_T, ↓md_gA0, md_a0, md_s0, ↓md_gA1, md_a1, md_s1, ↓md_gA2, md_a2, md_s2, ↓md_gA3, md_a3, md_s3, ↓md_gA4, md_a4, md_s4, ↓md_g5, ↓md_p5, ↓md_g6, ↓md_p6, ↓md_g7, ↓md_p7, ↓md_g8, ↓md_p8, ↓md_gA9, md_a9, md_s9, ↓md_gA10, md_a10, md_s10, ↓md_gA11, md_a11, md_s11, ↓md_gA12, md_a12, md_s12, ↓md_gA13, md_a13, md_s13, ↓md_g14, ↓md_p14, ↓md_g15, ↓md_p15, ↓md_g16, ↓md_p16, ↓md_gA17, md_a17, md_s17, ↓md_gA18, md_a18, md_s18, ↓md_g19, ↓md_p19, ↓md_gA20, md_a20, md_s20, ↓md_g21, ↓md_p21, ↓md_gA22, md_a22, md_s22, ↓md_gA23, md_a23, md_s23, ↓md_gA24, md_a24, md_s24]
      rw [if_neg (fun q => w3 ((iI_eq r2 (by decide)).mp q)), if_neg w3]
      by_cases w4 : w = 4
      · rw [if_pos (by rw [w4]), if_pos w4, w4]
        simp (disch := omega) only [X3_told, decide_true, decide_false, reduceIte, and_self, and_true, true_and, and_false, false_and, or_true, true_or, or_false, false_or, not_true_eq_false, not_false_eq_true, reduceCtorEq, mA_ss, mI_ss, ↓St_rc, ↓fn_B, ↓fn_nn_none, ↓fn_nn_some, rZ_0, rZ_1, rZ_b, b2_z, b2_1, b2_or, b2_or0, b2_or1, iI_add, iI_sub, iI_mul, iI_neg, lI_add, lI_sub, lI_mul, iI_lt, iI_le, iI_eq, iI_to64, lI_cmp_lt, lI_cmp_gt, lI_cmp_ge, lI_cmp_le, lI_cmp_eq, mA_s, mA_o, mI_s, mI_o, mB_s, mB_o, mA_I, mA_B, mA_T, mA_F, mI_A, mI_B, mI_T, mI_F, mB_A, mB_I, mB_T, mB_F, mT_A, mT_I, mT_B, mT_F, mF_A, mF_I, mF_B, mF_T, ↓md_gA0, md_a0, md_s0, ↓md_gA1, md_a1, md_s1, ↓md_gA2, md_a2, md_s2, ↓md_gA3, md_a3, md_s3, ↓md_gA4, md_a4, md_s4, ↓md_g5, ↓md_p5, ↓md_g6, ↓md_p6, ↓md_g7, ↓md_p7, ↓md_g8, ↓md_p8, ↓md_gA9, md_a9, md_s9, ↓md_gA10, md_a10, md_s10, ↓md_gA11, md_a11, md_s11, ↓md_gA12, md_a12, md_s12, ↓md_gA13, md_a13, md_s13, ↓md_g14, ↓md_p14, ↓md_g15, ↓md_p15, ↓md_g16, ↓md_p16, ↓md_gA17, md_a17, md_s17, ↓md_gA18, md_a18, md_s18, ↓md_g19, ↓md_p19, ↓md_gA20, md_a20, md_s20, ↓md_g21, ↓md_p21, ↓md_gA22, md_a22, md_s22, ↓md_gA23, md_a23, md_s23, ↓md_gA24, md_a24, md_s24]
      rw [if_neg (fun q => w4 ((iI_eq r2 (by decide)).mp q)), if_neg w4]
      by_cases w5 : w = 5
      · rw [if_pos (by rw [w5]), if_pos w5]
        simp (disch := omega) only [X3_endOf hv, decide_true, decide_false, reduceIte, and_self, and_true, true_and, and_false, false_and, or_true, true_or, or_false, false_or, not_true_eq_false, not_false_eq_true, reduceCtorEq, mA_ss, mI_ss, ↓St_rc, ↓fn_B, ↓fn_nn_none, ↓fn_nn_some, rZ_0, rZ_1, rZ_b, b2_z, b2_1, b2_or, b2_or0, b2_or1, iI_add, iI_sub, iI_mul, iI_neg, lI_add, lI_sub, lI_mul, iI_lt, iI_le, iI_eq, iI_to64, lI_cmp_lt, lI_cmp_gt, lI_cmp_ge, lI_cmp_le, lI_cmp_eq, mA_s, mA_o, mI_s, mI_o, mB_s, mB_o, mA_I, mA_B, mA_T, mA_F, mI_A, mI_B, mI_T, mI_F, mB_A, mB_I, mB_T, mB_F, mT_A, mT_I, mT_B, mT_F, mF_A, mF_I, mF_B, mF_T, ↓md_gA0, md_a0, md_s0, ↓md_gA1, md_a1, md_s1, ↓md_gA2, md_a2, md_s2, ↓md_gA3, md_a3, md_s3, ↓md_gA4, md_a4, md_s4, ↓md_g5, ↓md_p5, ↓md_g6, ↓md_p6, ↓md_g7, ↓md_p7, ↓md_g8, ↓md_p8, ↓md_gA9, md_a9, md_s9, ↓md_gA10, md_a10, md_s10, ↓md_gA11, md_a11, md_s11, ↓md_gA12, md_a12, md_s12, ↓md_gA13, md_a13, md_s13, ↓md_g14, ↓md_p14, ↓md_g15, ↓md_p15, ↓md_g16, ↓md_p16, ↓md_gA17, md_a17, md_s17, ↓md_gA18, md_a18, md_s18, ↓md_g19, ↓md_p19, ↓md_gA20, md_a20, md_s20, ↓md_g21, ↓md_p21, ↓md_gA22, md_a22, md_s22, ↓md_gA23, md_a23, md_s23, ↓md_gA24, md_a24, md_s24]
        split <;> rfl
      rw [if_neg (fun q => w5 ((iI_eq r2 (by decide)).mp q)), if_neg w5]
      by_cases w6 : w = 6
      · rw [if_pos (by rw [w6]), if_pos w6]
        simp (disch := omega) only [X3_told, decide_true, decide_false, reduceIte, and_self, and_true, true_and, and_false, false_and, or_true, true_or, or_false, false_or, not_true_eq_false, not_false_eq_true, reduceCtorEq, mA_ss, mI_ss, ↓St_rc, ↓fn_B, ↓fn_nn_none, ↓fn_nn_some, rZ_0, rZ_1, rZ_b, b2_z, b2_1, b2_or, b2_or0, b2_or1, iI_add, iI_sub, iI_mul, iI_neg, lI_add, lI_sub, lI_mul, iI_lt, iI_le, iI_eq, iI_to64, lI_cmp_lt, lI_cmp_gt, lI_cmp_ge, lI_cmp_le, lI_cmp_eq, mA_s, mA_o, mI_s, mI_o, mB_s, mB_o, mA_I, mA_B, mA_T, mA_F, mI_A, mI_B, mI_T, mI_F, mB_A, mB_I, mB_T, mB_F, mT_A, mT_I, mT_B, mT_F, mF_A, mF_I, mF_B, mF_T, ↓md_gA0, md_a0, md_s0, ↓md_gA1, md_a1, md_s1, ↓md_gA2, md_a2, md_s2, ↓md_gA3, md_a3, md_s3, ↓md_gA4, md_a4, md_s4, ↓md_g5, ↓md_p5, ↓md_g6, ↓md_p6, ↓md_g7, ↓md_p7, ↓md_g8, ↓md_p8, ↓md_gA9, md_a9, md_s9, ↓md_gA10, md_a10, md_s10, ↓md_gA11, md_a11, md_s11, ↓md_gA12, md_a12, md_s12, ↓md_gA13, md_a13, md_s13, ↓md_g14, ↓md_p14, ↓md_g15, ↓md_p15, ↓md_g16, ↓md_p16, ↓md_gA17, md_a17, md_s17, ↓md_gA18, md_a18, md_s18, ↓md_g19, ↓md_p19, ↓md_gA20, md_a20, md_s20, ↓md_g21, ↓md_p21, ↓md_gA22, md_a22, md_s22, ↓md_gA23, md_a23, md_s23, ↓md_gA24, md_a24, md_s24]
        split <;> rfl
      rw [if_neg (fun q => w6 ((iI_eq r2 (by decide)).mp q)), if_neg w6]
      by_cases w7 : w = 7
      · rw [if_pos (by rw [w7]), if_pos w7]
        have q := X3_of_b (ρ := ρ) (σ := σ) (b := b) hv h1 (μ.1 0 0).toNat 0 0 fnGas (by omega) (by unfold fnGas; omega) (by decide)
        rw [Int.zero_add] at q
        exact q
      rw [if_neg (fun q => w7 ((iI_eq r2 (by decide)).mp q)), if_neg w7]
      by_cases w8 : w = 8
      · rw [if_pos (by rw [w8]), if_pos w8]
        have q := X3_of_c (ρ := ρ) (σ := σ) (b := b) hv 11 (μ.1 0 (1 + 8 * l)) 0 fnGas (by omega) (by decide) (by omega) (by omega)
        rw [Int.zero_add] at q
        simp (disch := omega) only [X3_told, e, decide_true, decide_false, reduceIte, and_self, and_true, true_and, and_false, false_and, or_true, true_or, or_false, false_or, not_true_eq_false, not_false_eq_true, reduceCtorEq, mA_ss, mI_ss, ↓St_rc, ↓fn_B, ↓fn_nn_none, ↓fn_nn_some, rZ_0, rZ_1, rZ_b, b2_z, b2_1, b2_or, b2_or0, b2_or1, iI_add, iI_sub, iI_mul, iI_neg, lI_add, lI_sub, lI_mul, iI_lt, iI_le, iI_eq, iI_to64, lI_cmp_lt, lI_cmp_gt, lI_cmp_ge, lI_cmp_le, lI_cmp_eq, mA_s, mA_o, mI_s, mI_o, mB_s, mB_o, mA_I, mA_B, mA_T, mA_F, mI_A, mI_B, mI_T, mI_F, mB_A, mB_I, mB_T, mB_F, mT_A, mT_I, mT_B, mT_F, mF_A, mF_I, mF_B, mF_T, ↓md_gA0, md_a0, md_s0, ↓md_gA1, md_a1, md_s1, ↓md_gA2, md_a2, md_s2, ↓md_gA3, md_a3, md_s3, ↓md_gA4, md_a4, md_s4, ↓md_g5, ↓md_p5, ↓md_g6, ↓md_p6, ↓md_g7, ↓md_p7, ↓md_g8, ↓md_p8, ↓md_gA9, md_a9, md_s9, ↓md_gA10, md_a10, md_s10, ↓md_gA11, md_a11, md_s11, ↓md_gA12, md_a12, md_s12, ↓md_gA13, md_a13, md_s13, ↓md_g14, ↓md_p14, ↓md_g15, ↓md_p15, ↓md_g16, ↓md_p16, ↓md_gA17, md_a17, md_s17, ↓md_gA18, md_a18, md_s18, ↓md_g19, ↓md_p19, ↓md_gA20, md_a20, md_s20, ↓md_g21, ↓md_p21, ↓md_gA22, md_a22, md_s22, ↓md_gA23, md_a23, md_s23, ↓md_gA24, md_a24, md_s24]
        exact q
      rw [if_neg (fun q => w8 ((iI_eq r2 (by decide)).mp q)), if_neg w8]
      simp (disch := omega) only [X3_told, decide_true, decide_false, reduceIte, and_self, and_true, true_and, and_false, false_and, or_true, true_or, or_false, false_or, not_true_eq_false, not_false_eq_true, reduceCtorEq, mA_ss, mI_ss, ↓St_rc, ↓fn_B, ↓fn_nn_none, ↓fn_nn_some, rZ_0, rZ_1, rZ_b, b2_z, b2_1, b2_or, b2_or0, b2_or1, iI_add, iI_sub, iI_mul, iI_neg, lI_add, lI_sub, lI_mul, iI_lt, iI_le, iI_eq, iI_to64, lI_cmp_lt, lI_cmp_gt, lI_cmp_ge, lI_cmp_le, lI_cmp_eq, mA_s, mA_o, mI_s, mI_o, mB_s, mB_o, mA_I, mA_B, mA_T, mA_F, mI_A, mI_B, mI_T, mI_F, mB_A, mB_I, mB_T, mB_F, mT_A, mT_I, mT_B, mT_F, mF_A, mF_I, mF_B, mF_T, ↓md_gA0, md_a0, md_s0, ↓md_gA1, md_a1, md_s1, ↓md_gA2, md_a2, md_s2, ↓md_gA3, md_a3, md_s3, ↓md_gA4, md_a4, md_s4, ↓md_g5, ↓md_p5, ↓md_g6, ↓md_p6, ↓md_g7, ↓md_p7, ↓md_g8, ↓md_p8, ↓md_gA9, md_a9, md_s9, ↓md_gA10, md_a10, md_s10, ↓md_gA11, md_a11, md_s11, ↓md_gA12, md_a12, md_s12, ↓md_gA13, md_a13, md_s13, ↓md_g14, ↓md_p14, ↓md_g15, ↓md_p15, ↓md_g16, ↓md_p16, ↓md_gA17, md_a17, md_s17, ↓md_gA18, md_a18, md_s18, ↓md_g19, ↓md_p19, ↓md_gA20, md_a20, md_s20, ↓md_g21, ↓md_p21, ↓md_gA22, md_a22, md_s22, ↓md_gA23, md_a23, md_s23, ↓md_gA24, md_a24, md_s24]
      split <;> rfl
    · rw [fn_Bf (s := St σ b μ) (by rw [X3_isIn r2 (by decide) (by decide), decide_eq_false h2]), if_pos h2]
  · rw [St_rc, fn_Bf (s := St σ b μ) (by rw [X3_isLease r1 (by omega), decide_eq_false h1]), if_pos h1]
end More2
end
section
/-! accounts and the tape -/
section Acc
variable {ρ : Nat → Nat} {σ : mS} {b : Nat} {μ : MM}
/-- a memory like μ in what the sums need -/
def mLk (v : Int → Int) (μ μ1 : MM) : Prop := mEq μ μ1 ∧ μ1.1 0 = v
theorem X3_acc_l {day w : Int} (hd : 0 ≤ day ∧ day ≤ 3599) (hw : 0 ≤ w ∧ w ≤ 7) (v : Int → Int) (hv : okD v) : ∀ (n : Nat) (l acc : Int) (gas : Nat) (μ : MM), μ.1 0 = v → l + n = v 0 → n < gas → 0 ≤ l → ∃ μ1, fnFix (fun _ _ _ _ _ => none) (gX3_account_b99 ρ b) gas (iI day) (iI w) (lI acc) (iI l) (St σ b μ) = some (lI (acc + sm (sAcc v day w) l n), St σ b μ1) ∧ mEq μ μ1 := by
  have h0 := hv.1
  intro n
  induction n with
  | zero =>
    intro l acc gas μ hμ h1 h2 h3
    obtain ⟨g, rfl⟩ := gas_s h2
    refine ⟨μ, ?_, mEq.rf μ⟩
    subst hμ
    rw [fnFix_s, gX3_account_b99, sm, Int.add_zero]
    simp (disch := omega) only [decide_true, decide_false, reduceIte, and_self, and_true, true_and, and_false, false_and, or_true, true_or, or_false, false_or, not_true_eq_false, not_false_eq_true, reduceCtorEq, mA_ss, mI_ss, ↓St_rc, ↓fn_B, ↓fn_nn_none, ↓fn_nn_some, rZ_0, rZ_1, rZ_b, b2_z, b2_1, b2_or, b2_or0, b2_or1, iI_add, iI_sub, iI_mul, iI_neg, lI_add, lI_sub, lI_mul, iI_lt, iI_le, iI_eq, iI_to64, lI_cmp_lt, lI_cmp_gt, lI_cmp_ge, lI_cmp_le, lI_cmp_eq, mA_s, mA_o, mI_s, mI_o, mB_s, mB_o, mA_I, mA_B, mA_T, mA_F, mI_A, mI_B, mI_T, mI_F, mB_A, mB_I, mB_T, mB_F, mT_A, mT_I, mT_B, mT_F, mF_A, mF_I, mF_B, mF_T, ↓md_gA0, md_a0, md_s0, ↓md_gA1, md_a1, md_s1, ↓md_gA2, md_a2, md_s2, ↓md_gA3, md_a3, md_s3, ↓md_gA4, md_a4, md_s4, ↓md_g5, ↓md_p5, ↓md_g6, ↓md_p6, ↓md_g7, ↓md_p7, ↓md_g8, ↓md_p8, ↓md_gA9, md_a9, md_s9, ↓md_gA10, md_a10, md_s10, ↓md_gA11, md_a11, md_s11, ↓md_gA12, md_a12, md_s12, ↓md_gA13, md_a13, md_s13, ↓md_g14, ↓md_p14, ↓md_g15, ↓md_p15, ↓md_g16, ↓md_p16, ↓md_gA17, md_a17, md_s17, ↓md_gA18, md_a18, md_s18, ↓md_g19, ↓md_p19, ↓md_gA20, md_a20, md_s20, ↓md_g21, ↓md_p21, ↓md_gA22, md_a22, md_s22, ↓md_gA23, md_a23, md_s23, ↓md_gA24, md_a24, md_s24]
    rw [if_pos (by omega)]
  | succ n ih =>
    intro l acc gas μ hμ h1 h2 h3
    obtain ⟨g, rfl⟩ := gas_s h2
    have hl : 0 ≤ l ∧ l < v 0 := ⟨h3, by omega⟩
    have go : ∀ (x : Int) (μ1 : MM), mEq μ μ1 → x = acc + sAcc v day w l → ∃ μ2, fnFix (fun _ _ _ _ _ => none) (gX3_account_b99 ρ b) g (iI day) (iI w) (lI x) (iI (l + 1)) (St σ b μ1) = some (lI (acc + sm (sAcc v day w) l (n + 1)), St σ b μ2) ∧ mEq μ μ2 := by
      intro x μ1 e1 e2
      obtain ⟨μ2, q1, q2⟩ := ih (l + 1) x g μ1 (e1.1.trans hμ) (by omega) (by omega) (by omega)
      refine ⟨μ2, ?_, e1.tr q2⟩
      rw [q1, e2, sm, Int.add_assoc]
    subst hμ
    obtain ⟨k1, k2, -⟩ := hv.2.2.2.2.1 l hl.1 hl.2
    have k3 := endOf_r hv hl.2
    rw [fnFix_s, gX3_account_b99]
    simp (disch := omega) only [decide_true, decide_false, reduceIte, and_self, and_true, true_and, and_false, false_and, or_true, true_or, or_false, false_or, not_true_eq_false, not_false_eq_true, reduceCtorEq, mA_ss, mI_ss, ↓St_rc, ↓fn_B, ↓fn_nn_none, ↓fn_nn_some, rZ_0, rZ_1, rZ_b, b2_z, b2_1, b2_or, b2_or0, b2_or1, iI_add, iI_sub, iI_mul, iI_neg, lI_add, lI_sub, lI_mul, iI_lt, iI_le, iI_eq, iI_to64, lI_cmp_lt, lI_cmp_gt, lI_cmp_ge, lI_cmp_le, lI_cmp_eq, mA_s, mA_o, mI_s, mI_o, mB_s, mB_o, mA_I, mA_B, mA_T, mA_F, mI_A, mI_B, mI_T, mI_F, mB_A, mB_I, mB_T, mB_F, mT_A, mT_I, mT_B, mT_F, mF_A, mF_I, mF_B, mF_T, ↓md_gA0, md_a0, md_s0, ↓md_gA1, md_a1, md_s1, ↓md_gA2, md_a2, md_s2, ↓md_gA3, md_a3, md_s3, ↓md_gA4, md_a4, md_s4, ↓md_g5, ↓md_p5, ↓md_g6, ↓md_p6, ↓md_g7, ↓md_p7, ↓md_g8, ↓md_p8, ↓md_gA9, md_a9, md_s9, ↓md_gA10, md_a10, md_s10, ↓md_gA11, md_a11, md_s11, ↓md_gA12, md_a12, md_s12, ↓md_gA13, md_a13, md_s13, ↓md_g14, ↓md_p14, ↓md_g15, ↓md_p15, ↓md_g16, ↓md_p16, ↓md_gA17, md_a17, md_s17, ↓md_gA18, md_a18, md_s18, ↓md_g19, ↓md_p19, ↓md_gA20, md_a20, md_s20, ↓md_g21, ↓md_p21, ↓md_gA22, md_a22, md_s22, ↓md_gA23, md_a23, md_s23, ↓md_gA24, md_a24, md_s24]
    rw [if_neg (by omega)]
    unfold sAcc at go
    by_cases w0 : w = 0
    · rw [if_pos w0] at go ⊢
      simp (disch := omega) only [X3_runs hv, decide_true, decide_false, reduceIte, and_self, and_true, true_and, and_false, false_and, or_true, true_or, or_false, false_or, not_true_eq_false, not_false_eq_true, reduceCtorEq, mA_ss, mI_ss, ↓St_rc, ↓fn_B, ↓fn_nn_none, ↓fn_nn_some, rZ_0, rZ_1, rZ_b, b2_z, b2_1, b2_or, b2_or0, b2_or1, iI_add, iI_sub, iI_mul, iI_neg, lI_add, lI_sub, lI_mul, iI_lt, iI_le, iI_eq, iI_to64, lI_cmp_lt, lI_cmp_gt, lI_cmp_ge, lI_cmp_le, lI_cmp_eq, mA_s, mA_o, mI_s, mI_o, mB_s, mB_o, mA_I, mA_B, mA_T, mA_F, mI_A, mI_B, mI_T, mI_F, mB_A, mB_I, mB_T, mB_F, mT_A, mT_I, mT_B, mT_F, mF_A, mF_I, mF_B, mF_T, ↓md_gA0, md_a0, md_s0, ↓md_gA1, md_a1, md_s1, ↓md_gA2, md_a2, md_s2, ↓md_gA3, md_a3, md_s3, ↓md_gA4, md_a4, md_s4, ↓md_g5, ↓md_p5, ↓md_g6, ↓md_p6, ↓md_g7, ↓md_p7, ↓md_g8, ↓md_p8, ↓md_gA9, md_a9, md_s9, ↓md_gA10, md_a10, md_s10, ↓md_gA11, md_a11, md_s11, ↓md_gA12, md_a12, md_s12, ↓md_gA13, md_a13, md_s13, ↓md_g14, ↓md_p14, ↓md_g15, ↓md_p15, ↓md_g16, ↓md_p16, ↓md_gA17, md_a17, md_s17, ↓md_gA18, md_a18, md_s18, ↓md_g19, ↓md_p19, ↓md_gA20, md_a20, md_s20, ↓md_g21, ↓md_p21, ↓md_gA22, md_a22, md_s22, ↓md_gA23, md_a23, md_s23, ↓md_gA24, md_a24, md_s24]
      by_cases h : μ.1 0 (1 + 8 * l + 1) ≤ day ∧ day ≤ endOf (μ.1 0) l
      · rw [decide_eq_true h] at go ⊢
        simp (disch := omega) only [gX3_account_b130, gX3_account_b219, decide_true, decide_false, reduceIte, and_self, and_true, true_and, and_false, false_and, or_true, true_or, or_false, false_or, not_true_eq_false, not_false_eq_true, reduceCtorEq, mA_ss, mI_ss, ↓St_rc, ↓fn_B, ↓fn_nn_none, ↓fn_nn_some, rZ_0, rZ_1, rZ_b, b2_z, b2_1, b2_or, b2_or0, b2_or1, iI_add, iI_sub, iI_mul, iI_neg, lI_add, lI_sub, lI_mul, iI_lt, iI_le, iI_eq, iI_to64, lI_cmp_lt, lI_cmp_gt, lI_cmp_ge, lI_cmp_le, lI_cmp_eq, mA_s, mA_o, mI_s, mI_o, mB_s, mB_o, mA_I, mA_B, mA_T, mA_F, mI_A, mI_B, mI_T, mI_F, mB_A, mB_I, mB_T, mB_F, mT_A, mT_I, mT_B, mT_F, mF_A, mF_I, mF_B, mF_T, ↓md_gA0, md_a0, md_s0, ↓md_gA1, md_a1, md_s1, ↓md_gA2, md_a2, md_s2, ↓md_gA3, md_a3, md_s3, ↓md_gA4, md_a4, md_s4, ↓md_g5, ↓md_p5, ↓md_g6, ↓md_p6, ↓md_g7, ↓md_p7, ↓md_g8, ↓md_p8, ↓md_gA9, md_a9, md_s9, ↓md_gA10, md_a10, md_s10, ↓md_gA11, md_a11, md_s11, ↓md_gA12, md_a12, md_s12, ↓md_gA13, md_a13, md_s13, ↓md_g14, ↓md_p14, ↓md_g15, ↓md_p15, ↓md_g16, ↓md_p16, ↓md_gA17, md_a17, md_s17, ↓md_gA18, md_a18, md_s18, ↓md_g19, ↓md_p19, ↓md_gA20, md_a20, md_s20, ↓md_g21, ↓md_p21, ↓md_gA22, md_a22, md_s22, ↓md_gA23, md_a23, md_s23, ↓md_gA24, md_a24, md_s24]
        exact go _ μ (mEq.rf μ) rfl
      · rw [decide_eq_false h] at go ⊢
        simp (disch := omega) only [gX3_account_b130, gX3_account_b219, decide_true, decide_false, reduceIte, and_self, and_true, true_and, and_false, false_and, or_true, true_or, or_false, false_or, not_true_eq_false, not_false_eq_true, reduceCtorEq, mA_ss, mI_ss, ↓St_rc, ↓fn_B, ↓fn_nn_none, ↓fn_nn_some, rZ_0, rZ_1, rZ_b, b2_z, b2_1, b2_or, b2_or0, b2_or1, iI_add, iI_sub, iI_mul, iI_neg, lI_add, lI_sub, lI_mul, iI_lt, iI_le, iI_eq, iI_to64, lI_cmp_lt, lI_cmp_gt, lI_cmp_ge, lI_cmp_le, lI_cmp_eq, mA_s, mA_o, mI_s, mI_o, mB_s, mB_o, mA_I, mA_B, mA_T, mA_F, mI_A, mI_B, mI_T, mI_F, mB_A, mB_I, mB_T, mB_F, mT_A, mT_I, mT_B, mT_F, mF_A, mF_I, mF_B, mF_T, ↓md_gA0, md_a0, md_s0, ↓md_gA1, md_a1, md_s1, ↓md_gA2, md_a2, md_s2, ↓md_gA3, md_a3, md_s3, ↓md_gA4, md_a4, md_s4, ↓md_g5, ↓md_p5, ↓md_g6, ↓md_p6, ↓md_g7, ↓md_p7, ↓md_g8, ↓md_p8, ↓md_gA9, md_a9, md_s9, ↓md_gA10, md_a10, md_s10, ↓md_gA11, md_a11, md_s11, ↓md_gA12, md_a12, md_s12, ↓md_gA13, md_a13, md_s13, ↓md_g14, ↓md_p14, ↓md_g15, ↓md_p15, ↓md_g16, ↓md_p16, ↓md_gA17, md_a17, md_s17, ↓md_gA18, md_a18, md_s18, ↓md_g19, ↓md_p19, ↓md_gA20, md_a20, md_s20, ↓md_g21, ↓md_p21, ↓md_gA22, md_a22, md_s22, ↓md_gA23, md_a23, md_s23, ↓md_gA24, md_a24, md_s24]
        exact go _ μ (mEq.rf μ) rfl
    rw [if_neg w0] at go ⊢
    by_cases w2 : w = 2
    · have k4 := sDue_r hv hl (day := day) (by omega)
      rw [if_pos w2] at go ⊢
      rw [X3_dueUntil hv hl ⟨⟨by omega, by omega⟩, by omega⟩]
      simp (disch := omega) only [gX3_account_b219, decide_true, decide_false, reduceIte, and_self, and_true, true_and, and_false, false_and, or_true, true_or, or_false, false_or, not_true_eq_false, not_false_eq_true, reduceCtorEq, mA_ss, mI_ss, ↓St_rc, ↓fn_B, ↓fn_nn_none, ↓fn_nn_some, rZ_0, rZ_1, rZ_b, b2_z, b2_1, b2_or, b2_or0, b2_or1, iI_add, iI_sub, iI_mul, iI_neg, lI_add, lI_sub, lI_mul, iI_lt, iI_le, iI_eq, iI_to64, lI_cmp_lt, lI_cmp_gt, lI_cmp_ge, lI_cmp_le, lI_cmp_eq, mA_s, mA_o, mI_s, mI_o, mB_s, mB_o, mA_I, mA_B, mA_T, mA_F, mI_A, mI_B, mI_T, mI_F, mB_A, mB_I, mB_T, mB_F, mT_A, mT_I, mT_B, mT_F, mF_A, mF_I, mF_B, mF_T, ↓md_gA0, md_a0, md_s0, ↓md_gA1, md_a1, md_s1, ↓md_gA2, md_a2, md_s2, ↓md_gA3, md_a3, md_s3, ↓md_gA4, md_a4, md_s4, ↓md_g5, ↓md_p5, ↓md_g6, ↓md_p6, ↓md_g7, ↓md_p7, ↓md_g8, ↓md_p8, ↓md_gA9, md_a9, md_s9, ↓md_gA10, md_a10, md_s10, ↓md_gA11, md_a11, md_s11, ↓md_gA12, md_a12, md_s12, ↓md_gA13, md_a13, md_s13, ↓md_g14, ↓md_p14, ↓md_g15, ↓md_p15, ↓md_g16, ↓md_p16, ↓md_gA17, md_a17, md_s17, ↓md_gA18, md_a18, md_s18, ↓md_g19, ↓md_p19, ↓md_gA20, md_a20, md_s20, ↓md_g21, ↓md_p21, ↓md_gA22, md_a22, md_s22, ↓md_gA23, md_a23, md_s23, ↓md_gA24, md_a24, md_s24]
      exact go _ _ (mEq.u μ l) rfl
    rw [if_neg w2] at go ⊢
    by_cases w3 : w = 3
    · rw [if_pos w3] at go ⊢
      rw [X3_paid hv ⟨by omega, by omega⟩ ⟨by omega, by omega⟩]
      simp (disch := omega) only [gX3_account_b219, decide_true, decide_false, reduceIte, and_self, and_true, true_and, and_false, false_and, or_true, true_or, or_false, false_or, not_true_eq_false, not_false_eq_true, reduceCtorEq, mA_ss, mI_ss, ↓St_rc, ↓fn_B, ↓fn_nn_none, ↓fn_nn_some, rZ_0, rZ_1, rZ_b, b2_z, b2_1, b2_or, b2_or0, b2_or1, iI_add, iI_sub, iI_mul, iI_neg, lI_add, lI_sub, lI_mul, iI_lt, iI_le, iI_eq, iI_to64, lI_cmp_lt, lI_cmp_gt, lI_cmp_ge, lI_cmp_le, lI_cmp_eq, mA_s, mA_o, mI_s, mI_o, mB_s, mB_o, mA_I, mA_B, mA_T, mA_F, mI_A, mI_B, mI_T, mI_F, mB_A, mB_I, mB_T, mB_F, mT_A, mT_I, mT_B, mT_F, mF_A, mF_I, mF_B, mF_T, ↓md_gA0, md_a0, md_s0, ↓md_gA1, md_a1, md_s1, ↓md_gA2, md_a2, md_s2, ↓md_gA3, md_a3, md_s3, ↓md_gA4, md_a4, md_s4, ↓md_g5, ↓md_p5, ↓md_g6, ↓md_p6, ↓md_g7, ↓md_p7, ↓md_g8, ↓md_p8, ↓md_gA9, md_a9, md_s9, ↓md_gA10, md_a10, md_s10, ↓md_gA11, md_a11, md_s11, ↓md_gA12, md_a12, md_s12, ↓md_gA13, md_a13, md_s13, ↓md_g14, ↓md_p14, ↓md_g15, ↓md_p15, ↓md_g16, ↓md_p16, ↓md_gA17, md_a17, md_s17, ↓md_gA18, md_a18, md_s18, ↓md_g19, ↓md_p19, ↓md_gA20, md_a20, md_s20, ↓md_g21, ↓md_p21, ↓md_gA22, md_a22, md_s22, ↓md_gA23, md_a23, md_s23, ↓md_gA24, md_a24, md_s24]
      exact go _ _ (mEq.rf μ) rfl
    rw [if_neg w3] at go ⊢
    by_cases w4 : w = 4
    · rw [if_pos w4] at go ⊢
      rw [X3_lies hv hl (by omega)]
      simp (disch := omega) only [gX3_account_b219, decide_true, decide_false, reduceIte, and_self, and_true, true_and, and_false, false_and, or_true, true_or, or_false, false_or, not_true_eq_false, not_false_eq_true, reduceCtorEq, mA_ss, mI_ss, ↓St_rc, ↓fn_B, ↓fn_nn_none, ↓fn_nn_some, rZ_0, rZ_1, rZ_b, b2_z, b2_1, b2_or, b2_or0, b2_or1, iI_add, iI_sub, iI_mul, iI_neg, lI_add, lI_sub, lI_mul, iI_lt, iI_le, iI_eq, iI_to64, lI_cmp_lt, lI_cmp_gt, lI_cmp_ge, lI_cmp_le, lI_cmp_eq, mA_s, mA_o, mI_s, mI_o, mB_s, mB_o, mA_I, mA_B, mA_T, mA_F, mI_A, mI_B, mI_T, mI_F, mB_A, mB_I, mB_T, mB_F, mT_A, mT_I, mT_B, mT_F, mF_A, mF_I, mF_B, mF_T, ↓md_gA0, md_a0, md_s0, ↓md_gA1, md_a1, md_s1, ↓md_gA2, md_a2, md_s2, ↓md_gA3, md_a3, md_s3, ↓md_gA4, md_a4, md_s4, ↓md_g5, ↓md_p5, ↓md_g6, ↓md_p6, ↓md_g7, ↓md_p7, ↓md_g8, ↓md_p8, ↓md_gA9, md_a9, md_s9, ↓md_gA10, md_a10, md_s10, ↓md_gA11, md_a11, md_s11, ↓md_gA12, md_a12, md_s12, ↓md_gA13, md_a13, md_s13, ↓md_g14, ↓md_p14, ↓md_g15, ↓md_p15, ↓md_g16, ↓md_p16, ↓md_gA17, md_a17, md_s17, ↓md_gA18, md_a18, md_s18, ↓md_g19, ↓md_p19, ↓md_gA20, md_a20, md_s20, ↓md_g21, ↓md_p21, ↓md_gA22, md_a22, md_s22, ↓md_gA23, md_a23, md_s23, ↓md_gA24, md_a24, md_s24]
      exact go _ _ (mEq.i μ _) rfl
    rw [if_neg w4] at go ⊢
    by_cases w5 : w = 5
    · rw [if_pos w5] at go ⊢
      simp (disch := omega) only [X3_endOf hv, X3_told, decide_true, decide_false, reduceIte, and_self, and_true, true_and, and_false, false_and, or_true, true_or, or_false, false_or, not_true_eq_false, not_false_eq_true, reduceCtorEq, mA_ss, mI_ss, ↓St_rc, ↓fn_B, ↓fn_nn_none, ↓fn_nn_some, rZ_0, rZ_1, rZ_b, b2_z, b2_1, b2_or, b2_or0, b2_or1, iI_add, iI_sub, iI_mul, iI_neg, lI_add, lI_sub, lI_mul, iI_lt, iI_le, iI_eq, iI_to64, lI_cmp_lt, lI_cmp_gt, lI_cmp_ge, lI_cmp_le, lI_cmp_eq, mA_s, mA_o, mI_s, mI_o, mB_s, mB_o, mA_I, mA_B, mA_T, mA_F, mI_A, mI_B, mI_T, mI_F, mB_A, mB_I, mB_T, mB_F, mT_A, mT_I, mT_B, mT_F, mF_A, mF_I, mF_B, mF_T, ↓md_gA0, md_a0, md_s0, ↓md_gA1, md_a1, md_s1, ↓md_gA2, md_a2, md_s2, ↓md_gA3, md_a3, md_s3, ↓md_gA4, md_a4, md_s4, ↓md_g5, ↓md_p5, ↓md_g6, ↓md_p6, ↓md_g7, ↓md_p7, ↓md_g8, ↓md_p8, ↓md_gA9, md_a9, md_s9, ↓md_gA10, md_a10, md_s10, ↓md_gA11, md_a11, md_s11, ↓md_gA12, md_a12, md_s12, ↓md_gA13, md_a13, md_s13, ↓md_g14, ↓md_p14, ↓md_g15, ↓md_p15, ↓md_g16, ↓md_p16, ↓md_gA17, md_a17, md_s17, ↓md_gA18, md_a18, md_s18, ↓md_g19, ↓md_p19, ↓md_gA20, md_a20, md_s20, ↓md_g21, ↓md_p21, ↓md_gA22, md_a22, md_s22, ↓md_gA23, md_a23, md_s23, ↓md_gA24, md_a24, md_s24]
      by_cases h : μ.1 0 (1 + 8 * l + 1) ≤ endOf (μ.1 0) l
      · rw [if_pos h]
        rw [decide_eq_false (by omega)] at go
        simp (disch := omega) only [gX3_account_b217, gX3_account_b219, decide_true, decide_false, reduceIte, and_self, and_true, true_and, and_false, false_and, or_true, true_or, or_false, false_or, not_true_eq_false, not_false_eq_true, reduceCtorEq, mA_ss, mI_ss, ↓St_rc, ↓fn_B, ↓fn_nn_none, ↓fn_nn_some, rZ_0, rZ_1, rZ_b, b2_z, b2_1, b2_or, b2_or0, b2_or1, iI_add, iI_sub, iI_mul, iI_neg, lI_add, lI_sub, lI_mul, iI_lt, iI_le, iI_eq, iI_to64, lI_cmp_lt, lI_cmp_gt, lI_cmp_ge, lI_cmp_le, lI_cmp_eq, mA_s, mA_o, mI_s, mI_o, mB_s, mB_o, mA_I, mA_B, mA_T, mA_F, mI_A, mI_B, mI_T, mI_F, mB_A, mB_I, mB_T, mB_F, mT_A, mT_I, mT_B, mT_F, mF_A, mF_I, mF_B, mF_T, ↓md_gA0, md_a0, md_s0, ↓md_gA1, md_a1, md_s1, ↓md_gA2, md_a2, md_s2, ↓md_gA3, md_a3, md_s3, ↓md_gA4, md_a4, md_s4, ↓md_g5, ↓md_p5, ↓md_g6, ↓md_p6, ↓md_g7, ↓md_p7, ↓md_g8, ↓md_p8, ↓md_gA9, md_a9, md_s9, ↓md_gA10, md_a10, md_s10, ↓md_gA11, md_a11, md_s11, ↓md_gA12, md_a12, md_s12, ↓md_gA13, md_a13, md_s13, ↓md_g14, ↓md_p14, ↓md_g15, ↓md_p15, ↓md_g16, ↓md_p16, ↓md_gA17, md_a17, md_s17, ↓md_gA18, md_a18, md_s18, ↓md_g19, ↓md_p19, ↓md_gA20, md_a20, md_s20, ↓md_g21, ↓md_p21, ↓md_gA22, md_a22, md_s22, ↓md_gA23, md_a23, md_s23, ↓md_gA24, md_a24, md_s24]
        exact go _ μ (mEq.rf μ) rfl
      · rw [if_neg h]
        rw [decide_eq_true (by omega)] at go
        simp (disch := omega) only [gX3_account_b217, gX3_account_b219, decide_true, decide_false, reduceIte, and_self, and_true, true_and, and_false, false_and, or_true, true_or, or_false, false_or, not_true_eq_false, not_false_eq_true, reduceCtorEq, mA_ss, mI_ss, ↓St_rc, ↓fn_B, ↓fn_nn_none, ↓fn_nn_some, rZ_0, rZ_1, rZ_b, b2_z, b2_1, b2_or, b2_or0, b2_or1, iI_add, iI_sub, iI_mul, iI_neg, lI_add, lI_sub, lI_mul, iI_lt, iI_le, iI_eq, iI_to64, lI_cmp_lt, lI_cmp_gt, lI_cmp_ge, lI_cmp_le, lI_cmp_eq, mA_s, mA_o, mI_s, mI_o, mB_s, mB_o, mA_I, mA_B, mA_T, mA_F, mI_A, mI_B, mI_T, mI_F, mB_A, mB_I, mB_T, mB_F, mT_A, mT_I, mT_B, mT_F, mF_A, mF_I, mF_B, mF_T, ↓md_gA0, md_a0, md_s0, ↓md_gA1, md_a1, md_s1, ↓md_gA2, md_a2, md_s2, ↓md_gA3, md_a3, md_s3, ↓md_gA4, md_a4, md_s4, ↓md_g5, ↓md_p5, ↓md_g6, ↓md_p6, ↓md_g7, ↓md_p7, ↓md_g8, ↓md_p8, ↓md_gA9, md_a9, md_s9, ↓md_gA10, md_a10, md_s10, ↓md_gA11, md_a11, md_s11, ↓md_gA12, md_a12, md_s12, ↓md_gA13, md_a13, md_s13, ↓md_g14, ↓md_p14, ↓md_g15, ↓md_p15, ↓md_g16, ↓md_p16, ↓md_gA17, md_a17, md_s17, ↓md_gA18, md_a18, md_s18, ↓md_g19, ↓md_p19, ↓md_gA20, md_a20, md_s20, ↓md_g21, ↓md_p21, ↓md_gA22, md_a22, md_s22, ↓md_gA23, md_a23, md_s23, ↓md_gA24, md_a24, md_s24]
        exact go _ μ (mEq.rf μ) rfl
    rw [if_neg w5] at go ⊢
    simp (disch := omega) only [gX3_account_b219, decide_true, decide_false, reduceIte, and_self, and_true, true_and, and_false, false_and, or_true, true_or, or_false, false_or, not_true_eq_false, not_false_eq_true, reduceCtorEq, mA_ss, mI_ss, ↓St_rc, ↓fn_B, ↓fn_nn_none, ↓fn_nn_some, rZ_0, rZ_1, rZ_b, b2_z, b2_1, b2_or, b2_or0, b2_or1, iI_add, iI_sub, iI_mul, iI_neg, lI_add, lI_sub, lI_mul, iI_lt, iI_le, iI_eq, iI_to64, lI_cmp_lt, lI_cmp_gt, lI_cmp_ge, lI_cmp_le, lI_cmp_eq, mA_s, mA_o, mI_s, mI_o, mB_s, mB_o, mA_I, mA_B, mA_T, mA_F, mI_A, mI_B, mI_T, mI_F, mB_A, mB_I, mB_T, mB_F, mT_A, mT_I, mT_B, mT_F, mF_A, mF_I, mF_B, mF_T, ↓md_gA0, md_a0, md_s0, ↓md_gA1, md_a1, md_s1, ↓md_gA2, md_a2, md_s2, ↓md_gA3, md_a3, md_s3, ↓md_gA4, md_a4, md_s4, ↓md_g5, ↓md_p5, ↓md_g6, ↓md_p6, ↓md_g7, ↓md_p7, ↓md_g8, ↓md_p8, ↓md_gA9, md_a9, md_s9, ↓md_gA10, md_a10, md_s10, ↓md_gA11, md_a11, md_s11, ↓md_gA12, md_a12, md_s12, ↓md_gA13, md_a13, md_s13, ↓md_g14, ↓md_p14, ↓md_g15, ↓md_p15, ↓md_g16, ↓md_p16, ↓md_gA17, md_a17, md_s17, ↓md_gA18, md_a18, md_s18, ↓md_g19, ↓md_p19, ↓md_gA20, md_a20, md_s20, ↓md_g21, ↓md_p21, ↓md_gA22, md_a22, md_s22, ↓md_gA23, md_a23, md_s23, ↓md_gA24, md_a24, md_s24]
    exact go _ μ (mEq.rf μ) (Int.add_zero _).symm
theorem X3_acc_h (hv : okD (μ.1 0)) {day w : Int} (hd : 0 ≤ day ∧ day ≤ 3599) : ∀ (n : Nat) (d acc : Int) (gas : Nat), d + n = μ.1 0 81 → n < gas → 0 ≤ d → fnFix (fun _ _ _ _ _ => none) (gX3_account_b31 ρ b) gas (iI day) (iI w) (lI acc) (iI d) (St σ b μ) = gX3_account_b67 ρ b (iI day) (iI w) (lI (acc + sm (fun d => b2 (sHolds (μ.1 0) d day)) d n)) (St σ b μ) := by
  have h9 := hv.2.1
  intro n
  induction n with
  | zero =>
    intro d acc gas h1 h2 h3
    obtain ⟨g, rfl⟩ := gas_s h2
    rw [fnFix_s, gX3_account_b31, sm, Int.add_zero]
    simp (disch := omega) only [decide_true, decide_false, reduceIte, and_self, and_true, true_and, and_false, false_and, or_true, true_or, or_false, false_or, not_true_eq_false, not_false_eq_true, reduceCtorEq, mA_ss, mI_ss, ↓St_rc, ↓fn_B, ↓fn_nn_none, ↓fn_nn_some, rZ_0, rZ_1, rZ_b, b2_z, b2_1, b2_or, b2_or0, b2_or1, iI_add, iI_sub, iI_mul, iI_neg, lI_add, lI_sub, lI_mul, iI_lt, iI_le, iI_eq, iI_to64, lI_cmp_lt, lI_cmp_gt, lI_cmp_ge, lI_cmp_le, lI_cmp_eq, mA_s, mA_o, mI_s, mI_o, mB_s, mB_o, mA_I, mA_B, mA_T, mA_F, mI_A, mI_B, mI_T, mI_F, mB_A, mB_I, mB_T, mB_F, mT_A, mT_I, mT_B, mT_F, mF_A, mF_I, mF_B, mF_T, ↓md_gA0, md_a0, md_s0, ↓md_gA1, md_a1, md_s1, ↓md_gA2, md_a2, md_s2, ↓md_gA3, md_a3, md_s3, ↓md_gA4, md_a4, md_s4, ↓md_g5, ↓md_p5, ↓md_g6, ↓md_p6, ↓md_g7, ↓md_p7, ↓md_g8, ↓md_p8, ↓md_gA9, md_a9, md_s9, ↓md_gA10, md_a10, md_s10, ↓md_gA11, md_a11, md_s11, ↓md_gA12, md_a12, md_s12, ↓md_gA13, md_a13, md_s13, ↓md_g14, ↓md_p14, ↓md_g15, ↓md_p15, ↓md_g16, ↓md_p16, ↓md_gA17, md_a17, md_s17, ↓md_gA18, md_a18, md_s18, ↓md_g19, ↓md_p19, ↓md_gA20, md_a20, md_s20, ↓md_g21, ↓md_p21, ↓md_gA22, md_a22, md_s22, ↓md_gA23, md_a23, md_s23, ↓md_gA24, md_a24, md_s24]
    rw [if_pos (by omega)]
  | succ n ih =>
    intro d acc gas h1 h2 h3
    obtain ⟨g, rfl⟩ := gas_s h2
    rw [fnFix_s, gX3_account_b31, sm]
    simp (disch := omega) only [X3_holds hv, decide_true, decide_false, reduceIte, and_self, and_true, true_and, and_false, false_and, or_true, true_or, or_false, false_or, not_true_eq_false, not_false_eq_true, reduceCtorEq, mA_ss, mI_ss, ↓St_rc, ↓fn_B, ↓fn_nn_none, ↓fn_nn_some, rZ_0, rZ_1, rZ_b, b2_z, b2_1, b2_or, b2_or0, b2_or1, iI_add, iI_sub, iI_mul, iI_neg, lI_add, lI_sub, lI_mul, iI_lt, iI_le, iI_eq, iI_to64, lI_cmp_lt, lI_cmp_gt, lI_cmp_ge, lI_cmp_le, lI_cmp_eq, mA_s, mA_o, mI_s, mI_o, mB_s, mB_o, mA_I, mA_B, mA_T, mA_F, mI_A, mI_B, mI_T, mI_F, mB_A, mB_I, mB_T, mB_F, mT_A, mT_I, mT_B, mT_F, mF_A, mF_I, mF_B, mF_T, ↓md_gA0, md_a0, md_s0, ↓md_gA1, md_a1, md_s1, ↓md_gA2, md_a2, md_s2, ↓md_gA3, md_a3, md_s3, ↓md_gA4, md_a4, md_s4, ↓md_g5, ↓md_p5, ↓md_g6, ↓md_p6, ↓md_g7, ↓md_p7, ↓md_g8, ↓md_p8, ↓md_gA9, md_a9, md_s9, ↓md_gA10, md_a10, md_s10, ↓md_gA11, md_a11, md_s11, ↓md_gA12, md_a12, md_s12, ↓md_gA13, md_a13, md_s13, ↓md_g14, ↓md_p14, ↓md_g15, ↓md_p15, ↓md_g16, ↓md_p16, ↓md_gA17, md_a17, md_s17, ↓md_gA18, md_a18, md_s18, ↓md_g19, ↓md_p19, ↓md_gA20, md_a20, md_s20, ↓md_g21, ↓md_p21, ↓md_gA22, md_a22, md_s22, ↓md_gA23, md_a23, md_s23, ↓md_gA24, md_a24, md_s24]
    rw [if_neg (by omega)]
    cases hh : sHolds (μ.1 0) d day with
    | false =>
      rw [if_pos rfl]
      simp (disch := omega) only [gX3_account_b59, decide_true, decide_false, reduceIte, and_self, and_true, true_and, and_false, false_and, or_true, true_or, or_false, false_or, not_true_eq_false, not_false_eq_true, reduceCtorEq, mA_ss, mI_ss, ↓St_rc, ↓fn_B, ↓fn_nn_none, ↓fn_nn_some, rZ_0, rZ_1, rZ_b, b2_z, b2_1, b2_or, b2_or0, b2_or1, iI_add, iI_sub, iI_mul, iI_neg, lI_add, lI_sub, lI_mul, iI_lt, iI_le, iI_eq, iI_to64, lI_cmp_lt, lI_cmp_gt, lI_cmp_ge, lI_cmp_le, lI_cmp_eq, mA_s, mA_o, mI_s, mI_o, mB_s, mB_o, mA_I, mA_B, mA_T, mA_F, mI_A, mI_B, mI_T, mI_F, mB_A, mB_I, mB_T, mB_F, mT_A, mT_I, mT_B, mT_F, mF_A, mF_I, mF_B, mF_T, ↓md_gA0, md_a0, md_s0, ↓md_gA1, md_a1, md_s1, ↓md_gA2, md_a2, md_s2, ↓md_gA3, md_a3, md_s3, ↓md_gA4, md_a4, md_s4, ↓md_g5, ↓md_p5, ↓md_g6, ↓md_p6, ↓md_g7, ↓md_p7, ↓md_g8, ↓md_p8, ↓md_gA9, md_a9, md_s9, ↓md_gA10, md_a10, md_s10, ↓md_gA11, md_a11, md_s11, ↓md_gA12, md_a12, md_s12, ↓md_gA13, md_a13, md_s13, ↓md_g14, ↓md_p14, ↓md_g15, ↓md_p15, ↓md_g16, ↓md_p16, ↓md_gA17, md_a17, md_s17, ↓md_gA18, md_a18, md_s18, ↓md_g19, ↓md_p19, ↓md_gA20, md_a20, md_s20, ↓md_g21, ↓md_p21, ↓md_gA22, md_a22, md_s22, ↓md_gA23, md_a23, md_s23, ↓md_gA24, md_a24, md_s24]
      rw [ih (d + 1) _ g (by omega) (by omega) (by omega), Int.add_assoc]
      rfl
    | true =>
      rw [if_neg (by decide)]
      simp (disch := omega) only [gX3_account_b59, decide_true, decide_false, reduceIte, and_self, and_true, true_and, and_false, false_and, or_true, true_or, or_false, false_or, not_true_eq_false, not_false_eq_true, reduceCtorEq, mA_ss, mI_ss, ↓St_rc, ↓fn_B, ↓fn_nn_none, ↓fn_nn_some, rZ_0, rZ_1, rZ_b, b2_z, b2_1, b2_or, b2_or0, b2_or1, iI_add, iI_sub, iI_mul, iI_neg, lI_add, lI_sub, lI_mul, iI_lt, iI_le, iI_eq, iI_to64, lI_cmp_lt, lI_cmp_gt, lI_cmp_ge, lI_cmp_le, lI_cmp_eq, mA_s, mA_o, mI_s, mI_o, mB_s, mB_o, mA_I, mA_B, mA_T, mA_F, mI_A, mI_B, mI_T, mI_F, mB_A, mB_I, mB_T, mB_F, mT_A, mT_I, mT_B, mT_F, mF_A, mF_I, mF_B, mF_T, ↓md_gA0, md_a0, md_s0, ↓md_gA1, md_a1, md_s1, ↓md_gA2, md_a2, md_s2, ↓md_gA3, md_a3, md_s3, ↓md_gA4, md_a4, md_s4, ↓md_g5, ↓md_p5, ↓md_g6, ↓md_p6, ↓md_g7, ↓md_p7, ↓md_g8, ↓md_p8, ↓md_gA9, md_a9, md_s9, ↓md_gA10, md_a10, md_s10, ↓md_gA11, md_a11, md_s11, ↓md_gA12, md_a12, md_s12, ↓md_gA13, md_a13, md_s13, ↓md_g14, ↓md_p14, ↓md_g15, ↓md_p15, ↓md_g16, ↓md_p16, ↓md_gA17, md_a17, md_s17, ↓md_gA18, md_a18, md_s18, ↓md_g19, ↓md_p19, ↓md_gA20, md_a20, md_s20, ↓md_g21, ↓md_p21, ↓md_gA22, md_a22, md_s22, ↓md_gA23, md_a23, md_s23, ↓md_gA24, md_a24, md_s24]
      rw [ih (d + 1) _ g (by omega) (by omega) (by omega), Int.add_assoc]
      rfl
theorem X3_account (hv : okD (μ.1 0)) {day w : Int} (r1 : r32 day) (r2 : r32 w) : ∃ μ1, gX3_account ρ b (iI day) (iI w) (St σ b μ) = some (lI (qAcc (μ.1 0) day w), St σ b μ1) ∧ mEq μ μ1 := by
  have h0 := hv.1
  have h9 := hv.2.1
  unfold gX3_account qAcc
  by_cases h1 : 0 ≤ day ∧ day ≤ 3599
  · rw [fn_Bt (s := St σ b μ) (by rw [X3_isDay r1, decide_eq_true h1]), if_neg (c := ¬ (0 ≤ day ∧ day ≤ 3599)) (by simpa using h1)]
    by_cases h2 : 0 ≤ w ∧ w ≤ 7
    · rw [fn_Bt (s := St σ b μ) (by rw [X3_isIn r2 (by decide) (by decide), decide_eq_true h2]), if_neg (c := ¬ (0 ≤ w ∧ w ≤ 7)) (by simpa using h2)]
      have fin : ∀ x : Int, ∃ μ1, gX3_account_b96 ρ b (iI day) (iI w) (lI x) (St σ b μ) = some (lI (x + sm (sAcc (μ.1 0) day w) 0 (μ.1 0 0).toNat), St σ b μ1) ∧ mEq μ μ1 := by
        intro x
        exact X3_acc_l h1 h2 (μ.1 0) hv (μ.1 0 0).toNat 0 x fnGas μ rfl (by omega) (by unfold fnGas; omega) (by decide)
      have mid : ∀ x : Int, gX3_account_b67 ρ b (iI day) (iI w) (lI x) (St σ b μ) = gX3_account_b96 ρ b (iI day) (iI w) (lI (if w = 6 then sIdx (μ.1 0) (day / 30 + 1).toNat else if w = 7 then sRate (μ.1 0) (day + 1).toNat else x)) (St σ b μ) := by
        intro x
        have k1 := sIdx_r hv (day / 30 + 1).toNat (by omega)
        have k2 := sRate_r hv (day + 1).toNat (by omega)
        have q30 : (iI 30 = iI 0) = False := eq_false (by decide)
        unfold gX3_account_b67
        simp (disch := omega) only [q30, iI_div30, decide_true, decide_false, reduceIte, and_self, and_true, true_and, and_false, false_and, or_true, true_or, or_false, false_or, not_true_eq_false, not_false_eq_true, reduceCtorEq, mA_ss, mI_ss, ↓St_rc, ↓fn_B, ↓fn_nn_none, ↓fn_nn_some, rZ_0, rZ_1, rZ_b, b2_z, b2_1, b2_or, b2_or0, b2_or1, iI_add, iI_sub, iI_mul, iI_neg, lI_add, lI_sub, lI_mul, iI_lt, iI_le, iI_eq, iI_to64, lI_cmp_lt, lI_cmp_gt, lI_cmp_ge, lI_cmp_le, lI_cmp_eq, mA_s, mA_o, mI_s, mI_o, mB_s, mB_o, mA_I, mA_B, mA_T, mA_F, mI_A, mI_B, mI_T, mI_F, mB_A, mB_I, mB_T, mB_F, mT_A, mT_I, mT_B, mT_F, mF_A, mF_I, mF_B, mF_T, ↓md_gA0, md_a0, md_s0, ↓md_gA1, md_a1, md_s1, ↓md_gA2, md_a2, md_s2, ↓md_gA3, md_a3, md_s3, ↓md_gA4, md_a4, md_s4, ↓md_g5, ↓md_p5, ↓md_g6, ↓md_p6, ↓md_g7, ↓md_p7, ↓md_g8, ↓md_p8, ↓md_gA9, md_a9, md_s9, ↓md_gA10, md_a10, md_s10, ↓md_gA11, md_a11, md_s11, ↓md_gA12, md_a12, md_s12, ↓md_gA13, md_a13, md_s13, ↓md_g14, ↓md_p14, ↓md_g15, ↓md_p15, ↓md_g16, ↓md_p16, ↓md_gA17, md_a17, md_s17, ↓md_gA18, md_a18, md_s18, ↓md_g19, ↓md_p19, ↓md_gA20, md_a20, md_s20, ↓md_g21, ↓md_p21, ↓md_gA22, md_a22, md_s22, ↓md_gA23, md_a23, md_s23, ↓md_gA24, md_a24, md_s24]
        by_cases w6 : w = 6
        · rw [if_pos w6, if_pos w6, X3_indexOf hv (by omega)]
          simp (disch := omega) only [gX3_account_b83, decide_true, decide_false, reduceIte, and_self, and_true, true_and, and_false, false_and, or_true, true_or, or_false, false_or, not_true_eq_false, not_false_eq_true, reduceCtorEq, mA_ss, mI_ss, ↓St_rc, ↓fn_B, ↓fn_nn_none, ↓fn_nn_some, rZ_0, rZ_1, rZ_b, b2_z, b2_1, b2_or, b2_or0, b2_or1, iI_add, iI_sub, iI_mul, iI_neg, lI_add, lI_sub, lI_mul, iI_lt, iI_le, iI_eq, iI_to64, lI_cmp_lt, lI_cmp_gt, lI_cmp_ge, lI_cmp_le, lI_cmp_eq, mA_s, mA_o, mI_s, mI_o, mB_s, mB_o, mA_I, mA_B, mA_T, mA_F, mI_A, mI_B, mI_T, mI_F, mB_A, mB_I, mB_T, mB_F, mT_A, mT_I, mT_B, mT_F, mF_A, mF_I, mF_B, mF_T, ↓md_gA0, md_a0, md_s0, ↓md_gA1, md_a1, md_s1, ↓md_gA2, md_a2, md_s2, ↓md_gA3, md_a3, md_s3, ↓md_gA4, md_a4, md_s4, ↓md_g5, ↓md_p5, ↓md_g6, ↓md_p6, ↓md_g7, ↓md_p7, ↓md_g8, ↓md_p8, ↓md_gA9, md_a9, md_s9, ↓md_gA10, md_a10, md_s10, ↓md_gA11, md_a11, md_s11, ↓md_gA12, md_a12, md_s12, ↓md_gA13, md_a13, md_s13, ↓md_g14, ↓md_p14, ↓md_g15, ↓md_p15, ↓md_g16, ↓md_p16, ↓md_gA17, md_a17, md_s17, ↓md_gA18, md_a18, md_s18, ↓md_g19, ↓md_p19, ↓md_gA20, md_a20, md_s20, ↓md_g21, ↓md_p21, ↓md_gA22, md_a22, md_s22, ↓md_gA23, md_a23, md_s23, ↓md_gA24, md_a24, md_s24]
          rw [if_neg (by omega)]
        · rw [if_neg w6, if_neg w6]
          unfold gX3_account_b83
          simp (disch := omega) only [decide_true, decide_false, reduceIte, and_self, and_true, true_and, and_false, false_and, or_true, true_or, or_false, false_or, not_true_eq_false, not_false_eq_true, reduceCtorEq, mA_ss, mI_ss, ↓St_rc, ↓fn_B, ↓fn_nn_none, ↓fn_nn_some, rZ_0, rZ_1, rZ_b, b2_z, b2_1, b2_or, b2_or0, b2_or1, iI_add, iI_sub, iI_mul, iI_neg, lI_add, lI_sub, lI_mul, iI_lt, iI_le, iI_eq, iI_to64, lI_cmp_lt, lI_cmp_gt, lI_cmp_ge, lI_cmp_le, lI_cmp_eq, mA_s, mA_o, mI_s, mI_o, mB_s, mB_o, mA_I, mA_B, mA_T, mA_F, mI_A, mI_B, mI_T, mI_F, mB_A, mB_I, mB_T, mB_F, mT_A, mT_I, mT_B, mT_F, mF_A, mF_I, mF_B, mF_T, ↓md_gA0, md_a0, md_s0, ↓md_gA1, md_a1, md_s1, ↓md_gA2, md_a2, md_s2, ↓md_gA3, md_a3, md_s3, ↓md_gA4, md_a4, md_s4, ↓md_g5, ↓md_p5, ↓md_g6, ↓md_p6, ↓md_g7, ↓md_p7, ↓md_g8, ↓md_p8, ↓md_gA9, md_a9, md_s9, ↓md_gA10, md_a10, md_s10, ↓md_gA11, md_a11, md_s11, ↓md_gA12, md_a12, md_s12, ↓md_gA13, md_a13, md_s13, ↓md_g14, ↓md_p14, ↓md_g15, ↓md_p15, ↓md_g16, ↓md_p16, ↓md_gA17, md_a17, md_s17, ↓md_gA18, md_a18, md_s18, ↓md_g19, ↓md_p19, ↓md_gA20, md_a20, md_s20, ↓md_g21, ↓md_p21, ↓md_gA22, md_a22, md_s22, ↓md_gA23, md_a23, md_s23, ↓md_gA24, md_a24, md_s24]
          by_cases w7 : w = 7
          · rw [if_pos w7, if_pos w7, X3_rateOn hv (by omega)]
            simp (disch := omega) only [decide_true, decide_false, reduceIte, and_self, and_true, true_and, and_false, false_and, or_true, true_or, or_false, false_or, not_true_eq_false, not_false_eq_true, reduceCtorEq, mA_ss, mI_ss, ↓St_rc, ↓fn_B, ↓fn_nn_none, ↓fn_nn_some, rZ_0, rZ_1, rZ_b, b2_z, b2_1, b2_or, b2_or0, b2_or1, iI_add, iI_sub, iI_mul, iI_neg, lI_add, lI_sub, lI_mul, iI_lt, iI_le, iI_eq, iI_to64, lI_cmp_lt, lI_cmp_gt, lI_cmp_ge, lI_cmp_le, lI_cmp_eq, mA_s, mA_o, mI_s, mI_o, mB_s, mB_o, mA_I, mA_B, mA_T, mA_F, mI_A, mI_B, mI_T, mI_F, mB_A, mB_I, mB_T, mB_F, mT_A, mT_I, mT_B, mT_F, mF_A, mF_I, mF_B, mF_T, ↓md_gA0, md_a0, md_s0, ↓md_gA1, md_a1, md_s1, ↓md_gA2, md_a2, md_s2, ↓md_gA3, md_a3, md_s3, ↓md_gA4, md_a4, md_s4, ↓md_g5, ↓md_p5, ↓md_g6, ↓md_p6, ↓md_g7, ↓md_p7, ↓md_g8, ↓md_p8, ↓md_gA9, md_a9, md_s9, ↓md_gA10, md_a10, md_s10, ↓md_gA11, md_a11, md_s11, ↓md_gA12, md_a12, md_s12, ↓md_gA13, md_a13, md_s13, ↓md_g14, ↓md_p14, ↓md_g15, ↓md_p15, ↓md_g16, ↓md_p16, ↓md_gA17, md_a17, md_s17, ↓md_gA18, md_a18, md_s18, ↓md_g19, ↓md_p19, ↓md_gA20, md_a20, md_s20, ↓md_g21, ↓md_p21, ↓md_gA22, md_a22, md_s22, ↓md_gA23, md_a23, md_s23, ↓md_gA24, md_a24, md_s24]
          · rw [if_neg w7, if_neg w7]
      by_cases w1 : w = 1
      · have q := X3_acc_h (ρ := ρ) (σ := σ) (b := b) hv (day := day) (w := w) h1 (μ.1 0 81).toNat 0 0 fnGas (by omega) (by unfold fnGas; omega) (by decide)
        rw [if_pos (by rw [w1]), if_pos w1]
        rw [show fnFix (fun _ _ _ _ _ => none) (gX3_account_b31 ρ b) fnGas (iI day) (iI w) (lI 0) (iI 0) (St σ b μ) = _ from q, mid, if_neg (by omega), if_neg (by omega), Int.zero_add]
        exact fin _
      · rw [if_neg (fun q => w1 ((iI_eq r2 (by decide)).mp q)), if_neg w1, mid]
        exact fin _
    · rw [fn_Bf (s := St σ b μ) (by rw [X3_isIn r2 (by decide) (by decide), decide_eq_false h2]), if_pos h2]
      exact ⟨μ, rfl, mEq.rf μ⟩
  · rw [fn_Bf (s := St σ b μ) (by rw [X3_isDay r1, decide_eq_false h1]), if_pos h1]
    exact ⟨μ, rfl, mEq.rf μ⟩
end Acc
end
section
/-! the tape -/
section Feed
variable {ρ : Nat → Nat} {σ : mS} {b : Nat} {μ : MM}
theorem X3_feed_l {n a c d e f : Int} (hn : 1 ≤ n ∧ n ≤ 5) (ht : 0 ≤ μ.2.1 14 ∧ μ.2.1 14 + n ≤ 60) : ∀ (m : Nat) (k : Int) (gas : Nat), k + m = n → m < gas → 0 ≤ k →
    fnFix (fun _ _ _ _ _ _ _ _ => none) (gX3_feed_b82 ρ b) gas (iI n) (iI a) (iI c) (iI d) (iI e) (iI f) (iI k) (St σ b (mA μ 9 (blk (μ.2.1 14) k (sFed a c d e f) (μ.1 9)))) =
    some (iI (μ.2.1 14 + n), St σ b (mI (mA μ 9 (blk (μ.2.1 14) n (sFed a c d e f) (μ.1 9))) 14 (μ.2.1 14 + n))) := by
  intro m
  induction m with
  | zero =>
    intro k gas h1 h2 h3
    obtain ⟨g, rfl⟩ := gas_s h2
    rw [fnFix_s, gX3_feed_b82, show k = n by omega]
    simp (disch := omega) only [decide_true, decide_false, reduceIte, and_self, and_true, true_and, and_false, false_and, or_true, true_or, or_false, false_or, not_true_eq_false, not_false_eq_true, reduceCtorEq, mA_ss, mI_ss, ↓St_rc, ↓fn_B, ↓fn_nn_none, ↓fn_nn_some, rZ_0, rZ_1, rZ_b, b2_z, b2_1, b2_or, b2_or0, b2_or1, iI_add, iI_sub, iI_mul, iI_neg, lI_add, lI_sub, lI_mul, iI_lt, iI_le, iI_eq, iI_to64, lI_cmp_lt, lI_cmp_gt, lI_cmp_ge, lI_cmp_le, lI_cmp_eq, mA_s, mA_o, mI_s, mI_o, mB_s, mB_o, mA_I, mA_B, mA_T, mA_F, mI_A, mI_B, mI_T, mI_F, mB_A, mB_I, mB_T, mB_F, mT_A, mT_I, mT_B, mT_F, mF_A, mF_I, mF_B, mF_T, ↓md_gA0, md_a0, md_s0, ↓md_gA1, md_a1, md_s1, ↓md_gA2, md_a2, md_s2, ↓md_gA3, md_a3, md_s3, ↓md_gA4, md_a4, md_s4, ↓md_g5, ↓md_p5, ↓md_g6, ↓md_p6, ↓md_g7, ↓md_p7, ↓md_g8, ↓md_p8, ↓md_gA9, md_a9, md_s9, ↓md_gA10, md_a10, md_s10, ↓md_gA11, md_a11, md_s11, ↓md_gA12, md_a12, md_s12, ↓md_gA13, md_a13, md_s13, ↓md_g14, ↓md_p14, ↓md_g15, ↓md_p15, ↓md_g16, ↓md_p16, ↓md_gA17, md_a17, md_s17, ↓md_gA18, md_a18, md_s18, ↓md_g19, ↓md_p19, ↓md_gA20, md_a20, md_s20, ↓md_g21, ↓md_p21, ↓md_gA22, md_a22, md_s22, ↓md_gA23, md_a23, md_s23, ↓md_gA24, md_a24, md_s24]
    rw [if_pos (Int.le_refl _)]
  | succ m ih =>
    intro k gas h1 h2 h3
    obtain ⟨g, rfl⟩ := gas_s h2
    have ih := ih (k + 1) g (by omega) (by omega) (by omega)
    have hb := blk_u (st := μ.2.1 14) (k := k) (f := sFed a c d e f) (g := μ.1 9) h3
    have st : ∀ x, x = sFed a c d e f k → gX3_feed_b142 ρ b (fnFix (fun _ _ _ _ _ _ _ _ => none) (gX3_feed_b82 ρ b) g) (iI n) (iI a) (iI c) (iI d) (iI e) (iI f) (iI k) (some (b + 6)) (iI (μ.2.1 14 + k)) (iI x) (St σ b (mA μ 9 (blk (μ.2.1 14) k (sFed a c d e f) (μ.1 9)))) = some (iI (μ.2.1 14 + n), St σ b (mI (mA μ 9 (blk (μ.2.1 14) n (sFed a c d e f) (μ.1 9))) 14 (μ.2.1 14 + n))) := by
      intro x hx
      subst hx
      unfold gX3_feed_b142
      simp (disch := omega) only [decide_true, decide_false, reduceIte, and_self, and_true, true_and, and_false, false_and, or_true, true_or, or_false, false_or, not_true_eq_false, not_false_eq_true, reduceCtorEq, mA_ss, mI_ss, ↓St_rc, ↓fn_B, ↓fn_nn_none, ↓fn_nn_some, rZ_0, rZ_1, rZ_b, b2_z, b2_1, b2_or, b2_or0, b2_or1, iI_add, iI_sub, iI_mul, iI_neg, lI_add, lI_sub, lI_mul, iI_lt, iI_le, iI_eq, iI_to64, lI_cmp_lt, lI_cmp_gt, lI_cmp_ge, lI_cmp_le, lI_cmp_eq, mA_s, mA_o, mI_s, mI_o, mB_s, mB_o, mA_I, mA_B, mA_T, mA_F, mI_A, mI_B, mI_T, mI_F, mB_A, mB_I, mB_T, mB_F, mT_A, mT_I, mT_B, mT_F, mF_A, mF_I, mF_B, mF_T, ↓md_gA0, md_a0, md_s0, ↓md_gA1, md_a1, md_s1, ↓md_gA2, md_a2, md_s2, ↓md_gA3, md_a3, md_s3, ↓md_gA4, md_a4, md_s4, ↓md_g5, ↓md_p5, ↓md_g6, ↓md_p6, ↓md_g7, ↓md_p7, ↓md_g8, ↓md_p8, ↓md_gA9, md_a9, md_s9, ↓md_gA10, md_a10, md_s10, ↓md_gA11, md_a11, md_s11, ↓md_gA12, md_a12, md_s12, ↓md_gA13, md_a13, md_s13, ↓md_g14, ↓md_p14, ↓md_g15, ↓md_p15, ↓md_g16, ↓md_p16, ↓md_gA17, md_a17, md_s17, ↓md_gA18, md_a18, md_s18, ↓md_g19, ↓md_p19, ↓md_gA20, md_a20, md_s20, ↓md_g21, ↓md_p21, ↓md_gA22, md_a22, md_s22, ↓md_gA23, md_a23, md_s23, ↓md_gA24, md_a24, md_s24]
      rw [hb]
      exact ih
    unfold sFed at st
    rw [fnFix_s, gX3_feed_b82]
    simp (disch := omega) only [decide_true, decide_false, reduceIte, and_self, and_true, true_and, and_false, false_and, or_true, true_or, or_false, false_or, not_true_eq_false, not_false_eq_true, reduceCtorEq, mA_ss, mI_ss, ↓St_rc, ↓fn_B, ↓fn_nn_none, ↓fn_nn_some, rZ_0, rZ_1, rZ_b, b2_z, b2_1, b2_or, b2_or0, b2_or1, iI_add, iI_sub, iI_mul, iI_neg, lI_add, lI_sub, lI_mul, iI_lt, iI_le, iI_eq, iI_to64, lI_cmp_lt, lI_cmp_gt, lI_cmp_ge, lI_cmp_le, lI_cmp_eq, mA_s, mA_o, mI_s, mI_o, mB_s, mB_o, mA_I, mA_B, mA_T, mA_F, mI_A, mI_B, mI_T, mI_F, mB_A, mB_I, mB_T, mB_F, mT_A, mT_I, mT_B, mT_F, mF_A, mF_I, mF_B, mF_T, ↓md_gA0, md_a0, md_s0, ↓md_gA1, md_a1, md_s1, ↓md_gA2, md_a2, md_s2, ↓md_gA3, md_a3, md_s3, ↓md_gA4, md_a4, md_s4, ↓md_g5, ↓md_p5, ↓md_g6, ↓md_p6, ↓md_g7, ↓md_p7, ↓md_g8, ↓md_p8, ↓md_gA9, md_a9, md_s9, ↓md_gA10, md_a10, md_s10, ↓md_gA11, md_a11, md_s11, ↓md_gA12, md_a12, md_s12, ↓md_gA13, md_a13, md_s13, ↓md_g14, ↓md_p14, ↓md_g15, ↓md_p15, ↓md_g16, ↓md_p16, ↓md_gA17, md_a17, md_s17, ↓md_gA18, md_a18, md_s18, ↓md_g19, ↓md_p19, ↓md_gA20, md_a20, md_s20, ↓md_g21, ↓md_p21, ↓md_gA22, md_a22, md_s22, ↓md_gA23, md_a23, md_s23, ↓md_gA24, md_a24, md_s24]
    rw [if_neg (by omega)]
    by_cases k0 : k = 0
    · rw [if_pos k0] at st ⊢
      exact st _ rfl
    rw [if_neg k0] at st ⊢
    by_cases k1 : k = 1
    · rw [if_pos k1] at st ⊢
      exact st _ rfl
    rw [if_neg k1] at st ⊢
    by_cases k2 : k = 2
    · rw [if_pos k2] at st ⊢
      exact st _ rfl
    rw [if_neg k2] at st ⊢
    by_cases k3 : k = 3
    · rw [if_pos k3] at st ⊢
      exact st _ rfl
    rw [if_neg k3] at st ⊢
    exact st _ rfl
def fedM (μ : MM) (n a c d e f : Int) : MM := if (1 ≤ n ∧ n ≤ 5) ∧ (0 ≤ a ∧ a ≤ 127) ∧ (0 ≤ c ∧ c ≤ 127) ∧ (0 ≤ d ∧ d ≤ 127) ∧ (0 ≤ e ∧ e ≤ 127) ∧ (0 ≤ f ∧ f ≤ 127) ∧ μ.2.1 14 + n ≤ 60 then mI (mA μ 9 (blk (μ.2.1 14) n (sFed a c d e f) (μ.1 9))) 14 (μ.2.1 14 + n) else μ
theorem X3_feed {n a c d e f : Int} (r1 : r32 n) (r2 : r32 a) (r3 : r32 c) (r4 : r32 d) (r5 : r32 e) (r6 : r32 f) (ht : 0 ≤ μ.2.1 14 ∧ μ.2.1 14 ≤ 60) : gX3_feed ρ b (iI n) (iI a) (iI c) (iI d) (iI e) (iI f) (St σ b μ) = some (iI (qFeed n a c d e f (μ.2.1 14)), St σ b (fedM μ n a c d e f)) := by
  unfold gX3_feed qFeed fedM
  by_cases h1 : 1 ≤ n ∧ n ≤ 5
  · rw [fn_Bt (s := St σ b μ) (by rw [X3_isIn r1 (by decide) (by decide), decide_eq_true h1]), if_neg (c := ¬ (1 ≤ n ∧ n ≤ 5)) (by simpa using h1)]
    by_cases h2 : 0 ≤ a ∧ a ≤ 127
    · rw [fn_Bt (s := St σ b μ) (by rw [X3_isIn r2 (by decide) (by decide), decide_eq_true h2])]
      by_cases h3 : 0 ≤ c ∧ c ≤ 127
      · rw [fn_Bt (s := St σ b μ) (by rw [X3_isIn r3 (by decide) (by decide), decide_eq_true h3])]
        by_cases h4 : 0 ≤ d ∧ d ≤ 127
        · rw [fn_Bt (s := St σ b μ) (by rw [X3_isIn r4 (by decide) (by decide), decide_eq_true h4])]
          by_cases h5 : 0 ≤ e ∧ e ≤ 127
          · rw [fn_Bt (s := St σ b μ) (by rw [X3_isIn r5 (by decide) (by decide), decide_eq_true h5])]
            by_cases h6 : 0 ≤ f ∧ f ≤ 127
            · rw [fn_Bt (s := St σ b μ) (by rw [X3_isIn r6 (by decide) (by decide), decide_eq_true h6]), if_neg (c := ¬ (0 ≤ a ∧ a ≤ 127) ∨ _) (by omega)]
              simp (disch := omega) only [decide_true, decide_false, reduceIte, and_self, and_true, true_and, and_false, false_and, or_true, true_or, or_false, false_or, not_true_eq_false, not_false_eq_true, reduceCtorEq, mA_ss, mI_ss, ↓St_rc, ↓fn_B, ↓fn_nn_none, ↓fn_nn_some, rZ_0, rZ_1, rZ_b, b2_z, b2_1, b2_or, b2_or0, b2_or1, iI_add, iI_sub, iI_mul, iI_neg, lI_add, lI_sub, lI_mul, iI_lt, iI_le, iI_eq, iI_to64, lI_cmp_lt, lI_cmp_gt, lI_cmp_ge, lI_cmp_le, lI_cmp_eq, mA_s, mA_o, mI_s, mI_o, mB_s, mB_o, mA_I, mA_B, mA_T, mA_F, mI_A, mI_B, mI_T, mI_F, mB_A, mB_I, mB_T, mB_F, mT_A, mT_I, mT_B, mT_F, mF_A, mF_I, mF_B, mF_T, ↓md_gA0, md_a0, md_s0, ↓md_gA1, md_a1, md_s1, ↓md_gA2, md_a2, md_s2, ↓md_gA3, md_a3, md_s3, ↓md_gA4, md_a4, md_s4, ↓md_g5, ↓md_p5, ↓md_g6, ↓md_p6, ↓md_g7, ↓md_p7, ↓md_g8, ↓md_p8, ↓md_gA9, md_a9, md_s9, ↓md_gA10, md_a10, md_s10, ↓md_gA11, md_a11, md_s11, ↓md_gA12, md_a12, md_s12, ↓md_gA13, md_a13, md_s13, ↓md_g14, ↓md_p14, ↓md_g15, ↓md_p15, ↓md_g16, ↓md_p16, ↓md_gA17, md_a17, md_s17, ↓md_gA18, md_a18, md_s18, ↓md_g19, ↓md_p19, ↓md_gA20, md_a20, md_s20, ↓md_g21, ↓md_p21, ↓md_gA22, md_a22, md_s22, ↓md_gA23, md_a23, md_s23, ↓md_gA24, md_a24, md_s24]
              by_cases h7 : μ.2.1 14 + n ≤ 60
              · rw [if_pos h7, if_neg (c := ¬ μ.2.1 14 + n ≤ 60) (by omega), if_pos (by omega)]
                have q := X3_feed_l (ρ := ρ) (σ := σ) (b := b) (μ := μ) (a := a) (c := c) (d := d) (e := e) (f := f) h1 ⟨ht.1, h7⟩ n.toNat 0 fnGas (by omega) (by unfold fnGas; omega) (by decide)
                rw [blk_0, mA_self] at q
                exact q
              · rw [if_neg h7, if_pos (c := ¬ μ.2.1 14 + n ≤ 60) h7, if_neg (by omega)]
            · rw [fn_Bf (s := St σ b μ) (by rw [X3_isIn r6 (by decide) (by decide), decide_eq_false h6]), if_pos (c := ¬ (0 ≤ a ∧ a ≤ 127) ∨ _) (by omega), if_neg (by omega)]
          · rw [fn_Bf (s := St σ b μ) (by rw [X3_isIn r5 (by decide) (by decide), decide_eq_false h5]), if_pos (c := ¬ (0 ≤ a ∧ a ≤ 127) ∨ _) (by omega), if_neg (by omega)]
        · rw [fn_Bf (s := St σ b μ) (by rw [X3_isIn r4 (by decide) (by decide), decide_eq_false h4]), if_pos (c := ¬ (0 ≤ a ∧ a ≤ 127) ∨ _) (by omega), if_neg (by omega)]
      · rw [fn_Bf (s := St σ b μ) (by rw [X3_isIn r3 (by decide) (by decide), decide_eq_false h3]), if_pos (c := ¬ (0 ≤ a ∧ a ≤ 127) ∨ _) (by omega), if_neg (by omega)]
    · rw [fn_Bf (s := St σ b μ) (by rw [X3_isIn r2 (by decide) (by decide), decide_eq_false h2]), if_pos (c := ¬ (0 ≤ a ∧ a ≤ 127) ∨ _) (by omega), if_neg (by omega)]
  · rw [fn_Bf (s := St σ b μ) (by rw [X3_isIn r1 (by decide) (by decide), decide_eq_false h1]), if_pos (c := ¬ (1 ≤ n ∧ n ≤ 5)) h1, if_neg (by omega)]
end Feed
end
