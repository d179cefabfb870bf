/-! FUNCTIONAL PROGRAMS over an abstract heap: what the generator (gen/gen.py) turns the bytecode into; no machine in sight -/
set_option maxRecDepth 100000
/-- a cell: an array (kind, length, contents), or an object (class number, fields) -/
abbrev mE : Type := (Nat × vp_A) ⊕ (Nat × List Value)
/-- cells, how many cells there are, how many slots were made -/
abbrev mS : Type := (Nat → Option mE) × Nat × Nat
def iI (z : Int) : Int32 := Int32.ofInt z
def lI (z : Int) : Int64 := Int64.ofInt z
def mUp (s : mS) (a : Nat) (e : mE) : mS := (fun q => if q = a then some e else s.1 q, s.2)
def mNw (s : mS) (e : mE) (n : Nat) : mS := (fun q => if q = s.2.1 then some e else s.1 q, s.2.1 + 1, s.2.2 + n)
abbrev aI (f : Nat → Int32) : (Nat → Int32) ⊕ (Nat → Int64) ⊕ (Nat → UInt32) ⊕ (Nat → UInt64) ⊕ (Nat → Option Nat) := .inl f
abbrev aF (f : Nat → UInt32) : (Nat → Int32) ⊕ (Nat → Int64) ⊕ (Nat → UInt32) ⊕ (Nat → UInt64) ⊕ (Nat → Option Nat) := .inr (.inr (.inl f))
abbrev aQ (f : Nat → Option Nat) : (Nat → Int32) ⊕ (Nat → Int64) ⊕ (Nat → UInt32) ⊕ (Nat → UInt64) ⊕ (Nat → Option Nat) := .inr (.inr (.inr (.inr f)))
/-- an object of class ci at a: its fields -/
def fnO {β : Type} (ci : Nat) (r : Option Nat) (s : mS) (kk : Nat → List Value → Option β) : Option β := match r with
  | none => none
  | some a => match s.1 a with
    | some (.inr (c, fs)) => if c = ci then kk a fs else none
    | _ => none
def fn_vI {β : Type} (v : Option Value) (kk : Int32 → Option β) : Option β := match v with
  | some (.int x) => kk x
  | _ => none
def fn_vL {β : Type} (v : Option Value) (kk : Int64 → Option β) : Option β := match v with
  | some (.long x) => kk x
  | _ => none
def fn_vA {β : Type} (v : Option Value) (kk : Option Nat → Option β) : Option β := match v with
  | some (.ref x) => kk (some x)
  | some .null => kk none
  | _ => none
def fn_gI {β : Type} (ci k : Nat) (r : Option Nat) (s : mS) (kk : Int32 → Option β) : Option β := fnO ci r s fun _ fs => fn_vI fs[k]? kk
def fn_gL {β : Type} (ci k : Nat) (r : Option Nat) (s : mS) (kk : Int64 → Option β) : Option β := fnO ci r s fun _ fs => fn_vL fs[k]? kk
def fn_gA {β : Type} (ci k : Nat) (r : Option Nat) (s : mS) (kk : Option Nat → Option β) : Option β := fnO ci r s fun _ fs => fn_vA fs[k]? kk
def fn_p {β : Type} (ci k : Nat) (r : Option Nat) (v : Value) (s : mS) (kk : mS → Option β) : Option β := fnO ci r s fun a fs => if k < fs.length then kk (mUp s a (.inr (ci, fs.set k v))) else none
def fn_pI {β : Type} (ci k : Nat) (r : Option Nat) (x : Int32) (s : mS) (kk : mS → Option β) : Option β := fn_p ci k r (.int x) s kk
def fn_pL {β : Type} (ci k : Nat) (r : Option Nat) (x : Int64) (s : mS) (kk : mS → Option β) : Option β := fn_p ci k r (.long x) s kk
def fn_pA {β : Type} (ci k : Nat) (r : Option Nat) (x : Option Nat) (s : mS) (kk : mS → Option β) : Option β := fn_p ci k r (va_rf x) s kk
/-- a boolean: 0 or 1 -/
def fn_pZ {β : Type} (ci k : Nat) (r : Option Nat) (x : Int32) (s : mS) (kk : mS → Option β) : Option β := if x = iI 0 ∨ x = iI 1 then fn_p ci k r (.int x) s kk else none
def fn_rZ (x : Int32) (s : mS) : Option (Int32 × mS) := if x = iI 0 ∨ x = iI 1 then some (x, s) else none
def fn_new {β : Type} (ci : Nat) (fs : List Value) (s : mS) (kk : Nat → mS → Option β) : Option β := kk s.2.1 (mNw s (.inr (ci, fs)) fs.length)
/-- an array of kind k at r -/
def fnA {β : Type} (r : Option Nat) (s : mS) (kk : Nat → Nat → vp_A → Option β) : Option β := match r with
  | none => none
  | some a => match s.1 a with
    | some (.inl (k, x)) => kk a k x
    | _ => none
def fn_len {β : Type} (r : Option Nat) (s : mS) (kk : Int32 → Option β) : Option β := fnA r s fun _ _ x => kk (nI x.1)
def fn_in {β : Type} (i : Int32) (n : Nat) (kk : Option β) : Option β := if i < 0 ∨ n ≤ i.toNatClampNeg then none else kk
def fn_aI {β : Type} (k : Nat) (r : Option Nat) (i : Int32) (s : mS) (kk : Int32 → Option β) : Option β := fnA r s fun _ c x => match x with
  | (n, .inl f) => if c = k then fn_in i n (kk (f i.toNatClampNeg)) else none
  | _ => none
def fn_aF {β : Type} (k : Nat) (r : Option Nat) (i : Int32) (s : mS) (kk : UInt32 → Option β) : Option β := fnA r s fun _ c x => match x with
  | (n, .inr (.inr (.inl f))) => if c = k then fn_in i n (kk (f i.toNatClampNeg)) else none
  | _ => none
def fn_aA {β : Type} (k : Nat) (r : Option Nat) (i : Int32) (s : mS) (kk : Option Nat → Option β) : Option β := fnA r s fun _ c x => match x with
  | (n, .inr (.inr (.inr (.inr f)))) => if c = k then fn_in i n (kk (f i.toNatClampNeg)) else none
  | _ => none
def fn_sI {β : Type} (k : Nat) (r : Option Nat) (i x : Int32) (s : mS) (kk : mS → Option β) : Option β := fnA r s fun a c y => match y with
  | (n, .inl f) => if c = k then fn_in i n (kk (mUp s a (.inl (k, n, aI (upd f i.toNatClampNeg x))))) else none
  | _ => none
def fn_sZ {β : Type} (k : Nat) (r : Option Nat) (i x : Int32) (s : mS) (kk : mS → Option β) : Option β := if x = iI 0 ∨ x = iI 1 then fn_sI k r i x s kk else none
def fn_sB {β : Type} (k : Nat) (r : Option Nat) (i x : Int32) (s : mS) (kk : mS → Option β) : Option β := fn_sI k r i x.toInt8.toInt32 s kk
def fn_sF {β : Type} (k : Nat) (r : Option Nat) (i : Int32) (x : UInt32) (s : mS) (kk : mS → Option β) : Option β := fnA r s fun a c y => match y with
  | (n, .inr (.inr (.inl f))) => if c = k then fn_in i n (kk (mUp s a (.inl (k, n, aF (vf_upd f i.toNatClampNeg x))))) else none
  | _ => none
/-- what may be stored in an array of references: null, or an object of one of these classes ([]: of any) -/
def fn_ok (cs : List Nat) (x : Option Nat) (s : mS) : Bool := match x with
  | none => true
  | some a => match s.1 a with
    | some (.inr (c, _)) => cs.isEmpty || cs.contains c
    | _ => false
def fn_sA {β : Type} (k : Nat) (cs : List Nat) (r : Option Nat) (i : Int32) (x : Option Nat) (s : mS) (kk : mS → Option β) : Option β := if fn_ok cs x s = true then (fnA r s fun a c y => match y with
  | (n, .inr (.inr (.inr (.inr f)))) => if c = k then fn_in i n (kk (mUp s a (.inl (k, n, aQ (va_up f i.toNatClampNeg x))))) else none
  | _ => none) else none
def fn_nI {β : Type} (k : Nat) (n : Int32) (s : mS) (kk : Nat → mS → Option β) : Option β := if n < 0 ∨ 100000 < n.toNatClampNeg then none else kk s.2.1 (mNw s (.inl (k, n.toNatClampNeg, aI (fun _ => 0))) n.toNatClampNeg)
def fn_nF {β : Type} (k : Nat) (n : Int32) (s : mS) (kk : Nat → mS → Option β) : Option β := if n < 0 ∨ 100000 < n.toNatClampNeg then none else kk s.2.1 (mNw s (.inl (k, n.toNatClampNeg, aF (fun _ => 0))) n.toNatClampNeg)
def fn_nA {β : Type} (k : Nat) (n : Int32) (s : mS) (kk : Nat → mS → Option β) : Option β := if n < 0 ∨ 100000 < n.toNatClampNeg then none else kk s.2.1 (mNw s (.inl (k, n.toNatClampNeg, aQ (fun _ => none))) n.toNatClampNeg)
/-- a cast that goes well: null, or an object of one of these classes -/
def fn_cast {β : Type} (cs : List Nat) (r : Option Nat) (s : mS) (kk : Option β) : Option β := match r with
  | none => kk
  | some a => match s.1 a with
    | some (.inr (c, _)) => if cs.contains c then kk else none
    | _ => none
/-- the receiver: an object of class ci -/
def fn_rc {β : Type} (ci : Nat) (r : Option Nat) (s : mS) (kk : Nat → Option β) : Option β := fnO ci r s fun a _ => kk a
/-- the receiver's class -/
def fn_cls {β : Type} (r : Option Nat) (s : mS) (kk : Nat → Nat → Option β) : Option β := match r with
  | none => none
  | some a => match s.1 a with
    | some (.inr (c, _)) => kk c a
    | _ => none
def fn_nn {β : Type} (r : Option Nat) (kn : Option β) (ks : Option β) : Option β := match r with
  | none => kn
  | some _ => ks
def fn_B {α β : Type} (x : Option (α × mS)) (kk : α → mS → Option β) : Option β := match x with
  | none => none
  | some (r, s) => kk r s
/-- a loop's head -/
def fnFix {F : Type} (bot : F) (body : F → F) : Nat → F
  | 0 => bot
  | n + 1 => body (fnFix bot body n)
def fnGas : Nat := 20001
/-! the JDK's own -/
def fn_acopy (_ρ : Nat → Nat) (src : Option Nat) (sp : Int32) (dst : Option Nat) (dp n : Int32) (s : mS) : Option (Unit × mS) := fnA src s fun _ k0 x0 => fnA dst s fun b k1 x1 => match x0, x1 with
  | (n0, .inr (.inr (.inr (.inr f)))), (n1, .inr (.inr (.inr (.inr g)))) => if (k0 = 4 ∧ k1 = 4 ∧ n0 ≠ 0 ∧ n1 ≠ 0) ∧ (¬ sp < 0 ∧ ¬ dp < 0 ∧ ¬ n < 0) ∧ (sp.toNatClampNeg + n.toNatClampNeg ≤ n0 ∧ dp.toNatClampNeg + n.toNatClampNeg ≤ n1) ∧ (List.range n.toNatClampNeg).all (fun i => fn_ok [] (f (sp.toNatClampNeg + i)) s) = true then some ((), mUp s b (.inl (4, n1, aQ (va_cpy f g sp.toNatClampNeg dp.toNatClampNeg n.toNatClampNeg)))) else none
  | _, _ => none
def fn_cloneI (_ρ : Nat → Nat) (r : Option Nat) (s : mS) : Option (Option Nat × mS) := fnA r s fun _ k x => match x with
  | (n, .inl f) => if k = 0 ∧ n ≠ 0 then some (some s.2.1, mNw s (.inl (0, n, aI f)) n) else none
  | _ => none
def fn_cloneF (_ρ : Nat → Nat) (r : Option Nat) (s : mS) : Option (Option Nat × mS) := fnA r s fun _ k x => match x with
  | (n, .inr (.inr (.inl f))) => if k = 3 ∧ n ≠ 0 then some (some s.2.1, mNw s (.inl (3, n, aF f)) n) else none
  | _ => none
def fn_getC (ρ : Nat → Nat) (r : Option Nat) (s : mS) : Option (Option Nat × mS) := fnA r s fun _ k _ => if k = 4 then some (some (ρ 300), s) else none
def fn_f2i (_ρ : Nat → Nat) (x : UInt32) (s : mS) : Option (Int32 × mS) := some (x.toInt32, s)
/-- the cache of small Integers -/
def fn_cache {β : Type} (ρ : Nat → Nat) (i : Int32) (kk : Option Nat → Option β) : Option β := fn_in i 256 (kk (some (ρ (i.toNatClampNeg + 2))))
/-- a new Integer's field -/
def fn_pB {β : Type} (ρ : Nat → Nat) (k : Nat) (r : Option Nat) (x : Int32) (s : mS) (kk : mS → Option β) : Option β := fnO 11 r s fun a fs => if ρ 301 ≤ a ∧ k < fs.length then kk (mUp s a (.inr (11, fs.set k (.int x)))) else none
def fn_castP {β : Type} (k0 : Nat) (r : Option Nat) (s : mS) (kk : Option β) : Option β := match r with
  | none => kk
  | some a => match s.1 a with
    | some (.inl (k, x)) => if k = k0 ∧ x.1 ≠ 0 then kk else none
    | _ => none
def fn_n32 (r : UInt32) : Bool := decide (r &&& 0x7fffffff ≤ 0x7f800000)
/-- a reference or null, by a number -/
def kOp (n : Nat) : Option Nat := match n with
  | 0 => none
  | n + 1 => some n
/-- calls that may throw -/
def fn_BX {α γ : Type} (x : Option ((α ⊕ Nat) × mS)) (kk : α → mS → Option ((γ ⊕ Nat) × mS)) : Option ((γ ⊕ Nat) × mS) := match x with
  | none => none
  | some (.inl r, s) => kk r s
  | some (.inr q, s) => some (.inr q, s)
def fn_BC {α β : Type} (x : Option ((α ⊕ Nat) × mS)) (kk : α → mS → Option β) (kh : Nat → mS → Option β) : Option β := match x with
  | none => none
  | some (.inl r, s) => kk r s
  | some (.inr q, s) => kh q s
def fn_throw {γ : Type} (r : Option Nat) (s : mS) : Option ((γ ⊕ Nat) × mS) := fn_rc 15 r s fun q => some (.inr q, s)
