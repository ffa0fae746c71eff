/-! THE ABSTRACT MACHINE: code as a table of small steps over abstract cells; a run is the least relation closed under the steps -/
set_option maxRecDepth 100000
/-- an abstract cell: an array by its kind's number, an object by its class's number (1000 more: never written) -/
abbrev aE : Type := (Nat × vp_A) ⊕ (Nat × List Value)
abbrev aH : Type := Nat × (Nat → Option aE)
abbrev aO : Type := Option Value ⊕ String
abbrev aX : Type := Nat → List Value → List Value → aH → Nat → Nat → Prop
abbrev aC : Type := Nat → List Value → aH → Nat → Nat → (aO → aH → Prop) → Prop
/-- callee, depth, most cells, most slots, what is owed at the end -/
abbrev aG : Type := aC × Nat × Nat × Nat × (aO → aH → Nat → Nat → Prop)
abbrev aI : Type := aG → aX → List Value → List Value → aH → Nat → Nat → Prop
abbrev aQ (g : aG) : aO → aH → Nat → Nat → Prop := g.2.2.2.2
/-- all cells lie in the heap -/
def aW (h : aH) : Prop := ∀ (a : Nat) (e : aE), h.2 a = some e → a < h.1
def hu (h : aH) (a : Nat) (e : aE) : aH := (h.1, fun x => if x = a then some e else h.2 x)
def hn (h : aH) (e : aE) : aH := (h.1 + 1, fun x => if x = h.1 then some e else h.2 x)
/-- no value -/
abbrev jk : Value := .retAddr 0
def sto1 (ls : List Value) : Nat → Value → List Value
  | 0, v => ls.set 0 v
  | j + 1, v => match ls[j]? with
    | some (.long _) => (ls.set j jk).set (j + 1) v
    | some (.double _) => (ls.set j jk).set (j + 1) v
    | _ => ls.set (j + 1) v
def sto2 (ls : List Value) (i : Nat) (v : Value) : List Value := (sto1 ls i v).set (i + 1) jk
/-- the locals of an entry -/
def lay : List Value → List Value
  | [] => []
  | .long v :: r => .long v :: jk :: lay r
  | .double v :: r => .double v :: jk :: lay r
  | v :: r => v :: lay r
def lays (as : List Value) (n : Nat) : List Value := lay as ++ List.replicate (n - (lay as).length) jk
/-- a value fits a field -/
def aFit (ty : FieldType) (v : Value) : Prop := narrow ty v = v ∧ fits ty v = true
-- pure steps on the stack
def i_op (f : List Value → Option (List Value)) (n : Nat) : aI := fun _ X ls st h k s => match f st with
  | some st' => X n ls st' h k s
  | none => False
def o_int (v : Int32) (st : List Value) : Option (List Value) := some (.int v :: st)
def o_long (v : Int64) (st : List Value) : Option (List Value) := some (.long v :: st)
def o_flt (v : UInt32) (st : List Value) : Option (List Value) := some (.float v :: st)
def o_null (st : List Value) : Option (List Value) := some (.null :: st)
def o_iadd : List Value → Option (List Value) | .int b :: .int a :: r => some (.int (a + b) :: r) | _ => none
def o_isub : List Value → Option (List Value) | .int b :: .int a :: r => some (.int (a - b) :: r) | _ => none
def o_imul : List Value → Option (List Value) | .int b :: .int a :: r => some (.int (a * b) :: r) | _ => none
def o_iand : List Value → Option (List Value) | .int b :: .int a :: r => some (.int (a &&& b) :: r) | _ => none
def o_ior : List Value → Option (List Value) | .int b :: .int a :: r => some (.int (a ||| b) :: r) | _ => none
def o_ixor : List Value → Option (List Value) | .int b :: .int a :: r => some (.int (a ^^^ b) :: r) | _ => none
def o_idiv : List Value → Option (List Value) | .int b :: .int a :: r => if b = 0 then none else some (.int (a / b) :: r) | _ => none
def o_irem : List Value → Option (List Value) | .int b :: .int a :: r => if b = 0 then none else some (.int (a - a / b * b) :: r) | _ => none
def o_ineg : List Value → Option (List Value) | .int a :: r => some (.int (-a) :: r) | _ => none
def o_ishl : List Value → Option (List Value) | .int b :: .int a :: r => some (.int (a <<< (b &&& 31)) :: r) | _ => none
def o_ishr : List Value → Option (List Value) | .int b :: .int a :: r => some (.int (a >>> (b &&& 31)) :: r) | _ => none
def o_iushr : List Value → Option (List Value) | .int b :: .int a :: r => some (.int (a.toUInt32 >>> (b.toUInt32 &&& Int32.toUInt32 31)).toInt32 :: r) | _ => none
def o_ladd : List Value → Option (List Value) | .long b :: .long a :: r => some (.long (a + b) :: r) | _ => none
def o_lsub : List Value → Option (List Value) | .long b :: .long a :: r => some (.long (a - b) :: r) | _ => none
def o_lmul : List Value → Option (List Value) | .long b :: .long a :: r => some (.long (a * b) :: r) | _ => none
def o_land : List Value → Option (List Value) | .long b :: .long a :: r => some (.long (a &&& b) :: r) | _ => none
def o_lor : List Value → Option (List Value) | .long b :: .long a :: r => some (.long (a ||| b) :: r) | _ => none
def o_lxor : List Value → Option (List Value) | .long b :: .long a :: r => some (.long (a ^^^ b) :: r) | _ => none
def o_ldiv : List Value → Option (List Value) | .long b :: .long a :: r => if b = 0 then none else some (.long (a / b) :: r) | _ => none
def o_lrem : List Value → Option (List Value) | .long b :: .long a :: r => if b = 0 then none else some (.long (a - a / b * b) :: r) | _ => none
def o_lshl : List Value → Option (List Value) | .int b :: .long a :: r => some (.long (a <<< (b.toInt64 &&& 63)) :: r) | _ => none
def o_lushr : List Value → Option (List Value) | .int b :: .long a :: r => some (.long (a.toUInt64 >>> (b.toInt64.toUInt64 &&& Int64.toUInt64 63)).toInt64 :: r) | _ => none
def o_lcmp : List Value → Option (List Value) | .long b :: .long a :: r => some (.int (lg_cmp a b) :: r) | _ => none
def o_i2l : List Value → Option (List Value) | .int a :: r => some (.long a.toInt64 :: r) | _ => none
def o_l2i : List Value → Option (List Value) | .long a :: r => some (.int a.toInt32 :: r) | _ => none
def o_i2c : List Value → Option (List Value) | .int a :: r => some (.int (a.toUInt32 % 65536).toInt32 :: r) | _ => none
def o_i2b : List Value → Option (List Value) | .int a :: r => some (.int a.toInt8.toInt32 :: r) | _ => none
def o_i2d : List Value → Option (List Value) | .int a :: r => some (.double (FP.i2d a) :: r) | _ => none
def o_i2f : List Value → Option (List Value) | .int a :: r => some (.float (FP.i2f a) :: r) | _ => none
def o_dcmp (op : CmpOp) : List Value → Option (List Value) | .double b :: .double a :: r => some (.int (Op.cmpValue (FP.dcmp a b) op) :: r) | _ => none
def i_ddiv (n : Nat) : aI := fun _ X ls st h k s => match st with
  | .double b :: .double a :: r => vf_n64 (FP.ddiv a b) ∧ X n ls (.double (FP.ddiv a b) :: r) h k s
  | _ => False
def i_fdiv (n : Nat) : aI := fun _ X ls st h k s => match st with
  | .float b :: .float a :: r => vf_n32 (FP.fdiv a b) ∧ X n ls (.float (FP.fdiv a b) :: r) h k s
  | _ => False
def i_f2d (n : Nat) : aI := fun _ X ls st h k s => match st with
  | .float a :: r => vf_n64 (FP.f2d a) ∧ X n ls (.double (FP.f2d a) :: r) h k s
  | _ => False
def o_pop : List Value → Option (List Value) | v :: r => if v.category = 1 then some r else none | _ => none
def o_dup : List Value → Option (List Value) | v :: r => if v.category = 1 then some (v :: v :: r) else none | _ => none
def o_dup_x1 : List Value → Option (List Value) | a :: b :: r => if a.category = 1 ∧ b.category = 1 then some (a :: b :: a :: r) else none | _ => none
def o_dup2 : List Value → Option (List Value) | .int a :: .ref b :: r => some (.int a :: .ref b :: .int a :: .ref b :: r) | _ => none
-- locals
def i_iload (i n : Nat) : aI := fun _ X ls st h k s => match ls[i]? with
  | some (.int v) => X n ls (.int v :: st) h k s
  | _ => False
def i_lload (i n : Nat) : aI := fun _ X ls st h k s => match ls[i]? with
  | some (.long v) => X n ls (.long v :: st) h k s
  | _ => False
def i_dload (i n : Nat) : aI := fun _ X ls st h k s => match ls[i]? with
  | some (.double v) => X n ls (.double v :: st) h k s
  | _ => False
def i_aload (i n : Nat) : aI := fun _ X ls st h k s => match ls[i]? with
  | some (.ref v) => X n ls (.ref v :: st) h k s
  | some .null => X n ls (.null :: st) h k s
  | _ => False
def i_istore (i n : Nat) : aI := fun _ X ls st h k s => match st with
  | .int v :: r => X n (sto1 ls i (.int v)) r h k s
  | _ => False
def i_astore (i n : Nat) : aI := fun _ X ls st h k s => match st with
  | .ref v :: r => X n (sto1 ls i (.ref v)) r h k s
  | .null :: r => X n (sto1 ls i .null) r h k s
  | _ => False
def i_lstore (i n : Nat) : aI := fun _ X ls st h k s => match st with
  | .long v :: r => X n (sto2 ls i (.long v)) r h k s
  | _ => False
def i_dstore (i n : Nat) : aI := fun _ X ls st h k s => match st with
  | .double v :: r => X n (sto2 ls i (.double v)) r h k s
  | _ => False
def i_iinc (i : Nat) (d : Int) (n : Nat) : aI := fun _ X ls st h k s => match ls[i]? with
  | some (.int v) => X n (sto1 ls i (.int (v + Int32.ofInt d))) st h k s
  | _ => False
-- branches
def i_goto (t : Nat) : aI := fun _ X ls st h k s => X t ls st h k s
def i_ifeq (t n : Nat) : aI := fun _ X ls st h k s => match st with
  | .int x :: r => if x = 0 then X t ls r h k s else X n ls r h k s
  | _ => False
def i_ifne (t n : Nat) : aI := fun _ X ls st h k s => match st with
  | .int x :: r => if x = 0 then X n ls r h k s else X t ls r h k s
  | _ => False
def i_iflt (t n : Nat) : aI := fun _ X ls st h k s => match st with
  | .int x :: r => if x < 0 then X t ls r h k s else X n ls r h k s
  | _ => False
def i_ifge (t n : Nat) : aI := fun _ X ls st h k s => match st with
  | .int x :: r => if x < 0 then X n ls r h k s else X t ls r h k s
  | _ => False
def i_ifgt (t n : Nat) : aI := fun _ X ls st h k s => match st with
  | .int x :: r => if 0 < x then X t ls r h k s else X n ls r h k s
  | _ => False
def i_ifle (t n : Nat) : aI := fun _ X ls st h k s => match st with
  | .int x :: r => if 0 < x then X n ls r h k s else X t ls r h k s
  | _ => False
def i_ceq (t n : Nat) : aI := fun _ X ls st h k s => match st with
  | .int y :: .int x :: r => if x = y then X t ls r h k s else X n ls r h k s
  | _ => False
def i_cne (t n : Nat) : aI := fun _ X ls st h k s => match st with
  | .int y :: .int x :: r => if x = y then X n ls r h k s else X t ls r h k s
  | _ => False
def i_clt (t n : Nat) : aI := fun _ X ls st h k s => match st with
  | .int y :: .int x :: r => if x < y then X t ls r h k s else X n ls r h k s
  | _ => False
def i_cge (t n : Nat) : aI := fun _ X ls st h k s => match st with
  | .int y :: .int x :: r => if x < y then X n ls r h k s else X t ls r h k s
  | _ => False
def i_cgt (t n : Nat) : aI := fun _ X ls st h k s => match st with
  | .int y :: .int x :: r => if y < x then X t ls r h k s else X n ls r h k s
  | _ => False
def i_cle (t n : Nat) : aI := fun _ X ls st h k s => match st with
  | .int y :: .int x :: r => if y < x then X n ls r h k s else X t ls r h k s
  | _ => False
def i_null (t n : Nat) : aI := fun _ X ls st h k s => match st with
  | .null :: r => X t ls r h k s
  | .ref _ :: r => X n ls r h k s
  | _ => False
def i_nnull (t n : Nat) : aI := fun _ X ls st h k s => match st with
  | .null :: r => X n ls r h k s
  | .ref _ :: r => X t ls r h k s
  | _ => False
def i_aeq (t n : Nat) : aI := fun _ X ls st h k s => match st with
  | .ref y :: .ref x :: r => if x = y then X t ls r h k s else X n ls r h k s
  | .null :: .ref _ :: r => X n ls r h k s
  | .ref _ :: .null :: r => X n ls r h k s
  | .null :: .null :: r => X t ls r h k s
  | _ => False
def i_ane (t n : Nat) : aI := fun _ X ls st h k s => match st with
  | .ref y :: .ref x :: r => if x = y then X n ls r h k s else X t ls r h k s
  | .null :: .ref _ :: r => X t ls r h k s
  | .ref _ :: .null :: r => X t ls r h k s
  | .null :: .null :: r => X n ls r h k s
  | _ => False
def i_tsw (lo hi : Int) (ts : List Nat) (df : Nat) : aI := fun _ X ls st h k s => match st with
  | .int x :: r => if x.toInt < lo ∨ hi < x.toInt then X df ls r h k s else match ts[(x.toInt - lo).toNat]? with
    | some t => X t ls r h k s
    | none => False
  | _ => False
-- cells
def i_getf (c f n : Nat) : aI := fun _ X ls st h k s => match st with
  | .ref a :: r => match h.2 a with
    | some (.inr (c', fs)) => (c' = c ∨ c' = c + 1000) ∧ match fs[f]? with
      | some v => X n ls (v :: r) h k s
      | none => False
    | _ => False
  | _ => False
def i_putf (c f : Nat) (ty : FieldType) (n : Nat) : aI := fun _ X ls st h k s => match st with
  | v :: .ref a :: r => match h.2 a with
    | some (.inr (c', fs)) => c' = c ∧ f < fs.length ∧ aFit ty v ∧ X n ls r (hu h a (.inr (c, fs.set f v))) k s
    | _ => False
  | _ => False
def i_push (v : Value) (n : Nat) : aI := fun _ X ls st h k s => X n ls (v :: st) h k s
def i_new (c N : Nat) (fs : List Value) (n : Nat) : aI := fun g X ls st h k s => aW h → k + 1 ≤ g.2.2.1 ∧ s + N ≤ g.2.2.2.1 ∧ X n ls (.ref h.1 :: st) (hn h (.inr (c, fs))) (k + 1) (s + N)
def i_newa (t : Nat) (z : (Nat → Int32) ⊕ (Nat → Int64) ⊕ (Nat → UInt32) ⊕ (Nat → UInt64) ⊕ (Nat → Option Nat)) (b n : Nat) : aI := fun g X ls st h k s => match st with
  | .int m :: r => aW h → ¬ m < 0 ∧ m.toNatClampNeg * b ≤ 536870912 ∧ k + 1 ≤ g.2.2.1 ∧ s + m.toNatClampNeg ≤ g.2.2.2.1 ∧ X n ls (.ref h.1 :: r) (hn h (.inl (t, m.toNatClampNeg, z))) (k + 1) (s + m.toNatClampNeg)
  | _ => False
def i_alen (n : Nat) : aI := fun _ X ls st h k s => match st with
  | .ref a :: r => match h.2 a with
    | some (.inl (t, x)) => t % 1000 < 10 ∧ X n ls (.int (Int32.ofNat x.1) :: r) h k s
    | _ => False
  | _ => False
/-- an int, boolean or byte is read -/
def i_iald (t n : Nat) : aI := fun _ X ls st h k s => match st with
  | .int i :: .ref a :: r => match h.2 a with
    | some (.inl (t', m, .inl f)) => (t' = t ∨ t' = t + 1000) ∧ vp_in i m ∧ X n ls (.int (f i.toNatClampNeg) :: r) h k s
    | _ => False
  | _ => False
def i_lald (t n : Nat) : aI := fun _ X ls st h k s => match st with
  | .int i :: .ref a :: r => match h.2 a with
    | some (.inl (t', m, .inr (.inl f))) => (t' = t ∨ t' = t + 1000) ∧ vp_in i m ∧ X n ls (.long (f i.toNatClampNeg) :: r) h k s
    | _ => False
  | _ => False
/-- a reference is read, out of an array of one of these kinds -/
def i_aald (ts : List Nat) (n : Nat) : aI := fun _ X ls st h k s => match st with
  | .int i :: .ref a :: r => match h.2 a with
    | some (.inl (t', m, .inr (.inr (.inr (.inr f))))) => t' ∈ ts ∧ vp_in i m ∧ X n ls (va_rf (f i.toNatClampNeg) :: r) h k s
    | _ => False
  | _ => False
def i_iast (t : Nat) (ty : FieldType) (n : Nat) : aI := fun _ X ls st h k s => match st with
  | .int v :: .int i :: .ref a :: r => match h.2 a with
    | some (.inl (t', m, .inl f)) => t' = t ∧ vp_in i m ∧ aFit ty (.int v) ∧ X n ls r (hu h a (.inl (t, m, .inl (upd f i.toNatClampNeg v)))) k s
    | _ => False
  | _ => False
def i_last (t n : Nat) : aI := fun _ X ls st h k s => match st with
  | .long v :: .int i :: .ref a :: r => match h.2 a with
    | some (.inl (t', m, .inr (.inl f))) => t' = t ∧ vp_in i m ∧ X n ls r (hu h a (.inl (t, m, .inr (.inl (vp_updL f i.toNatClampNeg v))))) k s
    | _ => False
  | _ => False
/-- what may be written into an array of kind t: an object of class number c -/
def aStOK (t c : Nat) : Prop := (t = 4 ∧ c % 1000 < 25) ∨ (t = 6 ∧ c = 18) ∨ (t = 7 ∧ c = 22)
def i_aast (n : Nat) : aI := fun _ X ls st h k s => match st with
  | .ref v :: .int i :: .ref a :: r => match h.2 a, h.2 v with
    | some (.inl (t', m, .inr (.inr (.inr (.inr f))))), some (.inr (c, _)) => aStOK t' c ∧ vp_in i m ∧ X n ls r (hu h a (.inl (t', m, .inr (.inr (.inr (.inr (va_up f i.toNatClampNeg (some v)))))))) k s
    | _, _ => False
  | .null :: .int i :: .ref a :: r => match h.2 a with
    | some (.inl (t', m, .inr (.inr (.inr (.inr f))))) => (t' = 4 ∨ t' = 6 ∨ t' = 7) ∧ vp_in i m ∧ X n ls r (hu h a (.inl (t', m, .inr (.inr (.inr (.inr (va_up f i.toNatClampNeg none))))))) k s
    | _ => False
  | _ => False
/-- the object's class is one of cs, or an array's kind one of ts -/
def i_cast (cs ts : List Nat) (n : Nat) : aI := fun _ X ls st h k s => match st with
  | .null :: r => X n ls (.null :: r) h k s
  | .ref a :: r => match h.2 a with
    | some (.inr (c, _)) => c ∈ cs ∧ X n ls (.ref a :: r) h k s
    | some (.inl (t, _)) => t ∈ ts ∧ X n ls (.ref a :: r) h k s
    | _ => False
  | _ => False
/-- the object's class is one of ys (1), or one of ns (0) -/
def i_inst (ys ns : List Nat) (n : Nat) : aI := fun _ X ls st h k s => match st with
  | .null :: r => X n ls (.int 0 :: r) h k s
  | .ref a :: r => match h.2 a with
    | some (.inr (c, _)) => (c ∈ ys ∧ X n ls (.int 1 :: r) h k s) ∨ (c ∈ ns ∧ X n ls (.int 0 :: r) h k s)
    | _ => False
  | _ => False
/-- null, or an object that is known -/
def aKn (h : aH) (r : Option Nat) : Prop := ∀ y : Nat, r = some y → ∃ (c : Nat) (fs : List Value), h.2 y = some (.inr (c, fs)) ∧ c % 1000 < 25
/-- System.arraycopy of ints, longs, references (of one kind) -/
def i_acopy (n : Nat) : aI := fun g X ls st h k s => match st with
  | .int ln :: .int dp :: .ref b :: .int sp :: .ref a :: r => 1 ≤ g.2.1 ∧ r.length ≤ 4 ∧ ¬ ln < 0 ∧ ¬ dp < 0 ∧ ¬ sp < 0 ∧ match h.2 a, h.2 b with
    | some (.inl (t1, m1, .inl f)), some (.inl (t2, m2, .inl f2)) => t1 % 1000 = 0 ∧ t2 = 0 ∧ sp.toNatClampNeg + ln.toNatClampNeg ≤ m1 ∧ dp.toNatClampNeg + ln.toNatClampNeg ≤ m2 ∧ X n ls r (hu h b (.inl (t2, m2, .inl (va_cpy f f2 sp.toNatClampNeg dp.toNatClampNeg ln.toNatClampNeg)))) k s
    | some (.inl (t1, m1, .inr (.inl f))), some (.inl (t2, m2, .inr (.inl f2))) => t1 % 1000 = 2 ∧ t2 = 2 ∧ sp.toNatClampNeg + ln.toNatClampNeg ≤ m1 ∧ dp.toNatClampNeg + ln.toNatClampNeg ≤ m2 ∧ X n ls r (hu h b (.inl (t2, m2, .inr (.inl (va_cpy f f2 sp.toNatClampNeg dp.toNatClampNeg ln.toNatClampNeg))))) k s
    | some (.inl (t1, m1, .inr (.inr (.inr (.inr f))))), some (.inl (t2, m2, .inr (.inr (.inr (.inr f2))))) => t1 % 1000 = 4 ∧ t2 = 4 ∧ sp.toNatClampNeg + ln.toNatClampNeg ≤ m1 ∧ dp.toNatClampNeg + ln.toNatClampNeg ≤ m2 ∧ (∀ j, j < ln.toNatClampNeg → aKn h (f (sp.toNatClampNeg + j))) ∧ X n ls r (hu h b (.inl (t2, m2, .inr (.inr (.inr (.inr (va_cpy f f2 sp.toNatClampNeg dp.toNatClampNeg ln.toNatClampNeg))))))) k s
    | _, _ => False
  | _ => False
-- ends
def i_ret : aI := fun g _ _ st h k s => match st with
  | [] => aQ g (.inl none) h k s
  | _ => False
def i_iret (ty : FieldType) : aI := fun g _ _ st h k s => match st with
  | [.int v] => narrow ty (.int v) = .int v ∧ aQ g (.inl (some (.int v))) h k s
  | _ => False
def i_lret : aI := fun g _ _ st h k s => match st with
  | [.long v] => aQ g (.inl (some (.long v))) h k s
  | _ => False
def i_fret : aI := fun g _ _ st h k s => match st with
  | [.float v] => aQ g (.inl (some (.float v))) h k s
  | _ => False
def i_dret : aI := fun g _ _ st h k s => match st with
  | [.double v] => aQ g (.inl (some (.double v))) h k s
  | _ => False
def i_aret : aI := fun g _ _ st h k s => match st with
  | [.ref v] => aQ g (.inl (some (.ref v))) h k s
  | [.null] => aQ g (.inl (some .null)) h k s
  | _ => False
/-- throw new E(): no handler here -/
def i_throw0 (E : String) : aI := fun g _ _ st h k s => st.length ≤ 4 ∧ 12 ≤ g.2.1 ∧ k + 1 ≤ g.2.2.1 ∧ s + 6 ≤ g.2.2.2.1 ∧ ∀ z : Nat, h.1 ≤ z → aQ g (.inr E) (z, h.2) (k + 1) (s + 6)
/-- throw an object of class number c, named E: no handler here -/
def i_athrow (c : Nat) (E : String) : aI := fun g _ _ st h k s => match st with
  | .ref a :: _ => match h.2 a with
    | some (.inr (c', _)) => c' = c ∧ aQ g (.inr E) h k s
    | _ => False
  | _ => False
/-- what follows a call -/
def aRes (g : aG) (X : aX) (hs : List (String × Option Nat)) (n : Nat) (ls rest : List Value) (k s : Nat) (o : aO) (h : aH) : Prop := match o with
  | .inl none => X n ls rest h k s
  | .inl (some v) => X n ls (v :: rest) h k s
  | .inr E => match hs with
    | [] => aQ g (.inr E) h k s
    | x :: hs => match (x :: hs).lookup E with
      | some (some t) => ∀ q : Nat, X t ls [.ref q] h k s
      | some none => aQ g (.inr E) h k s
      | none => False
def aCall (y : Nat) (hs : List (String × Option Nat)) (n : Nat) (as rest : List Value) : aI := fun g X ls _ h k s =>
  rest.length ≤ 4 ∧ ∃ (mc ms : Nat) (P : aO → aH → Prop), g.1 y as h mc ms P ∧ k + mc ≤ g.2.2.1 ∧ s + ms ≤ g.2.2.2.1 ∧ ∀ o h', P o h' → aRes g X hs n ls rest (k + mc) (s + ms) o h'
/-- a static call of m arguments -/
def i_callS (y m : Nat) (hs : List (String × Option Nat)) (n : Nat) : aI := fun g X ls st h k s =>
  m ≤ st.length ∧ aCall y hs n (st.take m).reverse (st.drop m) g X ls st h k s
/-- a constructor: m arguments and the object -/
def i_callI (y m : Nat) (hs : List (String × Option Nat)) (n : Nat) : aI := fun g X ls st h k s => match st.drop m with
  | .ref a :: rest => m ≤ st.length ∧ aCall y hs n (.ref a :: (st.take m).reverse) rest g X ls st h k s
  | _ => False
/-- a call through an object: which method by its class's number -/
def i_callV (d : List (Nat × Nat)) (m : Nat) (hs : List (String × Option Nat)) (n : Nat) : aI := fun g X ls st h k s => match st.drop m with
  | .ref a :: rest => m ≤ st.length ∧ match h.2 a with
    | some (.inr (c, _)) => match d.lookup c with
      | some y => aCall y hs n (.ref a :: (st.take m).reverse) rest g X ls st h k s
      | none => False
    | _ => False
  | _ => False
/-- a call through the one Unsafe object, v -/
def i_callU (v : Value) (y m : Nat) (hs : List (String × Option Nat)) (n : Nat) : aI := fun g X ls st h k s => match st.drop m with
  | .ref a :: rest => v = .ref a ∧ m ≤ st.length ∧ aCall y hs n (.ref a :: (st.take m).reverse) rest g X ls st h k s
  | _ => False
/-- Unsafe.getLong of an array of ints -/
def i_ulong (v : Value) (n : Nat) : aI := fun g X ls st h k s => match st with
  | .long off :: .ref a :: .ref u :: r => v = .ref u ∧ 1 ≤ g.2.1 ∧ r.length ≤ 4 ∧ match h.2 a with
    | some (.inl (t, m, .inl f)) => (t = 0 ∨ t = 1000) ∧ ∃ q : Nat, off = Int64.ofNat (16 + 4 * q) ∧ q + 1 < m ∧ q < 2 ^ 31 ∧ X n ls (.long (ug_w (f q) (f (q + 1))) :: r) h k s
    | _ => False
  | _ => False
/-- Object.<init> -/
def i_oinit (n : Nat) : aI := fun g X ls st h k s => match st with
  | .ref _ :: r => 1 ≤ g.2.1 ∧ r.length ≤ 4 ∧ X n ls r h k s
  | _ => False
/-- getClass of an array of objects -/
def i_getC (v : Value) (n : Nat) : aI := fun g X ls st h k s => match st with
  | .ref a :: r => match h.2 a with
    | some (.inl (t, _)) => (t = 4 ∨ t = 1004) ∧ 1 ≤ g.2.1 ∧ r.length ≤ 4 ∧ X n ls (v :: r) h k s
    | _ => False
  | _ => False
/-- an array of m arrays of k ints -/
def hm (h : aH) (m k : Nat) : aH := (h.1 + 1 + m, fun x => if x = h.1 then some (.inl (5, m, .inr (.inr (.inr (.inr fun j => some (h.1 + 1 + j)))))) else if h.1 < x ∧ x < h.1 + 1 + m then some (.inl (0, k, .inl fun _ => 0)) else h.2 x)
def i_multi (n : Nat) : aI := fun g X ls st h k s => match st with
  | .int b :: .int a :: r => aW h → ¬ a < 0 ∧ ¬ b < 0 ∧ a.toNatClampNeg ≤ 10000 ∧ b.toNatClampNeg ≤ 10000 ∧ k + (1 + a.toNatClampNeg) ≤ g.2.2.1 ∧ s + (a.toNatClampNeg + a.toNatClampNeg * b.toNatClampNeg) ≤ g.2.2.2.1 ∧
      X n ls (.ref h.1 :: r) (hm h a.toNatClampNeg b.toNatClampNeg) (k + (1 + a.toNatClampNeg)) (s + (a.toNatClampNeg + a.toNatClampNeg * b.toNatClampNeg))
  | _ => False
/-- Math.max, Math.min of ints -/
def i_mmax (n : Nat) : aI := fun g X ls st h k s => match st with
  | .int y :: .int x :: r => 1 ≤ g.2.1 ∧ r.length ≤ 4 ∧ k ≤ g.2.2.1 ∧ s ≤ g.2.2.2.1 ∧ X n ls (.int (if x < y then y else x) :: r) h k s
  | _ => False
def i_mmin (n : Nat) : aI := fun g X ls st h k s => match st with
  | .int y :: .int x :: r => 1 ≤ g.2.1 ∧ r.length ≤ 4 ∧ k ≤ g.2.2.1 ∧ s ≤ g.2.2.2.1 ∧ X n ls (.int (if y < x then y else x) :: r) h k s
  | _ => False
def i_no : aI := fun _ _ _ _ _ _ _ => False
/-- the least run -/
def Rn (T : Nat → aI) (g : aG) (pc : Nat) (ls st : List Value) (h : aH) (k s : Nat) : Prop :=
  ∀ X : aX, (∀ pc ls st h k s, T pc g X ls st h k s → X pc ls st h k s) → X pc ls st h k s
/-- a step asks no more of what follows than that it holds, and no more of the end -/
def aMono (i : aI) : Prop := ∀ (C0 : aC) (d0 mc0 ms0 mc1 ms1 : Nat) (Q0 Q1 : aO → aH → Nat → Nat → Prop) (X Y : aX), mc0 ≤ mc1 → ms0 ≤ ms1 → (∀ o h k s, Q0 o h k s → Q1 o h k s) → (∀ pc ls st h k s, X pc ls st h k s → Y pc ls st h k s) → ∀ ls st h k s, i (C0, d0, mc0, ms0, Q0) X ls st h k s → i (C0, d0, mc1, ms1, Q1) Y ls st h k s
theorem aMono.x {i : aI} (hi : aMono i) (g : aG) (X Y : aX) (hXY : ∀ pc ls st h k s, X pc ls st h k s → Y pc ls st h k s) (ls st : List Value) (h : aH) (k s : Nat) (q : i g X ls st h k s) : i g Y ls st h k s := by
  obtain ⟨C0, d0, mc0, ms0, Q0⟩ := g
  exact hi C0 d0 mc0 ms0 mc0 ms0 Q0 Q0 X Y (Nat.le_refl _) (Nat.le_refl _) (fun _ _ _ _ q => q) hXY ls st h k s q
theorem Rn.fold {T : Nat → aI} (hT : ∀ pc, aMono (T pc)) {g : aG} {pc : Nat} {ls st : List Value} {h : aH} {k s : Nat} (q : T pc g (Rn T g) ls st h k s) : Rn T g pc ls st h k s := by
  intro X hX
  exact hX _ _ _ _ _ _ ((hT pc).x g _ _ (fun pc ls st h k s r => r X hX) _ _ _ _ _ q)
theorem Rn.unfold {T : Nat → aI} (hT : ∀ pc, aMono (T pc)) {g : aG} {pc : Nat} {ls st : List Value} {h : aH} {k s : Nat} (q : Rn T g pc ls st h k s) : T pc g (Rn T g) ls st h k s := by
  refine q (fun pc ls st h k s => T pc g (Rn T g) ls st h k s) ?_
  intro pc ls st h k s r
  exact (hT pc).x g _ _ (fun pc ls st h k s r => Rn.fold hT r) _ _ _ _ _ r
theorem Rn.eq {T : Nat → aI} (hT : ∀ pc, aMono (T pc)) (g : aG) (pc : Nat) : Rn T g pc = T pc g (Rn T g) := by
  funext ls st h k s
  exact propext ⟨Rn.unfold hT, Rn.fold hT⟩
theorem Rn.at {T : Nat → aI} (hT : ∀ pc, aMono (T pc)) {pc : Nat} {i : aI} (e : T pc = i) (g : aG) : Rn T g pc = i g (Rn T g) := by
  rw [Rn.eq hT, e]
theorem Rn.weak {T : Nat → aI} (hT : ∀ pc, aMono (T pc)) {C : aC} {d mc ms mc' ms' : Nat} {Q Q' : aO → aH → Nat → Nat → Prop} (h1 : mc ≤ mc') (h2 : ms ≤ ms') (hQ : ∀ o h k s, Q o h k s → Q' o h k s) {pc : Nat} {ls st : List Value} {h : aH} {k s : Nat} (q : Rn T (C, d, mc, ms, Q) pc ls st h k s) : Rn T (C, d, mc', ms', Q') pc ls st h k s := by
  intro X hX
  exact q X fun pc ls st h k s z => hX _ _ _ _ _ _ (hT pc C d mc ms mc' ms' Q Q' X X h1 h2 hQ (fun _ _ _ _ _ _ w => w) ls st h k s z)
/-- a call at depth d: M the methods' codes, L how many locals they have -/
def Cl (M : Nat → Nat → aI) (L : Nat → Nat) : Nat → aC
  | 0 => fun _ _ _ _ _ _ => False
  | d + 1 => fun y as h mc ms P => (lay as).length ≤ L y ∧ Rn (M y) (Cl M L d, d + 1, mc, ms, fun o h' k s => k ≤ mc ∧ s ≤ ms ∧ P o h') 0 (lays as (L y)) [] h 0 0
-- the steps are monotone
theorem aImp {p q r : Prop} (h : q → r) : (p → q) → (p → r) := fun f w => h (f w)
theorem m_op (f : List Value → Option (List Value)) (n : Nat) : aMono (i_op f n) := by
  intro C0 d0 mc0 ms0 mc1 ms1 Q0 Q1 X Y hmc hms hQ hXY ls st h k s
  unfold i_op
  (repeat' split) <;> (repeat' first | exact hXY _ _ _ _ _ _ | exact id | exact fun q => q.elim | exact fun q => Nat.le_trans q hmc | exact fun q => Nat.le_trans q hms | exact hQ _ _ _ _ | exact fun q z hz => hQ _ _ _ _ (q z hz) | refine And.imp ?_ ?_ | refine Or.imp ?_ ?_ | refine aImp ?_)
theorem m_ddiv (n : Nat) : aMono (i_ddiv n) := by
  intro C0 d0 mc0 ms0 mc1 ms1 Q0 Q1 X Y hmc hms hQ hXY ls st h k s
  unfold i_ddiv
  (repeat' split) <;> (repeat' first | exact hXY _ _ _ _ _ _ | exact id | exact fun q => q.elim | exact fun q => Nat.le_trans q hmc | exact fun q => Nat.le_trans q hms | exact hQ _ _ _ _ | exact fun q z hz => hQ _ _ _ _ (q z hz) | refine And.imp ?_ ?_ | refine Or.imp ?_ ?_ | refine aImp ?_)
theorem m_fdiv (n : Nat) : aMono (i_fdiv n) := by
  intro C0 d0 mc0 ms0 mc1 ms1 Q0 Q1 X Y hmc hms hQ hXY ls st h k s
  unfold i_fdiv
  (repeat' split) <;> (repeat' first | exact hXY _ _ _ _ _ _ | exact id | exact fun q => q.elim | exact fun q => Nat.le_trans q hmc | exact fun q => Nat.le_trans q hms | exact hQ _ _ _ _ | exact fun q z hz => hQ _ _ _ _ (q z hz) | refine And.imp ?_ ?_ | refine Or.imp ?_ ?_ | refine aImp ?_)
theorem m_f2d (n : Nat) : aMono (i_f2d n) := by
  intro C0 d0 mc0 ms0 mc1 ms1 Q0 Q1 X Y hmc hms hQ hXY ls st h k s
  unfold i_f2d
  (repeat' split) <;> (repeat' first | exact hXY _ _ _ _ _ _ | exact id | exact fun q => q.elim | exact fun q => Nat.le_trans q hmc | exact fun q => Nat.le_trans q hms | exact hQ _ _ _ _ | exact fun q z hz => hQ _ _ _ _ (q z hz) | refine And.imp ?_ ?_ | refine Or.imp ?_ ?_ | refine aImp ?_)
theorem m_iload (i n : Nat) : aMono (i_iload i n) := by
  intro C0 d0 mc0 ms0 mc1 ms1 Q0 Q1 X Y hmc hms hQ hXY ls st h k s
  unfold i_iload
  (repeat' split) <;> (repeat' first | exact hXY _ _ _ _ _ _ | exact id | exact fun q => q.elim | exact fun q => Nat.le_trans q hmc | exact fun q => Nat.le_trans q hms | exact hQ _ _ _ _ | exact fun q z hz => hQ _ _ _ _ (q z hz) | refine And.imp ?_ ?_ | refine Or.imp ?_ ?_ | refine aImp ?_)
theorem m_lload (i n : Nat) : aMono (i_lload i n) := by
  intro C0 d0 mc0 ms0 mc1 ms1 Q0 Q1 X Y hmc hms hQ hXY ls st h k s
  unfold i_lload
  (repeat' split) <;> (repeat' first | exact hXY _ _ _ _ _ _ | exact id | exact fun q => q.elim | exact fun q => Nat.le_trans q hmc | exact fun q => Nat.le_trans q hms | exact hQ _ _ _ _ | exact fun q z hz => hQ _ _ _ _ (q z hz) | refine And.imp ?_ ?_ | refine Or.imp ?_ ?_ | refine aImp ?_)
theorem m_dload (i n : Nat) : aMono (i_dload i n) := by
  intro C0 d0 mc0 ms0 mc1 ms1 Q0 Q1 X Y hmc hms hQ hXY ls st h k s
  unfold i_dload
  (repeat' split) <;> (repeat' first | exact hXY _ _ _ _ _ _ | exact id | exact fun q => q.elim | exact fun q => Nat.le_trans q hmc | exact fun q => Nat.le_trans q hms | exact hQ _ _ _ _ | exact fun q z hz => hQ _ _ _ _ (q z hz) | refine And.imp ?_ ?_ | refine Or.imp ?_ ?_ | refine aImp ?_)
theorem m_aload (i n : Nat) : aMono (i_aload i n) := by
  intro C0 d0 mc0 ms0 mc1 ms1 Q0 Q1 X Y hmc hms hQ hXY ls st h k s
  unfold i_aload
  (repeat' split) <;> (repeat' first | exact hXY _ _ _ _ _ _ | exact id | exact fun q => q.elim | exact fun q => Nat.le_trans q hmc | exact fun q => Nat.le_trans q hms | exact hQ _ _ _ _ | exact fun q z hz => hQ _ _ _ _ (q z hz) | refine And.imp ?_ ?_ | refine Or.imp ?_ ?_ | refine aImp ?_)
theorem m_istore (i n : Nat) : aMono (i_istore i n) := by
  intro C0 d0 mc0 ms0 mc1 ms1 Q0 Q1 X Y hmc hms hQ hXY ls st h k s
  unfold i_istore
  (repeat' split) <;> (repeat' first | exact hXY _ _ _ _ _ _ | exact id | exact fun q => q.elim | exact fun q => Nat.le_trans q hmc | exact fun q => Nat.le_trans q hms | exact hQ _ _ _ _ | exact fun q z hz => hQ _ _ _ _ (q z hz) | refine And.imp ?_ ?_ | refine Or.imp ?_ ?_ | refine aImp ?_)
theorem m_astore (i n : Nat) : aMono (i_astore i n) := by
  intro C0 d0 mc0 ms0 mc1 ms1 Q0 Q1 X Y hmc hms hQ hXY ls st h k s
  unfold i_astore
  (repeat' split) <;> (repeat' first | exact hXY _ _ _ _ _ _ | exact id | exact fun q => q.elim | exact fun q => Nat.le_trans q hmc | exact fun q => Nat.le_trans q hms | exact hQ _ _ _ _ | exact fun q z hz => hQ _ _ _ _ (q z hz) | refine And.imp ?_ ?_ | refine Or.imp ?_ ?_ | refine aImp ?_)
theorem m_lstore (i n : Nat) : aMono (i_lstore i n) := by
  intro C0 d0 mc0 ms0 mc1 ms1 Q0 Q1 X Y hmc hms hQ hXY ls st h k s
  unfold i_lstore
  (repeat' split) <;> (repeat' first | exact hXY _ _ _ _ _ _ | exact id | exact fun q => q.elim | exact fun q => Nat.le_trans q hmc | exact fun q => Nat.le_trans q hms | exact hQ _ _ _ _ | exact fun q z hz => hQ _ _ _ _ (q z hz) | refine And.imp ?_ ?_ | refine Or.imp ?_ ?_ | refine aImp ?_)
theorem m_dstore (i n : Nat) : aMono (i_dstore i n) := by
  intro C0 d0 mc0 ms0 mc1 ms1 Q0 Q1 X Y hmc hms hQ hXY ls st h k s
  unfold i_dstore
  (repeat' split) <;> (repeat' first | exact hXY _ _ _ _ _ _ | exact id | exact fun q => q.elim | exact fun q => Nat.le_trans q hmc | exact fun q => Nat.le_trans q hms | exact hQ _ _ _ _ | exact fun q z hz => hQ _ _ _ _ (q z hz) | refine And.imp ?_ ?_ | refine Or.imp ?_ ?_ | refine aImp ?_)
theorem m_iinc (i : Nat) (d : Int) (n : Nat) : aMono (i_iinc i d n) := by
  intro C0 d0 mc0 ms0 mc1 ms1 Q0 Q1 X Y hmc hms hQ hXY ls st h k s
  unfold i_iinc
  (repeat' split) <;> (repeat' first | exact hXY _ _ _ _ _ _ | exact id | exact fun q => q.elim | exact fun q => Nat.le_trans q hmc | exact fun q => Nat.le_trans q hms | exact hQ _ _ _ _ | exact fun q z hz => hQ _ _ _ _ (q z hz) | refine And.imp ?_ ?_ | refine Or.imp ?_ ?_ | refine aImp ?_)
theorem m_goto (t : Nat) : aMono (i_goto t) := by
  intro C0 d0 mc0 ms0 mc1 ms1 Q0 Q1 X Y hmc hms hQ hXY ls st h k s
  unfold i_goto
  (repeat' split) <;> (repeat' first | exact hXY _ _ _ _ _ _ | exact id | exact fun q => q.elim | exact fun q => Nat.le_trans q hmc | exact fun q => Nat.le_trans q hms | exact hQ _ _ _ _ | exact fun q z hz => hQ _ _ _ _ (q z hz) | refine And.imp ?_ ?_ | refine Or.imp ?_ ?_ | refine aImp ?_)
theorem m_ifeq (t n : Nat) : aMono (i_ifeq t n) := by
  intro C0 d0 mc0 ms0 mc1 ms1 Q0 Q1 X Y hmc hms hQ hXY ls st h k s
  unfold i_ifeq
  (repeat' split) <;> (repeat' first | exact hXY _ _ _ _ _ _ | exact id | exact fun q => q.elim | exact fun q => Nat.le_trans q hmc | exact fun q => Nat.le_trans q hms | exact hQ _ _ _ _ | exact fun q z hz => hQ _ _ _ _ (q z hz) | refine And.imp ?_ ?_ | refine Or.imp ?_ ?_ | refine aImp ?_)
theorem m_ifne (t n : Nat) : aMono (i_ifne t n) := by
  intro C0 d0 mc0 ms0 mc1 ms1 Q0 Q1 X Y hmc hms hQ hXY ls st h k s
  unfold i_ifne
  (repeat' split) <;> (repeat' first | exact hXY _ _ _ _ _ _ | exact id | exact fun q => q.elim | exact fun q => Nat.le_trans q hmc | exact fun q => Nat.le_trans q hms | exact hQ _ _ _ _ | exact fun q z hz => hQ _ _ _ _ (q z hz) | refine And.imp ?_ ?_ | refine Or.imp ?_ ?_ | refine aImp ?_)
theorem m_iflt (t n : Nat) : aMono (i_iflt t n) := by
  intro C0 d0 mc0 ms0 mc1 ms1 Q0 Q1 X Y hmc hms hQ hXY ls st h k s
  unfold i_iflt
  (repeat' split) <;> (repeat' first | exact hXY _ _ _ _ _ _ | exact id | exact fun q => q.elim | exact fun q => Nat.le_trans q hmc | exact fun q => Nat.le_trans q hms | exact hQ _ _ _ _ | exact fun q z hz => hQ _ _ _ _ (q z hz) | refine And.imp ?_ ?_ | refine Or.imp ?_ ?_ | refine aImp ?_)
theorem m_ifge (t n : Nat) : aMono (i_ifge t n) := by
  intro C0 d0 mc0 ms0 mc1 ms1 Q0 Q1 X Y hmc hms hQ hXY ls st h k s
  unfold i_ifge
  (repeat' split) <;> (repeat' first | exact hXY _ _ _ _ _ _ | exact id | exact fun q => q.elim | exact fun q => Nat.le_trans q hmc | exact fun q => Nat.le_trans q hms | exact hQ _ _ _ _ | exact fun q z hz => hQ _ _ _ _ (q z hz) | refine And.imp ?_ ?_ | refine Or.imp ?_ ?_ | refine aImp ?_)
theorem m_ifgt (t n : Nat) : aMono (i_ifgt t n) := by
  intro C0 d0 mc0 ms0 mc1 ms1 Q0 Q1 X Y hmc hms hQ hXY ls st h k s
  unfold i_ifgt
  (repeat' split) <;> (repeat' first | exact hXY _ _ _ _ _ _ | exact id | exact fun q => q.elim | exact fun q => Nat.le_trans q hmc | exact fun q => Nat.le_trans q hms | exact hQ _ _ _ _ | exact fun q z hz => hQ _ _ _ _ (q z hz) | refine And.imp ?_ ?_ | refine Or.imp ?_ ?_ | refine aImp ?_)
theorem m_ifle (t n : Nat) : aMono (i_ifle t n) := by
  intro C0 d0 mc0 ms0 mc1 ms1 Q0 Q1 X Y hmc hms hQ hXY ls st h k s
  unfold i_ifle
  (repeat' split) <;> (repeat' first | exact hXY _ _ _ _ _ _ | exact id | exact fun q => q.elim | exact fun q => Nat.le_trans q hmc | exact fun q => Nat.le_trans q hms | exact hQ _ _ _ _ | exact fun q z hz => hQ _ _ _ _ (q z hz) | refine And.imp ?_ ?_ | refine Or.imp ?_ ?_ | refine aImp ?_)
theorem m_ceq (t n : Nat) : aMono (i_ceq t n) := by
  intro C0 d0 mc0 ms0 mc1 ms1 Q0 Q1 X Y hmc hms hQ hXY ls st h k s
  unfold i_ceq
  (repeat' split) <;> (repeat' first | exact hXY _ _ _ _ _ _ | exact id | exact fun q => q.elim | exact fun q => Nat.le_trans q hmc | exact fun q => Nat.le_trans q hms | exact hQ _ _ _ _ | exact fun q z hz => hQ _ _ _ _ (q z hz) | refine And.imp ?_ ?_ | refine Or.imp ?_ ?_ | refine aImp ?_)
theorem m_cne (t n : Nat) : aMono (i_cne t n) := by
  intro C0 d0 mc0 ms0 mc1 ms1 Q0 Q1 X Y hmc hms hQ hXY ls st h k s
  unfold i_cne
  (repeat' split) <;> (repeat' first | exact hXY _ _ _ _ _ _ | exact id | exact fun q => q.elim | exact fun q => Nat.le_trans q hmc | exact fun q => Nat.le_trans q hms | exact hQ _ _ _ _ | exact fun q z hz => hQ _ _ _ _ (q z hz) | refine And.imp ?_ ?_ | refine Or.imp ?_ ?_ | refine aImp ?_)
theorem m_clt (t n : Nat) : aMono (i_clt t n) := by
  intro C0 d0 mc0 ms0 mc1 ms1 Q0 Q1 X Y hmc hms hQ hXY ls st h k s
  unfold i_clt
  (repeat' split) <;> (repeat' first | exact hXY _ _ _ _ _ _ | exact id | exact fun q => q.elim | exact fun q => Nat.le_trans q hmc | exact fun q => Nat.le_trans q hms | exact hQ _ _ _ _ | exact fun q z hz => hQ _ _ _ _ (q z hz) | refine And.imp ?_ ?_ | refine Or.imp ?_ ?_ | refine aImp ?_)
theorem m_cge (t n : Nat) : aMono (i_cge t n) := by
  intro C0 d0 mc0 ms0 mc1 ms1 Q0 Q1 X Y hmc hms hQ hXY ls st h k s
  unfold i_cge
  (repeat' split) <;> (repeat' first | exact hXY _ _ _ _ _ _ | exact id | exact fun q => q.elim | exact fun q => Nat.le_trans q hmc | exact fun q => Nat.le_trans q hms | exact hQ _ _ _ _ | exact fun q z hz => hQ _ _ _ _ (q z hz) | refine And.imp ?_ ?_ | refine Or.imp ?_ ?_ | refine aImp ?_)
theorem m_cgt (t n : Nat) : aMono (i_cgt t n) := by
  intro C0 d0 mc0 ms0 mc1 ms1 Q0 Q1 X Y hmc hms hQ hXY ls st h k s
  unfold i_cgt
  (repeat' split) <;> (repeat' first | exact hXY _ _ _ _ _ _ | exact id | exact fun q => q.elim | exact fun q => Nat.le_trans q hmc | exact fun q => Nat.le_trans q hms | exact hQ _ _ _ _ | exact fun q z hz => hQ _ _ _ _ (q z hz) | refine And.imp ?_ ?_ | refine Or.imp ?_ ?_ | refine aImp ?_)
theorem m_cle (t n : Nat) : aMono (i_cle t n) := by
  intro C0 d0 mc0 ms0 mc1 ms1 Q0 Q1 X Y hmc hms hQ hXY ls st h k s
  unfold i_cle
  (repeat' split) <;> (repeat' first | exact hXY _ _ _ _ _ _ | exact id | exact fun q => q.elim | exact fun q => Nat.le_trans q hmc | exact fun q => Nat.le_trans q hms | exact hQ _ _ _ _ | exact fun q z hz => hQ _ _ _ _ (q z hz) | refine And.imp ?_ ?_ | refine Or.imp ?_ ?_ | refine aImp ?_)
theorem m_null (t n : Nat) : aMono (i_null t n) := by
  intro C0 d0 mc0 ms0 mc1 ms1 Q0 Q1 X Y hmc hms hQ hXY ls st h k s
  unfold i_null
  (repeat' split) <;> (repeat' first | exact hXY _ _ _ _ _ _ | exact id | exact fun q => q.elim | exact fun q => Nat.le_trans q hmc | exact fun q => Nat.le_trans q hms | exact hQ _ _ _ _ | exact fun q z hz => hQ _ _ _ _ (q z hz) | refine And.imp ?_ ?_ | refine Or.imp ?_ ?_ | refine aImp ?_)
theorem m_nnull (t n : Nat) : aMono (i_nnull t n) := by
  intro C0 d0 mc0 ms0 mc1 ms1 Q0 Q1 X Y hmc hms hQ hXY ls st h k s
  unfold i_nnull
  (repeat' split) <;> (repeat' first | exact hXY _ _ _ _ _ _ | exact id | exact fun q => q.elim | exact fun q => Nat.le_trans q hmc | exact fun q => Nat.le_trans q hms | exact hQ _ _ _ _ | exact fun q z hz => hQ _ _ _ _ (q z hz) | refine And.imp ?_ ?_ | refine Or.imp ?_ ?_ | refine aImp ?_)
theorem m_aeq (t n : Nat) : aMono (i_aeq t n) := by
  intro C0 d0 mc0 ms0 mc1 ms1 Q0 Q1 X Y hmc hms hQ hXY ls st h k s
  unfold i_aeq
  (repeat' split) <;> (repeat' first | exact hXY _ _ _ _ _ _ | exact id | exact fun q => q.elim | exact fun q => Nat.le_trans q hmc | exact fun q => Nat.le_trans q hms | exact hQ _ _ _ _ | exact fun q z hz => hQ _ _ _ _ (q z hz) | refine And.imp ?_ ?_ | refine Or.imp ?_ ?_ | refine aImp ?_)
theorem m_ane (t n : Nat) : aMono (i_ane t n) := by
  intro C0 d0 mc0 ms0 mc1 ms1 Q0 Q1 X Y hmc hms hQ hXY ls st h k s
  unfold i_ane
  (repeat' split) <;> (repeat' first | exact hXY _ _ _ _ _ _ | exact id | exact fun q => q.elim | exact fun q => Nat.le_trans q hmc | exact fun q => Nat.le_trans q hms | exact hQ _ _ _ _ | exact fun q z hz => hQ _ _ _ _ (q z hz) | refine And.imp ?_ ?_ | refine Or.imp ?_ ?_ | refine aImp ?_)
theorem m_tsw (lo hi : Int) (ts : List Nat) (df : Nat) : aMono (i_tsw lo hi ts df) := by
  intro C0 d0 mc0 ms0 mc1 ms1 Q0 Q1 X Y hmc hms hQ hXY ls st h k s
  unfold i_tsw
  (repeat' split) <;> (repeat' first | exact hXY _ _ _ _ _ _ | exact id | exact fun q => q.elim | exact fun q => Nat.le_trans q hmc | exact fun q => Nat.le_trans q hms | exact hQ _ _ _ _ | exact fun q z hz => hQ _ _ _ _ (q z hz) | refine And.imp ?_ ?_ | refine Or.imp ?_ ?_ | refine aImp ?_)
theorem m_getf (c f n : Nat) : aMono (i_getf c f n) := by
  intro C0 d0 mc0 ms0 mc1 ms1 Q0 Q1 X Y hmc hms hQ hXY ls st h k s
  unfold i_getf
  (repeat' split) <;> (repeat' first | exact hXY _ _ _ _ _ _ | exact id | exact fun q => q.elim | exact fun q => Nat.le_trans q hmc | exact fun q => Nat.le_trans q hms | exact hQ _ _ _ _ | exact fun q z hz => hQ _ _ _ _ (q z hz) | refine And.imp ?_ ?_ | refine Or.imp ?_ ?_ | refine aImp ?_)
theorem m_putf (c f : Nat) (ty : FieldType) (n : Nat) : aMono (i_putf c f ty n) := by
  intro C0 d0 mc0 ms0 mc1 ms1 Q0 Q1 X Y hmc hms hQ hXY ls st h k s
  unfold i_putf
  (repeat' split) <;> (repeat' first | exact hXY _ _ _ _ _ _ | exact id | exact fun q => q.elim | exact fun q => Nat.le_trans q hmc | exact fun q => Nat.le_trans q hms | exact hQ _ _ _ _ | exact fun q z hz => hQ _ _ _ _ (q z hz) | refine And.imp ?_ ?_ | refine Or.imp ?_ ?_ | refine aImp ?_)
theorem m_push (v : Value) (n : Nat) : aMono (i_push v n) := by
  intro C0 d0 mc0 ms0 mc1 ms1 Q0 Q1 X Y hmc hms hQ hXY ls st h k s
  unfold i_push
  (repeat' split) <;> (repeat' first | exact hXY _ _ _ _ _ _ | exact id | exact fun q => q.elim | exact fun q => Nat.le_trans q hmc | exact fun q => Nat.le_trans q hms | exact hQ _ _ _ _ | exact fun q z hz => hQ _ _ _ _ (q z hz) | refine And.imp ?_ ?_ | refine Or.imp ?_ ?_ | refine aImp ?_)
theorem m_new (c N : Nat) (fs : List Value) (n : Nat) : aMono (i_new c N fs n) := by
  intro C0 d0 mc0 ms0 mc1 ms1 Q0 Q1 X Y hmc hms hQ hXY ls st h k s
  unfold i_new
  (repeat' split) <;> (repeat' first | exact hXY _ _ _ _ _ _ | exact id | exact fun q => q.elim | exact fun q => Nat.le_trans q hmc | exact fun q => Nat.le_trans q hms | exact hQ _ _ _ _ | exact fun q z hz => hQ _ _ _ _ (q z hz) | refine And.imp ?_ ?_ | refine Or.imp ?_ ?_ | refine aImp ?_)
theorem m_newa (t : Nat) (z : (Nat → Int32) ⊕ (Nat → Int64) ⊕ (Nat → UInt32) ⊕ (Nat → UInt64) ⊕ (Nat → Option Nat)) (b n : Nat) : aMono (i_newa t z b n) := by
  intro C0 d0 mc0 ms0 mc1 ms1 Q0 Q1 X Y hmc hms hQ hXY ls st h k s
  unfold i_newa
  (repeat' split) <;> (repeat' first | exact hXY _ _ _ _ _ _ | exact id | exact fun q => q.elim | exact fun q => Nat.le_trans q hmc | exact fun q => Nat.le_trans q hms | exact hQ _ _ _ _ | exact fun q z hz => hQ _ _ _ _ (q z hz) | refine And.imp ?_ ?_ | refine Or.imp ?_ ?_ | refine aImp ?_)
theorem m_alen (n : Nat) : aMono (i_alen n) := by
  intro C0 d0 mc0 ms0 mc1 ms1 Q0 Q1 X Y hmc hms hQ hXY ls st h k s
  unfold i_alen
  (repeat' split) <;> (repeat' first | exact hXY _ _ _ _ _ _ | exact id | exact fun q => q.elim | exact fun q => Nat.le_trans q hmc | exact fun q => Nat.le_trans q hms | exact hQ _ _ _ _ | exact fun q z hz => hQ _ _ _ _ (q z hz) | refine And.imp ?_ ?_ | refine Or.imp ?_ ?_ | refine aImp ?_)
theorem m_iald (t n : Nat) : aMono (i_iald t n) := by
  intro C0 d0 mc0 ms0 mc1 ms1 Q0 Q1 X Y hmc hms hQ hXY ls st h k s
  unfold i_iald
  (repeat' split) <;> (repeat' first | exact hXY _ _ _ _ _ _ | exact id | exact fun q => q.elim | exact fun q => Nat.le_trans q hmc | exact fun q => Nat.le_trans q hms | exact hQ _ _ _ _ | exact fun q z hz => hQ _ _ _ _ (q z hz) | refine And.imp ?_ ?_ | refine Or.imp ?_ ?_ | refine aImp ?_)
theorem m_lald (t n : Nat) : aMono (i_lald t n) := by
  intro C0 d0 mc0 ms0 mc1 ms1 Q0 Q1 X Y hmc hms hQ hXY ls st h k s
  unfold i_lald
  (repeat' split) <;> (repeat' first | exact hXY _ _ _ _ _ _ | exact id | exact fun q => q.elim | exact fun q => Nat.le_trans q hmc | exact fun q => Nat.le_trans q hms | exact hQ _ _ _ _ | exact fun q z hz => hQ _ _ _ _ (q z hz) | refine And.imp ?_ ?_ | refine Or.imp ?_ ?_ | refine aImp ?_)
theorem m_aald (ts : List Nat) (n : Nat) : aMono (i_aald ts n) := by
  intro C0 d0 mc0 ms0 mc1 ms1 Q0 Q1 X Y hmc hms hQ hXY ls st h k s
  unfold i_aald
  (repeat' split) <;> (repeat' first | exact hXY _ _ _ _ _ _ | exact id | exact fun q => q.elim | exact fun q => Nat.le_trans q hmc | exact fun q => Nat.le_trans q hms | exact hQ _ _ _ _ | exact fun q z hz => hQ _ _ _ _ (q z hz) | refine And.imp ?_ ?_ | refine Or.imp ?_ ?_ | refine aImp ?_)
theorem m_iast (t : Nat) (ty : FieldType) (n : Nat) : aMono (i_iast t ty n) := by
  intro C0 d0 mc0 ms0 mc1 ms1 Q0 Q1 X Y hmc hms hQ hXY ls st h k s
  unfold i_iast
  (repeat' split) <;> (repeat' first | exact hXY _ _ _ _ _ _ | exact id | exact fun q => q.elim | exact fun q => Nat.le_trans q hmc | exact fun q => Nat.le_trans q hms | exact hQ _ _ _ _ | exact fun q z hz => hQ _ _ _ _ (q z hz) | refine And.imp ?_ ?_ | refine Or.imp ?_ ?_ | refine aImp ?_)
theorem m_last (t n : Nat) : aMono (i_last t n) := by
  intro C0 d0 mc0 ms0 mc1 ms1 Q0 Q1 X Y hmc hms hQ hXY ls st h k s
  unfold i_last
  (repeat' split) <;> (repeat' first | exact hXY _ _ _ _ _ _ | exact id | exact fun q => q.elim | exact fun q => Nat.le_trans q hmc | exact fun q => Nat.le_trans q hms | exact hQ _ _ _ _ | exact fun q z hz => hQ _ _ _ _ (q z hz) | refine And.imp ?_ ?_ | refine Or.imp ?_ ?_ | refine aImp ?_)
theorem m_aast (n : Nat) : aMono (i_aast n) := by
  intro C0 d0 mc0 ms0 mc1 ms1 Q0 Q1 X Y hmc hms hQ hXY ls st h k s
  unfold i_aast
  (repeat' split) <;> (repeat' first | exact hXY _ _ _ _ _ _ | exact id | exact fun q => q.elim | exact fun q => Nat.le_trans q hmc | exact fun q => Nat.le_trans q hms | exact hQ _ _ _ _ | exact fun q z hz => hQ _ _ _ _ (q z hz) | refine And.imp ?_ ?_ | refine Or.imp ?_ ?_ | refine aImp ?_)
theorem m_cast (cs ts : List Nat) (n : Nat) : aMono (i_cast cs ts n) := by
  intro C0 d0 mc0 ms0 mc1 ms1 Q0 Q1 X Y hmc hms hQ hXY ls st h k s
  unfold i_cast
  (repeat' split) <;> (repeat' first | exact hXY _ _ _ _ _ _ | exact id | exact fun q => q.elim | exact fun q => Nat.le_trans q hmc | exact fun q => Nat.le_trans q hms | exact hQ _ _ _ _ | exact fun q z hz => hQ _ _ _ _ (q z hz) | refine And.imp ?_ ?_ | refine Or.imp ?_ ?_ | refine aImp ?_)
theorem m_inst (ys ns : List Nat) (n : Nat) : aMono (i_inst ys ns n) := by
  intro C0 d0 mc0 ms0 mc1 ms1 Q0 Q1 X Y hmc hms hQ hXY ls st h k s
  unfold i_inst
  (repeat' split) <;> (repeat' first | exact hXY _ _ _ _ _ _ | exact id | exact fun q => q.elim | exact fun q => Nat.le_trans q hmc | exact fun q => Nat.le_trans q hms | exact hQ _ _ _ _ | exact fun q z hz => hQ _ _ _ _ (q z hz) | refine And.imp ?_ ?_ | refine Or.imp ?_ ?_ | refine aImp ?_)
theorem m_acopy (n : Nat) : aMono (i_acopy n) := by
  intro C0 d0 mc0 ms0 mc1 ms1 Q0 Q1 X Y hmc hms hQ hXY ls st h k s
  unfold i_acopy
  (repeat' split) <;> (repeat' first | exact hXY _ _ _ _ _ _ | exact id | exact fun q => q.elim | exact fun q => Nat.le_trans q hmc | exact fun q => Nat.le_trans q hms | exact hQ _ _ _ _ | exact fun q z hz => hQ _ _ _ _ (q z hz) | refine And.imp ?_ ?_ | refine Or.imp ?_ ?_ | refine aImp ?_)
theorem m_ret : aMono (i_ret) := by
  intro C0 d0 mc0 ms0 mc1 ms1 Q0 Q1 X Y hmc hms hQ hXY ls st h k s
  unfold i_ret
  (repeat' split) <;> (repeat' first | exact hXY _ _ _ _ _ _ | exact id | exact fun q => q.elim | exact fun q => Nat.le_trans q hmc | exact fun q => Nat.le_trans q hms | exact hQ _ _ _ _ | exact fun q z hz => hQ _ _ _ _ (q z hz) | refine And.imp ?_ ?_ | refine Or.imp ?_ ?_ | refine aImp ?_)
theorem m_iret (ty : FieldType) : aMono (i_iret ty) := by
  intro C0 d0 mc0 ms0 mc1 ms1 Q0 Q1 X Y hmc hms hQ hXY ls st h k s
  unfold i_iret
  (repeat' split) <;> (repeat' first | exact hXY _ _ _ _ _ _ | exact id | exact fun q => q.elim | exact fun q => Nat.le_trans q hmc | exact fun q => Nat.le_trans q hms | exact hQ _ _ _ _ | exact fun q z hz => hQ _ _ _ _ (q z hz) | refine And.imp ?_ ?_ | refine Or.imp ?_ ?_ | refine aImp ?_)
theorem m_lret : aMono (i_lret) := by
  intro C0 d0 mc0 ms0 mc1 ms1 Q0 Q1 X Y hmc hms hQ hXY ls st h k s
  unfold i_lret
  (repeat' split) <;> (repeat' first | exact hXY _ _ _ _ _ _ | exact id | exact fun q => q.elim | exact fun q => Nat.le_trans q hmc | exact fun q => Nat.le_trans q hms | exact hQ _ _ _ _ | exact fun q z hz => hQ _ _ _ _ (q z hz) | refine And.imp ?_ ?_ | refine Or.imp ?_ ?_ | refine aImp ?_)
theorem m_fret : aMono (i_fret) := by
  intro C0 d0 mc0 ms0 mc1 ms1 Q0 Q1 X Y hmc hms hQ hXY ls st h k s
  unfold i_fret
  (repeat' split) <;> (repeat' first | exact hXY _ _ _ _ _ _ | exact id | exact fun q => q.elim | exact fun q => Nat.le_trans q hmc | exact fun q => Nat.le_trans q hms | exact hQ _ _ _ _ | exact fun q z hz => hQ _ _ _ _ (q z hz) | refine And.imp ?_ ?_ | refine Or.imp ?_ ?_ | refine aImp ?_)
theorem m_dret : aMono (i_dret) := by
  intro C0 d0 mc0 ms0 mc1 ms1 Q0 Q1 X Y hmc hms hQ hXY ls st h k s
  unfold i_dret
  (repeat' split) <;> (repeat' first | exact hXY _ _ _ _ _ _ | exact id | exact fun q => q.elim | exact fun q => Nat.le_trans q hmc | exact fun q => Nat.le_trans q hms | exact hQ _ _ _ _ | exact fun q z hz => hQ _ _ _ _ (q z hz) | refine And.imp ?_ ?_ | refine Or.imp ?_ ?_ | refine aImp ?_)
theorem m_aret : aMono (i_aret) := by
  intro C0 d0 mc0 ms0 mc1 ms1 Q0 Q1 X Y hmc hms hQ hXY ls st h k s
  unfold i_aret
  (repeat' split) <;> (repeat' first | exact hXY _ _ _ _ _ _ | exact id | exact fun q => q.elim | exact fun q => Nat.le_trans q hmc | exact fun q => Nat.le_trans q hms | exact hQ _ _ _ _ | exact fun q z hz => hQ _ _ _ _ (q z hz) | refine And.imp ?_ ?_ | refine Or.imp ?_ ?_ | refine aImp ?_)
theorem m_throw0 (E : String) : aMono (i_throw0 E) := by
  intro C0 d0 mc0 ms0 mc1 ms1 Q0 Q1 X Y hmc hms hQ hXY ls st h k s
  unfold i_throw0
  (repeat' split) <;> (repeat' first | exact hXY _ _ _ _ _ _ | exact id | exact fun q => q.elim | exact fun q => Nat.le_trans q hmc | exact fun q => Nat.le_trans q hms | exact hQ _ _ _ _ | exact fun q z hz => hQ _ _ _ _ (q z hz) | refine And.imp ?_ ?_ | refine Or.imp ?_ ?_ | refine aImp ?_)
theorem m_athrow (c : Nat) (E : String) : aMono (i_athrow c E) := by
  intro C0 d0 mc0 ms0 mc1 ms1 Q0 Q1 X Y hmc hms hQ hXY ls st h k s
  unfold i_athrow
  (repeat' split) <;> (repeat' first | exact hXY _ _ _ _ _ _ | exact id | exact fun q => q.elim | exact fun q => Nat.le_trans q hmc | exact fun q => Nat.le_trans q hms | exact hQ _ _ _ _ | exact fun q z hz => hQ _ _ _ _ (q z hz) | refine And.imp ?_ ?_ | refine Or.imp ?_ ?_ | refine aImp ?_)
theorem m_oinit (n : Nat) : aMono (i_oinit n) := by
  intro C0 d0 mc0 ms0 mc1 ms1 Q0 Q1 X Y hmc hms hQ hXY ls st h k s
  unfold i_oinit
  (repeat' split) <;> (repeat' first | exact hXY _ _ _ _ _ _ | exact id | exact fun q => q.elim | exact fun q => Nat.le_trans q hmc | exact fun q => Nat.le_trans q hms | exact hQ _ _ _ _ | exact fun q z hz => hQ _ _ _ _ (q z hz) | refine And.imp ?_ ?_ | refine Or.imp ?_ ?_ | refine aImp ?_)
theorem m_getC (v : Value) (n : Nat) : aMono (i_getC v n) := by
  intro C0 d0 mc0 ms0 mc1 ms1 Q0 Q1 X Y hmc hms hQ hXY ls st h k s
  unfold i_getC
  (repeat' split) <;> (repeat' first | exact hXY _ _ _ _ _ _ | exact id | exact fun q => q.elim | exact fun q => Nat.le_trans q hmc | exact fun q => Nat.le_trans q hms | exact hQ _ _ _ _ | exact fun q z hz => hQ _ _ _ _ (q z hz) | refine And.imp ?_ ?_ | refine Or.imp ?_ ?_ | refine aImp ?_)
theorem m_multi (n : Nat) : aMono (i_multi n) := by
  intro C0 d0 mc0 ms0 mc1 ms1 Q0 Q1 X Y hmc hms hQ hXY ls st h k s
  unfold i_multi
  (repeat' split) <;> (repeat' first | exact hXY _ _ _ _ _ _ | exact id | exact fun q => q.elim | exact fun q => Nat.le_trans q hmc | exact fun q => Nat.le_trans q hms | exact hQ _ _ _ _ | exact fun q z hz => hQ _ _ _ _ (q z hz) | refine And.imp ?_ ?_ | refine Or.imp ?_ ?_ | refine aImp ?_)
theorem m_no : aMono (i_no) := by
  intro C0 d0 mc0 ms0 mc1 ms1 Q0 Q1 X Y hmc hms hQ hXY ls st h k s
  unfold i_no
  (repeat' split) <;> (repeat' first | exact hXY _ _ _ _ _ _ | exact id | exact fun q => q.elim | exact fun q => Nat.le_trans q hmc | exact fun q => Nat.le_trans q hms | exact hQ _ _ _ _ | exact fun q z hz => hQ _ _ _ _ (q z hz) | refine And.imp ?_ ?_ | refine Or.imp ?_ ?_ | refine aImp ?_)
theorem m_mmax (n : Nat) : aMono (i_mmax n) := by
  intro C0 d0 mc0 ms0 mc1 ms1 Q0 Q1 X Y hmc hms hQ hXY ls st h k s
  unfold i_mmax
  split <;> (repeat' first | exact hXY _ _ _ _ _ _ | exact id | exact fun q => q.elim | exact fun q => Nat.le_trans q hmc | exact fun q => Nat.le_trans q hms | exact hQ _ _ _ _ | exact fun q z hz => hQ _ _ _ _ (q z hz) | refine And.imp ?_ ?_ | refine Or.imp ?_ ?_ | refine aImp ?_)
theorem m_mmin (n : Nat) : aMono (i_mmin n) := by
  intro C0 d0 mc0 ms0 mc1 ms1 Q0 Q1 X Y hmc hms hQ hXY ls st h k s
  unfold i_mmin
  split <;> (repeat' first | exact hXY _ _ _ _ _ _ | exact id | exact fun q => q.elim | exact fun q => Nat.le_trans q hmc | exact fun q => Nat.le_trans q hms | exact hQ _ _ _ _ | exact fun q z hz => hQ _ _ _ _ (q z hz) | refine And.imp ?_ ?_ | refine Or.imp ?_ ?_ | refine aImp ?_)
theorem aRes_mono {C0 : aC} {d0 mc0 ms0 mc1 ms1 : Nat} {Q0 Q1 : aO → aH → Nat → Nat → Prop} {X Y : aX} {hs : List (String × Option Nat)} {n : Nat} {ls rest : List Value} {k s : Nat} {o : aO} {h : aH} (hQ : ∀ o h k s, Q0 o h k s → Q1 o h k s) (hXY : ∀ pc ls st h k s, X pc ls st h k s → Y pc ls st h k s) (q : aRes (C0, d0, mc0, ms0, Q0) X hs n ls rest k s o h) : aRes (C0, d0, mc1, ms1, Q1) Y hs n ls rest k s o h := by
  revert q
  unfold aRes
  (repeat' split) <;> (first | exact hXY _ _ _ _ _ _ | exact id | exact hQ _ _ _ _ | exact fun q z => hXY _ _ _ _ _ _ (q z))
theorem aCall_mono {C0 : aC} {d0 mc0 ms0 mc1 ms1 : Nat} {Q0 Q1 : aO → aH → Nat → Nat → Prop} {X Y : aX} {y : Nat} {hs : List (String × Option Nat)} {n : Nat} {as rest ls st : List Value} {h : aH} {k s : Nat} (hmc : mc0 ≤ mc1) (hms : ms0 ≤ ms1) (hQ : ∀ o h k s, Q0 o h k s → Q1 o h k s) (hXY : ∀ pc ls st h k s, X pc ls st h k s → Y pc ls st h k s) (q : aCall y hs n as rest (C0, d0, mc0, ms0, Q0) X ls st h k s) : aCall y hs n as rest (C0, d0, mc1, ms1, Q1) Y ls st h k s := by
  obtain ⟨q1, mc, ms, P, q2, q3, q4, q5⟩ := q
  exact ⟨q1, mc, ms, P, q2, Nat.le_trans q3 hmc, Nat.le_trans q4 hms, fun o h' z => aRes_mono hQ hXY (q5 o h' z)⟩
theorem m_callS (y m : Nat) (hs : List (String × Option Nat)) (n : Nat) : aMono (i_callS y m hs n) := fun C0 d0 mc0 ms0 mc1 ms1 Q0 Q1 X Y hmc hms hQ hXY ls st h k s q => ⟨q.1, aCall_mono hmc hms hQ hXY q.2⟩
theorem m_callI (y m : Nat) (hs : List (String × Option Nat)) (n : Nat) : aMono (i_callI y m hs n) := by
  intro C0 d0 mc0 ms0 mc1 ms1 Q0 Q1 X Y hmc hms hQ hXY ls st h k s q
  unfold i_callI at q ⊢
  split at q
  · exact ⟨q.1, aCall_mono hmc hms hQ hXY q.2⟩
  · exact q
theorem m_callV (d : List (Nat × Nat)) (m : Nat) (hs : List (String × Option Nat)) (n : Nat) : aMono (i_callV d m hs n) := by
  intro C0 d0 mc0 ms0 mc1 ms1 Q0 Q1 X Y hmc hms hQ hXY ls st h k s q
  unfold i_callV at q ⊢
  split at q
  · refine ⟨q.1, ?_⟩
    have q := q.2
    split at q
    · split at q
      · exact aCall_mono hmc hms hQ hXY q
      · exact q
    · exact q
  · exact q
theorem m_callU (v : Value) (y m : Nat) (hs : List (String × Option Nat)) (n : Nat) : aMono (i_callU v y m hs n) := by
  intro C0 d0 mc0 ms0 mc1 ms1 Q0 Q1 X Y hmc hms hQ hXY ls st h k s q
  unfold i_callU at q ⊢
  split at q
  · exact ⟨q.1, q.2.1, aCall_mono hmc hms hQ hXY q.2.2⟩
  · exact q
theorem m_ulong (v : Value) (n : Nat) : aMono (i_ulong v n) := by
  intro C0 d0 mc0 ms0 mc1 ms1 Q0 Q1 X Y hmc hms hQ hXY ls st h k s q
  unfold i_ulong at q ⊢
  split at q
  · refine ⟨q.1, q.2.1, q.2.2.1, ?_⟩
    have q := q.2.2.2
    split at q
    · obtain ⟨h1, j, h2, h3, h4, h5⟩ := q
      exact ⟨h1, j, h2, h3, h4, hXY _ _ _ _ _ _ h5⟩
    · exact q
  · exact q
/-- a table of code -/
abbrev aT : Type := List (Nat × ((Nat → Value) → aI))
noncomputable def aLk (T : aT) (σ : Nat → Value) (pc : Nat) : aI := @List.rec _ (fun _ => aI) i_no (fun q _ r => bif Nat.beq pc q.1 then q.2 σ else r) T
def aML (T : aT) : Prop := ∀ q ∈ T, ∀ σ : Nat → Value, aMono (q.2 σ)
theorem aMn : aML [] := fun q h => absurd h List.not_mem_nil
theorem aMa {pc : Nat} {i : (Nat → Value) → aI} {T : aT} (h : ∀ σ, aMono (i σ)) (t : aML T) : aML ((pc, i) :: T) := List.forall_mem_cons.mpr ⟨h, t⟩
theorem aMk {T : aT} (h : aML T) (σ : Nat → Value) : ∀ pc, aMono (aLk T σ pc) := by
  induction T with
  | nil => exact fun _ => m_no
  | cons q r ih =>
    intro pc
    have e : aLk (q :: r) σ pc = bif Nat.beq pc q.1 then q.2 σ else aLk r σ pc := rfl
    rw [e]
    cases Nat.beq pc q.1 with
    | true => exact h q List.mem_cons_self σ
    | false => exact ih (fun q hq => h q (List.mem_cons_of_mem _ hq)) pc
theorem Rn.go {T : aT} (hT : aML T) {σ : Nat → Value} {pc : Nat} {i : aI} (e : aLk T σ pc = i) (g : aG) (ls st : List Value) (h : aH) (k s : Nat) : Rn (aLk T σ) g pc ls st h k s = i g (Rn (aLk T σ) g) ls st h k s := by
  rw [Rn.at (aMk hT σ) e]
