/-! THE ABSTRACT MACHINE IS SOUND: what it comes to, the machine comes to -/
set_option maxRecDepth 100000
def cE (dA : Nat → ClassId) : aE → va_E
  | .inl (t, x) => .inl (dA (t % 1000), x)
  | .inr (c, fs) => .inr (c % 1000, fs)
def aTag : aE → Nat
  | .inl (t, _) => t
  | .inr (c, _) => c
/-- the abstract cells lie in the heap; those below 1000 are the run's own -/
def RH (D : va_G) (dA : Nat → ClassId) (A : Nat → Prop) (h : aH) (H : Heap) : Prop :=
  H.size = h.1 ∧ ∀ (a : Nat) (e : aE), h.2 a = some e → va_at D aCl (a, cE dA e) H ∧ (aTag e < 1000 → A a)
theorem RH.wf {D : va_G} {dA : Nat → ClassId} {A : Nat → Prop} {h : aH} {H : Heap} (r : RH D dA A h H) : aW h := by
  intro a e q
  have := (r.2 a e q).1.lt
  rw [r.1] at this
  exact this
/-- one cell is written -/
theorem RH.put {D : va_G} {dA : Nat → ClassId} {A : Nat → Prop} {h : aH} {H H1 : Heap} (r : RH D dA A h H) {a : Nat} {e : aE} (z : H1.size = H.size) (o : ∀ q : Nat, q ≠ a → H1[q]? = H[q]?) (n : va_at D aCl (a, cE dA e) H1) (t : aTag e < 1000 → A a) : RH D dA A (hu h a e) H1 := by
  refine ⟨z.trans r.1, fun x e' q => ?_⟩
  unfold hu at q
  by_cases hx : x = a
  · subst hx
    simp only [if_true] at q
    cases q
    exact ⟨n, t⟩
  · simp only [hx, if_false] at q
    exact ⟨(r.2 x e' q).1.kept (o x hx), (r.2 x e' q).2⟩
/-- one cell is made -/
theorem RH.new {D : va_G} {dA : Nat → ClassId} {A : Nat → Prop} {h : aH} {H H1 : Heap} (r : RH D dA A h H) {e : aE} (z : H1.size = H.size + 1) (o : ∀ q : Nat, q < H.size → H1[q]? = H[q]?) (n : va_at D aCl (h.1, cE dA e) H1) (t : A h.1) : RH D dA A (hn h e) H1 := by
  have hw := r.wf
  obtain ⟨r1, r2⟩ := r
  refine ⟨by show H1.size = h.1 + 1; rw [z, r1], fun x e' q => ?_⟩
  unfold hn at q
  by_cases hx : x = h.1
  · subst hx
    simp only [if_true] at q
    cases q
    exact ⟨n, fun _ => t⟩
  · simp only [hx, if_false] at q
    exact ⟨(r2 x e' q).1.kept (o x (by rw [r1]; exact hw x e' q)), (r2 x e' q).2⟩
/-- more cells that nothing is known of -/
theorem RH.grow {D : va_G} {dA : Nat → ClassId} {A : Nat → Prop} {h : aH} {H H1 : Heap} (r : RH D dA A h H) (o : ∀ q : Nat, q < H.size → H1[q]? = H[q]?) : RH D dA A (H1.size, h.2) H1 :=
  ⟨rfl, fun x e q => ⟨(r.2 x e q).1.kept (o x (r.2 x e q).1.lt), (r.2 x e q).2⟩⟩
/-- locals -/
def LR (ls : List Value) (lsA : Array Slot) (nL : Nat) : Prop := ls.length = nL ∧ lsA.size = nL ∧ lv_wf lsA ∧ ∀ (i : Nat) (v : Value), ls[i]? = some v → v ≠ jk → lsA[i]? = some (.val v)
/-- arrays of arrays of ints: the table's word goes along -/
def aAOI (U : State) : Prop := (Cond.arrayOver (.array .int)).before #[] U = true
theorem aAOI.use {A : Array Value} {U : State} (h : aAOI U) : (Cond.arrayOver (.array .int)).before A U = true := h
theorem aAOI.moved {u U : State} (hvm : u.vm.Alike U.vm) (h : aAOI u) : aAOI U := by
  have e : (Cond.arrayOver (.array .int)).before #[] (u.setVm U.vm) = true := by rw [Cond.arrayOver_setVmC hvm]; exact h
  exact e
/-- the words of the tables that don't ride in the lists -/
def aTB (s : State) : Prop :=
  (∀ a i b n d h, Cond.fieldLinkNest a i b n d h ∈ lw_tbl → va_Nw (.fieldLinkNest a i b n d h) s) ∧
  (∀ a i x h, Cond.methodLinkNest a i x h ∈ lw_tbl → va_Nw (.methodLinkNest a i x h) s) ∧
  (∀ C T, Cond.castable C T ∈ lw_tbl → va_Nw (.castable C T) s) ∧
  (∀ C, Cond.arrayOver (.object C) ∈ lw_tbl → va_AO C s) ∧
  (∀ C x y, (x.cls ≠ "java/lang/invoke/MethodHandle" ∧ x.cls ≠ "java/lang/invoke/VarHandle") → Cond.declares x ∈ lw_tbl → Cond.interfaceMethod x.cls x.cls x.name x.desc ∈ lw_tbl → Cond.publicMethod y ∈ lw_tbl → Cond.unhidden C x.name x.desc ∈ lw_tbl → Cond.castable C x.cls ∈ lw_tbl → va_Fw C x y s) ∧
  (∀ x, Cond.declares x ∈ lw_tbl → va_Nw (.declares x) s) ∧
  (Cond.arrayOver (.array .int) ∈ lw_tbl → aAOI s)
theorem aTB.warm {s U : State} (hW : s.WarmedH U.vm) (h : aTB s) : aTB U :=
  ⟨fun a i b n d x q => va_Nw.warmF hW (h.1 a i b n d x q), fun a i x y q => va_Nw.warmM hW (h.2.1 a i x y q), fun C T q => va_Nw.warmC hW (h.2.2.1 C T q), fun C q => va_AO.moved hW.alike (h.2.2.2.1 C q),
    fun C x y hx q1 q2 q3 q4 q5 => va_Fw.moved hx hW.alike (h.2.2.2.2.1 C x y hx q1 q2 q3 q4 q5), fun x q => va_Nw.warmD hW (h.2.2.2.2.2.1 x q), fun q => aAOI.moved hW.alike (h.2.2.2.2.2.2 q)⟩
theorem aTB.same {u U : State} (e : u.vm = U.vm) (h : aTB u) : aTB U :=
  ⟨fun a i b n d x q => va_Nw.same rfl e (h.1 a i b n d x q), fun a i x y q => va_Nw.same rfl e (h.2.1 a i x y q), fun C T q => va_Nw.same rfl e (h.2.2.1 C T q), fun C q => va_AO.moved (by rw [← e]; exact Vm.Alike.refl u.vm) (h.2.2.2.1 C q),
    fun C x y hx q1 q2 q3 q4 q5 => va_Fw.moved hx (by rw [← e]; exact Vm.Alike.refl u.vm) (h.2.2.2.2.1 C x y hx q1 q2 q3 q4 q5), fun x q => va_Nw.same rfl e (h.2.2.2.2.2.1 x q), fun q => aAOI.moved (by rw [← e]; exact Vm.Alike.refl u.vm) (h.2.2.2.2.2.2 q)⟩
/-- statics that hold all through -/
def aST (σ : Nat → Value) (A : Nat → Prop) (U : State) (H : Heap) : Prop := (∀ q ∈ aStL, va_Z q.1 q.2.1 q.2.2.1 (σ q.2.2.2) A U H) ∧ (∀ q ∈ aStC, va_Z q.1 q.2.1 q.2.2.1 (.int q.2.2.2) A U H) ∧ vx_Zq Bundle.tN "UNASSIGNED_STACK" Bundle.steD A U H ∧ vx_Zq Bundle.tN "SUPPRESSED_SENTINEL" Bundle.listD A U H
theorem aST.moved {σ : Nat → Value} {A : Nat → Prop} {u U : State} {H : Heap} (hv : u.vm.Alike U.vm) (h : aST σ A u H) : aST σ A U H := ⟨fun q hq => va_Z.moved hv (h.1 q hq), fun q hq => va_Z.moved hv (h.2.1 q hq), vx_Zq.moved hv h.2.2.1, vx_Zq.moved hv h.2.2.2⟩
theorem aST.kept {σ : Nat → Value} {A : Nat → Prop} {U : State} {H H1 : Heap} (h : aST σ A U H) (hq : ∀ a : Nat, a < H.size → ¬ A a → H1[a]? = H[a]?) : aST σ A U H1 := ⟨fun q hq' => va_Z.kept (h.1 q hq') hq, fun q hq' => va_Z.kept (h.2.1 q hq') hq, vx_Zq.kept h.2.2.1 hq, vx_Zq.kept h.2.2.2 hq⟩
/-- constants that hold all through: strings, the array class's mirror -/
def aSC (σ : Nat → Value) (U : State) : Prop := (∀ q ∈ aStrL, ∃ a : Nat, σ q.2.2.2 = .ref a ∧ vk_R q.1 q.2.1 q.2.2.1 a U) ∧ (∃ mi : Nat, σ 90 = .ref mi ∧ va_Mi "[Ljava/lang/Object;" mi U) ∧ va_Dc U
theorem aSC.warm {σ : Nat → Value} {s U : State} (hW : s.WarmedH U.vm) (h : aSC σ s) : aSC σ U :=
  ⟨fun q hq => (h.1 q hq).elim fun a z => ⟨a, z.1, vk_R.warm hW z.2⟩, h.2.1.elim fun mi z => ⟨mi, z.1, va_Mi.moved hW.alike z.2⟩, va_Dc.moved hW.alike h.2.2⟩
theorem aSC.same {σ : Nat → Value} {u U : State} (e : u.vm = U.vm) (h : aSC σ u) : aSC σ U :=
  ⟨fun q hq => (h.1 q hq).elim fun a z => ⟨a, z.1, vk_R.same e.symm z.2⟩, h.2.1.elim fun mi z => ⟨mi, z.1, va_Mi.moved (by rw [← e]; exact Vm.Alike.refl u.vm) z.2⟩, va_Dc.moved (by rw [← e]; exact Vm.Alike.refl u.vm) h.2.2⟩
/-- classes that are not castable -/
def aNC (U : State) : Prop := ∀ q ∈ aNcL, va_Nc q.1 q.2 U
theorem aNC.moved {u U : State} (hv : u.vm.Alike U.vm) (h : aNC u) : aNC U := fun q hq => va_Nc.moved hv (h q hq)
/-- the one Unsafe object -/
def aUN (σ : Nat → Value) (A : Nat → Prop) (U : State) (H : Heap) : Prop := ∃ (u : Nat) (cell : Cell), σ 4 = .ref u ∧ ¬ A u ∧ H[u]? = some cell ∧ cell.vm.isStatics = false ∧ U.vm.findClass "jdk/internal/misc/Unsafe" = some cell.cls
theorem aUN.moved {σ : Nat → Value} {A : Nat → Prop} {u U : State} {H : Heap} (hv : u.vm.Alike U.vm) (h : aUN σ A u H) : aUN σ A U H := by
  obtain ⟨x, cell, h1, h2, h3, h4, h5⟩ := h
  exact ⟨x, cell, h1, h2, h3, h4, by rw [hv.findClass]; exact h5⟩
theorem aUN.kept {σ : Nat → Value} {A : Nat → Prop} {U : State} {H H1 : Heap} (h : aUN σ A U H) (hq : ∀ a : Nat, a < H.size → ¬ A a → H1[a]? = H[a]?) : aUN σ A U H1 := by
  obtain ⟨x, cell, h1, h2, h3, h4, h5⟩ := h
  exact ⟨x, cell, h1, h2, by rw [hq x (Array.getElem?_eq_some_iff.mp h3).1 h2]; exact h3, h4, h5⟩
theorem aUN.recv {σ : Nat → Value} {A : Nat → Prop} {U : State} {H H1 : Heap} (h : aUN σ A U H) (hq : ∀ a : Nat, a < H.size → ¬ A a → H1[a]? = H[a]?) {u : Nat} (hu : σ 4 = .ref u) : ∃ cell : Cell, H1[u]? = some cell ∧ cell.vm.isStatics = false ∧ U.vm.findClass "jdk/internal/misc/Unsafe" = some cell.cls := by
  obtain ⟨x, cell, h1, h2, h3, h4, h5⟩ := h.kept hq
  cases h1.symm.trans hu
  exact ⟨cell, h3, h4, h5⟩
abbrev aFuL : List (String × Nat × String × MethodName) := [("java/util/TreeSet", 69, "java/util/Map", ⟨"java/util/NavigableMap", "put", "(Ljava/lang/Object;Ljava/lang/Object;)Ljava/lang/Object;"⟩), ("java/util/TreeSet", 61, "java/util/Map", ⟨"java/util/NavigableMap", "containsKey", "(Ljava/lang/Object;)Z"⟩)]
abbrev aFvL : List (String × String × MethodName × MethodName) := [("java/util/TreeMap", "java/util/Map", ⟨"java/util/NavigableMap", "put", "(Ljava/lang/Object;Ljava/lang/Object;)Ljava/lang/Object;"⟩, ⟨"java/util/TreeMap", "put", "(Ljava/lang/Object;Ljava/lang/Object;)Ljava/lang/Object;"⟩), ("java/util/TreeMap", "java/util/Map", ⟨"java/util/NavigableMap", "containsKey", "(Ljava/lang/Object;)Z"⟩, ⟨"java/util/TreeMap", "containsKey", "(Ljava/lang/Object;)Z"⟩)]
def aUX (σ : Nat → Value) (A : Nat → Prop) (U : State) (H : Heap) : Prop := aUN σ A U H ∧ (∀ q ∈ aFuL, aFu q.1 q.2.1 q.2.2.1 q.2.2.2 U) ∧ (∀ q ∈ aFvL, aFv q.1 q.2.1 q.2.2.1 q.2.2.2 U)
theorem aUX.warm {σ : Nat → Value} {A : Nat → Prop} {s U : State} {H : Heap} (hW : s.WarmedH U.vm) (h : aUX σ A s H) : aUX σ A U H := ⟨h.1.moved hW.alike, fun q hq => (h.2.1 q hq).warm hW, fun q hq => (h.2.2 q hq).moved hW.alike⟩
theorem aUX.same {σ : Nat → Value} {A : Nat → Prop} {u U : State} {H : Heap} (e : u.vm = U.vm) (h : aUX σ A u H) : aUX σ A U H := ⟨h.1.moved (by rw [← e]; exact Vm.Alike.refl u.vm), fun q hq => (h.2.1 q hq).same e, fun q hq => (h.2.2 q hq).moved (by rw [← e]; exact Vm.Alike.refl u.vm)⟩
theorem aUX.kept {σ : Nat → Value} {A : Nat → Prop} {U : State} {H H1 : Heap} (h : aUX σ A U H) (hq : ∀ a : Nat, a < H.size → ¬ A a → H1[a]? = H[a]?) : aUX σ A U H1 := ⟨h.1.kept hq, h.2⟩
/-- what is known of a state's tables -/
theorem cat4 {l : List Value} (h : l.length ≤ 4) : (l.map fun v => v.category).sum ≤ 8 := by
  have key : ∀ (l : List Value) (k : Nat), l.length ≤ k → (l.map fun v => v.category).sum ≤ 2 * k := by
    intro l
    induction l with
    | nil => intro k _; simp
    | cons v l ih =>
      intro k h
      cases k with
      | zero => simp at h
      | succ k =>
        have h1 := ih k (by simpa using h)
        have h2 : v.category ≤ 2 := by cases v <;> simp [Value.category]
        simp only [List.map_cons, List.sum_cons]
        omega
  exact key l 4 h
def EV (σ : Nat → Value) (D : va_G) (dA : Nat → ClassId) (A : Nat → Prop) (U : State) (H : Heap) : Prop := va_K D aCl (aTyL dA) U ∧ aTB U ∧ aST σ A U H ∧ aSC σ U ∧ aNC U ∧ aUX σ A U H
theorem EV.warm {σ : Nat → Value} {D : va_G} {dA : Nat → ClassId} {A : Nat → Prop} {s U : State} {H : Heap} (hW : s.WarmedH U.vm) (h : EV σ D dA A s H) : EV σ D dA A U H := ⟨va_K.moved hW.alike h.1, h.2.1.warm hW, h.2.2.1.moved hW.alike, h.2.2.2.1.warm hW, h.2.2.2.2.1.moved hW.alike, h.2.2.2.2.2.warm hW⟩
theorem EV.same {σ : Nat → Value} {D : va_G} {dA : Nat → ClassId} {A : Nat → Prop} {u U : State} {H : Heap} (e : u.vm = U.vm) (h : EV σ D dA A u H) : EV σ D dA A U H :=
  ⟨va_K.moved (by rw [← e]; exact Vm.Alike.refl u.vm) h.1, h.2.1.same e, h.2.2.1.moved (by rw [← e]; exact Vm.Alike.refl u.vm), h.2.2.2.1.same e, h.2.2.2.2.1.moved (by rw [← e]; exact Vm.Alike.refl u.vm), h.2.2.2.2.2.same e⟩
theorem EV.kept {σ : Nat → Value} {D : va_G} {dA : Nat → ClassId} {A : Nat → Prop} {U : State} {H H1 : Heap} (h : EV σ D dA A U H) (hq : ∀ a : Nat, a < H.size → ¬ A a → H1[a]? = H[a]?) : EV σ D dA A U H1 := ⟨h.1, h.2.1, h.2.2.1.kept hq, h.2.2.2.1, h.2.2.2.2.1, h.2.2.2.2.2.kept hq⟩
/-- a method's state at its entry -/
def aPc (σ : Nat → Value) (D : va_G) (dA : Nat → ClassId) (A : Nat → Prop) (av : List Value) (h : aH) : Array Value → State → Prop := va_Pc av fun U => RH D dA A h U.heap ∧ EV σ D dA A U U.heap ∧ ∀ q : Nat, U.heap.size ≤ q → A q
def aQc (D : va_G) (dA : Nat → ClassId) (A : Nat → Prop) (P : aO → aH → Prop) : Array Value → State → Outcome → State → Prop := fun _ st o t => (∃ (v : Option Value) (h : aH), o = .returned v ∧ P (.inl v) h ∧ RH D dA A h t.heap) ∧ va_F A st t
def aXC (D : va_G) (dA : Nat → ClassId) (A : Nat → Prop) (P : aO → aH → Prop) : String → State → State → Prop := fun E st t => (∃ h : aH, P (.inr E) h ∧ RH D dA A h t.heap) ∧ va_F A st t
theorem aPc.blind {σ : Nat → Value} {D : va_G} {dA : Nat → ClassId} {A : Nat → Prop} {av : List Value} {h : aH} : FrameBlind (aPc σ D dA A av h) := by
  intro a U g mk q
  obtain ⟨q0, q1, q2, q3⟩ := q
  exact ⟨q0, q1, EV.same (u := U) (U := U.calling g mk a) rfl q2, q3⟩
abbrev aRm (d mc ms : Nat) : Room := { frames := d, cells := mc, slots := ms, locals := 64 * d }
abbrev mcd (own : String) (nm ds : String) : MethodName := ⟨own, nm, ds⟩
/-- the words of a method -/
def mWs (y : MethodName) (cc : ByteArray) (nL : Nat) (ret : Option FieldType) (hh : List (Nat × Nat × Nat × Nat)) : List Cond := match hh with
  | [] => ws_ y cc nL ret
  | hh => wsW_ y cc nL ret hh
/-- what the machine's frame stands on, all through a method -/
def MC (σ : Nat → Value) (D : va_G) (dA : Nat → ClassId) (A : Nat → Prop) (p : Program) (l : Launch) (R : Room) (s : State) (m : MethodId) (args : Array Value) (meth : Method) (c : Code) (own : String) (cc : ByteArray) (nL : Nat) (ret : Option FieldType) (hh : List (Nat × Nat × Nat × Nat)) (d mc ms : Nat) : Prop :=
  p.tables.exec = Jvm.exec ∧ c.code = cc ∧ c.maxLocals = nL ∧ s.vm.findClass own = some m.cls ∧ (∀ w ∈ lw_all, w.before args s = true) ∧ meth.locks = false ∧ meth.sig.returnType = ret ∧ R = aRm d mc ms ∧ (∀ q : Nat, s.heap.size ≤ q → A q) ∧ l.stackTraces = false ∧ EV σ D dA A s s.heap ∧ c.exceptionTable.toList = tableOf hh
/-- where the machine stands when the abstract one stands there -/
def XW (D : va_G) (dA : Nat → ClassId) (A : Nat → Prop) (p : Program) (l : Launch) (e : Env) (R : Room) (s : State) (m : MethodId) (args : Array Value) (below : List Frame) (meth : Method) (c : Code) (nL : Nat) (Q : State → Prop) : aX := fun pc ls st h k sl =>
  ∀ (H : Heap) (locs : List Loc) (lsA : Array Slot), RH D dA A h H → va_S A s.heap H locs → LR ls lsA nL → W p l e R s m args below meth c H locs k sl Q (F0 m pc lsA st)
/-- callee's contracts -/
def CH (σ : Nat → Value) (D : va_G) (dA : Nat → ClassId) (A : Nat → Prop) (l : Launch) (C : aC) (d : Nat) : Prop :=
  ∀ (y : Nat) (as : List Value) (h : aH) (mc ms : Nat) (P : aO → aH → Prop), C y as h mc ms P → 1 ≤ d ∧ vx_Met l (mN y) (mWs (mN y) (mB y) (mL y) (mR y) (mH y)) (aRm (d - 1) mc ms) (aPc σ D dA A as h) (aQc D dA A P) (aXC D dA A P) mc ms A
/-- the step i at pc of the code cc is what the machine does there -/
def Snd (own : String) (nm : String) (cc : ByteArray) (nL : Nat) (ret : Option FieldType) (hh : List (Nat × Nat × Nat × Nat)) (pc : Nat) (i : (Nat → Value) → aI) : Prop :=
  ∀ (σ : Nat → Value) (D : va_G) (dA : Nat → ClassId) (A : Nat → Prop) (p : Program) (l : Launch) (e : Env) (R : Room) (s : State) (m : MethodId) (args : Array Value) (below : List Frame) (meth : Method) (c : Code) (d mc ms : Nat) (C : aC) (P : aO → aH → Prop),
    MC σ D dA A p l R s m args meth c own cc nL ret hh d mc ms → meth.name = nm → CH σ D dA A l C d → ∀ (ls st : List Value) (h : aH) (k sl : Nat),
      i σ (C, d, mc, ms, fun o h' k s => k ≤ mc ∧ s ≤ ms ∧ P o h') (XW D dA A p l e R s m args below meth c nL (vx_MQ below (aQc D dA A P) (aXC D dA A P) args s mc ms A)) ls st h k sl →
      XW D dA A p l e R s m args below meth c nL (vx_MQ below (aQc D dA A P) (aXC D dA A P) args s mc ms A) pc ls st h k sl
theorem snd_op {own nm : String} {cc : ByteArray} {nL : Nat} {ret : Option FieldType} {hh : List (Nat × Nat × Nat × Nat)} {pc n : Nat} {f : List Value → Option (List Value)} (row : ∀ (st st2 : List Value), f st = some st2 → ∀ {p : Program} {l : Launch} {e : Env} {R : Room} {s : State} {m : MethodId} {args : Array Value} {below : List Frame} {meth : Method} {c : Code} {H : Heap} {locs : List Loc} {cells slots : Nat} {Q : State → Prop} {ls : Array Slot}, p.tables.exec = Jvm.exec → c.code = cc → s.vm.findClass own = some m.cls → (∀ w ∈ lw_all, w.before args s = true) →
    W p l e R s m args below meth c H locs cells slots Q (F0 m n ls st2) → W p l e R s m args below meth c H locs cells slots Q (F0 m pc ls st)) : Snd own nm cc nL ret hh pc (fun _ => i_op f n) := by
  intro σ D dA A p l e R s m args below meth c d mc ms C0 P M hnam9 hC ls st h k sl q
  unfold i_op at q
  cases hf : f st with
  | none => rw [hf] at q; exact q.elim
  | some st2 =>
    rw [hf] at q
    intro H locs lsA hR hS hL
    exact row st st2 hf M.1 M.2.1 M.2.2.2.1 M.2.2.2.2.1 (q H locs lsA hR hS hL)
theorem s_iadd {own nm : String} {cc : ByteArray} {nL : Nat} {ret : Option FieldType} {hh : List (Nat × Nat × Nat × Nat)} {pc n : Nat} (hn : pc + 1 = n) (hd : decode cc pc = .ok (.iadd, 1)) : Snd own nm cc nL ret hh pc (fun _ => i_op o_iadd n) := by
  subst hn
  refine snd_op fun st st2 hf => ?_
  intro p l e R s m args below meth c H locs cells slots Q ls hx hb ho hts k
  unfold o_iadd at hf
  split at hf
  · cases hf
    exact lv_iadd hx hb hd  k
  · cases hf
theorem s_isub {own nm : String} {cc : ByteArray} {nL : Nat} {ret : Option FieldType} {hh : List (Nat × Nat × Nat × Nat)} {pc n : Nat} (hn : pc + 1 = n) (hd : decode cc pc = .ok (.isub, 1)) : Snd own nm cc nL ret hh pc (fun _ => i_op o_isub n) := by
  subst hn
  refine snd_op fun st st2 hf => ?_
  intro p l e R s m args below meth c H locs cells slots Q ls hx hb ho hts k
  unfold o_isub at hf
  split at hf
  · cases hf
    exact lv_isub hx hb hd  k
  · cases hf
theorem s_imul {own nm : String} {cc : ByteArray} {nL : Nat} {ret : Option FieldType} {hh : List (Nat × Nat × Nat × Nat)} {pc n : Nat} (hn : pc + 1 = n) (hd : decode cc pc = .ok (.imul, 1)) : Snd own nm cc nL ret hh pc (fun _ => i_op o_imul n) := by
  subst hn
  refine snd_op fun st st2 hf => ?_
  intro p l e R s m args below meth c H locs cells slots Q ls hx hb ho hts k
  unfold o_imul at hf
  split at hf
  · cases hf
    exact lv_imul hx hb hd  k
  · cases hf
theorem s_iand {own nm : String} {cc : ByteArray} {nL : Nat} {ret : Option FieldType} {hh : List (Nat × Nat × Nat × Nat)} {pc n : Nat} (hn : pc + 1 = n) (hd : decode cc pc = .ok (.iand, 1)) : Snd own nm cc nL ret hh pc (fun _ => i_op o_iand n) := by
  subst hn
  refine snd_op fun st st2 hf => ?_
  intro p l e R s m args below meth c H locs cells slots Q ls hx hb ho hts k
  unfold o_iand at hf
  split at hf
  · cases hf
    exact lv_iand hx hb hd  k
  · cases hf
theorem s_ior {own nm : String} {cc : ByteArray} {nL : Nat} {ret : Option FieldType} {hh : List (Nat × Nat × Nat × Nat)} {pc n : Nat} (hn : pc + 1 = n) (hd : decode cc pc = .ok (.ior, 1)) : Snd own nm cc nL ret hh pc (fun _ => i_op o_ior n) := by
  subst hn
  refine snd_op fun st st2 hf => ?_
  intro p l e R s m args below meth c H locs cells slots Q ls hx hb ho hts k
  unfold o_ior at hf
  split at hf
  · cases hf
    exact lv_ior hx hb hd  k
  · cases hf
theorem s_ixor {own nm : String} {cc : ByteArray} {nL : Nat} {ret : Option FieldType} {hh : List (Nat × Nat × Nat × Nat)} {pc n : Nat} (hn : pc + 1 = n) (hd : decode cc pc = .ok (.ixor, 1)) : Snd own nm cc nL ret hh pc (fun _ => i_op o_ixor n) := by
  subst hn
  refine snd_op fun st st2 hf => ?_
  intro p l e R s m args below meth c H locs cells slots Q ls hx hb ho hts k
  unfold o_ixor at hf
  split at hf
  · cases hf
    exact lv_ixor hx hb hd  k
  · cases hf
theorem s_ineg {own nm : String} {cc : ByteArray} {nL : Nat} {ret : Option FieldType} {hh : List (Nat × Nat × Nat × Nat)} {pc n : Nat} (hn : pc + 1 = n) (hd : decode cc pc = .ok (.ineg, 1)) : Snd own nm cc nL ret hh pc (fun _ => i_op o_ineg n) := by
  subst hn
  refine snd_op fun st st2 hf => ?_
  intro p l e R s m args below meth c H locs cells slots Q ls hx hb ho hts k
  unfold o_ineg at hf
  split at hf
  · cases hf
    exact lv_ineg hx hb hd  k
  · cases hf
theorem s_ishl {own nm : String} {cc : ByteArray} {nL : Nat} {ret : Option FieldType} {hh : List (Nat × Nat × Nat × Nat)} {pc n : Nat} (hn : pc + 1 = n) (hd : decode cc pc = .ok (.ishl, 1)) : Snd own nm cc nL ret hh pc (fun _ => i_op o_ishl n) := by
  subst hn
  refine snd_op fun st st2 hf => ?_
  intro p l e R s m args below meth c H locs cells slots Q ls hx hb ho hts k
  unfold o_ishl at hf
  split at hf
  · cases hf
    exact lv_ishl hx hb hd  k
  · cases hf
theorem s_ishr {own nm : String} {cc : ByteArray} {nL : Nat} {ret : Option FieldType} {hh : List (Nat × Nat × Nat × Nat)} {pc n : Nat} (hn : pc + 1 = n) (hd : decode cc pc = .ok (.ishr, 1)) : Snd own nm cc nL ret hh pc (fun _ => i_op o_ishr n) := by
  subst hn
  refine snd_op fun st st2 hf => ?_
  intro p l e R s m args below meth c H locs cells slots Q ls hx hb ho hts k
  unfold o_ishr at hf
  split at hf
  · cases hf
    exact lv_ishr hx hb hd  k
  · cases hf
theorem s_ladd {own nm : String} {cc : ByteArray} {nL : Nat} {ret : Option FieldType} {hh : List (Nat × Nat × Nat × Nat)} {pc n : Nat} (hn : pc + 1 = n) (hd : decode cc pc = .ok (.ladd, 1)) : Snd own nm cc nL ret hh pc (fun _ => i_op o_ladd n) := by
  subst hn
  refine snd_op fun st st2 hf => ?_
  intro p l e R s m args below meth c H locs cells slots Q ls hx hb ho hts k
  unfold o_ladd at hf
  split at hf
  · cases hf
    exact lv_ladd hx hb hd  k
  · cases hf
theorem s_lsub {own nm : String} {cc : ByteArray} {nL : Nat} {ret : Option FieldType} {hh : List (Nat × Nat × Nat × Nat)} {pc n : Nat} (hn : pc + 1 = n) (hd : decode cc pc = .ok (.lsub, 1)) : Snd own nm cc nL ret hh pc (fun _ => i_op o_lsub n) := by
  subst hn
  refine snd_op fun st st2 hf => ?_
  intro p l e R s m args below meth c H locs cells slots Q ls hx hb ho hts k
  unfold o_lsub at hf
  split at hf
  · cases hf
    exact lv_lsub hx hb hd  k
  · cases hf
theorem s_lmul {own nm : String} {cc : ByteArray} {nL : Nat} {ret : Option FieldType} {hh : List (Nat × Nat × Nat × Nat)} {pc n : Nat} (hn : pc + 1 = n) (hd : decode cc pc = .ok (.lmul, 1)) : Snd own nm cc nL ret hh pc (fun _ => i_op o_lmul n) := by
  subst hn
  refine snd_op fun st st2 hf => ?_
  intro p l e R s m args below meth c H locs cells slots Q ls hx hb ho hts k
  unfold o_lmul at hf
  split at hf
  · cases hf
    exact lv_lmul hx hb hd  k
  · cases hf
theorem s_land {own nm : String} {cc : ByteArray} {nL : Nat} {ret : Option FieldType} {hh : List (Nat × Nat × Nat × Nat)} {pc n : Nat} (hn : pc + 1 = n) (hd : decode cc pc = .ok (.land, 1)) : Snd own nm cc nL ret hh pc (fun _ => i_op o_land n) := by
  subst hn
  refine snd_op fun st st2 hf => ?_
  intro p l e R s m args below meth c H locs cells slots Q ls hx hb ho hts k
  unfold o_land at hf
  split at hf
  · cases hf
    exact lv_land hx hb hd  k
  · cases hf
theorem s_lor {own nm : String} {cc : ByteArray} {nL : Nat} {ret : Option FieldType} {hh : List (Nat × Nat × Nat × Nat)} {pc n : Nat} (hn : pc + 1 = n) (hd : decode cc pc = .ok (.lor, 1)) : Snd own nm cc nL ret hh pc (fun _ => i_op o_lor n) := by
  subst hn
  refine snd_op fun st st2 hf => ?_
  intro p l e R s m args below meth c H locs cells slots Q ls hx hb ho hts k
  unfold o_lor at hf
  split at hf
  · cases hf
    exact lv_lor hx hb hd  k
  · cases hf
theorem s_lxor {own nm : String} {cc : ByteArray} {nL : Nat} {ret : Option FieldType} {hh : List (Nat × Nat × Nat × Nat)} {pc n : Nat} (hn : pc + 1 = n) (hd : decode cc pc = .ok (.lxor, 1)) : Snd own nm cc nL ret hh pc (fun _ => i_op o_lxor n) := by
  subst hn
  refine snd_op fun st st2 hf => ?_
  intro p l e R s m args below meth c H locs cells slots Q ls hx hb ho hts k
  unfold o_lxor at hf
  split at hf
  · cases hf
    exact lv_lxor hx hb hd  k
  · cases hf
theorem s_i2d {own nm : String} {cc : ByteArray} {nL : Nat} {ret : Option FieldType} {hh : List (Nat × Nat × Nat × Nat)} {pc n : Nat} (hn : pc + 1 = n) (hd : decode cc pc = .ok (.i2d, 1)) : Snd own nm cc nL ret hh pc (fun _ => i_op o_i2d n) := by
  subst hn
  refine snd_op fun st st2 hf => ?_
  intro p l e R s m args below meth c H locs cells slots Q ls hx hb ho hts k
  unfold o_i2d at hf
  split at hf
  · cases hf
    exact lv_i2d hx hb hd  k
  · cases hf
theorem s_i2f {own nm : String} {cc : ByteArray} {nL : Nat} {ret : Option FieldType} {hh : List (Nat × Nat × Nat × Nat)} {pc n : Nat} (hn : pc + 1 = n) (hd : decode cc pc = .ok (.i2f, 1)) : Snd own nm cc nL ret hh pc (fun _ => i_op o_i2f n) := by
  subst hn
  refine snd_op fun st st2 hf => ?_
  intro p l e R s m args below meth c H locs cells slots Q ls hx hb ho hts k
  unfold o_i2f at hf
  split at hf
  · cases hf
    exact lv_i2f hx hb hd  k
  · cases hf
theorem s_lcmp {own nm : String} {cc : ByteArray} {nL : Nat} {ret : Option FieldType} {hh : List (Nat × Nat × Nat × Nat)} {pc n : Nat} (hn : pc + 1 = n) (hd : decode cc pc = .ok (.lcmp, 1)) : Snd own nm cc nL ret hh pc (fun _ => i_op o_lcmp n) := by
  subst hn
  refine snd_op fun st st2 hf => ?_
  intro p l e R s m args below meth c H locs cells slots Q ls hx hb ho hts k
  unfold o_lcmp at hf
  split at hf
  · cases hf
    exact W.lcmp hx hb hd  k
  · cases hf
theorem s_iushr {own nm : String} {cc : ByteArray} {nL : Nat} {ret : Option FieldType} {hh : List (Nat × Nat × Nat × Nat)} {pc n : Nat} (hn : pc + 1 = n) (hd : decode cc pc = .ok (.iushr, 1)) : Snd own nm cc nL ret hh pc (fun _ => i_op o_iushr n) := by
  subst hn
  refine snd_op fun st st2 hf => ?_
  intro p l e R s m args below meth c H locs cells slots Q ls hx hb ho hts k
  unfold o_iushr at hf
  split at hf
  · cases hf
    exact lv_iushr hx hb hd rfl k
  · cases hf
theorem s_lshl {own nm : String} {cc : ByteArray} {nL : Nat} {ret : Option FieldType} {hh : List (Nat × Nat × Nat × Nat)} {pc n : Nat} (hn : pc + 1 = n) (hd : decode cc pc = .ok (.lshl, 1)) : Snd own nm cc nL ret hh pc (fun _ => i_op o_lshl n) := by
  subst hn
  refine snd_op fun st st2 hf => ?_
  intro p l e R s m args below meth c H locs cells slots Q ls hx hb ho hts k
  unfold o_lshl at hf
  split at hf
  · cases hf
    exact lv_lshl hx hb hd rfl k
  · cases hf
theorem s_lushr {own nm : String} {cc : ByteArray} {nL : Nat} {ret : Option FieldType} {hh : List (Nat × Nat × Nat × Nat)} {pc n : Nat} (hn : pc + 1 = n) (hd : decode cc pc = .ok (.lushr, 1)) : Snd own nm cc nL ret hh pc (fun _ => i_op o_lushr n) := by
  subst hn
  refine snd_op fun st st2 hf => ?_
  intro p l e R s m args below meth c H locs cells slots Q ls hx hb ho hts k
  unfold o_lushr at hf
  split at hf
  · cases hf
    exact lv_lushr hx hb hd rfl k
  · cases hf
theorem s_i2l {own nm : String} {cc : ByteArray} {nL : Nat} {ret : Option FieldType} {hh : List (Nat × Nat × Nat × Nat)} {pc n : Nat} (hn : pc + 1 = n) (hd : decode cc pc = .ok (.i2l, 1)) : Snd own nm cc nL ret hh pc (fun _ => i_op o_i2l n) := by
  subst hn
  refine snd_op fun st st2 hf => ?_
  intro p l e R s m args below meth c H locs cells slots Q ls hx hb ho hts k
  unfold o_i2l at hf
  split at hf
  · cases hf
    exact lv_i2l hx hb hd rfl k
  · cases hf
theorem s_l2i {own nm : String} {cc : ByteArray} {nL : Nat} {ret : Option FieldType} {hh : List (Nat × Nat × Nat × Nat)} {pc n : Nat} (hn : pc + 1 = n) (hd : decode cc pc = .ok (.l2i, 1)) : Snd own nm cc nL ret hh pc (fun _ => i_op o_l2i n) := by
  subst hn
  refine snd_op fun st st2 hf => ?_
  intro p l e R s m args below meth c H locs cells slots Q ls hx hb ho hts k
  unfold o_l2i at hf
  split at hf
  · cases hf
    exact lv_l2i hx hb hd rfl k
  · cases hf
theorem s_i2c {own nm : String} {cc : ByteArray} {nL : Nat} {ret : Option FieldType} {hh : List (Nat × Nat × Nat × Nat)} {pc n : Nat} (hn : pc + 1 = n) (hd : decode cc pc = .ok (.i2c, 1)) : Snd own nm cc nL ret hh pc (fun _ => i_op o_i2c n) := by
  subst hn
  refine snd_op fun st st2 hf => ?_
  intro p l e R s m args below meth c H locs cells slots Q ls hx hb ho hts k
  unfold o_i2c at hf
  split at hf
  · cases hf
    exact lv_i2c hx hb hd rfl k
  · cases hf
theorem s_i2b {own nm : String} {cc : ByteArray} {nL : Nat} {ret : Option FieldType} {hh : List (Nat × Nat × Nat × Nat)} {pc n : Nat} (hn : pc + 1 = n) (hd : decode cc pc = .ok (.i2b, 1)) : Snd own nm cc nL ret hh pc (fun _ => i_op o_i2b n) := by
  subst hn
  refine snd_op fun st st2 hf => ?_
  intro p l e R s m args below meth c H locs cells slots Q ls hx hb ho hts k
  unfold o_i2b at hf
  split at hf
  · cases hf
    exact lv_i2b hx hb hd rfl k
  · cases hf
theorem s_idiv {own nm : String} {cc : ByteArray} {nL : Nat} {ret : Option FieldType} {hh : List (Nat × Nat × Nat × Nat)} {pc n : Nat} (hn : pc + 1 = n) (hd : decode cc pc = .ok (.idiv, 1)) : Snd own nm cc nL ret hh pc (fun _ => i_op o_idiv n) := by
  subst hn
  refine snd_op fun st st2 hf => ?_
  intro p l e R s m args below meth c H locs cells slots Q ls hx hb ho hts k
  unfold o_idiv at hf
  split at hf
  · split at hf
    · cases hf
    · next h0 =>
      cases hf
      exact lv_idiv hx hb hd h0 k
  · cases hf
theorem s_irem {own nm : String} {cc : ByteArray} {nL : Nat} {ret : Option FieldType} {hh : List (Nat × Nat × Nat × Nat)} {pc n : Nat} (hn : pc + 1 = n) (hd : decode cc pc = .ok (.irem, 1)) : Snd own nm cc nL ret hh pc (fun _ => i_op o_irem n) := by
  subst hn
  refine snd_op fun st st2 hf => ?_
  intro p l e R s m args below meth c H locs cells slots Q ls hx hb ho hts k
  unfold o_irem at hf
  split at hf
  · split at hf
    · cases hf
    · next h0 =>
      cases hf
      exact lv_irem hx hb hd h0 k
  · cases hf
theorem s_ldiv {own nm : String} {cc : ByteArray} {nL : Nat} {ret : Option FieldType} {hh : List (Nat × Nat × Nat × Nat)} {pc n : Nat} (hn : pc + 1 = n) (hd : decode cc pc = .ok (.ldiv, 1)) : Snd own nm cc nL ret hh pc (fun _ => i_op o_ldiv n) := by
  subst hn
  refine snd_op fun st st2 hf => ?_
  intro p l e R s m args below meth c H locs cells slots Q ls hx hb ho hts k
  unfold o_ldiv at hf
  split at hf
  · split at hf
    · cases hf
    · next h0 =>
      cases hf
      exact lv_ldiv hx hb hd h0 k
  · cases hf
theorem s_lrem {own nm : String} {cc : ByteArray} {nL : Nat} {ret : Option FieldType} {hh : List (Nat × Nat × Nat × Nat)} {pc n : Nat} (hn : pc + 1 = n) (hd : decode cc pc = .ok (.lrem, 1)) : Snd own nm cc nL ret hh pc (fun _ => i_op o_lrem n) := by
  subst hn
  refine snd_op fun st st2 hf => ?_
  intro p l e R s m args below meth c H locs cells slots Q ls hx hb ho hts k
  unfold o_lrem at hf
  split at hf
  · split at hf
    · cases hf
    · next h0 =>
      cases hf
      exact lv_lrem hx hb hd h0 k
  · cases hf
theorem s_dcmp {own nm : String} {cc : ByteArray} {nL : Nat} {ret : Option FieldType} {hh : List (Nat × Nat × Nat × Nat)} {pc n : Nat} {op : CmpOp} (hn : pc + 1 = n) (hd : decode cc pc = .ok (.dcmp op, 1)) : Snd own nm cc nL ret hh pc (fun _ => i_op (o_dcmp op) n) := by
  subst hn
  refine snd_op fun st st2 hf => ?_
  intro p l e R s m args below meth c H locs cells slots Q ls hx hb ho hts k
  unfold o_dcmp at hf
  split at hf
  · cases hf
    exact lv_dcmp hx hb hd k
  · cases hf
theorem s_iconst {own nm : String} {cc : ByteArray} {nL : Nat} {ret : Option FieldType} {hh : List (Nat × Nat × Nat × Nat)} {pc n : Nat} {v0 : Int} {v : Int32} (hv : Int32.ofInt v0 = v) (hn : pc + 1 = n) (hd : decode cc pc = .ok (.iconst v0, 1)) : Snd own nm cc nL ret hh pc (fun _ => i_op (o_int v) n) := by
  subst hn
  refine snd_op fun st st2 hf => ?_
  intro p l e R s m args below meth c H locs cells slots Q ls hx hb ho hts k
  cases hf
  exact lv_iconst (n := v0) hx hb hd hv k
theorem s_bipush {own nm : String} {cc : ByteArray} {nL : Nat} {ret : Option FieldType} {hh : List (Nat × Nat × Nat × Nat)} {pc n : Nat} {v0 : Int} {v : Int32} (hv : (Int8.ofInt v0).toInt32 = v) (hn : pc + 2 = n) (hd : decode cc pc = .ok (.bipush v0, 2)) : Snd own nm cc nL ret hh pc (fun _ => i_op (o_int v) n) := by
  subst hn
  refine snd_op fun st st2 hf => ?_
  intro p l e R s m args below meth c H locs cells slots Q ls hx hb ho hts k
  cases hf
  exact lv_bipush (n := v0) hx hb hd hv k
theorem s_sipush {own nm : String} {cc : ByteArray} {nL : Nat} {ret : Option FieldType} {hh : List (Nat × Nat × Nat × Nat)} {pc n : Nat} {v0 : Int} {v : Int32} (hv : (Int16.ofInt v0).toInt32 = v) (hn : pc + 3 = n) (hd : decode cc pc = .ok (.sipush v0, 3)) : Snd own nm cc nL ret hh pc (fun _ => i_op (o_int v) n) := by
  subst hn
  refine snd_op fun st st2 hf => ?_
  intro p l e R s m args below meth c H locs cells slots Q ls hx hb ho hts k
  cases hf
  exact lv_sipush (n := v0) hx hb hd hv k
theorem s_ldc {own nm : String} {cc : ByteArray} {nL : Nat} {ret : Option FieldType} {hh : List (Nat × Nat × Nat × Nat)} {pc n : Nat} {ix : Nat} {v : Int32} (hw : Cond.constant own ix v ∈ lw_all) (hn : pc + 2 = n) (hd : decode cc pc = .ok (.ldc ix, 2)) : Snd own nm cc nL ret hh pc (fun _ => i_op (o_int v) n) := by
  subst hn
  refine snd_op fun st st2 hf => ?_
  intro p l e R s m args below meth c H locs cells slots Q ls hx hb ho hts k
  cases hf
  exact lv_ldc hx hb ho (hts _ hw) hd k
theorem s_ldcw {own nm : String} {cc : ByteArray} {nL : Nat} {ret : Option FieldType} {hh : List (Nat × Nat × Nat × Nat)} {pc n : Nat} {ix : Nat} {v : Int32} (hw : Cond.constant own ix v ∈ lw_all) (hn : pc + 3 = n) (hd : decode cc pc = .ok (.ldc_w ix, 3)) : Snd own nm cc nL ret hh pc (fun _ => i_op (o_int v) n) := by
  subst hn
  refine snd_op fun st st2 hf => ?_
  intro p l e R s m args below meth c H locs cells slots Q ls hx hb ho hts k
  cases hf
  exact lv_ldcw hx hb ho (hts _ hw) hd k
theorem s_ldc2 {own nm : String} {cc : ByteArray} {nL : Nat} {ret : Option FieldType} {hh : List (Nat × Nat × Nat × Nat)} {pc n : Nat} {ix : Nat} {v : Int64} (hw : Cond.constantLong own ix v ∈ lw_all) (hn : pc + 3 = n) (hd : decode cc pc = .ok (.ldc2_w ix, 3)) : Snd own nm cc nL ret hh pc (fun _ => i_op (o_long v) n) := by
  subst hn
  refine snd_op fun st st2 hf => ?_
  intro p l e R s m args below meth c H locs cells slots Q ls hx hb ho hts k
  cases hf
  exact lv_ldc2 hx hb ho (hts _ hw) hd k
theorem s_lconst {own nm : String} {cc : ByteArray} {nL : Nat} {ret : Option FieldType} {hh : List (Nat × Nat × Nat × Nat)} {pc n : Nat} {v0 : Fin 2} {v : Int64} (hv : Int64.ofNat (v0 : Nat) = v) (hn : pc + 1 = n) (hd : decode cc pc = .ok (.lconst v0, 1)) : Snd own nm cc nL ret hh pc (fun _ => i_op (o_long v) n) := by
  subst hn
  refine snd_op fun st st2 hf => ?_
  intro p l e R s m args below meth c H locs cells slots Q ls hx hb ho hts k
  cases hf
  exact lv_lconst hx hb hd hv k
theorem s_fconst0 {own nm : String} {cc : ByteArray} {nL : Nat} {ret : Option FieldType} {hh : List (Nat × Nat × Nat × Nat)} {pc n : Nat} (hn : pc + 1 = n) (hd : decode cc pc = .ok (.fconst 0, 1)) : Snd own nm cc nL ret hh pc (fun _ => i_op (o_flt FP.fconst0) n) := by
  subst hn
  refine snd_op fun st st2 hf => ?_
  intro p l e R s m args below meth c H locs cells slots Q ls hx hb ho hts k
  cases hf
  exact lv_fconst0 hx hb hd k
theorem s_null {own nm : String} {cc : ByteArray} {nL : Nat} {ret : Option FieldType} {hh : List (Nat × Nat × Nat × Nat)} {pc n : Nat} (hn : pc + 1 = n) (hd : decode cc pc = .ok (.aconst_null, 1)) : Snd own nm cc nL ret hh pc (fun _ => i_op o_null n) := by
  subst hn
  refine snd_op fun st st2 hf => ?_
  intro p l e R s m args below meth c H locs cells slots Q ls hx hb ho hts k
  cases hf
  exact lv_null hx hb hd k
theorem s_pop {own nm : String} {cc : ByteArray} {nL : Nat} {ret : Option FieldType} {hh : List (Nat × Nat × Nat × Nat)} {pc n : Nat} (hn : pc + 1 = n) (hd : decode cc pc = .ok (.pop, 1)) : Snd own nm cc nL ret hh pc (fun _ => i_op o_pop n) := by
  subst hn
  refine snd_op fun st st2 hf => ?_
  intro p l e R s m args below meth c H locs cells slots Q ls hx hb ho hts k
  unfold o_pop at hf
  split at hf
  · split at hf
    · next h1 =>
      cases hf
      exact lv_pop hx hb hd h1 k
    · cases hf
  · cases hf
theorem s_dup {own nm : String} {cc : ByteArray} {nL : Nat} {ret : Option FieldType} {hh : List (Nat × Nat × Nat × Nat)} {pc n : Nat} (hn : pc + 1 = n) (hd : decode cc pc = .ok (.dup, 1)) : Snd own nm cc nL ret hh pc (fun _ => i_op o_dup n) := by
  subst hn
  refine snd_op fun st st2 hf => ?_
  intro p l e R s m args below meth c H locs cells slots Q ls hx hb ho hts k
  unfold o_dup at hf
  split at hf
  · split at hf
    · next h1 =>
      cases hf
      exact lv_dup hx hb hd h1 k
    · cases hf
  · cases hf
theorem s_dup_x1 {own nm : String} {cc : ByteArray} {nL : Nat} {ret : Option FieldType} {hh : List (Nat × Nat × Nat × Nat)} {pc n : Nat} (hn : pc + 1 = n) (hd : decode cc pc = .ok (.dup_x1, 1)) : Snd own nm cc nL ret hh pc (fun _ => i_op o_dup_x1 n) := by
  subst hn
  refine snd_op fun st st2 hf => ?_
  intro p l e R s m args below meth c H locs cells slots Q ls hx hb ho hts k
  unfold o_dup_x1 at hf
  split at hf
  · split at hf
    · next h1 =>
      cases hf
      exact lv_dup_x1 hx hb hd h1.1 h1.2 k
    · cases hf
  · cases hf
theorem s_dup2 {own nm : String} {cc : ByteArray} {nL : Nat} {ret : Option FieldType} {hh : List (Nat × Nat × Nat × Nat)} {pc n : Nat} (hn : pc + 1 = n) (hd : decode cc pc = .ok (.dup2, 1)) : Snd own nm cc nL ret hh pc (fun _ => i_op o_dup2 n) := by
  subst hn
  refine snd_op fun st st2 hf => ?_
  intro p l e R s m args below meth c H locs cells slots Q ls hx hb ho hts k
  unfold o_dup2 at hf
  split at hf
  · cases hf
    exact lv_dup2_11 hx hb hd rfl rfl k
  · cases hf
theorem s_ddiv {own nm : String} {cc : ByteArray} {nL : Nat} {ret : Option FieldType} {hh : List (Nat × Nat × Nat × Nat)} {pc n : Nat} (hn : pc + 1 = n) (hd : decode cc pc = .ok (.ddiv, 1)) : Snd own nm cc nL ret hh pc (fun _ => i_ddiv n) := by
  intro σ D dA A p l e R s m args below meth c d mc ms C0 P M hnam9 hC ls st h k sl q
  unfold i_ddiv at q
  subst hn
  split at q
  · intro H locs lsA hR hS hL
    exact lv_ddiv M.1 M.2.1 hd q.1 (q.2 H locs lsA hR hS hL)
  · exact q.elim
theorem s_fdiv {own nm : String} {cc : ByteArray} {nL : Nat} {ret : Option FieldType} {hh : List (Nat × Nat × Nat × Nat)} {pc n : Nat} (hn : pc + 1 = n) (hd : decode cc pc = .ok (.fdiv, 1)) : Snd own nm cc nL ret hh pc (fun _ => i_fdiv n) := by
  intro σ D dA A p l e R s m args below meth c d mc ms C0 P M hnam9 hC ls st h k sl q
  unfold i_fdiv at q
  subst hn
  split at q
  · intro H locs lsA hR hS hL
    exact lv_fdiv M.1 M.2.1 hd q.1 (q.2 H locs lsA hR hS hL)
  · exact q.elim
theorem s_f2d {own nm : String} {cc : ByteArray} {nL : Nat} {ret : Option FieldType} {hh : List (Nat × Nat × Nat × Nat)} {pc n : Nat} (hn : pc + 1 = n) (hd : decode cc pc = .ok (.f2d, 1)) : Snd own nm cc nL ret hh pc (fun _ => i_f2d n) := by
  intro σ D dA A p l e R s m args below meth c d mc ms C0 P M hnam9 hC ls st h k sl q
  unfold i_f2d at q
  subst hn
  split at q
  · intro H locs lsA hR hS hL
    exact lv_f2d M.1 M.2.1 hd q.1 (q.2 H locs lsA hR hS hL)
  · exact q.elim
theorem s_iload_n {own nm : String} {cc : ByteArray} {nL : Nat} {ret : Option FieldType} {hh : List (Nat × Nat × Nat × Nat)} {pc n : Nat} {i : Nat} {j : Fin 4} (hi : (j : Nat) = i) (hn : pc + 1 = n) (hd : decode cc pc = .ok (.iload_n j, 1)) : Snd own nm cc nL ret hh pc (fun _ => i_iload i n) := by
  intro σ D dA A p l e R s m args below meth c d mc ms C0 P M hnam9 hC ls st h k sl q
  unfold i_iload at q
  subst hn
  split at q
  · next v hv =>
    intro H locs lsA hR hS hL
    exact lv_iload_n M.1 M.2.1 hd hi (hL.2.2.2 i _ hv (fun z => by cases z)) (q H locs lsA hR hS hL)
  · exact q.elim
theorem s_iload {own nm : String} {cc : ByteArray} {nL : Nat} {ret : Option FieldType} {hh : List (Nat × Nat × Nat × Nat)} {pc n : Nat} {i : Nat} (hn : pc + 2 = n) (hd : decode cc pc = .ok (.iload i, 2)) : Snd own nm cc nL ret hh pc (fun _ => i_iload i n) := by
  intro σ D dA A p l e R s m args below meth c d mc ms C0 P M hnam9 hC ls st h k sl q
  unfold i_iload at q
  subst hn
  split at q
  · next v hv =>
    intro H locs lsA hR hS hL
    exact lv_iload M.1 M.2.1 hd (hL.2.2.2 i _ hv (fun z => by cases z)) (q H locs lsA hR hS hL)
  · exact q.elim
theorem s_lload_n {own nm : String} {cc : ByteArray} {nL : Nat} {ret : Option FieldType} {hh : List (Nat × Nat × Nat × Nat)} {pc n : Nat} {i : Nat} {j : Fin 4} (hi : (j : Nat) = i) (hn : pc + 1 = n) (hd : decode cc pc = .ok (.lload_n j, 1)) : Snd own nm cc nL ret hh pc (fun _ => i_lload i n) := by
  intro σ D dA A p l e R s m args below meth c d mc ms C0 P M hnam9 hC ls st h k sl q
  unfold i_lload at q
  subst hn
  split at q
  · next v hv =>
    intro H locs lsA hR hS hL
    exact lv_lload_n M.1 M.2.1 hd hi (hL.2.2.2 i _ hv (fun z => by cases z)) (q H locs lsA hR hS hL)
  · exact q.elim
theorem s_lload {own nm : String} {cc : ByteArray} {nL : Nat} {ret : Option FieldType} {hh : List (Nat × Nat × Nat × Nat)} {pc n : Nat} {i : Nat} (hn : pc + 2 = n) (hd : decode cc pc = .ok (.lload i, 2)) : Snd own nm cc nL ret hh pc (fun _ => i_lload i n) := by
  intro σ D dA A p l e R s m args below meth c d mc ms C0 P M hnam9 hC ls st h k sl q
  unfold i_lload at q
  subst hn
  split at q
  · next v hv =>
    intro H locs lsA hR hS hL
    exact lv_lload M.1 M.2.1 hd (hL.2.2.2 i _ hv (fun z => by cases z)) (q H locs lsA hR hS hL)
  · exact q.elim
theorem s_dload_n {own nm : String} {cc : ByteArray} {nL : Nat} {ret : Option FieldType} {hh : List (Nat × Nat × Nat × Nat)} {pc n : Nat} {i : Nat} {j : Fin 4} (hi : (j : Nat) = i) (hn : pc + 1 = n) (hd : decode cc pc = .ok (.dload_n j, 1)) : Snd own nm cc nL ret hh pc (fun _ => i_dload i n) := by
  intro σ D dA A p l e R s m args below meth c d mc ms C0 P M hnam9 hC ls st h k sl q
  unfold i_dload at q
  subst hn
  split at q
  · next v hv =>
    intro H locs lsA hR hS hL
    exact lv_dload_n M.1 M.2.1 hd hi (hL.2.2.2 i _ hv (fun z => by cases z)) (q H locs lsA hR hS hL)
  · exact q.elim
theorem s_dload {own nm : String} {cc : ByteArray} {nL : Nat} {ret : Option FieldType} {hh : List (Nat × Nat × Nat × Nat)} {pc n : Nat} {i : Nat} (hn : pc + 2 = n) (hd : decode cc pc = .ok (.dload i, 2)) : Snd own nm cc nL ret hh pc (fun _ => i_dload i n) := by
  intro σ D dA A p l e R s m args below meth c d mc ms C0 P M hnam9 hC ls st h k sl q
  unfold i_dload at q
  subst hn
  split at q
  · next v hv =>
    intro H locs lsA hR hS hL
    exact lv_dload M.1 M.2.1 hd (hL.2.2.2 i _ hv (fun z => by cases z)) (q H locs lsA hR hS hL)
  · exact q.elim
theorem s_aload_n {own nm : String} {cc : ByteArray} {nL : Nat} {ret : Option FieldType} {hh : List (Nat × Nat × Nat × Nat)} {pc n : Nat} {i : Nat} {j : Fin 4} (hi : (j : Nat) = i) (hn : pc + 1 = n) (hd : decode cc pc = .ok (.aload_n j, 1)) : Snd own nm cc nL ret hh pc (fun _ => i_aload i n) := by
  intro σ D dA A p l e R s m args below meth c d mc ms C0 P M hnam9 hC ls st h k sl q
  unfold i_aload at q
  subst hn
  split at q
  · next v hv =>
    intro H locs lsA hR hS hL
    exact lv_aload_n M.1 M.2.1 hd hi (hL.2.2.2 i _ hv (fun z => by cases z)) (q H locs lsA hR hS hL)
  · next hv =>
    intro H locs lsA hR hS hL
    exact lv_aload_nN M.1 M.2.1 hd hi (hL.2.2.2 i _ hv (fun z => by cases z)) (q H locs lsA hR hS hL)
  · exact q.elim
theorem s_aload {own nm : String} {cc : ByteArray} {nL : Nat} {ret : Option FieldType} {hh : List (Nat × Nat × Nat × Nat)} {pc n : Nat} {i : Nat} (hn : pc + 2 = n) (hd : decode cc pc = .ok (.aload i, 2)) : Snd own nm cc nL ret hh pc (fun _ => i_aload i n) := by
  intro σ D dA A p l e R s m args below meth c d mc ms C0 P M hnam9 hC ls st h k sl q
  unfold i_aload at q
  subst hn
  split at q
  · next v hv =>
    intro H locs lsA hR hS hL
    exact lv_aload M.1 M.2.1 hd (hL.2.2.2 i _ hv (fun z => by cases z)) (q H locs lsA hR hS hL)
  · next hv =>
    intro H locs lsA hR hS hL
    exact lv_aloadN M.1 M.2.1 hd (hL.2.2.2 i _ hv (fun z => by cases z)) (q H locs lsA hR hS hL)
  · exact q.elim
theorem LR.hasAll {ls : List Value} {lsA : Array Slot} {nL : Nat} (h : LR ls lsA nL) (f : List (Nat × Value)) (hf : ∀ q ∈ f, ls[q.1]? = some q.2 ∧ q.2 ≠ jk) : lv_has lsA nL f := ⟨h.2.1, h.2.2.1, fun q hq => h.2.2.2 q.1 q.2 (hf q hq).1 (hf q hq).2⟩
def lvl (ls : List Value) : List (Nat × Value) := (List.range ls.length).filterMap fun i => match ls[i]? with
  | some v => if v = jk then none else some (i, v)
  | none => none
theorem lvl_mem {ls : List Value} {i : Nat} {v : Value} : (i, v) ∈ lvl ls ↔ ls[i]? = some v ∧ v ≠ jk := by
  unfold lvl
  rw [List.mem_filterMap]
  constructor
  · rintro ⟨j, hj, e⟩
    split at e
    · next w hw =>
      split at e
      · cases e
      · next hne =>
        cases e
        exact ⟨hw, hne⟩
    · cases e
  · rintro ⟨h1, h2⟩
    refine ⟨i, List.mem_range.mpr (List.getElem?_eq_some_iff.mp h1).1, ?_⟩
    rw [h1]
    simp [h2]
theorem LR.has {ls : List Value} {lsA : Array Slot} {nL : Nat} (h : LR ls lsA nL) : lv_has lsA nL (lvl ls) := h.hasAll _ fun q hq => lvl_mem.mp hq
theorem sto1_len (ls : List Value) (i : Nat) (v : Value) : (sto1 ls i v).length = ls.length := by
  unfold sto1
  split
  · simp
  · split <;> simp
theorem sto1_get {ls : List Value} {i j : Nat} {v w : Value} (h : (sto1 ls i v)[j]? = some w) (hw : w ≠ jk) : (j = i ∧ w = v) ∨ (j ≠ i ∧ ls[j]? = some w ∧ ¬ (j + 1 = i ∧ w.category = 2)) := by
  unfold sto1 at h
  split at h
  · rw [List.getElem?_set] at h
    split at h
    · next e =>
      subst e
      split at h
      · cases h; exact Or.inl ⟨rfl, rfl⟩
      · cases h
    · next e => exact Or.inr ⟨fun z => e z.symm, h, fun z => by omega⟩
  · next q =>
    have key : ∀ (h9 : ((ls.set q jk).set (q + 1) v)[j]? = some w), (j = q + 1 ∧ w = v) ∨ (j ≠ q + 1 ∧ ls[j]? = some w ∧ ¬ (j + 1 = q + 1 ∧ w.category = 2)) := by
      intro h9
      rw [List.getElem?_set] at h9
      by_cases e : q + 1 = j
      · rw [if_pos e] at h9
        split at h9
        · cases h9; exact Or.inl ⟨e.symm, rfl⟩
        · cases h9
      · rw [if_neg e, List.getElem?_set] at h9
        by_cases e2 : q = j
        · rw [if_pos e2] at h9
          split at h9
          · cases h9; exact absurd rfl hw
          · cases h9
        · rw [if_neg e2] at h9
          exact Or.inr ⟨fun z => e z.symm, h9, fun z => e2 (by omega)⟩
    split at h
    · exact key h
    · exact key h
    · next n1 n2 =>
      rw [List.getElem?_set] at h
      by_cases e : q + 1 = j
      · rw [if_pos e] at h
        split at h
        · cases h; exact Or.inl ⟨e.symm, rfl⟩
        · cases h
      · rw [if_neg e] at h
        refine Or.inr ⟨fun z => e z.symm, h, fun z => ?_⟩
        have hj : j = q := by omega
        subst hj
        cases w with
        | long x => exact n1 x h
        | double x => exact n2 x h
        | int x => exact absurd z.2 (by simp [Value.category])
        | float x => exact absurd z.2 (by simp [Value.category])
        | null => exact absurd z.2 (by simp [Value.category])
        | ref x => exact absurd z.2 (by simp [Value.category])
        | retAddr x => exact absurd z.2 (by simp [Value.category])
theorem LR.st1 {ls : List Value} {lsA lsA' : Array Slot} {nL i : Nat} {v : Value} (h : LR ls lsA nL) (h' : lv_has lsA' nL ((i, v) :: (lvl ls).filter (fun q => !(q.1 == i) && !(q.1 + 1 == i && q.2.category == 2)))) : LR (sto1 ls i v) lsA' nL := by
  refine ⟨(sto1_len ls i v).trans h.1, h'.1, h'.2.1, fun j w hj hw => ?_⟩
  rcases sto1_get hj hw with ⟨rfl, rfl⟩ | ⟨n1, e1, n2⟩
  · exact h'.2.2 (_, _) List.mem_cons_self
  · refine h'.2.2 (j, w) (List.mem_cons_of_mem _ (List.mem_filter.mpr ⟨lvl_mem.mpr ⟨e1, hw⟩, ?_⟩))
    simp only [Bool.and_eq_true, Bool.not_eq_true', beq_eq_false_iff_ne, ne_eq, Bool.and_eq_false_iff]
    refine ⟨n1, ?_⟩
    by_cases z : j + 1 = i
    · exact Or.inr fun z2 => n2 ⟨z, z2⟩
    · exact Or.inl z
theorem LR.st2 {ls : List Value} {lsA lsA' : Array Slot} {nL i : Nat} {v : Value} (h : LR ls lsA nL) (h' : lv_has lsA' nL ((i, v) :: (lvl ls).filter (fun q => !(q.1 == i) && (!(q.1 == i + 1) && !(q.1 + 1 == i && q.2.category == 2))))) : LR (sto2 ls i v) lsA' nL := by
  refine ⟨by unfold sto2; rw [List.length_set]; exact (sto1_len ls i v).trans h.1, h'.1, h'.2.1, fun j w hj hw => ?_⟩
  unfold sto2 at hj
  rw [List.getElem?_set] at hj
  split at hj
  · split at hj
    · cases hj; exact absurd rfl hw
    · cases hj
  · next e =>
    rcases sto1_get hj hw with ⟨rfl, rfl⟩ | ⟨n1, e1, n2⟩
    · exact h'.2.2 (_, _) List.mem_cons_self
    · refine h'.2.2 (j, w) (List.mem_cons_of_mem _ (List.mem_filter.mpr ⟨lvl_mem.mpr ⟨e1, hw⟩, ?_⟩))
      simp only [Bool.and_eq_true, Bool.not_eq_true', beq_eq_false_iff_ne, ne_eq, Bool.and_eq_false_iff]
      refine ⟨n1, fun z => e z.symm, ?_⟩
      by_cases z : j + 1 = i
      · exact Or.inr fun z2 => n2 ⟨z, z2⟩
      · exact Or.inl z
theorem s_istore_n {own nm : String} {cc : ByteArray} {nL : Nat} {ret : Option FieldType} {hh : List (Nat × Nat × Nat × Nat)} {pc n : Nat} {i : Nat} {j : Fin 4} (hi : (j : Nat) = i) (hl : i < nL) (hn : pc + 1 = n) (hd : decode cc pc = .ok (.istore_n j, 1)) : Snd own nm cc nL ret hh pc (fun _ => i_istore i n) := by
  intro σ D dA A p l e R s m args below meth c d mc ms C0 P M hnam9 hC ls st h k sl q
  unfold i_istore at q
  subst hn
  split at q
  · intro H locs lsA hR hS hL
    exact lv_istore_n M.1 M.2.1 hd hi hL.has hl rfl fun ls' h' => q H locs ls' hR hS (hL.st1 h')
  · exact q.elim
theorem s_istore {own nm : String} {cc : ByteArray} {nL : Nat} {ret : Option FieldType} {hh : List (Nat × Nat × Nat × Nat)} {pc n : Nat} {i : Nat} (hl : i < nL) (hn : pc + 2 = n) (hd : decode cc pc = .ok (.istore i, 2)) : Snd own nm cc nL ret hh pc (fun _ => i_istore i n) := by
  intro σ D dA A p l e R s m args below meth c d mc ms C0 P M hnam9 hC ls st h k sl q
  unfold i_istore at q
  subst hn
  split at q
  · intro H locs lsA hR hS hL
    exact lv_istore M.1 M.2.1 hd hL.has hl rfl fun ls' h' => q H locs ls' hR hS (hL.st1 h')
  · exact q.elim
theorem s_lstore_n {own nm : String} {cc : ByteArray} {nL : Nat} {ret : Option FieldType} {hh : List (Nat × Nat × Nat × Nat)} {pc n : Nat} {i : Nat} {j : Fin 4} (hi : (j : Nat) = i) (hl : i + 1 < nL) (hn : pc + 1 = n) (hd : decode cc pc = .ok (.lstore_n j, 1)) : Snd own nm cc nL ret hh pc (fun _ => i_lstore i n) := by
  intro σ D dA A p l e R s m args below meth c d mc ms C0 P M hnam9 hC ls st h k sl q
  unfold i_lstore at q
  subst hn
  split at q
  · intro H locs lsA hR hS hL
    exact lv_lstore_n M.1 M.2.1 hd hi hL.has hl rfl fun ls' h' => q H locs ls' hR hS (hL.st2 h')
  · exact q.elim
theorem s_lstore {own nm : String} {cc : ByteArray} {nL : Nat} {ret : Option FieldType} {hh : List (Nat × Nat × Nat × Nat)} {pc n : Nat} {i : Nat} (hl : i + 1 < nL) (hn : pc + 2 = n) (hd : decode cc pc = .ok (.lstore i, 2)) : Snd own nm cc nL ret hh pc (fun _ => i_lstore i n) := by
  intro σ D dA A p l e R s m args below meth c d mc ms C0 P M hnam9 hC ls st h k sl q
  unfold i_lstore at q
  subst hn
  split at q
  · intro H locs lsA hR hS hL
    exact lv_lstore M.1 M.2.1 hd hL.has hl rfl fun ls' h' => q H locs ls' hR hS (hL.st2 h')
  · exact q.elim
theorem s_dstore_n {own nm : String} {cc : ByteArray} {nL : Nat} {ret : Option FieldType} {hh : List (Nat × Nat × Nat × Nat)} {pc n : Nat} {i : Nat} {j : Fin 4} (hi : (j : Nat) = i) (hl : i + 1 < nL) (hn : pc + 1 = n) (hd : decode cc pc = .ok (.dstore_n j, 1)) : Snd own nm cc nL ret hh pc (fun _ => i_dstore i n) := by
  intro σ D dA A p l e R s m args below meth c d mc ms C0 P M hnam9 hC ls st h k sl q
  unfold i_dstore at q
  subst hn
  split at q
  · intro H locs lsA hR hS hL
    exact lv_dstore_n M.1 M.2.1 hd hi hL.has hl rfl fun ls' h' => q H locs ls' hR hS (hL.st2 h')
  · exact q.elim
theorem s_dstore {own nm : String} {cc : ByteArray} {nL : Nat} {ret : Option FieldType} {hh : List (Nat × Nat × Nat × Nat)} {pc n : Nat} {i : Nat} (hl : i + 1 < nL) (hn : pc + 2 = n) (hd : decode cc pc = .ok (.dstore i, 2)) : Snd own nm cc nL ret hh pc (fun _ => i_dstore i n) := by
  intro σ D dA A p l e R s m args below meth c d mc ms C0 P M hnam9 hC ls st h k sl q
  unfold i_dstore at q
  subst hn
  split at q
  · intro H locs lsA hR hS hL
    exact lv_dstore M.1 M.2.1 hd hL.has hl rfl fun ls' h' => q H locs ls' hR hS (hL.st2 h')
  · exact q.elim
theorem s_astore_n {own nm : String} {cc : ByteArray} {nL : Nat} {ret : Option FieldType} {hh : List (Nat × Nat × Nat × Nat)} {pc n : Nat} {i : Nat} {j : Fin 4} (hi : (j : Nat) = i) (hl : i < nL) (hn : pc + 1 = n) (hd : decode cc pc = .ok (.astore_n j, 1)) : Snd own nm cc nL ret hh pc (fun _ => i_astore i n) := by
  intro σ D dA A p l e R s m args below meth c d mc ms C0 P M hnam9 hC ls st h k sl q
  unfold i_astore at q
  subst hn
  split at q
  · intro H locs lsA hR hS hL
    exact lv_astore_n M.1 M.2.1 hd hi hL.has hl rfl fun ls' h' => q H locs ls' hR hS (hL.st1 h')
  · intro H locs lsA hR hS hL
    exact lv_astore_nN M.1 M.2.1 hd hi hL.has hl rfl fun ls' h' => q H locs ls' hR hS (hL.st1 h')
  · exact q.elim
theorem s_astore {own nm : String} {cc : ByteArray} {nL : Nat} {ret : Option FieldType} {hh : List (Nat × Nat × Nat × Nat)} {pc n : Nat} {i : Nat} (hl : i < nL) (hn : pc + 2 = n) (hd : decode cc pc = .ok (.astore i, 2)) : Snd own nm cc nL ret hh pc (fun _ => i_astore i n) := by
  intro σ D dA A p l e R s m args below meth c d mc ms C0 P M hnam9 hC ls st h k sl q
  unfold i_astore at q
  subst hn
  split at q
  · intro H locs lsA hR hS hL
    exact lv_astore M.1 M.2.1 hd hL.has hl rfl fun ls' h' => q H locs ls' hR hS (hL.st1 h')
  · intro H locs lsA hR hS hL
    exact lv_astoreN M.1 M.2.1 hd hL.has hl rfl fun ls' h' => q H locs ls' hR hS (hL.st1 h')
  · exact q.elim
theorem s_iinc {own nm : String} {cc : ByteArray} {nL : Nat} {ret : Option FieldType} {hh : List (Nat × Nat × Nat × Nat)} {pc n : Nat} {i : Nat} {dd : Int} (hl : i < nL) (hn : pc + 3 = n) (hd : decode cc pc = .ok (.iinc i dd, 3)) : Snd own nm cc nL ret hh pc (fun _ => i_iinc i dd n) := by
  intro σ D dA A p l e R s m args below meth c d mc ms C0 P M hnam9 hC ls st h k sl q
  unfold i_iinc at q
  subst hn
  split at q
  · next v hv =>
    intro H locs lsA hR hS hL
    obtain ⟨kk, hk⟩ := List.getElem?_of_mem (lvl_mem.mpr ⟨hv, fun z => by cases z⟩)
    exact lv_iinc M.1 M.2.1 hd hL.has hk rfl hl rfl fun ls' h' => q H locs ls' hR hS (hL.st1 h')
  · exact q.elim
theorem s_goto {own nm : String} {cc : ByteArray} {nL : Nat} {ret : Option FieldType} {hh : List (Nat × Nat × Nat × Nat)} {pc n : Nat} {t : Nat} {off : Int} (ht : (pc : Int) + off = (t : Int)) (hd : decode cc pc = .ok (.goto off, 3)) : Snd own nm cc nL ret hh pc (fun _ => i_goto t) := by
  intro σ D dA A p l e R s m args below meth c d mc ms C0 P M hnam9 hC ls st h k sl q
  unfold i_goto at q
  intro H locs lsA hR hS hL
  exact lv_goto M.1 M.2.1 hd ht (q H locs lsA hR hS hL)
theorem s_ifeq {own nm : String} {cc : ByteArray} {nL : Nat} {ret : Option FieldType} {hh : List (Nat × Nat × Nat × Nat)} {pc n : Nat} {t : Nat} {off : Int} (ht : (pc : Int) + off = (t : Int)) (hn : pc + 3 = n) (hd : decode cc pc = .ok (.ifCond .eq off, 3)) : Snd own nm cc nL ret hh pc (fun _ => i_ifeq t n) := by
  intro σ D dA A p l e R s m args below meth c d mc ms C0 P M hnam9 hC ls st h k sl q
  unfold i_ifeq at q
  subst hn
  split at q
  · intro H locs lsA hR hS hL
    refine lv_if_eq M.1 M.2.1 hd ht (fun z => ?_) (fun z => ?_)
    · first | rw [if_pos z] at q | rw [if_neg z] at q | rw [if_neg (fun y => absurd y (by simpa using z))] at q | rw [if_pos (by simpa using z)] at q
      exact q H locs lsA hR hS hL
    · first | rw [if_neg z] at q | rw [if_pos z] at q | rw [if_pos (by simpa using z)] at q | rw [if_neg (by simpa using z)] at q
      exact q H locs lsA hR hS hL
  · exact q.elim
theorem s_iflt {own nm : String} {cc : ByteArray} {nL : Nat} {ret : Option FieldType} {hh : List (Nat × Nat × Nat × Nat)} {pc n : Nat} {t : Nat} {off : Int} (ht : (pc : Int) + off = (t : Int)) (hn : pc + 3 = n) (hd : decode cc pc = .ok (.ifCond .lt off, 3)) : Snd own nm cc nL ret hh pc (fun _ => i_iflt t n) := by
  intro σ D dA A p l e R s m args below meth c d mc ms C0 P M hnam9 hC ls st h k sl q
  unfold i_iflt at q
  subst hn
  split at q
  · intro H locs lsA hR hS hL
    refine lv_if_lt M.1 M.2.1 hd ht (fun z => ?_) (fun z => ?_)
    · first | rw [if_pos z] at q | rw [if_neg z] at q | rw [if_neg (fun y => absurd y (by simpa using z))] at q | rw [if_pos (by simpa using z)] at q
      exact q H locs lsA hR hS hL
    · first | rw [if_neg z] at q | rw [if_pos z] at q | rw [if_pos (by simpa using z)] at q | rw [if_neg (by simpa using z)] at q
      exact q H locs lsA hR hS hL
  · exact q.elim
theorem s_ifgt {own nm : String} {cc : ByteArray} {nL : Nat} {ret : Option FieldType} {hh : List (Nat × Nat × Nat × Nat)} {pc n : Nat} {t : Nat} {off : Int} (ht : (pc : Int) + off = (t : Int)) (hn : pc + 3 = n) (hd : decode cc pc = .ok (.ifCond .gt off, 3)) : Snd own nm cc nL ret hh pc (fun _ => i_ifgt t n) := by
  intro σ D dA A p l e R s m args below meth c d mc ms C0 P M hnam9 hC ls st h k sl q
  unfold i_ifgt at q
  subst hn
  split at q
  · intro H locs lsA hR hS hL
    refine lv_if_gt M.1 M.2.1 hd ht (fun z => ?_) (fun z => ?_)
    · first | rw [if_pos z] at q | rw [if_neg z] at q | rw [if_neg (fun y => absurd y (by simpa using z))] at q | rw [if_pos (by simpa using z)] at q
      exact q H locs lsA hR hS hL
    · first | rw [if_neg z] at q | rw [if_pos z] at q | rw [if_pos (by simpa using z)] at q | rw [if_neg (by simpa using z)] at q
      exact q H locs lsA hR hS hL
  · exact q.elim
theorem s_ifne {own nm : String} {cc : ByteArray} {nL : Nat} {ret : Option FieldType} {hh : List (Nat × Nat × Nat × Nat)} {pc n : Nat} {t : Nat} {off : Int} (ht : (pc : Int) + off = (t : Int)) (hn : pc + 3 = n) (hd : decode cc pc = .ok (.ifCond .ne off, 3)) : Snd own nm cc nL ret hh pc (fun _ => i_ifne t n) := by
  intro σ D dA A p l e R s m args below meth c d mc ms C0 P M hnam9 hC ls st h k sl q
  unfold i_ifne at q
  subst hn
  split at q
  · intro H locs lsA hR hS hL
    refine lv_if_ne M.1 M.2.1 hd ht (fun z => ?_) (fun z => ?_)
    · first | rw [if_pos z] at q | rw [if_neg z] at q | rw [if_neg (fun y => absurd y (by simpa using z))] at q | rw [if_pos (by simpa using z)] at q
      exact q H locs lsA hR hS hL
    · first | rw [if_neg z] at q | rw [if_pos z] at q | rw [if_pos (by simpa using z)] at q | rw [if_neg (by simpa using z)] at q
      exact q H locs lsA hR hS hL
  · exact q.elim
theorem s_ifge {own nm : String} {cc : ByteArray} {nL : Nat} {ret : Option FieldType} {hh : List (Nat × Nat × Nat × Nat)} {pc n : Nat} {t : Nat} {off : Int} (ht : (pc : Int) + off = (t : Int)) (hn : pc + 3 = n) (hd : decode cc pc = .ok (.ifCond .ge off, 3)) : Snd own nm cc nL ret hh pc (fun _ => i_ifge t n) := by
  intro σ D dA A p l e R s m args below meth c d mc ms C0 P M hnam9 hC ls st h k sl q
  unfold i_ifge at q
  subst hn
  split at q
  · intro H locs lsA hR hS hL
    refine lv_if_ge M.1 M.2.1 hd ht (fun z => ?_) (fun z => ?_)
    · first | rw [if_pos z] at q | rw [if_neg z] at q | rw [if_neg (fun y => absurd y (by simpa using z))] at q | rw [if_pos (by simpa using z)] at q
      exact q H locs lsA hR hS hL
    · first | rw [if_neg z] at q | rw [if_pos z] at q | rw [if_pos (by simpa using z)] at q | rw [if_neg (by simpa using z)] at q
      exact q H locs lsA hR hS hL
  · exact q.elim
theorem s_ifle {own nm : String} {cc : ByteArray} {nL : Nat} {ret : Option FieldType} {hh : List (Nat × Nat × Nat × Nat)} {pc n : Nat} {t : Nat} {off : Int} (ht : (pc : Int) + off = (t : Int)) (hn : pc + 3 = n) (hd : decode cc pc = .ok (.ifCond .le off, 3)) : Snd own nm cc nL ret hh pc (fun _ => i_ifle t n) := by
  intro σ D dA A p l e R s m args below meth c d mc ms C0 P M hnam9 hC ls st h k sl q
  unfold i_ifle at q
  subst hn
  split at q
  · intro H locs lsA hR hS hL
    refine lv_if_le M.1 M.2.1 hd ht (fun z => ?_) (fun z => ?_)
    · first | rw [if_pos z] at q | rw [if_neg z] at q | rw [if_neg (fun y => absurd y (by simpa using z))] at q | rw [if_pos (by simpa using z)] at q
      exact q H locs lsA hR hS hL
    · first | rw [if_neg z] at q | rw [if_pos z] at q | rw [if_pos (by simpa using z)] at q | rw [if_neg (by simpa using z)] at q
      exact q H locs lsA hR hS hL
  · exact q.elim
theorem s_ceq {own nm : String} {cc : ByteArray} {nL : Nat} {ret : Option FieldType} {hh : List (Nat × Nat × Nat × Nat)} {pc n : Nat} {t : Nat} {off : Int} (ht : (pc : Int) + off = (t : Int)) (hn : pc + 3 = n) (hd : decode cc pc = .ok (.if_icmp .eq off, 3)) : Snd own nm cc nL ret hh pc (fun _ => i_ceq t n) := by
  intro σ D dA A p l e R s m args below meth c d mc ms C0 P M hnam9 hC ls st h k sl q
  unfold i_ceq at q
  subst hn
  split at q
  · intro H locs lsA hR hS hL
    refine lv_icmp_eq M.1 M.2.1 hd ht (fun z => ?_) (fun z => ?_)
    · first | rw [if_pos z] at q | rw [if_neg z] at q | rw [if_neg (fun y => absurd y (by simpa using z))] at q | rw [if_pos (by simpa using z)] at q
      exact q H locs lsA hR hS hL
    · first | rw [if_neg z] at q | rw [if_pos z] at q | rw [if_pos (by simpa using z)] at q | rw [if_neg (by simpa using z)] at q
      exact q H locs lsA hR hS hL
  · exact q.elim
theorem s_cne {own nm : String} {cc : ByteArray} {nL : Nat} {ret : Option FieldType} {hh : List (Nat × Nat × Nat × Nat)} {pc n : Nat} {t : Nat} {off : Int} (ht : (pc : Int) + off = (t : Int)) (hn : pc + 3 = n) (hd : decode cc pc = .ok (.if_icmp .ne off, 3)) : Snd own nm cc nL ret hh pc (fun _ => i_cne t n) := by
  intro σ D dA A p l e R s m args below meth c d mc ms C0 P M hnam9 hC ls st h k sl q
  unfold i_cne at q
  subst hn
  split at q
  · intro H locs lsA hR hS hL
    refine lv_icmp_ne M.1 M.2.1 hd ht (fun z => ?_) (fun z => ?_)
    · first | rw [if_pos z] at q | rw [if_neg z] at q | rw [if_neg (fun y => absurd y (by simpa using z))] at q | rw [if_pos (by simpa using z)] at q
      exact q H locs lsA hR hS hL
    · first | rw [if_neg z] at q | rw [if_pos z] at q | rw [if_pos (by simpa using z)] at q | rw [if_neg (by simpa using z)] at q
      exact q H locs lsA hR hS hL
  · exact q.elim
theorem s_clt {own nm : String} {cc : ByteArray} {nL : Nat} {ret : Option FieldType} {hh : List (Nat × Nat × Nat × Nat)} {pc n : Nat} {t : Nat} {off : Int} (ht : (pc : Int) + off = (t : Int)) (hn : pc + 3 = n) (hd : decode cc pc = .ok (.if_icmp .lt off, 3)) : Snd own nm cc nL ret hh pc (fun _ => i_clt t n) := by
  intro σ D dA A p l e R s m args below meth c d mc ms C0 P M hnam9 hC ls st h k sl q
  unfold i_clt at q
  subst hn
  split at q
  · intro H locs lsA hR hS hL
    refine lv_icmp_lt M.1 M.2.1 hd ht (fun z => ?_) (fun z => ?_)
    · first | rw [if_pos z] at q | rw [if_neg z] at q | rw [if_neg (fun y => absurd y (by simpa using z))] at q | rw [if_pos (by simpa using z)] at q
      exact q H locs lsA hR hS hL
    · first | rw [if_neg z] at q | rw [if_pos z] at q | rw [if_pos (by simpa using z)] at q | rw [if_neg (by simpa using z)] at q
      exact q H locs lsA hR hS hL
  · exact q.elim
theorem s_cge {own nm : String} {cc : ByteArray} {nL : Nat} {ret : Option FieldType} {hh : List (Nat × Nat × Nat × Nat)} {pc n : Nat} {t : Nat} {off : Int} (ht : (pc : Int) + off = (t : Int)) (hn : pc + 3 = n) (hd : decode cc pc = .ok (.if_icmp .ge off, 3)) : Snd own nm cc nL ret hh pc (fun _ => i_cge t n) := by
  intro σ D dA A p l e R s m args below meth c d mc ms C0 P M hnam9 hC ls st h k sl q
  unfold i_cge at q
  subst hn
  split at q
  · intro H locs lsA hR hS hL
    refine lv_icmp_ge M.1 M.2.1 hd ht (fun z => ?_) (fun z => ?_)
    · first | rw [if_pos z] at q | rw [if_neg z] at q | rw [if_neg (fun y => absurd y (by simpa using z))] at q | rw [if_pos (by simpa using z)] at q
      exact q H locs lsA hR hS hL
    · first | rw [if_neg z] at q | rw [if_pos z] at q | rw [if_pos (by simpa using z)] at q | rw [if_neg (by simpa using z)] at q
      exact q H locs lsA hR hS hL
  · exact q.elim
theorem s_cgt {own nm : String} {cc : ByteArray} {nL : Nat} {ret : Option FieldType} {hh : List (Nat × Nat × Nat × Nat)} {pc n : Nat} {t : Nat} {off : Int} (ht : (pc : Int) + off = (t : Int)) (hn : pc + 3 = n) (hd : decode cc pc = .ok (.if_icmp .gt off, 3)) : Snd own nm cc nL ret hh pc (fun _ => i_cgt t n) := by
  intro σ D dA A p l e R s m args below meth c d mc ms C0 P M hnam9 hC ls st h k sl q
  unfold i_cgt at q
  subst hn
  split at q
  · intro H locs lsA hR hS hL
    refine lv_icmp_gt M.1 M.2.1 hd ht (fun z => ?_) (fun z => ?_)
    · first | rw [if_pos z] at q | rw [if_neg z] at q | rw [if_neg (fun y => absurd y (by simpa using z))] at q | rw [if_pos (by simpa using z)] at q
      exact q H locs lsA hR hS hL
    · first | rw [if_neg z] at q | rw [if_pos z] at q | rw [if_pos (by simpa using z)] at q | rw [if_neg (by simpa using z)] at q
      exact q H locs lsA hR hS hL
  · exact q.elim
theorem s_cle {own nm : String} {cc : ByteArray} {nL : Nat} {ret : Option FieldType} {hh : List (Nat × Nat × Nat × Nat)} {pc n : Nat} {t : Nat} {off : Int} (ht : (pc : Int) + off = (t : Int)) (hn : pc + 3 = n) (hd : decode cc pc = .ok (.if_icmp .le off, 3)) : Snd own nm cc nL ret hh pc (fun _ => i_cle t n) := by
  intro σ D dA A p l e R s m args below meth c d mc ms C0 P M hnam9 hC ls st h k sl q
  unfold i_cle at q
  subst hn
  split at q
  · intro H locs lsA hR hS hL
    refine lv_icmp_le M.1 M.2.1 hd ht (fun z => ?_) (fun z => ?_)
    · first | rw [if_pos z] at q | rw [if_neg z] at q | rw [if_neg (fun y => absurd y (by simpa using z))] at q | rw [if_pos (by simpa using z)] at q
      exact q H locs lsA hR hS hL
    · first | rw [if_neg z] at q | rw [if_pos z] at q | rw [if_pos (by simpa using z)] at q | rw [if_neg (by simpa using z)] at q
      exact q H locs lsA hR hS hL
  · exact q.elim
theorem s_ifnull {own nm : String} {cc : ByteArray} {nL : Nat} {ret : Option FieldType} {hh : List (Nat × Nat × Nat × Nat)} {pc n : Nat} {t : Nat} {off : Int} (ht : (pc : Int) + off = (t : Int)) (hn : pc + 3 = n) (hd : decode cc pc = .ok (.ifnull off, 3)) : Snd own nm cc nL ret hh pc (fun _ => i_null t n) := by
  intro σ D dA A p l e R s m args below meth c d mc ms C0 P M hnam9 hC ls st h k sl q
  unfold i_null at q
  subst hn
  split at q
  · intro H locs lsA hR hS hL
    exact lv_ifnullN M.1 M.2.1 hd ht (q H locs lsA hR hS hL)
  · intro H locs lsA hR hS hL
    exact lv_ifnull M.1 M.2.1 hd (q H locs lsA hR hS hL)
  · exact q.elim
theorem s_ifnonnull {own nm : String} {cc : ByteArray} {nL : Nat} {ret : Option FieldType} {hh : List (Nat × Nat × Nat × Nat)} {pc n : Nat} {t : Nat} {off : Int} (ht : (pc : Int) + off = (t : Int)) (hn : pc + 3 = n) (hd : decode cc pc = .ok (.ifnonnull off, 3)) : Snd own nm cc nL ret hh pc (fun _ => i_nnull t n) := by
  intro σ D dA A p l e R s m args below meth c d mc ms C0 P M hnam9 hC ls st h k sl q
  unfold i_nnull at q
  subst hn
  split at q
  · intro H locs lsA hR hS hL
    exact lv_ifnonnullN M.1 M.2.1 hd (q H locs lsA hR hS hL)
  · intro H locs lsA hR hS hL
    exact lv_ifnonnull M.1 M.2.1 hd ht (q H locs lsA hR hS hL)
  · exact q.elim
theorem s_aceq {own nm : String} {cc : ByteArray} {nL : Nat} {ret : Option FieldType} {hh : List (Nat × Nat × Nat × Nat)} {pc n : Nat} {t : Nat} {off : Int} (ht : (pc : Int) + off = (t : Int)) (hn : pc + 3 = n) (hd : decode cc pc = .ok (.if_acmp .eq off, 3)) : Snd own nm cc nL ret hh pc (fun _ => i_aeq t n) := by
  intro σ D dA A p l e R s m args below meth c d mc ms C0 P M hnam9 hC ls st h k sl q
  unfold i_aeq at q
  subst hn
  split at q
  · next y x r =>
    intro H locs lsA hR hS hL
    refine lv_acmp_eq (rx := some x) (ry := some y) M.1 M.2.1 hd ht (fun z => ?_) (fun z => ?_)
    · rw [if_pos (Option.some.inj z)] at q
      exact q H locs lsA hR hS hL
    · rw [if_neg (fun w => z (congrArg some w))] at q
      exact q H locs lsA hR hS hL
  · next x r =>
    intro H locs lsA hR hS hL
    refine lv_acmp_eq (rx := some x) (ry := none) M.1 M.2.1 hd ht (fun z => ?_) (fun z => ?_)
    · cases z
    · exact q H locs lsA hR hS hL
  · next y r =>
    intro H locs lsA hR hS hL
    refine lv_acmp_eq (rx := none) (ry := some y) M.1 M.2.1 hd ht (fun z => ?_) (fun z => ?_)
    · cases z
    · exact q H locs lsA hR hS hL
  · next r =>
    intro H locs lsA hR hS hL
    refine lv_acmp_eq (rx := none) (ry := none) M.1 M.2.1 hd ht (fun z => ?_) (fun z => ?_)
    · exact q H locs lsA hR hS hL
    · exact absurd rfl z
  · exact q.elim
theorem s_acne {own nm : String} {cc : ByteArray} {nL : Nat} {ret : Option FieldType} {hh : List (Nat × Nat × Nat × Nat)} {pc n : Nat} {t : Nat} {off : Int} (ht : (pc : Int) + off = (t : Int)) (hn : pc + 3 = n) (hd : decode cc pc = .ok (.if_acmp .ne off, 3)) : Snd own nm cc nL ret hh pc (fun _ => i_ane t n) := by
  intro σ D dA A p l e R s m args below meth c d mc ms C0 P M hnam9 hC ls st h k sl q
  unfold i_ane at q
  subst hn
  split at q
  · next y x r =>
    intro H locs lsA hR hS hL
    refine lv_acmp_ne (rx := some x) (ry := some y) M.1 M.2.1 hd ht (fun z => ?_) (fun z => ?_)
    · rw [if_neg (fun w => z (congrArg some w))] at q
      exact q H locs lsA hR hS hL
    · rw [if_pos (Option.some.inj z)] at q
      exact q H locs lsA hR hS hL
  · next x r =>
    intro H locs lsA hR hS hL
    refine lv_acmp_ne (rx := some x) (ry := none) M.1 M.2.1 hd ht (fun z => ?_) (fun z => ?_)
    · exact q H locs lsA hR hS hL
    · cases z
  · next y r =>
    intro H locs lsA hR hS hL
    refine lv_acmp_ne (rx := none) (ry := some y) M.1 M.2.1 hd ht (fun z => ?_) (fun z => ?_)
    · exact q H locs lsA hR hS hL
    · cases z
  · next r =>
    intro H locs lsA hR hS hL
    refine lv_acmp_ne (rx := none) (ry := none) M.1 M.2.1 hd ht (fun z => ?_) (fun z => ?_)
    · exact absurd rfl z
    · exact q H locs lsA hR hS hL
  · exact q.elim
theorem s_tsw {own nm : String} {cc : ByteArray} {nL : Nat} {ret : Option FieldType} {hh : List (Nat × Nat × Nat × Nat)} {pc n : Nat} {lo hi : Int} {ts : List Nat} {df len : Nat} {dflt : Int} {offs : Array Int} (hd : decode cc pc = .ok (.tableswitch dflt lo hi offs, len)) (h0 : (pc : Int) + dflt = (df : Int)) (hts : ts.map (fun (t : Nat) => (t : Int)) = offs.toList.map (fun o => (pc : Int) + o)) : Snd own nm cc nL ret hh pc (fun _ => i_tsw lo hi ts df) := by
  intro σ D dA A p l e R s m args below meth c d mc ms C0 P M hnam9 hC ls st h k sl q
  unfold i_tsw at q
  split at q
  · next x r =>
    intro H locs lsA hR hS hL
    split at q
    · next z => exact lv_tableOut M.1 M.2.1 hd z h0 (q H locs lsA hR hS hL)
    · next z =>
      split at q
      · next t ht =>
        have e1 : (ts.map (fun (t : Nat) => (t : Int)))[(x.toInt - lo).toNat]? = some (t : Int) := by rw [List.getElem?_map, ht]; rfl
        rw [hts, List.getElem?_map] at e1
        obtain ⟨o9, ho, e2⟩ := Option.map_eq_some_iff.mp e1
        exact lv_tableIn M.1 M.2.1 hd (fun w => z (Or.inl w)) (fun w => z (Or.inr w)) (off := o9) (by rw [← Array.getElem?_toList]; exact ho) e2 (q H locs lsA hR hS hL)
      · exact q.elim
  · exact q.elim
/-- an abstract object in the machine's heap -/
theorem RH.obj {D : va_G} {dA : Nat → ClassId} {A : Nat → Prop} {h : aH} {H : Heap} (r : RH D dA A h H) {a c : Nat} {fs : List Value} (e : h.2 a = some (.inr (c, fs))) : va_P D aCl [(a, .inr (c % 1000, fs))] H := by
  intro k q hk
  cases k with
  | zero => cases hk; exact (r.2 a _ e).1
  | succ k => cases hk
theorem RH.arr {D : va_G} {dA : Nat → ClassId} {A : Nat → Prop} {h : aH} {H : Heap} (r : RH D dA A h H) {a t : Nat} {x : vp_A} (e : h.2 a = some (.inl (t, x))) : va_P D aCl [(a, .inl (dA (t % 1000), x))] H := by
  intro k q hk
  cases k with
  | zero => cases hk; exact (r.2 a _ e).1
  | succ k => cases hk
theorem md_ro {c c' : Nat} (hc : c < 1000) (h : c' = c ∨ c' = c + 1000) : c' % 1000 = c := by rcases h with h | h <;> omega
theorem s_getf {own nm : String} {cc : ByteArray} {nL : Nat} {ret : Option FieldType} {hh : List (Nat × Nat × Nat × Nat)} {pc n : Nat} {cn f ix : Nat} {ref C : String} {T : u_T} {N : Nat} (hc : aCl[cn]? = some (C, T, N)) (hcn : cn < 1000) (hf : f < N) (hin : ∀ w ∈ u_ws C T N, w ∈ lw_all) (hlink : Cond.fieldLink own ix ref (T f).2.1 (T f).2.2.1 ∈ lw_all) (hsame : (T f).1 = ref ∨ Cond.sameField ref (T f).1 (T f).2.1 (T f).2.2.1 ∈ lw_all) (hn : pc + 3 = n) (hd : decode cc pc = .ok (.getfield ix, 3)) : Snd own nm cc nL ret hh pc (fun _ => i_getf cn f n) := by
  intro σ D dA A p l e R s m args below meth c d mc ms C0 P M hnam9 hC ls st h k sl q
  unfold i_getf at q
  subst hn
  split at q
  · next a r =>
    split at q
    · next c2 fs ha =>
      obtain ⟨hc2, q⟩ := q
      split at q
      · next v hv =>
        intro H locs lsA hR hS hL
        have hP := hR.obj ha
        rw [md_ro hcn hc2] at hP
        exact va_get M.1 M.2.1 M.2.2.2.2.1 hin M.2.2.2.1 M.2.2.2.2.2.2.2.2.2.2.1.1 hP 0 rfl hc f hf (M.2.2.2.2.1 _ hlink) (fun x hx => by
          rcases hsame with z | z
          · rw [← z]; exact hx
          · exact u_same (M.2.2.2.2.1 _ z) x hx) hv hd (q H locs lsA hR hS hL)
      · exact q.elim
    · exact q.elim
  · exact q.elim
theorem s_getfN {own nm : String} {cc : ByteArray} {nL : Nat} {ret : Option FieldType} {hh : List (Nat × Nat × Nat × Nat)} {pc n : Nat} {cn f ix : Nat} {ref C host : String} {T : u_T} {N : Nat} (hc : aCl[cn]? = some (C, T, N)) (hcn : cn < 1000) (hf : f < N) (hin : ∀ w ∈ u_ws C T N, w ∈ lw_all) (hlink : Cond.fieldLinkNest own ix ref (T f).2.1 (T f).2.2.1 host ∈ lw_tbl) (hsame : (T f).1 = ref) (hn : pc + 3 = n) (hd : decode cc pc = .ok (.getfield ix, 3)) : Snd own nm cc nL ret hh pc (fun _ => i_getf cn f n) := by
  intro σ D dA A p l e R s m args below meth c d mc ms C0 P M hnam9 hC ls st h k sl q
  unfold i_getf at q
  subst hn
  split at q
  · next a r =>
    split at q
    · next c2 fs ha =>
      obtain ⟨hc2, q⟩ := q
      split at q
      · next v hv =>
        intro H locs lsA hR hS hL
        have hP := hR.obj ha
        rw [md_ro hcn hc2] at hP
        exact va_getN M.1 M.2.1 M.2.2.2.2.1 hin M.2.2.2.1 M.2.2.2.2.2.2.2.2.2.2.1.1 hP 0 rfl hc f hf (va_Nw.use rfl (M.2.2.2.2.2.2.2.2.2.2.1.2.1.1 _ _ _ _ _ _ hlink)) (fun x hx => by rw [← hsame]; exact hx) hv hd (q H locs lsA hR hS hL)
      · exact q.elim
    · exact q.elim
  · exact q.elim
theorem s_putf {own nm : String} {cc : ByteArray} {nL : Nat} {ret : Option FieldType} {hh : List (Nat × Nat × Nat × Nat)} {pc n : Nat} {cn f ix : Nat} {ref C : String} {T : u_T} {ty0 : Nat → FieldType} {ty : FieldType} {N : Nat} (hty : ∀ k, k < N → parseFieldDescriptor (T k).2.2.1 = some (ty0 k)) (hnm : ∀ a, a < N → ∀ b, b < N → a ≠ b → (T a).2.1 ≠ (T b).2.1) (hc : aCl[cn]? = some (C, T, N)) (hcn : cn < 1000) (hf : f < N) (hin : ∀ w ∈ u_ws C T N, w ∈ lw_all) (hlink : Cond.fieldLink own ix ref (T f).2.1 (T f).2.2.1 ∈ lw_all) (hsm : (T f).1 = ref ∨ Cond.sameField ref (T f).1 (T f).2.1 (T f).2.2.1 ∈ lw_all) (hfin : (T f).2.2.2 = false) (hd9 : parseFieldDescriptor (T f).2.2.1 = some ty) (hn : pc + 3 = n) (hd : decode cc pc = .ok (.putfield ix, 3)) : Snd own nm cc nL ret hh pc (fun _ => i_putf cn f ty n) := by
  intro σ D dA A p l e R s m args below meth c d mc ms C0 P M hnam9 hC ls st h k sl q
  unfold i_putf at q
  subst hn
  split at q
  · next v a r =>
    split at q
    · next c2 fs ha =>
      obtain ⟨rfl, hl, ⟨hn9, hfit⟩, q⟩ := q
      intro H locs lsA hR hS hL
      have hP := hR.obj ha
      have hcm : c2 % 1000 = c2 := Nat.mod_eq_of_lt hcn
      rw [hcm] at hP
      have hA := (hR.2 a _ ha).2 hcn
      have hx := M.1
      have hb := M.2.1
      have hown := M.2.2.2.1
      have hts := M.2.2.2.2.1
      have hK := M.2.2.2.2.2.2.2.2.2.2.1.1
      have hap := va_apart (own := own) hts hin ty0 hty hnm hK hc
      obtain ⟨r9, h1, cell, q1, q2, q3, q4⟩ := hP 0 _ rfl
      have hr : r9 = (C, T, N) := Option.some.inj (h1.symm.trans hc)
      subst hr
      obtain ⟨hSl, hfc, kC, hkC, hkind⟩ := hK.1 c2 _ hc
      obtain ⟨cf, kf, fi, fd, hi, hsl⟩ := hSl f hf
      have hlay := hts _ (hin _ (u_in_lay hf))
      unfold u_lay at hlay
      rw [if_neg (by rw [hfin]; decide)] at hlay
      have hst := (u_facts hfc hkC (u_lays hts hin hf) hi).1
      have hsame : ∀ x, s.fieldFound? (T f).1 (T f).2.1 (T f).2.2.1 = some x → s.fieldFound? ref (T f).2.1 (T f).2.2.1 = some x := fun x hx => by
        rcases hsm with z | z
        · rw [← z]; exact hx
        · exact u_same (hts _ z) x hx
      have h6 := u_store hfc hkC hkind hlay hi hd9 hn9 hfit
      refine W.putK hx hb (f := fd) ⟨hown, hts _ hlink, ⟨_, _, _, hsame _ hi⟩, hst⟩ (by rw [q2]; exact h6) q1 q3 (by rw [hsl]; exact k2_hasslot (q4 f hf)) rfl rfl hd fun H1 e1 e2 e3 => ?_
      rw [hsl] at e1 ⊢
      refine q H1 _ lsA (hR.put e2 e3 ?_ (fun _ => hA)) (hS.put e2 e3 hA) hL
      show va_at D aCl (a, .inr (c2 % 1000, fs.set f v)) H1
      rw [hcm]
      exact ⟨_, hc, t_OB.to (V := updV (vp_V fs) f v) ⟨_, e1, q2, q3, t_set q4 hap hf v⟩ (fun j _ => vp_updV_set hl v j)⟩
    · exact q.elim
  · exact q.elim
theorem s_putfN {own nm : String} {cc : ByteArray} {nL : Nat} {ret : Option FieldType} {hh : List (Nat × Nat × Nat × Nat)} {pc n : Nat} {cn f ix : Nat} {ref C host : String} {T : u_T} {ty0 : Nat → FieldType} {ty : FieldType} {N : Nat} (hty : ∀ k, k < N → parseFieldDescriptor (T k).2.2.1 = some (ty0 k)) (hnm : ∀ a, a < N → ∀ b, b < N → a ≠ b → (T a).2.1 ≠ (T b).2.1) (hc : aCl[cn]? = some (C, T, N)) (hcn : cn < 1000) (hf : f < N) (hin : ∀ w ∈ u_ws C T N, w ∈ lw_all) (hlink : Cond.fieldLinkNest own ix ref (T f).2.1 (T f).2.2.1 host ∈ lw_tbl) (hsm : (T f).1 = ref) (hfin : (T f).2.2.2 = false) (hd9 : parseFieldDescriptor (T f).2.2.1 = some ty) (hn : pc + 3 = n) (hd : decode cc pc = .ok (.putfield ix, 3)) : Snd own nm cc nL ret hh pc (fun _ => i_putf cn f ty n) := by
  intro σ D dA A p l e R s m args below meth c d mc ms C0 P M hnam9 hC ls st h k sl q
  unfold i_putf at q
  subst hn
  split at q
  · next v a r =>
    split at q
    · next c2 fs ha =>
      obtain ⟨rfl, hl, ⟨hn9, hfit⟩, q⟩ := q
      intro H locs lsA hR hS hL
      have hP := hR.obj ha
      have hcm : c2 % 1000 = c2 := Nat.mod_eq_of_lt hcn
      rw [hcm] at hP
      have hA := (hR.2 a _ ha).2 hcn
      have hx := M.1
      have hb := M.2.1
      have hown := M.2.2.2.1
      have hts := M.2.2.2.2.1
      have hK := M.2.2.2.2.2.2.2.2.2.2.1.1
      have hap := va_apart (own := own) hts hin ty0 hty hnm hK hc
      obtain ⟨r9, h1, cell, q1, q2, q3, q4⟩ := hP 0 _ rfl
      have hr : r9 = (C, T, N) := Option.some.inj (h1.symm.trans hc)
      subst hr
      obtain ⟨hSl, hfc, kC, hkC, hkind⟩ := hK.1 c2 _ hc
      obtain ⟨cf, kf, fi, fd, hi, hsl⟩ := hSl f hf
      have hlay := hts _ (hin _ (u_in_lay hf))
      unfold u_lay at hlay
      rw [if_neg (by rw [hfin]; decide)] at hlay
      have hst := (u_facts hfc hkC (u_lays hts hin hf) hi).1
      have h6 := u_store hfc hkC hkind hlay hi hd9 hn9 hfit
      refine va_WputK hx hb (f := fd) hown (va_Nw.use rfl (M.2.2.2.2.2.2.2.2.2.2.1.2.1.1 _ _ _ _ _ _ hlink)) (by rw [← hsm]; exact hi) hst (by rw [q2]; exact h6) q1 q3 (by rw [hsl]; exact k2_hasslot (q4 f hf)) rfl rfl hd fun H1 e1 e2 e3 => ?_
      rw [hsl] at e1 ⊢
      refine q H1 _ lsA (hR.put e2 e3 ?_ (fun _ => hA)) (hS.put e2 e3 hA) hL
      show va_at D aCl (a, .inr (c2 % 1000, fs.set f v)) H1
      rw [hcm]
      exact ⟨_, hc, t_OB.to (V := updV (vp_V fs) f v) ⟨_, e1, q2, q3, t_set q4 hap hf v⟩ (fun j _ => vp_updV_set hl v j)⟩
    · exact q.elim
  · exact q.elim
theorem s_putfF {own nm : String} {cc : ByteArray} {nL : Nat} {ret : Option FieldType} {hh : List (Nat × Nat × Nat × Nat)} {pc n : Nat} {cn f ix : Nat} {ref C : String} {T : u_T} {ty0 : Nat → FieldType} {ty : FieldType} {N : Nat} (hty : ∀ k, k < N → parseFieldDescriptor (T k).2.2.1 = some (ty0 k)) (hnm : ∀ a, a < N → ∀ b, b < N → a ≠ b → (T a).2.1 ≠ (T b).2.1) (hc : aCl[cn]? = some (C, T, N)) (hcn : cn < 1000) (hf : f < N) (hin : ∀ w ∈ u_ws C T N, w ∈ lw_all) (hlink : Cond.fieldLink own ix ref (T f).2.1 (T f).2.2.1 ∈ lw_all) (hsm : (T f).1 = ref ∨ Cond.sameField ref (T f).1 (T f).2.1 (T f).2.2.1 ∈ lw_all) (hfin : (T f).2.2.2 = true) (hd9 : parseFieldDescriptor (T f).2.2.1 = some ty) (hnmI : nm = "<init>") (hdecl : (T f).1 = own) (hn : pc + 3 = n) (hd : decode cc pc = .ok (.putfield ix, 3)) : Snd own nm cc nL ret hh pc (fun _ => i_putf cn f ty n) := by
  intro σ D dA A p l e R s m args below meth c d mc ms C0 P M hnam9 hC ls st h k sl q
  unfold i_putf at q
  subst hn
  split at q
  · next v a r =>
    split at q
    · next c2 fs ha =>
      obtain ⟨rfl, hl, ⟨hn9, hfit⟩, q⟩ := q
      intro H locs lsA hR hS hL
      have hP := hR.obj ha
      have hcm : c2 % 1000 = c2 := Nat.mod_eq_of_lt hcn
      rw [hcm] at hP
      have hA := (hR.2 a _ ha).2 hcn
      have hx := M.1
      have hb := M.2.1
      have hown := M.2.2.2.1
      have hts := M.2.2.2.2.1
      have hK := M.2.2.2.2.2.2.2.2.2.2.1.1
      have hap := va_apart (own := own) hts hin ty0 hty hnm hK hc
      obtain ⟨r9, h1, cell, q1, q2, q3, q4⟩ := hP 0 _ rfl
      have hr : r9 = (C, T, N) := Option.some.inj (h1.symm.trans hc)
      subst hr
      obtain ⟨hSl, hfc, kC, hkC, hkind⟩ := hK.1 c2 _ hc
      obtain ⟨cf, kf, fi, fd, hi, hsl⟩ := hSl f hf
      have hlay := hts _ (hin _ (u_in_lay hf))
      unfold u_lay at hlay
      rw [if_pos hfin] at hlay
      have hst := (u_facts hfc hkC (u_lays hts hin hf) hi).1
      have hsame : ∀ x, s.fieldFound? (T f).1 (T f).2.1 (T f).2.2.1 = some x → s.fieldFound? ref (T f).2.1 (T f).2.2.1 = some x := fun x hx => by
        rcases hsm with z | z
        · rw [← z]; exact hx
        · exact u_same (hts _ z) x hx
      have hcf : m.cls = cf := by
        obtain ⟨_, _, c', _, _, _, -, -, hf', -, -, -, hown2, -⟩ := Cond.laysFinal_spec hlay
        have e1 : c' = cf := by have := hi.symm.trans hf'; simp at this; exact this.1.symm
        rw [hdecl] at hown2
        rw [← e1]; exact Option.some.inj (hown.symm.trans hown2)
      have h6 := u_fits hfc hkC hkind (Or.inr hlay) hi hd9 hn9 hfit
      refine W.putFinK hx hb hown (hts _ hlink) (hsame _ hi) hst hcf (hnam9.trans hnmI) (by rw [q2]; exact h6) q1 q3 (by rw [hsl]; exact k2_hasslot (q4 f hf)) rfl rfl hd fun H1 e1 e2 e3 => ?_
      rw [hsl] at e1 ⊢
      refine q H1 _ lsA (hR.put e2 e3 ?_ (fun _ => hA)) (hS.put e2 e3 hA) hL
      show va_at D aCl (a, .inr (c2 % 1000, fs.set f v)) H1
      rw [hcm]
      exact ⟨_, hc, t_OB.to (V := updV (vp_V fs) f v) ⟨_, e1, q2, q3, t_set q4 hap hf v⟩ (fun j _ => vp_updV_set hl v j)⟩
    · exact q.elim
  · exact q.elim
theorem s_gets {own nm : String} {cc : ByteArray} {nL : Nat} {ret : Option FieldType} {hh : List (Nat × Nat × Nat × Nat)} {pc n : Nat} {ix j : Nat} {C nm0 ds0 : String} (hlink : Cond.fieldLink own ix C nm0 ds0 ∈ lw_all) (hj : (C, nm0, ds0, j) ∈ aStL) (hn : pc + 3 = n) (hd : decode cc pc = .ok (.getstatic ix, 3)) : Snd own nm cc nL ret hh pc (fun σ => i_push (σ j) n) := by
  intro σ D dA A p l e R s m args below meth c d mc ms C0 P M hnam9 hC ls st h k sl q
  unfold i_push at q
  subst hn
  intro H locs lsA hR hS hL
  exact va_gets M.1 M.2.1 (M.2.2.2.2.2.2.2.2.2.2.1.2.2.1.1 _ hj) hS M.2.2.2.1 (M.2.2.2.2.1 _ hlink) (fun x hx => hx) hd (q H locs lsA hR hS hL)
theorem s_getsC {own nm : String} {cc : ByteArray} {nL : Nat} {ret : Option FieldType} {hh : List (Nat × Nat × Nat × Nat)} {pc n : Nat} {ix : Nat} {v : Int32} {C nm0 ds0 : String} (hlink : Cond.fieldLink own ix C nm0 ds0 ∈ lw_all) (hj : (C, nm0, ds0, v) ∈ aStC) (hn : pc + 3 = n) (hd : decode cc pc = .ok (.getstatic ix, 3)) : Snd own nm cc nL ret hh pc (fun _ => i_push (.int v) n) := by
  intro σ D dA A p l e R s m args below meth c d mc ms C0 P M hnam9 hC ls st h k sl q
  unfold i_push at q
  subst hn
  intro H locs lsA hR hS hL
  exact va_gets M.1 M.2.1 (M.2.2.2.2.2.2.2.2.2.2.1.2.2.1.2.1 _ hj) hS M.2.2.2.1 (M.2.2.2.2.1 _ hlink) (fun x hx => hx) hd (q H locs lsA hR hS hL)
theorem s_ldcS {own nm : String} {cc : ByteArray} {nL : Nat} {ret : Option FieldType} {hh : List (Nat × Nat × Nat × Nat)} {pc n : Nat} {ix j : Nat} {tx : String} (hj : (own, ix, tx, j) ∈ aStrL) (hn : pc + 2 = n) (hd : decode cc pc = .ok (.ldc ix, 2)) : Snd own nm cc nL ret hh pc (fun σ => i_push (σ j) n) := by
  intro σ D dA A p l e R s m args below meth c d mc ms C0 P M hnam9 hC ls st h k sl q
  unfold i_push at q
  subst hn
  intro H locs lsA hR hS hL
  obtain ⟨a, e1, e2⟩ := M.2.2.2.2.2.2.2.2.2.2.1.2.2.2.1.1 _ hj
  rw [e1] at q
  exact va_ldcS M.1 M.2.1 M.2.2.2.1 e2 hd (q H locs lsA hR hS hL)
theorem s_ldcM {own nm : String} {cc : ByteArray} {nL : Nat} {ret : Option FieldType} {hh : List (Nat × Nat × Nat × Nat)} {pc n : Nat} {ix : Nat} (hlink : Cond.classLink own ix "[Ljava/lang/Object;" ∈ lw_all) (hn : pc + 2 = n) (hd : decode cc pc = .ok (.ldc ix, 2)) : Snd own nm cc nL ret hh pc (fun σ => i_push (σ 90) n) := by
  intro σ D dA A p l e R s m args below meth c d mc ms C0 P M hnam9 hC ls st h k sl q
  unfold i_push at q
  subst hn
  intro H locs lsA hR hS hL
  obtain ⟨a, e1, e2⟩ := M.2.2.2.2.2.2.2.2.2.2.1.2.2.2.1.2.1
  rw [e1] at q
  exact va_ldcM M.1 M.2.1 M.2.2.2.1 (M.2.2.2.2.1 _ hlink) e2 hd (q H locs lsA hR hS hL)
theorem aTyL_at {dA : Nat → ClassId} {D : va_G} {U : State} (hK : va_K D aCl (aTyL dA) U) {t : Nat} {ty : FieldType} (h : (aTyL (fun i => i))[t]? = some (t, ty)) : (aTyL dA)[t]? = some (dA t, ty) := by
  have e : aTyL dA = (aTyL (fun i => i)).map (fun q => (dA q.1, q.2)) := rfl
  rw [e, List.getElem?_map, h]
  rfl
theorem s_alen {own nm : String} {cc : ByteArray} {nL : Nat} {ret : Option FieldType} {hh : List (Nat × Nat × Nat × Nat)} {pc n : Nat} (hn : pc + 1 = n) (hd : decode cc pc = .ok (.arraylength, 1)) : Snd own nm cc nL ret hh pc (fun _ => i_alen n) := by
  intro σ D dA A p l e R s m args below meth c d mc ms C0 P M hnam9 hC ls st h k sl q
  unfold i_alen at q
  subst hn
  split at q
  · next a r =>
    split at q
    · next t x ha =>
      obtain ⟨ht, q⟩ := q
      intro H locs lsA hR hS hL
      have hK := M.2.2.2.2.2.2.2.2.2.2.1.1
      obtain ⟨ty, hty⟩ : ∃ ty, (aTyL (fun i => i))[t % 1000]? = some (t % 1000, ty) := by
        rcases (show t % 1000 = 0 ∨ t % 1000 = 1 ∨ t % 1000 = 2 ∨ t % 1000 = 3 ∨ t % 1000 = 4 ∨ t % 1000 = 5 ∨ t % 1000 = 6 ∨ t % 1000 = 7 ∨ t % 1000 = 8 ∨ t % 1000 = 9 by omega) with z | z | z | z | z | z | z | z | z | z <;> rw [z] <;> exact ⟨_, rfl⟩
      exact va_alen (t0 := t % 1000) M.1 M.2.1 hK (hR.arr ha) 0 rfl (aTyL_at hK hty) rfl hd (q H locs lsA hR hS hL)
    · exact q.elim
  · exact q.elim
theorem s_iald {own nm : String} {cc : ByteArray} {nL : Nat} {ret : Option FieldType} {hh : List (Nat × Nat × Nat × Nat)} {pc n : Nat} (hn : pc + 1 = n) (hd : decode cc pc = .ok (.iaload, 1)) : Snd own nm cc nL ret hh pc (fun _ => i_iald 0 n) := by
  intro σ D dA A p l e R s m args below meth c d mc ms C0 P M hnam9 hC ls st h k sl q
  unfold i_iald at q
  subst hn
  split at q
  · next i a r =>
    split at q
    · next t m9 f ha =>
      obtain ⟨ht, hv, q⟩ := q
      intro H locs lsA hR hS hL
      have hK := M.2.2.2.2.2.2.2.2.2.2.1.1
      have hP := hR.arr ha
      rw [md_ro (by decide) ht] at hP
      exact va_iald (t0 := 0) M.1 M.2.1 hK hP 0 rfl rfl hv hd (q H locs lsA hR hS hL)
    · exact q.elim
  · exact q.elim
theorem s_zald {own nm : String} {cc : ByteArray} {nL : Nat} {ret : Option FieldType} {hh : List (Nat × Nat × Nat × Nat)} {pc n : Nat} (hn : pc + 1 = n) (hd : decode cc pc = .ok (.baload, 1)) : Snd own nm cc nL ret hh pc (fun _ => i_iald 1 n) := by
  intro σ D dA A p l e R s m args below meth c d mc ms C0 P M hnam9 hC ls st h k sl q
  unfold i_iald at q
  subst hn
  split at q
  · next i a r =>
    split at q
    · next t m9 f ha =>
      obtain ⟨ht, hv, q⟩ := q
      intro H locs lsA hR hS hL
      have hK := M.2.2.2.2.2.2.2.2.2.2.1.1
      have hP := hR.arr ha
      rw [md_ro (by decide) ht] at hP
      exact va_zald (t0 := 1) M.1 M.2.1 hK hP 0 rfl rfl hv hd (q H locs lsA hR hS hL)
    · exact q.elim
  · exact q.elim
theorem s_bald {own nm : String} {cc : ByteArray} {nL : Nat} {ret : Option FieldType} {hh : List (Nat × Nat × Nat × Nat)} {pc n : Nat} (hn : pc + 1 = n) (hd : decode cc pc = .ok (.baload, 1)) : Snd own nm cc nL ret hh pc (fun _ => i_iald 3 n) := by
  intro σ D dA A p l e R s m args below meth c d mc ms C0 P M hnam9 hC ls st h k sl q
  unfold i_iald at q
  subst hn
  split at q
  · next i a r =>
    split at q
    · next t m9 f ha =>
      obtain ⟨ht, hv, q⟩ := q
      intro H locs lsA hR hS hL
      have hK := M.2.2.2.2.2.2.2.2.2.2.1.1
      have hP := hR.arr ha
      rw [md_ro (by decide) ht] at hP
      exact va_bald (t0 := 3) M.1 M.2.1 hK hP 0 rfl rfl hv hd (q H locs lsA hR hS hL)
    · exact q.elim
  · exact q.elim
theorem s_lald {own nm : String} {cc : ByteArray} {nL : Nat} {ret : Option FieldType} {hh : List (Nat × Nat × Nat × Nat)} {pc n : Nat} (hn : pc + 1 = n) (hd : decode cc pc = .ok (.laload, 1)) : Snd own nm cc nL ret hh pc (fun _ => i_lald 2 n) := by
  intro σ D dA A p l e R s m args below meth c d mc ms C0 P M hnam9 hC ls st h k sl q
  unfold i_lald at q
  subst hn
  split at q
  · next i a r =>
    split at q
    · next t m9 f ha =>
      obtain ⟨ht, hv, q⟩ := q
      intro H locs lsA hR hS hL
      have hK := M.2.2.2.2.2.2.2.2.2.2.1.1
      have hP := hR.arr ha
      rw [md_ro (by decide) ht] at hP
      exact va_lald (t0 := 2) M.1 M.2.1 hK hP 0 rfl rfl hv hd (q H locs lsA hR hS hL)
    · exact q.elim
  · exact q.elim
theorem s_aald {own nm : String} {cc : ByteArray} {nL : Nat} {ret : Option FieldType} {hh : List (Nat × Nat × Nat × Nat)} {pc n : Nat} (hn : pc + 1 = n) (hd : decode cc pc = .ok (.aaload, 1)) : Snd own nm cc nL ret hh pc (fun _ => i_aald [4, 5, 6, 7, 1004, 1008, 1009] n) := by
  intro σ D dA A p l e R s m args below meth c d mc ms C0 P M hnam9 hC ls st h k sl q
  unfold i_aald at q
  subst hn
  split at q
  · next i a r =>
    split at q
    · next t m9 f ha =>
      obtain ⟨ht, hv, q⟩ := q
      intro H locs lsA hR hS hL
      have hK := M.2.2.2.2.2.2.2.2.2.2.1.1
      have hP := hR.arr ha
      have hlt : i.toNatClampNeg < m9 := Nat.not_le.mp fun q => hv (Or.inr q)
      have key : ∀ (k9 : Nat) (ty : FieldType), (aTyL dA)[k9]? = some (dA k9, ty) → ty.isReference = true → t % 1000 = k9 → W p l e R s m args below meth c H locs k sl (vx_MQ below (aQc D dA A P) (aXC D dA A P) args s mc ms A) (F0 m pc lsA (.int i :: .ref a :: r)) := by
        intro k9 ty h1 h2 h3
        rw [h3] at hP
        exact W.aald (v := va_rf (f i.toNatClampNeg)) (ty := ty) M.1 M.2.1 (hP 0 _ rfl) ((hK.2 k9 _ h1).1 m9 (fun j => va_rf (f j))) h2 (fun q => by cases q) (by show ¬ (i < 0 ∨ (arrV _ _ _).slots.size ≤ _); rw [arrV_size]; exact hv) (by show (arrV _ _ _).slots[_]? = _; rw [arrV_read _ _ hlt]) rfl rfl hd (q H locs lsA hR hS hL)
      simp only [List.mem_cons, List.not_mem_nil, or_false] at ht
      rcases ht with z | z | z | z | z | z | z <;> subst z
      · exact key 4 _ rfl rfl rfl
      · exact key 5 _ rfl rfl rfl
      · exact key 6 _ rfl rfl rfl
      · exact key 7 _ rfl rfl rfl
      · exact key 4 _ rfl rfl rfl
      · exact key 8 _ rfl rfl rfl
      · exact key 9 _ rfl rfl rfl
    · exact q.elim
  · exact q.elim
theorem s_iast {own nm : String} {cc : ByteArray} {nL : Nat} {ret : Option FieldType} {hh : List (Nat × Nat × Nat × Nat)} {pc n : Nat} (hn : pc + 1 = n) (hd : decode cc pc = .ok (.iastore, 1)) : Snd own nm cc nL ret hh pc (fun _ => i_iast 0 .int n) := by
  intro σ D dA A p l e R s m args below meth c d mc ms C0 P M hnam9 hC ls st h k sl q
  unfold i_iast at q
  subst hn
  split at q
  · next v i a r =>
    split at q
    · next t m9 f ha =>
      obtain ⟨rfl, hv, ⟨hn9, hfit⟩, q⟩ := q
      intro H locs lsA hR hS hL
      have hK := M.2.2.2.2.2.2.2.2.2.2.1.1
      have hP := hR.arr ha
      have hA := (hR.2 a _ ha).2 (show 0 < 1000 by decide)
      refine W.iast M.1 M.2.1 (hP 0 _ rfl) ((hK.2 0 _ rfl).1 m9 (fun j => .int (f j))) (fun q => by cases q) (by show ¬ (i < 0 ∨ (arrV _ _ _).slots.size ≤ _); rw [arrV_size]; exact hv) rfl rfl hd fun H1 e z oq => ?_
      refine q H1 _ lsA (hR.put z oq ?_ (fun _ => hA)) (hS.put z oq hA) hL
      show H1[a]? = some (vp_cell (dA 0) (m9, .inl (upd f i.toNatClampNeg v)))
      rw [e]
      skip
      show some ((vp_cell (dA 0) (m9, .inl f)).setSlot _ _) = _
      rw [vp_cell_i, vp_cell_i, arrV_store]
      congr 2
      funext j
      by_cases hj : j = i.toNatClampNeg
      · subst hj
        simp [updV, upd, vp_updL]
      · simp [updV, upd, vp_updL, hj]
    · exact q.elim
  · exact q.elim
theorem s_zast {own nm : String} {cc : ByteArray} {nL : Nat} {ret : Option FieldType} {hh : List (Nat × Nat × Nat × Nat)} {pc n : Nat} (hn : pc + 1 = n) (hd : decode cc pc = .ok (.bastore, 1)) : Snd own nm cc nL ret hh pc (fun _ => i_iast 1 .boolean n) := by
  intro σ D dA A p l e R s m args below meth c d mc ms C0 P M hnam9 hC ls st h k sl q
  unfold i_iast at q
  subst hn
  split at q
  · next v i a r =>
    split at q
    · next t m9 f ha =>
      obtain ⟨rfl, hv, ⟨hn9, hfit⟩, q⟩ := q
      intro H locs lsA hR hS hL
      have hK := M.2.2.2.2.2.2.2.2.2.2.1.1
      have hP := hR.arr ha
      have hA := (hR.2 a _ ha).2 (show 1 < 1000 by decide)
      refine W.zast M.1 M.2.1 (hP 0 _ rfl) ((hK.2 1 _ rfl).1 m9 (fun j => .int (f j))) (fun q => by cases q) (by show ¬ (i < 0 ∨ (arrV _ _ _).slots.size ≤ _); rw [arrV_size]; exact hv) rfl rfl hd fun H1 e z oq => ?_
      refine q H1 _ lsA (hR.put z oq ?_ (fun _ => hA)) (hS.put z oq hA) hL
      show H1[a]? = some (vp_cell (dA 1) (m9, .inl (upd f i.toNatClampNeg v)))
      rw [e]
      rw [hn9]
      show some ((vp_cell (dA 1) (m9, .inl f)).setSlot _ _) = _
      rw [vp_cell_i, vp_cell_i, arrV_store]
      congr 2
      funext j
      by_cases hj : j = i.toNatClampNeg
      · subst hj
        simp [updV, upd, vp_updL]
      · simp [updV, upd, vp_updL, hj]
    · exact q.elim
  · exact q.elim
theorem s_last {own nm : String} {cc : ByteArray} {nL : Nat} {ret : Option FieldType} {hh : List (Nat × Nat × Nat × Nat)} {pc n : Nat} (hn : pc + 1 = n) (hd : decode cc pc = .ok (.lastore, 1)) : Snd own nm cc nL ret hh pc (fun _ => i_last 2 n) := by
  intro σ D dA A p l e R s m args below meth c d mc ms C0 P M hnam9 hC ls st h k sl q
  unfold i_last at q
  subst hn
  split at q
  · next v i a r =>
    split at q
    · next t m9 f ha =>
      obtain ⟨rfl, hv, q⟩ := q
      intro H locs lsA hR hS hL
      have hK := M.2.2.2.2.2.2.2.2.2.2.1.1
      have hP := hR.arr ha
      have hA := (hR.2 a _ ha).2 (show 2 < 1000 by decide)
      refine W.last M.1 M.2.1 (hP 0 _ rfl) ((hK.2 2 _ rfl).1 m9 (fun j => .long (f j))) (fun q => by cases q) (by show ¬ (i < 0 ∨ (arrV _ _ _).slots.size ≤ _); rw [arrV_size]; exact hv) rfl rfl hd fun H1 e z oq => ?_
      refine q H1 _ lsA (hR.put z oq ?_ (fun _ => hA)) (hS.put z oq hA) hL
      show H1[a]? = some (vp_cell (dA 2) (m9, .inr (.inl (vp_updL f i.toNatClampNeg v))))
      rw [e]
      skip
      show some ((vp_cell (dA 2) (m9, .inr (.inl f))).setSlot _ _) = _
      rw [vp_cell_l, vp_cell_l, arrV_store]
      congr 2
      funext j
      by_cases hj : j = i.toNatClampNeg
      · subst hj
        simp [updV, upd, vp_updL]
      · simp [updV, upd, vp_updL, hj]
    · exact q.elim
  · exact q.elim
/-- the names of the classes -/
def aNm (c : Nat) : String := match aCl[c]? with
  | some r => r.1
  | none => ""
theorem aNm_of {c : Nat} {r : vw_C} (h : aCl[c]? = some r) : aNm c = r.1 := by
  unfold aNm
  rw [h]
/-- an object that is known may stand in an array of objects -/
theorem aAsg {D : va_G} {dA : Nat → ClassId} {U : State} (hK : va_K D aCl (aTyL dA) U) (hT : aTB U) {E : String} {c : Nat} {r : vw_C} (hc : aCl[c]? = some r) (hE : E = r.1 ∨ Cond.castable r.1 E ∈ lw_tbl) : ∀ comp : ClassId, U.vm.findClass E = some comp → U.vm.assignable (D.1 c) comp = true := by
  intro comp h1
  rcases hE with rfl | h
  · have h3 := (hK.1 c r hc).2
    cases h1.symm.trans h3.1
    exact va_assign h3
  · have h2 : (Cond.castable r.1 E).before #[] U = true := hT.2.2.1 _ _ h
    obtain ⟨c3, c4, hc3, hc4, hasg⟩ := Cond.castable_spec h2
    cases hc4.symm.trans h1
    have h3 := (hK.1 c r hc).2
    cases hc3.symm.trans h3.1
    exact hasg

theorem aObj_all : ∀ c : Nat, c < 25 → ∃ r : vw_C, aCl[c]? = some r ∧ Cond.castable r.1 "java/lang/Object" ∈ lw_tbl := by
  intro c hc
  match c, hc with
  | 0, _ => exact ⟨_, rfl, q3298⟩
  | 1, _ => exact ⟨_, rfl, q3312⟩
  | 2, _ => exact ⟨_, rfl, q3317⟩
  | 3, _ => exact ⟨_, rfl, q3300⟩
  | 4, _ => exact ⟨_, rfl, q3305⟩
  | 5, _ => exact ⟨_, rfl, q3299⟩
  | 6, _ => exact ⟨_, rfl, q3314⟩
  | 7, _ => exact ⟨_, rfl, q3315⟩
  | 8, _ => exact ⟨_, rfl, q3318⟩
  | 9, _ => exact ⟨_, rfl, q3322⟩
  | 10, _ => exact ⟨_, rfl, q3303⟩
  | 11, _ => exact ⟨_, rfl, q3296⟩
  | 12, _ => exact ⟨_, rfl, q3319⟩
  | 13, _ => exact ⟨_, rfl, q3320⟩
  | 14, _ => exact ⟨_, rfl, q3321⟩
  | 15, _ => exact ⟨_, rfl, q3323⟩
  | 16, _ => exact ⟨_, rfl, q3325⟩
  | 17, _ => exact ⟨_, rfl, q3297⟩
  | 18, _ => exact ⟨_, rfl, q3295⟩
  | 19, _ => exact ⟨_, rfl, q3308⟩
  | 20, _ => exact ⟨_, rfl, q3309⟩
  | 21, _ => exact ⟨_, rfl, q3310⟩
  | 22, _ => exact ⟨_, rfl, q3294⟩
  | 23, _ => exact ⟨_, rfl, q3324⟩
  | 24, _ => exact ⟨_, rfl, q3316⟩
  | n + 25, h => exact absurd h (by omega)
theorem s_aast {own nm : String} {cc : ByteArray} {nL : Nat} {ret : Option FieldType} {hh : List (Nat × Nat × Nat × Nat)} {pc n : Nat} (hn : pc + 1 = n) (hd : decode cc pc = .ok (.aastore, 1)) : Snd own nm cc nL ret hh pc (fun _ => i_aast n) := by
  intro σ D dA A p l e R s m args below meth c d mc ms C0 P M hnam9 hC ls st h k sl q
  unfold i_aast at q
  subst hn
  have hK := M.2.2.2.2.2.2.2.2.2.2.1.1
  have hT := M.2.2.2.2.2.2.2.2.2.2.1.2.1
  split at q
  · next v i a r =>
    split at q
    · next t m9 f c9 fs9 ha hv9 =>
      obtain ⟨hst, hv, q⟩ := q
      intro H locs lsA hR hS hL
      have hP := hR.arr ha
      have hlt : i.toNatClampNeg < m9 := Nat.not_le.mp fun q => hv (Or.inr q)
      have h0 : ¬ i < 0 := fun q => hv (Or.inl q)
      have key : ∀ (k9 : Nat) (E : String) (r9 : vw_C), (aTyL dA)[k9]? = some (dA k9, .object E) → t = k9 → k9 < 1000 → aCl[c9 % 1000]? = some r9 → (E = r9.1 ∨ Cond.castable r9.1 E ∈ lw_tbl) → W p l e R s m args below meth c H locs k sl (vx_MQ below (aQc D dA A P) (aXC D dA A P) args s mc ms A) (F0 m pc lsA (.ref v :: .int i :: .ref a :: r)) := by
        intro k9 E r9 h1 h2 h3 h4 h5
        subst h2
        have hA := (hR.2 a _ ha).2 h3
        rw [Nat.mod_eq_of_lt h3] at hP
        obtain ⟨r8, h8, cellV, g1, g2, g3, -⟩ := (hR.obj hv9) 0 _ rfl
        cases h4.symm.trans h8
        obtain ⟨kA, comp, k1, k2, k3, -⟩ := (hK.2 t _ h1).2
        obtain ⟨kC, hkC, -⟩ := ((hK.1 _ _ h4).2).2
        obtain ⟨kE, hkE, -⟩ := Vm.findClass_spec k3
        refine W.aast M.1 M.2.1 (hP 0 _ rfl) (fun q h => by cases h) (fun h => by cases h) k1 k2 rfl hkE ⟨h0, by show _ < (arrV _ _ _).slots.size; rw [arrV_size]; exact hlt⟩ g1 (fun q h => by rw [g3] at h; cases h) (by rw [g2]; exact hkC) (by rw [g2]; exact aAsg hK hT h4 h5 _ k3) rfl rfl hd fun H1 e z oq => ?_
        refine q H1 _ lsA (hR.put z oq ?_ (fun _ => hA)) (hS.put z oq hA) hL
        show H1[a]? = some (vp_cell (dA (t % 1000)) (m9, .inr (.inr (.inr (.inr (va_up f i.toNatClampNeg (some v)))))))
        rw [Nat.mod_eq_of_lt h3, e]
        show some ((vp_cell (dA t) (m9, .inr (.inr (.inr (.inr f))))).setSlot _ _) = _
        rw [vp_cell_q, vp_cell_q, arrV_store]
        congr 2
        funext j
        by_cases hj : j = i.toNatClampNeg
        · subst hj
          simp [updV, va_up, va_rf]
        · simp [updV, va_up, hj]
      unfold aStOK at hst
      rcases hst with ⟨e1, e2⟩ | ⟨e1, e2⟩ | ⟨e1, e2⟩
      · obtain ⟨r9, h9, h8⟩ := aObj_all (c9 % 1000) e2
        exact key 4 _ r9 rfl e1 (by decide) h9 (Or.inr h8)
      · subst e2
        exact key 6 _ _ rfl e1 (by decide) rfl (Or.inl rfl)
      · subst e2
        exact key 7 _ _ rfl e1 (by decide) rfl (Or.inl rfl)
    · exact q.elim
  · next i a r =>
    split at q
    · next t m9 f ha =>
      obtain ⟨hst, hv, q⟩ := q
      intro H locs lsA hR hS hL
      have hP := hR.arr ha
      have key : ∀ (k9 : Nat) (E : String), (aTyL dA)[k9]? = some (dA k9, .object E) → t = k9 → k9 < 1000 → W p l e R s m args below meth c H locs k sl (vx_MQ below (aQc D dA A P) (aXC D dA A P) args s mc ms A) (F0 m pc lsA (.null :: .int i :: .ref a :: r)) := by
        intro k9 E h1 h2 h3
        subst h2
        have hA := (hR.2 a _ ha).2 h3
        rw [Nat.mod_eq_of_lt h3] at hP
        refine va_WaastN M.1 M.2.1 (hP 0 _ rfl) ((hK.2 t _ h1).1 m9 (fun j => va_rf (f j))) (fun q => by cases q) (by show ¬ (i < 0 ∨ (arrV _ _ _).slots.size ≤ _); rw [arrV_size]; exact hv) rfl rfl hd fun H1 e z oq => ?_
        refine q H1 _ lsA (hR.put z oq ?_ (fun _ => hA)) (hS.put z oq hA) hL
        show H1[a]? = some (vp_cell (dA (t % 1000)) (m9, .inr (.inr (.inr (.inr (va_up f i.toNatClampNeg none))))))
        rw [Nat.mod_eq_of_lt h3, e]
        show some ((vp_cell (dA t) (m9, .inr (.inr (.inr (.inr f))))).setSlot _ _) = _
        rw [vp_cell_q, vp_cell_q, arrV_store]
        congr 2
        funext j
        by_cases hj : j = i.toNatClampNeg
        · subst hj
          simp [updV, va_up, va_rf]
        · simp [updV, va_up, hj]
      rcases hst with e1 | e1 | e1
      · exact key 4 _ rfl e1 (by decide)
      · exact key 6 _ rfl e1 (by decide)
      · exact key 7 _ rfl e1 (by decide)
    · exact q.elim
  · exact q.elim
theorem s_newa_int {own nm : String} {cc : ByteArray} {nL : Nat} {ret : Option FieldType} {hh : List (Nat × Nat × Nat × Nat)} {pc n : Nat} (hw : Cond.arrayClass .int ∈ lw_all) (hn : pc + 2 = n) (hd : decode cc pc = .ok (.newarray .int, 2)) : Snd own nm cc nL ret hh pc (fun _ => i_newa 0 (.inl fun _ => 0) 4 n) := by
  intro σ D dA A p l e R s m args below meth c d mc ms C0 P M hnam9 hC ls st h k sl q
  unfold i_newa at q
  subst hn
  split at q
  · next m9 r =>
    intro H locs lsA hR hS hL
    have hK := M.2.2.2.2.2.2.2.2.2.2.1.1
    obtain ⟨h1, h2, h3, h4, q⟩ := q hR.wf
    have hRR := M.2.2.2.2.2.2.2.1
    refine va_newaK (atype := .int) M.1 M.2.1 (M.2.2.2.2.1 _ hw) rfl hd rfl h1 rfl h2 (by rw [hRR]; exact h3) (by rw [hRR]; exact h4) hR.1 fun H1 cA e1 z1 o1 hAr hNm => ?_
    have hcA : cA = dA 0 := Option.some.inj (hNm.symm.trans (hK.2 0 _ rfl).2)
    subst hcA
    refine q H1 locs lsA (hR.new (by rw [z1, hR.1]) (by rw [hR.1]; exact o1) ?_ (M.2.2.2.2.2.2.2.2.1 _ (by rw [← hR.1]; exact hS.1))) ⟨Nat.le_trans hS.1 (by rw [z1, hR.1]; omega), fun x y1 y2 => (o1 x (by rw [← hR.1]; exact Nat.lt_of_lt_of_le y1 hS.1)).trans (hS.2.1 x y1 y2), hS.2.2⟩ hL
    show H1[h.1]? = some (vp_cell (dA 0) (m9.toNatClampNeg, .inl fun _ => 0))
    rw [vp_cell_i]
    exact e1
  · exact q.elim
theorem s_newa_boolean {own nm : String} {cc : ByteArray} {nL : Nat} {ret : Option FieldType} {hh : List (Nat × Nat × Nat × Nat)} {pc n : Nat} (hw : Cond.arrayClass .boolean ∈ lw_all) (hn : pc + 2 = n) (hd : decode cc pc = .ok (.newarray .boolean, 2)) : Snd own nm cc nL ret hh pc (fun _ => i_newa 1 (.inl fun _ => 0) 1 n) := by
  intro σ D dA A p l e R s m args below meth c d mc ms C0 P M hnam9 hC ls st h k sl q
  unfold i_newa at q
  subst hn
  split at q
  · next m9 r =>
    intro H locs lsA hR hS hL
    have hK := M.2.2.2.2.2.2.2.2.2.2.1.1
    obtain ⟨h1, h2, h3, h4, q⟩ := q hR.wf
    have hRR := M.2.2.2.2.2.2.2.1
    refine va_newaK (atype := .boolean) M.1 M.2.1 (M.2.2.2.2.1 _ hw) rfl hd rfl h1 rfl h2 (by rw [hRR]; exact h3) (by rw [hRR]; exact h4) hR.1 fun H1 cA e1 z1 o1 hAr hNm => ?_
    have hcA : cA = dA 1 := Option.some.inj (hNm.symm.trans (hK.2 1 _ rfl).2)
    subst hcA
    refine q H1 locs lsA (hR.new (by rw [z1, hR.1]) (by rw [hR.1]; exact o1) ?_ (M.2.2.2.2.2.2.2.2.1 _ (by rw [← hR.1]; exact hS.1))) ⟨Nat.le_trans hS.1 (by rw [z1, hR.1]; omega), fun x y1 y2 => (o1 x (by rw [← hR.1]; exact Nat.lt_of_lt_of_le y1 hS.1)).trans (hS.2.1 x y1 y2), hS.2.2⟩ hL
    show H1[h.1]? = some (vp_cell (dA 1) (m9.toNatClampNeg, .inl fun _ => 0))
    rw [vp_cell_i]
    exact e1
  · exact q.elim
theorem s_newa_long {own nm : String} {cc : ByteArray} {nL : Nat} {ret : Option FieldType} {hh : List (Nat × Nat × Nat × Nat)} {pc n : Nat} (hw : Cond.arrayClass .long ∈ lw_all) (hn : pc + 2 = n) (hd : decode cc pc = .ok (.newarray .long, 2)) : Snd own nm cc nL ret hh pc (fun _ => i_newa 2 (.inr (.inl fun _ => 0)) 8 n) := by
  intro σ D dA A p l e R s m args below meth c d mc ms C0 P M hnam9 hC ls st h k sl q
  unfold i_newa at q
  subst hn
  split at q
  · next m9 r =>
    intro H locs lsA hR hS hL
    have hK := M.2.2.2.2.2.2.2.2.2.2.1.1
    obtain ⟨h1, h2, h3, h4, q⟩ := q hR.wf
    have hRR := M.2.2.2.2.2.2.2.1
    refine va_newaK (atype := .long) M.1 M.2.1 (M.2.2.2.2.1 _ hw) rfl hd rfl h1 rfl h2 (by rw [hRR]; exact h3) (by rw [hRR]; exact h4) hR.1 fun H1 cA e1 z1 o1 hAr hNm => ?_
    have hcA : cA = dA 2 := Option.some.inj (hNm.symm.trans (hK.2 2 _ rfl).2)
    subst hcA
    refine q H1 locs lsA (hR.new (by rw [z1, hR.1]) (by rw [hR.1]; exact o1) ?_ (M.2.2.2.2.2.2.2.2.1 _ (by rw [← hR.1]; exact hS.1))) ⟨Nat.le_trans hS.1 (by rw [z1, hR.1]; omega), fun x y1 y2 => (o1 x (by rw [← hR.1]; exact Nat.lt_of_lt_of_le y1 hS.1)).trans (hS.2.1 x y1 y2), hS.2.2⟩ hL
    show H1[h.1]? = some (vp_cell (dA 2) (m9.toNatClampNeg, .inr (.inl fun _ => 0)))
    rw [vp_cell_l]
    exact e1
  · exact q.elim
theorem s_newq {own nm : String} {cc : ByteArray} {nL : Nat} {ret : Option FieldType} {hh : List (Nat × Nat × Nat × Nat)} {pc n : Nat} {kd ix : Nat} {C9 : String} (hcl : Cond.classLink own ix C9 ∈ lw_all) (hov : Cond.arrayOver (.object C9) ∈ lw_tbl) (hty : ∀ dA : Nat → ClassId, (aTyL dA)[kd]? = some (dA kd, .object C9)) (hk9 : kd % 1000 = kd) (hk8 : kd < 1000) (hn : pc + 3 = n) (hd : decode cc pc = .ok (.anewarray ix, 3)) : Snd own nm cc nL ret hh pc (fun _ => i_newa kd (.inr (.inr (.inr (.inr fun _ => none)))) 4 n) := by
  intro σ D dA A p l e R s m args below meth c d mc ms C0 P M hnam9 hC ls st h k sl q
  unfold i_newa at q
  subst hn
  split at q
  · next m9 r =>
    intro H locs lsA hR hS hL
    have hK := M.2.2.2.2.2.2.2.2.2.2.1.1
    have hT := M.2.2.2.2.2.2.2.2.2.2.1.2.1
    obtain ⟨h1, h2, h3, h4, q⟩ := q hR.wf
    have hRR := M.2.2.2.2.2.2.2.1
    refine W.anew M.1 M.2.1 M.2.2.2.1 (M.2.2.2.2.1 _ hcl) (va_AO.use (hT.2.2.2.1 _ hov)) rfl hd rfl h1 h2 (by rw [hRR]; exact h3) (by rw [hRR]; exact h4) fun cA kA comp f1 f2 f3 f4 => ?_
    obtain ⟨kA', comp', g1, g2, g3, g4⟩ := (hK.2 kd _ (hty dA)).2
    have hcA : cA = dA kd := Option.some.inj (f1.symm.trans g4)
    subst hcA
    generalize hH1 : H.push ({ cls := dA kd, slots := Array.replicate m9.toNatClampNeg .null, vm := .none } : Cell) = H1
    have z1 : H1.size = H.size + 1 := by rw [← hH1, Array.size_push]
    have e1 : H1[H.size]? = some (arrV (dA kd) m9.toNatClampNeg (fun _ => .null)) := by rw [← hH1, Array.getElem?_push_size, ← arrV_new]
    have o1 : ∀ q : Nat, q < H.size → H1[q]? = H[q]? := fun q hq => by rw [← hH1, Array.getElem?_push, if_neg (Nat.ne_of_lt hq)]
    have hs1 := hR.1
    rw [hs1] at e1
    have q2 := q H1 locs lsA (hR.new z1 o1 (by
      show H1[h.1]? = some (vp_cell (dA (kd % 1000)) (m9.toNatClampNeg, .inr (.inr (.inr (.inr fun _ => none)))))
      rw [hk9, vp_cell_q]
      exact e1) (M.2.2.2.2.2.2.2.2.1 _ (by rw [← hR.1]; exact hS.1))) ⟨Nat.le_trans hS.1 (by rw [z1]; omega), fun x y1 y2 => (o1 x (Nat.lt_of_lt_of_le y1 hS.1)).trans (hS.2.1 x y1 y2), hS.2.2⟩ hL
    rw [← hs1] at q2
    exact q2
  · exact q.elim
theorem s_new {own nm : String} {cc : ByteArray} {nL : Nat} {ret : Option FieldType} {hh : List (Nat × Nat × Nat × Nat)} {pc n : Nat} {cn N ix : Nat} {C : String} {T : u_T} {ty0 : Nat → FieldType} {fs : List Value} (hty : ∀ k, k < N → parseFieldDescriptor (T k).2.2.1 = some (ty0 k)) (hc : aCl[cn]? = some (C, T, N)) (hcn : cn < 1000) (hin : ∀ w ∈ u_ws C T N, w ∈ lw_all) (hcl : Cond.classLink own ix C ∈ lw_all) (hins : Cond.instantiable C N ∈ lw_all) (hini : Cond.initialized C ∈ lw_all) (hfs : ∀ j, j < N → defaultValue (ty0 j) = vp_V fs j) (hn : pc + 3 = n) (hd : decode cc pc = .ok (.new ix, 3)) : Snd own nm cc nL ret hh pc (fun _ => i_new cn N fs n) := by
  intro σ D dA A p l e R s m args below meth c d mc ms C0 P M hnam9 hC ls st h k sl q
  unfold i_new at q
  subst hn
  intro H locs lsA hR hS hL
  have hK := M.2.2.2.2.2.2.2.2.2.2.1.1
  obtain ⟨h3, h4, q⟩ := q hR.wf
  have hRR := M.2.2.2.2.2.2.2.1
  have hts := M.2.2.2.2.1
  have hKn := hK.1 cn _ hc
  refine W.newcK M.1 M.2.1 M.2.2.2.1 (hts _ hcl) (hts _ hins) (hts _ hini) rfl hd (by rw [hRR]; exact h3) (by rw [hRR]; exact h4) hKn.2.1 hR.1 fun H1 kC hkC e1 z1 o1 => ?_
  refine q H1 locs lsA (hR.new (by rw [z1, hR.1]) (by rw [hR.1]; exact o1) ?_ (M.2.2.2.2.2.2.2.2.1 _ (by rw [← hR.1]; exact hS.1))) ⟨Nat.le_trans hS.1 (by rw [z1, hR.1]; omega), fun x y1 y2 => (o1 x (by rw [← hR.1]; exact Nat.lt_of_lt_of_le y1 hS.1)).trans (hS.2.1 x y1 y2), hS.2.2⟩ hL
  show va_at D aCl (h.1, .inr (cn % 1000, fs)) H1
  rw [Nat.mod_eq_of_lt hcn]
  exact ⟨_, hc, (u_born ty0 hts hin hKn hkC e1 hty).to hfs⟩
/-- class number c is of the named class -/
def aOK (nmC : String) (c : Nat) : Prop := ∃ r : vw_C, aCl[c % 1000]? = some r ∧ (nmC = r.1 ∨ Cond.castable r.1 nmC ∈ lw_tbl)
theorem RH.recv {D : va_G} {dA : Nat → ClassId} {A : Nat → Prop} {h : aH} {H : Heap} {s : State} (hK : va_K D aCl (aTyL dA) s) (r : RH D dA A h H) {a c : Nat} {fs : List Value} (e : h.2 a = some (.inr (c, fs))) {r9 : vw_C} (hc : aCl[c % 1000]? = some r9) : ∃ cell : Cell, H[a]? = some cell ∧ cell.vm.isStatics = false ∧ s.vm.findClass r9.1 = some cell.cls :=
  va_recv (q0 := 0) hK (r.obj e) hc rfl
theorem s_cast {own nm : String} {cc : ByteArray} {nL : Nat} {ret : Option FieldType} {hh : List (Nat × Nat × Nat × Nat)} {pc n : Nat} {ix : Nat} {nmC : String} {cs ts : List Nat} (hlink : Cond.classLink own ix nmC ∈ lw_all) (hcs : ∀ c ∈ cs, aOK nmC c) (hts9 : ∀ t ∈ ts, t % 1000 = 4 ∧ nmC = "[Ljava/lang/Object;") (hn : pc + 3 = n) (hd : decode cc pc = .ok (.checkcast ix, 3)) : Snd own nm cc nL ret hh pc (fun _ => i_cast cs ts n) := by
  intro σ D dA A p l e R s m args below meth c d mc ms C0 P M hnam9 hC ls st h k sl q
  unfold i_cast at q
  subst hn
  have hK := M.2.2.2.2.2.2.2.2.2.2.1.1
  have hT := M.2.2.2.2.2.2.2.2.2.2.1.2.1
  split at q
  · intro H locs lsA hR hS hL
    exact lv_castN M.1 M.2.1 hd (q H locs lsA hR hS hL)
  · next a r =>
    split at q
    · next c9 fs ha =>
      obtain ⟨hc9, q⟩ := q
      intro H locs lsA hR hS hL
      obtain ⟨r9, h1, h2⟩ := hcs _ hc9
      rcases h2 with z | z
      · subst z
        exact va_castS M.1 M.2.1 M.2.2.2.1 (M.2.2.2.2.1 _ hlink) (hK.1 _ _ h1).2 (hR.recv hK ha h1) hd (q H locs lsA hR hS hL)
      · exact va_castY M.1 M.2.1 M.2.2.2.1 (M.2.2.2.2.1 _ hlink) (hT.2.2.1 _ _ z) (hR.recv hK ha h1) hd (q H locs lsA hR hS hL)
    · next t x ha =>
      obtain ⟨ht, q⟩ := q
      intro H locs lsA hR hS hL
      obtain ⟨h1, rfl⟩ := hts9 _ ht
      have hP := hR.arr ha
      rw [h1] at hP
      obtain ⟨kA', comp', g1, g2, g3, g4⟩ := (hK.2 4 _ rfl).2
      exact va_castA M.1 M.2.1 M.2.2.2.1 (M.2.2.2.2.1 _ hlink) hP 0 rfl (by exact g4) hd (q H locs lsA hR hS hL)
    · exact q.elim
  · exact q.elim
theorem s_inst {own nm : String} {cc : ByteArray} {nL : Nat} {ret : Option FieldType} {hh : List (Nat × Nat × Nat × Nat)} {pc n : Nat} {ix : Nat} {nmC : String} {cs : List Nat} (hlink : Cond.classLink own ix nmC ∈ lw_all) (hcs : ∀ c ∈ cs, aOK nmC c) (hn : pc + 3 = n) (hd : decode cc pc = .ok (.instanceof ix, 3)) : Snd own nm cc nL ret hh pc (fun _ => i_inst cs [] n) := by
  intro σ D dA A p l e R s m args below meth c d mc ms C0 P M hnam9 hC ls st h k sl q
  unfold i_inst at q
  subst hn
  have hK := M.2.2.2.2.2.2.2.2.2.2.1.1
  have hT := M.2.2.2.2.2.2.2.2.2.2.1.2.1
  split at q
  · intro H locs lsA hR hS hL
    exact lv_instN M.1 M.2.1 hd (q H locs lsA hR hS hL)
  · next a r =>
    split at q
    · next c9 fs ha =>
      rcases q with ⟨hc9, q⟩ | ⟨hc9, q⟩
      · intro H locs lsA hR hS hL
        obtain ⟨r9, h1, h2⟩ := hcs _ hc9
        rcases h2 with z | z
        · subst z
          exact va_instS M.1 M.2.1 M.2.2.2.1 (M.2.2.2.2.1 _ hlink) (hK.1 _ _ h1).2 (hR.recv hK ha h1) hd (q H locs lsA hR hS hL)
        · exact va_instY M.1 M.2.1 M.2.2.2.1 (M.2.2.2.2.1 _ hlink) (hT.2.2.1 _ _ z) (hR.recv hK ha h1) hd (q H locs lsA hR hS hL)
      · cases hc9
    · exact q.elim
  · exact q.elim
theorem s_getC {own nm : String} {cc : ByteArray} {nL : Nat} {ret : Option FieldType} {hh : List (Nat × Nat × Nat × Nat)} {pc n : Nat} {ix : Nat} (hlink : Cond.methodLink own ix ⟨"java/lang/Object", "getClass", "()Ljava/lang/Class;"⟩ ∈ lw_all) (hsel : Cond.selects "[Ljava/lang/Object;" ⟨"java/lang/Object", "getClass", "()Ljava/lang/Class;"⟩ ⟨"java/lang/Object", "getClass", "()Ljava/lang/Class;"⟩ ∈ lw_all) (hinst : Cond.instanceMethod ⟨"java/lang/Object", "getClass", "()Ljava/lang/Class;"⟩ ∈ lw_all) (hnat : Cond.native ⟨"java/lang/Object", "getClass", "()Ljava/lang/Class;"⟩ ∈ lw_all) (hn : pc + 3 = n) (hd : decode cc pc = .ok (.invokevirtual ix, 3)) : Snd own nm cc nL ret hh pc (fun σ => i_getC (σ 90) n) := by
  intro σ D dA A p l e R s m args below meth c d mc ms C0 P M hnam9 hC ls st h k sl q
  unfold i_getC at q
  subst hn
  have hK := M.2.2.2.2.2.2.2.2.2.2.1.1
  have hSC := M.2.2.2.2.2.2.2.2.2.2.1.2.2.2.1
  have hRR := M.2.2.2.2.2.2.2.1
  split at q
  · next a r =>
    split at q
    · next t x ha =>
      obtain ⟨ht, hd1, hr4, q⟩ := q
      intro H locs lsA hR hS hL
      obtain ⟨mi, e1, e2⟩ := hSC.2.1
      rw [e1] at q
      obtain ⟨kA', comp', g1, g2, g3, g4⟩ := (hK.2 4 _ rfl).2
      have h4 : t % 1000 = 4 := by rcases ht with z | z <;> rw [z]
      have hc1 : H[a]? = some (vp_cell (dA (t % 1000)) x) := (hR.2 a _ ha).1
      rw [h4] at hc1
      refine va_getC M.1 M.2.1 (M.2.2.1.trans hL.2.1.symm) M.2.2.2.1 (M.2.2.2.2.1 _ hlink) (va_Dc.use hSC.2.2) (M.2.2.2.2.1 _ hsel) (M.2.2.2.2.1 _ hinst) (M.2.2.2.2.1 _ hnat) e2 ⟨_, hc1, by obtain ⟨n9, f9 | f9 | f9 | f9 | f9⟩ := x <;> rfl, ?_⟩ (by rw [hRR]; exact hd1) (by rw [hRR]; show _ ≤ 64 * d; have := cat4 hr4; have hd2 : 1 ≤ d := hd1; omega) hd (q H locs lsA hR hS hL)
      have e8 : (vp_cell (dA 4) x).cls = dA 4 := by obtain ⟨n9, f9 | f9 | f9 | f9 | f9⟩ := x <;> rfl
      rw [e8]
      exact g4
    · exact q.elim
  · exact q.elim
theorem s_lret {own nm : String} {cc : ByteArray} {nL : Nat} {ret : Option FieldType} {hh : List (Nat × Nat × Nat × Nat)} {pc n : Nat} (hr : ret = some .long) (hd : decode cc pc = .ok (.lreturn, 1)) : Snd own nm cc nL ret hh pc (fun _ => i_lret) := by
  intro σ D dA A p l e R s m args below meth c d mc ms C0 P M hnam9 hC ls st h k sl q
  unfold i_lret at q
  split at q
  · next v =>
    obtain ⟨q1, q2, q3⟩ := q
    intro H locs lsA hR hS hL
    refine W.widen q1 q2 (vx_ret ?_)
    exact W.lret M.1 M.2.1 (M.2.2.2.2.2.2.1.trans hr) (fun t ht hW => ⟨⟨_, h, rfl, q3, by rw [ht]; exact hR⟩, hS.F ht⟩) hS.2.2 hd M.2.2.2.2.2.1
  · exact q.elim
theorem s_fret {own nm : String} {cc : ByteArray} {nL : Nat} {ret : Option FieldType} {hh : List (Nat × Nat × Nat × Nat)} {pc n : Nat} (hr : ret = some .float) (hd : decode cc pc = .ok (.freturn, 1)) : Snd own nm cc nL ret hh pc (fun _ => i_fret) := by
  intro σ D dA A p l e R s m args below meth c d mc ms C0 P M hnam9 hC ls st h k sl q
  unfold i_fret at q
  split at q
  · next v =>
    obtain ⟨q1, q2, q3⟩ := q
    intro H locs lsA hR hS hL
    refine W.widen q1 q2 (vx_ret ?_)
    exact W.fret M.1 M.2.1 (M.2.2.2.2.2.2.1.trans hr) (fun t ht hW => ⟨⟨_, h, rfl, q3, by rw [ht]; exact hR⟩, hS.F ht⟩) hS.2.2 hd M.2.2.2.2.2.1
  · exact q.elim
theorem s_dret {own nm : String} {cc : ByteArray} {nL : Nat} {ret : Option FieldType} {hh : List (Nat × Nat × Nat × Nat)} {pc n : Nat} (hr : ret = some .double) (hd : decode cc pc = .ok (.dreturn, 1)) : Snd own nm cc nL ret hh pc (fun _ => i_dret) := by
  intro σ D dA A p l e R s m args below meth c d mc ms C0 P M hnam9 hC ls st h k sl q
  unfold i_dret at q
  split at q
  · next v =>
    obtain ⟨q1, q2, q3⟩ := q
    intro H locs lsA hR hS hL
    refine W.widen q1 q2 (vx_ret ?_)
    exact W.dret M.1 M.2.1 (M.2.2.2.2.2.2.1.trans hr) (fun t ht hW => ⟨⟨_, h, rfl, q3, by rw [ht]; exact hR⟩, hS.F ht⟩) hS.2.2 hd M.2.2.2.2.2.1
  · exact q.elim
theorem s_iret {own nm : String} {cc : ByteArray} {nL : Nat} {ret : Option FieldType} {hh : List (Nat × Nat × Nat × Nat)} {pc n : Nat} {ty : FieldType} (hr : ret = some ty) (hd : decode cc pc = .ok (.ireturn, 1)) : Snd own nm cc nL ret hh pc (fun _ => i_iret ty) := by
  intro σ D dA A p l e R s m args below meth c d mc ms C0 P M hnam9 hC ls st h k sl q
  unfold i_iret at q
  split at q
  · next v =>
    obtain ⟨q0, q1, q2, q3⟩ := q
    intro H locs lsA hR hS hL
    refine W.widen q1 q2 (vx_ret ?_)
    exact W.zret M.1 M.2.1 (M.2.2.2.2.2.2.1.trans hr) q0 (fun t ht hW => ⟨⟨_, h, rfl, q3, by rw [ht]; exact hR⟩, hS.F ht⟩) hS.2.2 hd M.2.2.2.2.2.1
  · exact q.elim
theorem s_aret {own nm : String} {cc : ByteArray} {nL : Nat} {ret : Option FieldType} {hh : List (Nat × Nat × Nat × Nat)} {pc n : Nat} {rt : FieldType} (hr : ret = some rt) (hrt : (∃ n, rt = .object n) ∨ ∃ t, rt = .array t) (hd : decode cc pc = .ok (.areturn, 1)) : Snd own nm cc nL ret hh pc (fun _ => i_aret) := by
  intro σ D dA A p l e R s m args below meth c d mc ms C0 P M hnam9 hC ls st h k sl q
  unfold i_aret at q
  split at q
  · next v =>
    obtain ⟨q1, q2, q3⟩ := q
    intro H locs lsA hR hS hL
    refine W.widen q1 q2 (vx_ret ?_)
    exact W.aret M.1 M.2.1 (M.2.2.2.2.2.2.1.trans hr) hrt (Or.inr ⟨_, rfl⟩) (fun t ht hW => ⟨⟨_, h, rfl, q3, by rw [ht]; exact hR⟩, hS.F ht⟩) hS.2.2 hd M.2.2.2.2.2.1
  · obtain ⟨q1, q2, q3⟩ := q
    intro H locs lsA hR hS hL
    refine W.widen q1 q2 (vx_ret ?_)
    exact W.aret M.1 M.2.1 (M.2.2.2.2.2.2.1.trans hr) hrt (Or.inl rfl) (fun t ht hW => ⟨⟨_, h, rfl, q3, by rw [ht]; exact hR⟩, hS.F ht⟩) hS.2.2 hd M.2.2.2.2.2.1
  · exact q.elim
theorem s_ret {own nm : String} {cc : ByteArray} {nL : Nat} {ret : Option FieldType} {hh : List (Nat × Nat × Nat × Nat)} {pc n : Nat} (hr : ret = none) (hd : decode cc pc = .ok (.return_, 1)) : Snd own nm cc nL ret hh pc (fun _ => i_ret) := by
  intro σ D dA A p l e R s m args below meth c d mc ms C0 P M hnam9 hC ls st h k sl q
  unfold i_ret at q
  split at q
  · obtain ⟨q1, q2, q3⟩ := q
    intro H locs lsA hR hS hL
    refine W.widen q1 q2 (vx_ret ?_)
    exact W.vret M.1 M.2.1 (M.2.2.2.2.2.2.1.trans hr) (fun t ht hW => ⟨⟨_, h, rfl, q3, by rw [ht]; exact hR⟩, hS.F ht⟩) hS.2.2 hd M.2.2.2.2.2.1
  · exact q.elim
theorem s_oinit {own nm : String} {cc : ByteArray} {nL : Nat} {ret : Option FieldType} {hh : List (Nat × Nat × Nat × Nat)} {pc n : Nat} {ix : Nat} (hlink : Cond.methodLink own ix Lib.objectInit ∈ lw_all) (hinst : Cond.instanceMethod Lib.objectInit ∈ lw_all) (hcode : Cond.code Lib.objectInit ⟨#[0xb1]⟩ 1 none ∈ lw_all) (hn : pc + 3 = n) (hd : decode cc pc = .ok (.invokespecial ix, 3)) : Snd own nm cc nL ret hh pc (fun _ => i_oinit n) := by
  intro σ D dA A p l e R s m args below meth c d mc ms C0 P M hnam9 hC ls st h k sl q
  unfold i_oinit at q
  subst hn
  have hRR := M.2.2.2.2.2.2.2.1
  split at q
  · next a r =>
    obtain ⟨hd1, hr4, q⟩ := q
    intro H locs lsA hR hS hL
    refine W.objInit M.1 M.2.1 M.2.2.2.1 (M.2.2.2.2.1 _ hlink) (M.2.2.2.2.1 _ hinst) (M.2.2.2.2.1 _ hcode) rfl (hL.2.1.trans M.2.2.1.symm) rfl hd (by rw [hRR]; exact hd1) (by rw [hRR]; show 2 * 0 + _ + 12 ≤ 64 * d; have := cat4 hr4; have hd2 : 1 ≤ d := hd1; omega) ?_
    exact q H locs lsA hR hS hL
  · exact q.elim
/-- what the handlers over pc do with an exception: hs, by its class -/
def aHS (own : String) (hh : List (Nat × Nat × Nat × Nat)) (pc : Nat) (hs : List (String × Option Nat)) : Prop :=
  (hs = [] → ∀ z ∈ tableOf hh, covers z pc = false) ∧ ∀ (E : String) (r : Option Nat), hs.lookup E = some r → ∃ t, r = some t ∧ ∃ (pre : List ExceptionTableEntry) (x : ExceptionTableEntry) (suf : List ExceptionTableEntry) (name : String), tableOf hh = pre ++ x :: suf ∧
    (∀ z ∈ pre, covers z pc = false ∨ (z.catchType ≠ 0 ∧ ∃ nm : String, Cond.classLink own z.catchType nm ∈ lw_all ∧ (E, nm) ∈ aNcL)) ∧ covers x pc = true ∧ x.catchType ≠ 0 ∧ x.handlerPc = t ∧ Cond.classLink own x.catchType name ∈ lw_all ∧ Cond.castable E name ∈ lw_tbl
theorem aHS0 {own : String} {pc : Nat} : aHS own [] pc [] := ⟨fun _ z hz => absurd hz List.not_mem_nil, fun E r h => by cases h⟩
theorem cat2 (v : Value) : v.category ≤ 2 := by cases v <;> simp [Value.category]
theorem cat4' : ∀ (l : List Value) (k : Nat), l.length ≤ k → (l.map fun v => v.category).sum ≤ 2 * k := by
  intro l
  induction l with
  | nil => intro k _; simp
  | cons v l ih =>
    intro k h
    cases k with
    | zero => simp at h
    | succ k =>
      have h1 := ih k (by simpa using h)
      have h2 := cat2 v
      simp only [List.map_cons, List.sum_cons]
      omega
theorem a_run {σ : Nat → Value} {D : va_G} {dA : Nat → ClassId} {A : Nat → Prop} {p : Program} {l : Launch} {e : Env} {R : Room} {s : State} {m : MethodId} {args : Array Value} {below : List Frame} {meth : Method} {c : Code} {own : String} {cc : ByteArray} {nL : Nat} {ret : Option FieldType} {hh : List (Nat × Nat × Nat × Nat)} {d mc ms : Nat} {P P9 : aO → aH → Prop} {C : aC} (M : MC σ D dA A p l R s m args meth c own cc nL ret hh d mc ms)
    {H : Heap} {locs : List Loc} {k sl mc9 ms9 pc n : Nat} {lsA : Array Slot} {ls st rest : List Value} {as : Array Value} {hs : List (String × Option Nat)} (hS : va_S A s.heap H locs) (hL : LR ls lsA nL) (hhs : aHS own hh pc hs) (hk : k + mc9 ≤ mc) (hsl : sl + ms9 ≤ ms)
    (hr : ∀ T : State, T.heap = H → Stand p l e R s m args below meth c T locs k sl →
      (∃ (v : Option Value) (st₀ t T' : State) (L : List Loc), st₀.heap = H ∧ Stand p l e R s m args below meth c T' (locs ++ L) (k + mc9) (sl + ms9) ∧ (∀ q ∈ L, A q.base) ∧ T'.heap = t.heap ∧ T'.vm = t.vm ∧ aQc D dA A P9 as st₀ (.returned v) t ∧
        Goes p e below T (F0 m pc lsA st) T' { F0 m pc lsA st with pc := n, stack := v.toList ++ rest }) ∨
      (∃ (q : Addr) (st₀ t T' : State) (L : List Loc) (E : String) (ce : Cell), st₀.heap = H ∧ Stand p l e R s m args below meth c T' (locs ++ L) (k + mc9) (sl + ms9) ∧ (∀ z ∈ L, A z.base) ∧ T'.heap = t.heap ∧ T'.vm = t.vm ∧ aXC D dA A P9 E st₀ t ∧ t.heap[q]? = some ce ∧ ce.vm = .none ∧ s.vm.findClass E = some ce.cls ∧
        Steps p.tables e below (T.setTop (F0 m pc lsA st)) ((T'.setTop { F0 m pc lsA st with stack := rest }).pushFrame (.throwing q))))
    (q : ∀ o h', P9 o h' → aRes (C, d, mc, ms, fun o h' k s => k ≤ mc ∧ s ≤ ms ∧ P o h') (XW D dA A p l e R s m args below meth c nL (vx_MQ below (aQc D dA A P) (aXC D dA A P) args s mc ms A)) hs n ls rest (k + mc9) (sl + ms9) o h') :
    W p l e R s m args below meth c H locs k sl (vx_MQ below (aQc D dA A P) (aXC D dA A P) args s mc ms A) (F0 m pc lsA st) := by
  intro T hT X
  rcases hr T hT X with ⟨v, st₀, t, T', L, h0, X', hL9, e1, e2, ⟨⟨v9, h', hv, hp, hR'⟩, hF⟩, stp⟩ | ⟨q9, st₀, t, T', L, E, ce, h0, X', hL9, e1, e2, ⟨⟨h', hp, hR'⟩, hF⟩, hce, hcv, hcl, stp⟩
  · cases hv
    obtain ⟨k1, k2, k3⟩ := vx_keep h0 e1 hS (fun q _ h => h) (fun q h => h) hL9 hF
    have q1 := q _ _ hp
    rw [← e1] at hR'
    have q2 : W p l e R s m args below meth c T'.heap (locs ++ L) (k + mc9) (sl + ms9) (vx_MQ below (aQc D dA A P) (aXC D dA A P) args s mc ms A) (F0 m n lsA (v.toList ++ rest)) := by
      cases v with
      | none => exact q1 _ _ _ hR' k3 hL
      | some v => exact q1 _ _ _ hR' k3 hL
    obtain ⟨t2, a1, b1⟩ := q2 T' rfl X'
    exact ⟨t2, stp t2 a1, b1⟩
  · obtain ⟨k1, k2, k3⟩ := vx_keep h0 e1 hS (fun q _ h => h) (fun q h => h) hL9 hF
    have q1 := q _ _ hp
    rw [← e1] at hR' hce
    have q2 : vx_W p l e R s m args below meth c T'.heap (locs ++ L) (k + mc9) (sl + ms9) (vx_MQ below (aQc D dA A P) (aXC D dA A P) args s mc ms A) (F0 m pc lsA rest) q9 := by
      unfold aRes at q1
      cases hs with
      | nil =>
        obtain ⟨w1, w2, w3⟩ := q1
        have hout := hhs.1 rfl
        exact vx_out (fun z hz => hout z (by rw [← M.2.2.2.2.2.2.2.2.2.2.2]; exact hz)) M.2.2.2.2.2.1 hce hcv hcl (fun t9 ht9 hal => ⟨⟨h', w3, by rw [ht9]; exact hR'⟩, k3.F ht9⟩) k3.2.2 w1 w2
      | cons x hs =>
        cases hlk : (x :: hs).lookup E with
        | none => simp only [hlk] at q1
        | some r =>
          obtain ⟨t9, rfl, pre, x9, suf, name, g1, g2, g3, g4, g5, g6, g7⟩ := hhs.2 E r hlk
          simp only [hlk] at q1
          subst g5
          exact vx_catch M.2.2.2.1 pre x9 suf (M.2.2.2.2.2.2.2.2.2.2.2.trans g1) (fun z hz => by
            rcases g2 z hz with w | ⟨w1, nm, w2, w3⟩
            · exact Or.inl w
            · exact Or.inr ⟨w1, nm, M.2.2.2.2.1 _ w2, M.2.2.2.2.2.2.2.2.2.2.1.2.2.2.2.1 _ w3⟩) g3 g4 (M.2.2.2.2.1 _ g6) (va_Nw.use rfl (M.2.2.2.2.2.2.2.2.2.2.1.2.1.2.2.1 _ _ g7)) hce hcv hcl (q1 q9 _ _ _ hR' k3 hL)
    obtain ⟨t2, a1, b1⟩ := q2 T' rfl X'
    exact ⟨t2, stp.trans a1, b1⟩
theorem aPre {σ : Nat → Value} {D : va_G} {dA : Nat → ClassId} {A : Nat → Prop} {p : Program} {l : Launch} {R : Room} {s : State} {m : MethodId} {args : Array Value} {meth : Method} {c : Code} {own : String} {cc : ByteArray} {nL : Nat} {ret : Option FieldType} {hh : List (Nat × Nat × Nat × Nat)} {d mc ms : Nat} (M : MC σ D dA A p l R s m args meth c own cc nL ret hh d mc ms)
    {H : Heap} {locs : List Loc} {h : aH} (hR : RH D dA A h H) (hS : va_S A s.heap H locs) (as : List Value) : PreS s H (aPc σ D dA A as h) as :=
  ⟨aPc.blind, fun U hU hW => ⟨rfl, by rw [hU]; exact hR, by rw [hU]; exact EV.warm hW (EV.kept M.2.2.2.2.2.2.2.2.2.2.1 (fun a h1 h2 => hS.2.1 a h1 h2)), by rw [hU]; exact fun q hq => M.2.2.2.2.2.2.2.2.1 q (Nat.le_trans hS.1 hq)⟩⟩
theorem aFix {σ : Nat → Value} {D : va_G} {dA : Nat → ClassId} {A : Nat → Prop} {p : Program} {l : Launch} {R : Room} {s : State} {m : MethodId} {args : Array Value} {meth : Method} {c : Code} {own : String} {cc : ByteArray} {nL : Nat} {ret : Option FieldType} {hh : List (Nat × Nat × Nat × Nat)} {d mc ms : Nat} (M : MC σ D dA A p l R s m args meth c own cc nL ret hh d mc ms) : CallFix p m c cc nL s args lw_all own := ⟨M.1, M.2.1, M.2.2.1, M.2.2.2.1, M.2.2.2.2.1⟩
theorem aRoom {σ : Nat → Value} {D : va_G} {dA : Nat → ClassId} {A : Nat → Prop} {p : Program} {l : Launch} {R : Room} {s : State} {m : MethodId} {args : Array Value} {meth : Method} {c : Code} {own : String} {cc : ByteArray} {nL : Nat} {ret : Option FieldType} {hh : List (Nat × Nat × Nat × Nat)} {d mc ms : Nat} (M : MC σ D dA A p l R s m args meth c own cc nL ret hh d mc ms) {L9 mc9 ms9 : Nat} (h1 : 1 ≤ d) (h2 : L9 ≤ 45) : (aRm (d - 1) mc9 ms9).frames + 1 ≤ R.frames ∧ 8 + (L9 + 11) + (aRm (d - 1) mc9 ms9).locals ≤ R.locals := by
  rw [M.2.2.2.2.2.2.2.1]
  show d - 1 + 1 ≤ d ∧ 8 + (L9 + 11) + 64 * (d - 1) ≤ 64 * d
  omega
theorem aRes9 {rest : List Value} (h : rest.length ≤ 4) {m : MethodId} {pc : Nat} {lsA : Array Slot} {st : List Value} : 2 * (F0 m pc lsA st).monitorRoom + (rest.map fun v => v.category).sum ≤ 8 := by
  have := cat4' rest 4 h
  show 2 * 0 + _ ≤ 8
  omega
abbrev aMH (y : MethodName) (k : Nat) : Prop := y.cls ≠ "java/lang/invoke/MethodHandle" ∧ y.cls ≠ "java/lang/invoke/VarHandle" ∧ (parseMethodDescriptor y.desc).map (fun d => d.parameters.length) = some k
theorem stk {st : List Value} {m : Nat} : st = (st.take m).reverse.reverse ++ st.drop m := by rw [List.reverse_reverse, List.take_append_drop]
theorem s_callS {own nm : String} {cc : ByteArray} {nL : Nat} {ret : Option FieldType} {hh : List (Nat × Nat × Nat × Nat)} {pc n : Nat} {ix y mm : Nat} {yn : MethodName} {by9 : ByteArray} {L9 : Nat} {r9 : Option FieldType} {hs : List (String × Option Nat)} (hy : mAt y = (yn, by9, L9, r9, [])) (h1 : Cond.methodLink own ix yn ∈ lw_all) (h2 : Cond.static yn ∈ lw_all) (h3 : Cond.initialized yn.cls ∈ lw_all) (h4 : Cond.code yn by9 L9 r9 ∈ lw_all) (h5 : aMH yn mm) (h6 : L9 ≤ 45) (hhs : aHS own hh pc hs) (hn : pc + 3 = n) (hd : decode cc pc = .ok (.invokestatic ix, 3)) : Snd own nm cc nL ret hh pc (fun _ => i_callS y mm hs n) := by
  intro σ D dA A p l e R s m args below meth c d mc ms C0 P M hnam9 hC ls st h k sl q
  unfold i_callS at q
  subst hn
  obtain ⟨hm, hr4, mc9, ms9, P9, hC9, hk, hsl, q⟩ := q
  obtain ⟨hd1, hM⟩ := hC _ _ _ _ _ _ hC9
  simp only [mN, mB, mL, mR, mH, hy] at hM
  intro H locs lsA hR hS hL
  exact a_run M hS hL hhs hk hsl (vx_runS (As := (st.take mm).reverse) (aFix M) hM (va_cwS mm M.2.2.2.2.1 (lw_S h1 h2 h3 h4) rfl rfl rfl h5 (aRoom M hd1 h6)) (aPre M hR hS _) rfl (by rw [List.length_reverse, List.length_take]; omega) hL.2.1 stk (aRes9 hr4) hd (by rw [M.2.2.2.2.2.2.2.1]; exact ⟨hk, hsl⟩)) q
theorem s_callSX {own nm : String} {cc : ByteArray} {nL : Nat} {ret : Option FieldType} {hh : List (Nat × Nat × Nat × Nat)} {pc n : Nat} {ix y mm : Nat} {yn : MethodName} {by9 : ByteArray} {L9 : Nat} {r9 : Option FieldType} {hs : List (String × Option Nat)} {hh9 : List (Nat × Nat × Nat × Nat)} (hy : mAt y = (yn, by9, L9, r9, hh9)) (hne : hh9 ≠ []) (h1 : Cond.methodLink own ix yn ∈ lw_all) (h2 : Cond.static yn ∈ lw_all) (h3 : Cond.initialized yn.cls ∈ lw_all) (h4 : Cond.codeWith yn by9 L9 r9 hh9 ∈ lw_all) (h5 : aMH yn mm) (h6 : L9 ≤ 45) (hhs : aHS own hh pc hs) (hn : pc + 3 = n) (hd : decode cc pc = .ok (.invokestatic ix, 3)) : Snd own nm cc nL ret hh pc (fun _ => i_callS y mm hs n) := by
  intro σ D dA A p l e R s m args below meth c d mc ms C0 P M hnam9 hC ls st h k sl q
  unfold i_callS at q
  subst hn
  obtain ⟨hm, hr4, mc9, ms9, P9, hC9, hk, hsl, q⟩ := q
  obtain ⟨hd1, hM⟩ := hC _ _ _ _ _ _ hC9
  simp only [mN, mB, mL, mR, mH, hy] at hM
  have hW9 : mWs yn by9 L9 r9 hh9 = wsW_ yn by9 L9 r9 hh9 := by
    cases hh9 with
    | nil => exact absurd rfl hne
    | cons a b => rfl
  rw [hW9] at hM
  intro H locs lsA hR hS hL
  exact a_run M hS hL hhs hk hsl (vx_runSX (As := (st.take mm).reverse) (aFix M) hM (vx_cwSW mm M.2.2.2.2.1 (lw_SW h1 h2 h3 h4) rfl rfl rfl h5 (aRoom M hd1 h6)) (aPre M hR hS _) rfl (by rw [List.length_reverse, List.length_take]; omega) hL.2.1 stk (aRes9 hr4) hd (by rw [M.2.2.2.2.2.2.2.1]; exact ⟨hk, hsl⟩)) q
theorem s_callSN {own nm : String} {cc : ByteArray} {nL : Nat} {ret : Option FieldType} {hh : List (Nat × Nat × Nat × Nat)} {pc n : Nat} {ix y mm : Nat} {yn : MethodName} {by9 : ByteArray} {L9 : Nat} {r9 : Option FieldType} {hs : List (String × Option Nat)} {host : String} (hy : mAt y = (yn, by9, L9, r9, [])) (h1 : Cond.methodLinkNest own ix yn host ∈ lw_tbl) (h2 : Cond.static yn ∈ lw_all) (h3 : Cond.initialized yn.cls ∈ lw_all) (h4 : Cond.code yn by9 L9 r9 ∈ lw_all) (h5 : aMH yn mm) (h6 : L9 ≤ 45) (hhs : aHS own hh pc hs) (hn : pc + 3 = n) (hd : decode cc pc = .ok (.invokestatic ix, 3)) : Snd own nm cc nL ret hh pc (fun _ => i_callS y mm hs n) := by
  intro σ D dA A p l e R s m args below meth c d mc ms C0 P M hnam9 hC ls st h k sl q
  unfold i_callS at q
  subst hn
  obtain ⟨hm, hr4, mc9, ms9, P9, hC9, hk, hsl, q⟩ := q
  obtain ⟨hd1, hM⟩ := hC _ _ _ _ _ _ hC9
  simp only [mN, mB, mL, mR, mH, hy] at hM
  intro H locs lsA hR hS hL
  exact a_run M hS hL hhs hk hsl (vx_runSN (As := (st.take mm).reverse) (aFix M) hM ⟨va_cnB mm M.2.2.2.2.1 (lw_meth h4) rfl rfl rfl (M.2.2.2.2.2.2.2.2.2.2.1.2.1.2.1 _ _ _ _ h1) (M.2.2.2.2.1 _ h3) h5 (aRoom M hd1 h6), M.2.2.2.2.1 _ h2, trivial⟩ (aPre M hR hS _) rfl (by rw [List.length_reverse, List.length_take]; omega) hL.2.1 stk (aRes9 hr4) hd (by rw [M.2.2.2.2.2.2.2.1]; exact ⟨hk, hsl⟩)) q
theorem stkI {st rest : List Value} {a m : Nat} (h : st.drop m = .ref a :: rest) : st = (st.take m).reverse.reverse ++ .ref a :: rest := by rw [List.reverse_reverse, ← h, List.take_append_drop]
theorem s_callI {own nm : String} {cc : ByteArray} {nL : Nat} {ret : Option FieldType} {hh : List (Nat × Nat × Nat × Nat)} {pc n : Nat} {ix y mm : Nat} {yn : MethodName} {by9 : ByteArray} {L9 : Nat} {hs : List (String × Option Nat)} (hy : mAt y = (yn, by9, L9, none, [])) (h1 : Cond.methodLink own ix yn ∈ lw_all) (h2 : Cond.instanceMethod yn ∈ lw_all) (h3 : Cond.initialized yn.cls ∈ lw_all) (h4 : Cond.code yn by9 L9 none ∈ lw_all) (h5 : aMH yn mm) (h6 : L9 ≤ 45) (h7 : yn.name = "<init>") (hhs : aHS own hh pc hs) (hn : pc + 3 = n) (hd : decode cc pc = .ok (.invokespecial ix, 3)) : Snd own nm cc nL ret hh pc (fun _ => i_callI y mm hs n) := by
  intro σ D dA A p l e R s m args below meth c d mc ms C0 P M hnam9 hC ls st h k sl q
  unfold i_callI at q
  subst hn
  split at q
  · next a rest hdr =>
    obtain ⟨hm, hr4, mc9, ms9, P9, hC9, hk, hsl, q⟩ := q
    obtain ⟨hd1, hM⟩ := hC _ _ _ _ _ _ hC9
    simp only [mN, mB, mL, mR, mH, hy] at hM
    intro H locs lsA hR hS hL
    exact a_run M hS hL hhs hk hsl (vx_runI (As := (st.take mm).reverse) (b := a) (aFix M) hM (cwI mm M.2.2.2.2.1 (lw_meth h4) rfl rfl rfl (M.2.2.2.2.1 _ h3) (M.2.2.2.2.1 _ h1) (M.2.2.2.2.1 _ h2) h7 h5 (aRoom M hd1 h6)) (aPre M hR hS _) rfl (by rw [List.length_reverse, List.length_take]; omega) hL.2.1 (stkI hdr) (aRes9 hr4) hd (by rw [M.2.2.2.2.2.2.2.1]; exact ⟨hk, hsl⟩)) q
  · exact q.elim
theorem s_callIN {own nm : String} {cc : ByteArray} {nL : Nat} {ret : Option FieldType} {hh : List (Nat × Nat × Nat × Nat)} {pc n : Nat} {ix y mm : Nat} {yn : MethodName} {by9 : ByteArray} {L9 : Nat} {hs : List (String × Option Nat)} {host : String} (hy : mAt y = (yn, by9, L9, none, [])) (h1 : Cond.methodLinkNest own ix yn host ∈ lw_tbl) (h2 : Cond.instanceMethod yn ∈ lw_all) (h3 : Cond.initialized yn.cls ∈ lw_all) (h4 : Cond.code yn by9 L9 none ∈ lw_all) (h5 : aMH yn mm) (h6 : L9 ≤ 45) (h7 : yn.name = "<init>") (hhs : aHS own hh pc hs) (hn : pc + 3 = n) (hd : decode cc pc = .ok (.invokespecial ix, 3)) : Snd own nm cc nL ret hh pc (fun _ => i_callI y mm hs n) := by
  intro σ D dA A p l e R s m args below meth c d mc ms C0 P M hnam9 hC ls st h k sl q
  unfold i_callI at q
  subst hn
  split at q
  · next a rest hdr =>
    obtain ⟨hm, hr4, mc9, ms9, P9, hC9, hk, hsl, q⟩ := q
    obtain ⟨hd1, hM⟩ := hC _ _ _ _ _ _ hC9
    simp only [mN, mB, mL, mR, mH, hy] at hM
    intro H locs lsA hR hS hL
    exact a_run M hS hL hhs hk hsl (vx_runIN (As := (st.take mm).reverse) (b := a) (aFix M) hM ⟨va_cnB mm M.2.2.2.2.1 (lw_meth h4) rfl rfl rfl (M.2.2.2.2.2.2.2.2.2.2.1.2.1.2.1 _ _ _ _ h1) (M.2.2.2.2.1 _ h3) h5 (aRoom M hd1 h6), h7, M.2.2.2.2.1 _ h2⟩ (aPre M hR hS _) rfl (by rw [List.length_reverse, List.length_take]; omega) hL.2.1 (stkI hdr) (aRes9 hr4) hd (by rw [M.2.2.2.2.2.2.2.1]; exact ⟨hk, hsl⟩)) q
  · exact q.elim
/-- a call through an object of class number cn lands in method y -/
def aDsp (own nm : String) (cc : ByteArray) (nL : Nat) (ret : Option FieldType) (hh : List (Nat × Nat × Nat × Nat)) (pc n mm cn y : Nat) : Prop :=
  ∀ (σ : Nat → Value) (D : va_G) (dA : Nat → ClassId) (A : Nat → Prop) (p : Program) (l : Launch) (e : Env) (R : Room) (s : State) (m : MethodId) (args : Array Value) (below : List Frame) (meth : Method) (c : Code) (d mc ms : Nat) (C : aC),
    MC σ D dA A p l R s m args meth c own cc nL ret hh d mc ms → CH σ D dA A l C d → ∀ (H : Heap) (locs : List Loc) (lsA : Array Slot) (h : aH) (k sl mc9 ms9 a : Nat) (fs as rest : List Value) (P9 : aO → aH → Prop), C y (.ref a :: as) h mc9 ms9 P9 → RH D dA A h H → va_S A s.heap H locs → lsA.size = nL → h.2 a = some (.inr (cn, fs)) → as.length = mm → rest.length ≤ 4 → k + mc9 ≤ mc → sl + ms9 ≤ ms → ∀ T : State, T.heap = H → Stand p l e R s m args below meth c T locs k sl →
      (∃ (v : Option Value) (st₀ t T' : State) (L : List Loc), st₀.heap = H ∧ Stand p l e R s m args below meth c T' (locs ++ L) (k + mc9) (sl + ms9) ∧ (∀ q ∈ L, A q.base) ∧ T'.heap = t.heap ∧ T'.vm = t.vm ∧ aQc D dA A P9 (Value.ref a :: as).toArray st₀ (.returned v) t ∧
        Goes p e below T (F0 m pc lsA (as.reverse ++ .ref a :: rest)) T' { F0 m pc lsA (as.reverse ++ .ref a :: rest) with pc := n, stack := v.toList ++ rest }) ∨
      (∃ (q : Addr) (st₀ t T' : State) (L : List Loc) (E : String) (ce : Cell), st₀.heap = H ∧ Stand p l e R s m args below meth c T' (locs ++ L) (k + mc9) (sl + ms9) ∧ (∀ z ∈ L, A z.base) ∧ T'.heap = t.heap ∧ T'.vm = t.vm ∧ aXC D dA A P9 E st₀ t ∧ t.heap[q]? = some ce ∧ ce.vm = .none ∧ s.vm.findClass E = some ce.cls ∧
        Steps p.tables e below (T.setTop (F0 m pc lsA (as.reverse ++ .ref a :: rest))) ((T'.setTop { F0 m pc lsA (as.reverse ++ .ref a :: rest) with stack := rest }).pushFrame (.throwing q)))
theorem d_V {own nm : String} {cc : ByteArray} {nL : Nat} {ret : Option FieldType} {hh : List (Nat × Nat × Nat × Nat)} {pc n mm cn y ix : Nat} {yn : MethodName} {by9 : ByteArray} {L9 : Nat} {r9 : Option FieldType} {rr : vw_C} (hy : mAt y = (yn, by9, L9, r9, [])) (hc : aCl[cn % 1000]? = some rr) (h1 : Cond.methodLink own ix yn ∈ lw_all) (h2 : Cond.instanceMethod yn ∈ lw_all) (h7 : Cond.selects rr.1 yn yn ∈ lw_all) (h3 : Cond.initialized rr.1 ∈ lw_all) (h4 : Cond.code yn by9 L9 r9 ∈ lw_all) (h8 : yn.cls = rr.1) (h5 : aMH yn mm) (h6 : L9 ≤ 45) (hn : pc + 3 = n) (hd : decode cc pc = .ok (.invokevirtual ix, 3)) : aDsp own nm cc nL ret hh pc n mm cn y := by
  subst hn
  intro σ D dA A p l e R s m args below meth c d mc ms C M hC H locs lsA h k sl mc9 ms9 a fs as rest P9 hC9 hR hS hL ha has hr4 hk hsl
  obtain ⟨hd1, hM⟩ := hC _ _ _ _ _ _ hC9
  simp only [mN, mB, mL, mR, mH, hy] at hM
  have hK := M.2.2.2.2.2.2.2.2.2.2.1.1
  exact vx_runV (C := rr.1) (aFix M) hM (cwV mm M.2.2.2.2.1 (lw_V h1 h2 h7 h3 h4) rfl rfl rfl ⟨h8, h5⟩ (aRoom M hd1 h6)) ⟨aPc.blind, hR.recv hK ha hc, (aPre M hR hS (.ref a :: as)).2⟩ rfl has hL rfl (aRes9 hr4) hd (by rw [M.2.2.2.2.2.2.2.1]; exact ⟨hk, hsl⟩)
theorem d_VX {own nm : String} {cc : ByteArray} {nL : Nat} {ret : Option FieldType} {hh : List (Nat × Nat × Nat × Nat)} {pc n mm cn y ix : Nat} {yn : MethodName} {by9 : ByteArray} {L9 : Nat} {r9 : Option FieldType} {rr : vw_C} {hh9 : List (Nat × Nat × Nat × Nat)} (hy : mAt y = (yn, by9, L9, r9, hh9)) (hc : aCl[cn % 1000]? = some rr) (hne : hh9 ≠ []) (h1 : Cond.methodLink own ix yn ∈ lw_all) (h2 : Cond.instanceMethod yn ∈ lw_all) (h7 : Cond.selects rr.1 yn yn ∈ lw_all) (h3 : Cond.initialized rr.1 ∈ lw_all) (h4 : Cond.codeWith yn by9 L9 r9 hh9 ∈ lw_all) (h8 : yn.cls = rr.1) (h5 : aMH yn mm) (h6 : L9 ≤ 45) (hn : pc + 3 = n) (hd : decode cc pc = .ok (.invokevirtual ix, 3)) : aDsp own nm cc nL ret hh pc n mm cn y := by
  subst hn
  intro σ D dA A p l e R s m args below meth c d mc ms C M hC H locs lsA h k sl mc9 ms9 a fs as rest P9 hC9 hR hS hL ha has hr4 hk hsl
  obtain ⟨hd1, hM⟩ := hC _ _ _ _ _ _ hC9
  simp only [mN, mB, mL, mR, mH, hy] at hM
  have hK := M.2.2.2.2.2.2.2.2.2.2.1.1
  have hW9 : mWs yn by9 L9 r9 hh9 = wsW_ yn by9 L9 r9 hh9 := by
    cases hh9 with
    | nil => exact absurd rfl hne
    | cons a b => rfl
  rw [hW9] at hM
  exact vx_runVX (C := rr.1) (aFix M) hM (vx_cwVW mm M.2.2.2.2.1 (lw_VW h1 h2 h7 h3 h4) rfl rfl rfl ⟨h8, h5⟩ (aRoom M hd1 h6)) ⟨aPc.blind, hR.recv hK ha hc, (aPre M hR hS (.ref a :: as)).2⟩ rfl has hL rfl (aRes9 hr4) hd (by rw [M.2.2.2.2.2.2.2.1]; exact ⟨hk, hsl⟩)
theorem d_VN {own nm : String} {cc : ByteArray} {nL : Nat} {ret : Option FieldType} {hh : List (Nat × Nat × Nat × Nat)} {pc n mm cn y ix : Nat} {yn : MethodName} {by9 : ByteArray} {L9 : Nat} {r9 : Option FieldType} {rr : vw_C} {host : String} (hy : mAt y = (yn, by9, L9, r9, [])) (hc : aCl[cn % 1000]? = some rr) (h1 : Cond.methodLinkNest own ix yn host ∈ lw_tbl) (h2 : Cond.instanceMethod yn ∈ lw_all) (h7 : Cond.selects rr.1 yn yn ∈ lw_all) (h3 : Cond.initialized yn.cls ∈ lw_all) (h4 : Cond.code yn by9 L9 r9 ∈ lw_all) (h5 : aMH yn mm) (h6 : L9 ≤ 45) (hn : pc + 3 = n) (hd : decode cc pc = .ok (.invokevirtual ix, 3)) : aDsp own nm cc nL ret hh pc n mm cn y := by
  subst hn
  intro σ D dA A p l e R s m args below meth c d mc ms C M hC H locs lsA h k sl mc9 ms9 a fs as rest P9 hC9 hR hS hL ha has hr4 hk hsl
  obtain ⟨hd1, hM⟩ := hC _ _ _ _ _ _ hC9
  simp only [mN, mB, mL, mR, mH, hy] at hM
  have hK := M.2.2.2.2.2.2.2.2.2.2.1.1
  exact vx_runVN (C := rr.1) (aFix M) hM ⟨va_cnB mm M.2.2.2.2.1 (lw_meth h4) rfl rfl rfl (M.2.2.2.2.2.2.2.2.2.2.1.2.1.2.1 _ _ _ _ h1) (M.2.2.2.2.1 _ h3) h5 (aRoom M hd1 h6), M.2.2.2.2.1 _ h2, M.2.2.2.2.1 _ h7⟩ ⟨aPc.blind, hR.recv hK ha hc, (aPre M hR hS (.ref a :: as)).2⟩ rfl has hL rfl (aRes9 hr4) hd (by rw [M.2.2.2.2.2.2.2.1]; exact ⟨hk, hsl⟩)
theorem d_U {own nm : String} {cc : ByteArray} {nL : Nat} {ret : Option FieldType} {hh : List (Nat × Nat × Nat × Nat)} {pc n mm cn y ix : Nat} {yn : MethodName} {by9 : ByteArray} {L9 : Nat} {r9 : Option FieldType} {rr : vw_C} {x : MethodName} {ow : String} (hy : mAt y = (yn, by9, L9, r9, [])) (hc : aCl[cn % 1000]? = some rr) (hwU : ∀ w ∈ ([.methodLink own ix x, .sameMethod x.cls ow x.name x.desc, .selects rr.1 x yn, .instanceMethod yn, .initialized yn.cls] : List Cond), w ∈ lw_all) (h4 : Cond.code yn by9 L9 r9 ∈ lw_all) (hyx : yn = ⟨ow, x.name, x.desc⟩) (h5 : aMH ⟨ow, x.name, x.desc⟩ mm) (h6 : L9 ≤ 45) (hn : pc + 3 = n) (hd : decode cc pc = .ok (.invokevirtual ix, 3)) : aDsp own nm cc nL ret hh pc n mm cn y := by
  subst hn
  intro σ D dA A p l e R s m args below meth c d mc ms C M hC H locs lsA h k sl mc9 ms9 a fs as rest P9 hC9 hR hS hL ha has hr4 hk hsl
  obtain ⟨hd1, hM⟩ := hC _ _ _ _ _ _ hC9
  simp only [mN, mB, mL, mR, mH, hy] at hM
  have hK := M.2.2.2.2.2.2.2.2.2.2.1.1
  exact vx_runU (C := rr.1) (aFix M) hM (va_cwU mm M.2.2.2.2.1 (lw_app hwU (lw_meth h4)) rfl rfl rfl hyx h5 (aRoom M hd1 h6)) ⟨aPc.blind, hR.recv hK ha hc, (aPre M hR hS (.ref a :: as)).2⟩ rfl has hL rfl (aRes9 hr4) hd (by rw [M.2.2.2.2.2.2.2.1]; exact ⟨hk, hsl⟩)
theorem d_O {own nm : String} {cc : ByteArray} {nL : Nat} {ret : Option FieldType} {hh : List (Nat × Nat × Nat × Nat)} {pc n mm cn y ix : Nat} {yn : MethodName} {by9 : ByteArray} {L9 : Nat} {r9 : Option FieldType} {rr : vw_C} {x : MethodName} {ow : String} {b0 : ByteArray} {m0 : Nat} {r0 : Option FieldType} (hy : mAt y = (yn, by9, L9, r9, [])) (hc : aCl[cn % 1000]? = some rr) (hwU : ∀ w ∈ ([.methodLink own ix x, .sameMethod x.cls ow x.name x.desc, .instanceMethod ⟨ow, x.name, x.desc⟩, .selects rr.1 x yn, .instanceMethod yn, .initialized yn.cls] : List Cond), w ∈ lw_all) (h4 : Cond.code yn by9 L9 r9 ∈ lw_all) (h0 : Cond.code ⟨ow, x.name, x.desc⟩ b0 m0 r0 ∈ lw_all) (h5 : aMH ⟨ow, x.name, x.desc⟩ mm) (h6 : L9 ≤ 45) (hn : pc + 3 = n) (hd : decode cc pc = .ok (.invokevirtual ix, 3)) : aDsp own nm cc nL ret hh pc n mm cn y := by
  subst hn
  intro σ D dA A p l e R s m args below meth c d mc ms C M hC H locs lsA h k sl mc9 ms9 a fs as rest P9 hC9 hR hS hL ha has hr4 hk hsl
  obtain ⟨hd1, hM⟩ := hC _ _ _ _ _ _ hC9
  simp only [mN, mB, mL, mR, mH, hy] at hM
  have hK := M.2.2.2.2.2.2.2.2.2.2.1.1
  exact vx_runU (C := rr.1) (aFix M) hM (va_cwO mm M.2.2.2.2.1 (lw_app hwU (lw_meth h4)) rfl rfl rfl h0 h5 (aRoom M hd1 h6)) ⟨aPc.blind, hR.recv hK ha hc, (aPre M hR hS (.ref a :: as)).2⟩ rfl has hL rfl (aRes9 hr4) hd (by rw [M.2.2.2.2.2.2.2.1]; exact ⟨hk, hsl⟩)
theorem d_A {own nm : String} {cc : ByteArray} {nL : Nat} {ret : Option FieldType} {hh : List (Nat × Nat × Nat × Nat)} {pc n mm cn y ix : Nat} {yn : MethodName} {by9 : ByteArray} {L9 : Nat} {r9 : Option FieldType} {rr : vw_C} {x : MethodName} {ow : String} (hy : mAt y = (yn, by9, L9, r9, [])) (hc : aCl[cn % 1000]? = some rr) (hwU : ∀ w ∈ ([.methodLink own ix x, .sameMethod x.cls ow x.name x.desc, .selects rr.1 x yn, .instanceMethod yn, .initialized yn.cls] : List Cond), w ∈ lw_all) (h4 : Cond.code yn by9 L9 r9 ∈ lw_all) (hz : Cond.declares ⟨ow, x.name, x.desc⟩ ∈ lw_tbl) (h5 : aMH ⟨ow, x.name, x.desc⟩ mm) (h6 : L9 ≤ 45) (hn : pc + 3 = n) (hd : decode cc pc = .ok (.invokevirtual ix, 3)) : aDsp own nm cc nL ret hh pc n mm cn y := by
  subst hn
  intro σ D dA A p l e R s m args below meth c d mc ms C M hC H locs lsA h k sl mc9 ms9 a fs as rest P9 hC9 hR hS hL ha has hr4 hk hsl
  obtain ⟨hd1, hM⟩ := hC _ _ _ _ _ _ hC9
  simp only [mN, mB, mL, mR, mH, hy] at hM
  have hK := M.2.2.2.2.2.2.2.2.2.2.1.1
  exact vx_runU (C := rr.1) (aFix M) hM (va_cwA mm M.2.2.2.2.1 (lw_app hwU (lw_meth h4)) rfl rfl rfl (M.2.2.2.2.2.2.2.2.2.2.1.2.1.2.2.2.2.2.1 _ hz) h5 (aRoom M hd1 h6)) ⟨aPc.blind, hR.recv hK ha hc, (aPre M hR hS (.ref a :: as)).2⟩ rfl has hL rfl (aRes9 hr4) hd (by rw [M.2.2.2.2.2.2.2.1]; exact ⟨hk, hsl⟩)
theorem d_F {own nm : String} {cc : ByteArray} {nL : Nat} {ret : Option FieldType} {hh : List (Nat × Nat × Nat × Nat)} {pc n mm cn y ix : Nat} {yn : MethodName} {by9 : ByteArray} {L9 : Nat} {r9 : Option FieldType} {rr : vw_C} {x : MethodName} {cnt : Nat} (hy : mAt y = (yn, by9, L9, r9, [])) (hc : aCl[cn % 1000]? = some rr) (hwF : ∀ w ∈ ([.methodLink own ix x, .selects rr.1 x yn, .instanceMethod yn, .initialized yn.cls] : List Cond), w ∈ lw_all) (h4 : Cond.code yn by9 L9 r9 ∈ lw_all) (k1 : Cond.declares x ∈ lw_tbl) (k2 : Cond.interfaceMethod x.cls x.cls x.name x.desc ∈ lw_tbl) (k3 : Cond.publicMethod yn ∈ lw_tbl) (k4 : Cond.unhidden rr.1 x.name x.desc ∈ lw_tbl) (k5 : Cond.castable rr.1 x.cls ∈ lw_tbl) (h5 : aMH x mm) (h6 : L9 ≤ 45) (hn : pc + 5 = n) (hd : decode cc pc = .ok (.invokeinterface ix cnt, 5)) : aDsp own nm cc nL ret hh pc n mm cn y := by
  subst hn
  intro σ D dA A p l e R s m args below meth c d mc ms C M hC H locs lsA h k sl mc9 ms9 a fs as rest P9 hC9 hR hS hL ha has hr4 hk hsl
  obtain ⟨hd1, hM⟩ := hC _ _ _ _ _ _ hC9
  simp only [mN, mB, mL, mR, mH, hy] at hM
  have hK := M.2.2.2.2.2.2.2.2.2.2.1.1
  exact vx_runF (C := rr.1) ((hK.1 _ _ hc).2) (aFix M) hM (va_cwF mm M.2.2.2.2.1 (lw_app hwF (lw_meth h4)) rfl rfl rfl (M.2.2.2.2.2.2.2.2.2.2.1.2.1.2.2.2.2.1 _ _ _ ⟨h5.1, h5.2.1⟩ k1 k2 k3 k4 k5) h5 (aRoom M hd1 h6)) ⟨aPc.blind, hR.recv hK ha hc, (aPre M hR hS (.ref a :: as)).2⟩ rfl has hL rfl (aRes9 hr4) hd (by rw [M.2.2.2.2.2.2.2.1]; exact ⟨hk, hsl⟩)
theorem d_Fu {own nm : String} {cc : ByteArray} {nL : Nat} {ret : Option FieldType} {hh : List (Nat × Nat × Nat × Nat)} {pc n mm cn y ix : Nat} {yn : MethodName} {by9 : ByteArray} {L9 : Nat} {r9 : Option FieldType} {rr : vw_C} {x : MethodName} {cnt : Nat} {J : String} (hy : mAt y = (yn, by9, L9, r9, [])) (hc : aCl[cn % 1000]? = some rr) (w1 : Cond.selects rr.1 ⟨J, x.name, x.desc⟩ yn ∈ lw_all) (w2 : Cond.instanceMethod yn ∈ lw_all) (w3 : Cond.initialized yn.cls ∈ lw_all) (h4 : Cond.code yn by9 L9 r9 ∈ lw_all) (k1 : (own, ix, J, x) ∈ aFuL) (k2 : (rr.1, J, x, yn) ∈ aFvL) (k3 : x.cls ≠ J) (k4 : J ≠ "java/lang/invoke/MethodHandle" ∧ J ≠ "java/lang/invoke/VarHandle") (h5 : aMH x mm) (h6 : L9 ≤ 45) (hn : pc + 5 = n) (hd : decode cc pc = .ok (.invokeinterface ix cnt, 5)) : aDsp own nm cc nL ret hh pc n mm cn y := by
  subst hn
  intro σ D dA A p l e R s m args below meth c d mc ms C M hC H locs lsA h k sl mc9 ms9 a fs as rest P9 hC9 hR hS hL ha has hr4 hk hsl
  obtain ⟨hd1, hM⟩ := hC _ _ _ _ _ _ hC9
  simp only [mN, mB, mL, mR, mH, hy] at hM
  have hK := M.2.2.2.2.2.2.2.2.2.2.1.1
  exact ifu_run (C := rr.1) ((hK.1 _ _ hc).2) (aFix M) hM (M.2.2.2.2.2.2.2.2.2.2.1.2.2.2.2.2.2.1 _ k1) (M.2.2.2.2.2.2.2.2.2.2.1.2.2.2.2.2.2.2 _ k2) k3 k4 w1 w2 w3 (lw_meth h4) rfl rfl rfl h5 (aRoom M hd1 h6) ⟨aPc.blind, hR.recv hK ha hc, (aPre M hR hS (.ref a :: as)).2⟩ rfl has hL rfl (aRes9 hr4) hd (by rw [M.2.2.2.2.2.2.2.1]; exact ⟨hk, hsl⟩)
theorem s_callU {own nm : String} {cc : ByteArray} {nL : Nat} {ret : Option FieldType} {hh : List (Nat × Nat × Nat × Nat)} {pc n : Nat} {ix y mm : Nat} {yn : MethodName} {by9 : ByteArray} {L9 : Nat} {r9 : Option FieldType} {hs : List (String × Option Nat)} (hy : mAt y = (yn, by9, L9, r9, [])) (h1 : Cond.methodLink own ix yn ∈ lw_all) (h2 : Cond.instanceMethod yn ∈ lw_all) (h7 : Cond.selects "jdk/internal/misc/Unsafe" yn yn ∈ lw_all) (h3 : Cond.initialized "jdk/internal/misc/Unsafe" ∈ lw_all) (h4 : Cond.code yn by9 L9 r9 ∈ lw_all) (h8 : yn.cls = "jdk/internal/misc/Unsafe") (h5 : aMH yn mm) (h6 : L9 ≤ 45) (hhs : aHS own hh pc hs) (hn : pc + 3 = n) (hd : decode cc pc = .ok (.invokevirtual ix, 3)) : Snd own nm cc nL ret hh pc (fun σ => i_callU (σ 4) y mm hs n) := by
  intro σ D dA A p l e R s m args below meth c d mc ms C0 P M hnam9 hC ls st h k sl q
  unfold i_callU at q
  subst hn
  split at q
  · next a rest hdr =>
    obtain ⟨hu, hm, hr4, mc9, ms9, P9, hC9, hk, hsl, q⟩ := q
    obtain ⟨hd1, hM⟩ := hC _ _ _ _ _ _ hC9
    simp only [mN, mB, mL, mR, mH, hy] at hM
    intro H locs lsA hR hS hL
    exact a_run M hS hL hhs hk hsl (vx_runV (As := (st.take mm).reverse) (b := a) (C := "jdk/internal/misc/Unsafe") (aFix M) hM (cwV mm M.2.2.2.2.1 (lw_V h1 h2 h7 h3 h4) rfl rfl rfl ⟨h8, h5⟩ (aRoom M hd1 h6)) ⟨aPc.blind, M.2.2.2.2.2.2.2.2.2.2.1.2.2.2.2.2.1.recv (fun a h1 h2 => hS.2.1 a h1 h2) hu, (aPre M hR hS (.ref a :: (st.take mm).reverse)).2⟩ rfl (by rw [List.length_reverse, List.length_take]; omega) hL.2.1 (stkI hdr) (aRes9 hr4) hd (by rw [M.2.2.2.2.2.2.2.1]; exact ⟨hk, hsl⟩)) q
  · exact q.elim
theorem s_ulong {own nm : String} {cc : ByteArray} {nL : Nat} {ret : Option FieldType} {hh : List (Nat × Nat × Nat × Nat)} {pc n : Nat} {ix : Nat} (hlink : Cond.methodLink own ix ugN ∈ lw_all) (hsel : Cond.selects "jdk/internal/misc/Unsafe" ugN ugN ∈ lw_all) (hinst : Cond.instanceMethod ugN ∈ lw_all) (hnat : Cond.native ugN ∈ lw_all) (hn : pc + 3 = n) (hd : decode cc pc = .ok (.invokevirtual ix, 3)) : Snd own nm cc nL ret hh pc (fun σ => i_ulong (σ 4) n) := by
  intro σ D dA A p l e R s m args below meth c d mc ms C0 P M hnam9 hC ls st h k sl q
  unfold i_ulong at q
  subst hn
  have hK := M.2.2.2.2.2.2.2.2.2.2.1.1
  have hRR := M.2.2.2.2.2.2.2.1
  split at q
  · next off a u r =>
    obtain ⟨hu, hd1, hr4, q⟩ := q
    split at q
    · next t m9 f ha =>
      obtain ⟨ht, j, hoff, hj1, hj2, q⟩ := q
      intro H locs lsA hR hS hL
      have h4 : t % 1000 = 0 := by rcases ht with z | z <;> rw [z]
      have hc1 : H[a]? = some (vp_cell (dA (t % 1000)) (m9, .inl f)) := (hR.2 a _ ha).1
      rw [h4] at hc1
      subst hoff
      refine ug_W M.1 M.2.1 (M.2.2.1.trans hL.2.1.symm) M.2.2.2.1 (M.2.2.2.2.1 _ hlink) (M.2.2.2.2.1 _ hsel) (M.2.2.2.2.1 _ hinst) (M.2.2.2.2.1 _ hnat) (M.2.2.2.2.2.2.2.2.2.2.1.2.2.2.2.2.1.recv (fun a h1 h2 => hS.2.1 a h1 h2) hu) hc1 ?_ hj1 hj2 (by rw [hRR]; exact hd1) (by rw [hRR]; show _ ≤ 64 * d; have := cat4 hr4; have hd2 : 1 ≤ d := hd1; omega) hd (q H locs lsA hR hS hL)
      obtain ⟨kA, hkA, comp, hkk⟩ := ((hK.2 0 _ rfl).1 0 (fun _ => .null)).2
      exact ⟨kA, comp, hkA, hkk⟩
    · exact q.elim
  · exact q.elim
theorem aLkMem {c y : Nat} : ∀ {dl : List (Nat × Nat)}, dl.lookup c = some y → (c, y) ∈ dl := by
  intro dl
  induction dl with
  | nil => intro h; cases h
  | cons q r ih =>
    intro h
    obtain ⟨a, b⟩ := q
    rw [List.lookup_cons] at h
    split at h
    · next e =>
      cases h
      rw [eq_of_beq e]
      exact List.mem_cons_self
    · exact List.mem_cons_of_mem _ (ih h)
theorem s_callV {own nm : String} {cc : ByteArray} {nL : Nat} {ret : Option FieldType} {hh : List (Nat × Nat × Nat × Nat)} {pc n : Nat} {mm : Nat} {dl : List (Nat × Nat)} {hs : List (String × Option Nat)} (hD : ∀ q ∈ dl, aDsp own nm cc nL ret hh pc n mm q.1 q.2) (hhs : aHS own hh pc hs) : Snd own nm cc nL ret hh pc (fun _ => i_callV dl mm hs n) := by
  intro σ D dA A p l e R s m args below meth c d mc ms C0 P M hnam9 hC ls st h k sl q
  unfold i_callV at q
  split at q
  · next a rest hdr =>
    obtain ⟨hm, q⟩ := q
    split at q
    · next c9 fs ha =>
      split at q
      · next y hy =>
        obtain ⟨hr4, mc9, ms9, P9, hC9, hk, hsl, q⟩ := q
        intro H locs lsA hR hS hL
        have hmem : (c9, y) ∈ dl := aLkMem hy
        have hrun := hD _ hmem σ D dA A p l e R s m args below meth c d mc ms C0 M hC H locs lsA h k sl mc9 ms9 a fs _ rest P9 hC9 hR hS hL.2.1 ha (by rw [List.length_reverse, List.length_take]; omega) hr4 hk hsl
        rw [← stkI hdr] at hrun
        exact a_run M hS hL hhs hk hsl hrun q
      · exact q.elim
    · exact q.elim
  · exact q.elim
theorem cl_toInt {z : Int32} (hz : ¬ z < 0) : z.toInt = (z.toNatClampNeg : Int) := by
  have hz0 : (0 : Int) ≤ z.toInt := by
    have := Int32.not_lt.mp hz
    simpa using Int32.le_iff_toInt_le.mp this
  show z.toInt = ((z.toInt.toNat : Nat) : Int)
  omega
theorem a_copy {α : Type} (z : α → Value) {σ : Nat → Value} {D : va_G} {dA : Nat → ClassId} {A : Nat → Prop} {p : Program} {l : Launch} {e : Env} {R : Room} {s : State} {m : MethodId} {args : Array Value} {below : List Frame} {meth : Method} {c : Code} {own : String} {cc : ByteArray} {nL : Nat} {ret : Option FieldType} {hh : List (Nat × Nat × Nat × Nat)} {d mc ms : Nat} (M : MC σ D dA A p l R s m args meth c own cc nL ret hh d mc ms)
    {ix pc : Nat} {Q : State → Prop} {H : Heap} {locs : List Loc} {k sl : Nat} {lsA : Array Slot} {rest : List Value} {a0 a1 : Nat} {c0 c1 : ClassId} {n0 n1 : Nat} {f g : Nat → α} {sp dp n : Int32} {k0 k1 : Class} {m0 m1 : ClassId} {t0 t1 : FieldType}
    (w1 : Cond.methodLink own ix arraycopyName ∈ lw_all) (w2 : Cond.native arraycopyName ∈ lw_all) (w3 : Cond.static arraycopyName ∈ lw_all) (w4 : Cond.initialized "java/lang/System" ∈ lw_all) (hd : decode cc pc = .ok (.invokestatic ix, 3)) (hlA : lsA.size = nL) (hd1 : 1 ≤ d) (hr4 : rest.length ≤ 4)
    (hc0 : H[a0]? = some (arrV c0 n0 (fun j => z (f j)))) (hc1 : H[a1]? = some (arrV c1 n1 (fun j => z (g j)))) (hk0 : s.vm.classes[c0]? = some k0) (hk1 : s.vm.classes[c1]? = some k1) (hkk0 : k0.kind = .array m0 t0) (hkk1 : k1.kind = .array m1 t1) (hty : ((refKind t0 != refKind t1) || (!refKind t0 && t0 != t1)) = false)
    (h1 : ¬ sp < 0) (h2 : ¬ dp < 0) (h3 : ¬ n < 0) (h4 : sp.toNatClampNeg + n.toNatClampNeg ≤ n0) (h5 : dp.toNatClampNeg + n.toNatClampNeg ≤ n1)
    (hvals : ∀ T : State, T.heap = H → ∀ vm', s.vm.Alike vm' → ∀ i, i < n.toNatClampNeg → fits t1 (z (f (sp.toNatClampNeg + i))) = true ∧ (T.setVm vm').takes m1 (z (f (sp.toNatClampNeg + i))))
    (hS : va_S A s.heap H locs) (hA : A a1)
    (kk : ∀ (H1 : Heap) (locs1 : List Loc), H1[a1]? = some (arrV c1 n1 (fun j => z (va_cpy f g sp.toNatClampNeg dp.toNatClampNeg n.toNatClampNeg j))) → H1.size = H.size → (∀ q, q ≠ a1 → H1[q]? = H[q]?) → va_S A s.heap H1 locs1 → W p l e R s m args below meth c H1 locs1 k sl Q (F0 m (pc + 3) lsA rest)) :
    W p l e R s m args below meth c H locs k sl Q (F0 m pc lsA (.int n :: .int dp :: .ref a1 :: .int sp :: .ref a0 :: rest)) := by
  intro T hT X
  have hts := M.2.2.2.2.1
  have hRR := M.2.2.2.2.2.2.2.1
  obtain ⟨vm', X', step⟩ := X.arraycopy M.1 M.2.2.2.1 (hts _ w1) (hts _ w2) (hts _ w3) (hts _ w4) (src := a0) (dst := a1) (cs := arrV c0 n0 (fun j => z (f j))) (cd := arrV c1 n1 (fun j => z (g j))) (srcPos := sp) (destPos := dp) (n := n) (by rw [hT]; exact hc0) (by rw [hT]; exact hc1)
    (fun _ h => by cases h) (fun _ h => by cases h) (fun h => by cases h) (fun h => by cases h) hk0 hk1 hkk0 hkk1 hty h1 h2 h3
    (by rw [cl_toInt h1, cl_toInt h3, arrV_size]; omega)
    (by rw [cl_toInt h2, cl_toInt h3, arrV_size]; omega)
    (fun vm₁ hal i hi => by
      have e : (arrV c0 n0 (fun j => z (f j))).slots.getD (sp.toNatClampNeg + i) .null = z (f (sp.toNatClampNeg + i)) := by
        rw [Array.getD_eq_getD_getElem?, arrV_read _ _ (by omega)]
        rfl
      rw [e]
      exact hvals T hT vm₁ hal i hi)
    (g := F0 m pc lsA (.int n :: .int dp :: .ref a1 :: .int sp :: .ref a0 :: rest)) rfl (by rw [M.2.2.1]; exact hlA) (rest := rest) rfl (by rw [M.2.1]; exact hd) (by rw [hRR]; exact hd1) (by
      rw [hRR]
      show 2 * 0 + _ + _ ≤ 64 * d
      have h9 := cat4 hr4
      have h8 : nativeFrameWords "java/lang/System" "arraycopy" 5 ≤ 40 := by decide +kernel
      omega)
  have e1 : copied (arrV c0 n0 (fun j => z (f j))) (arrV c1 n1 (fun j => z (g j))) sp dp n = arrV c1 n1 (fun j => z (va_cpy f g sp.toNatClampNeg dp.toNatClampNeg n.toNatClampNeg j)) := va_copied z c0 c1 f g h4
  rw [e1] at X' step
  have hl : a1 < H.size := (Array.getElem?_eq_some_iff.mp hc1).1
  have hheap : ((T.setVm vm').setCell a1 (arrV c1 n1 (fun j => z (va_cpy f g sp.toNatClampNeg dp.toNatClampNeg n.toNatClampNeg j)))).heap = H.setIfInBounds a1 (arrV c1 n1 (fun j => z (va_cpy f g sp.toNatClampNeg dp.toNatClampNeg n.toNatClampNeg j))) := by rw [← hT]; rfl
  have oq : ∀ q : Nat, q ≠ a1 → (H.setIfInBounds a1 (arrV c1 n1 (fun j => z (va_cpy f g sp.toNatClampNeg dp.toNatClampNeg n.toNatClampNeg j))))[q]? = H[q]? := fun q hq => by simp [Array.getElem?_setIfInBounds, Ne.symm hq]
  obtain ⟨t, b1, b2⟩ := kk _ _ (show (H.setIfInBounds a1 _)[a1]? = some _ by simp [Array.getElem?_setIfInBounds, hl]) (by simp) oq ⟨by simp; exact hS.1, fun q g1 g2 => by
      rw [oq q (fun e => g2 (by rw [e]; exact hA))]
      exact hS.2.1 q g1 g2, fun q hq => by
      rcases List.mem_append.mp hq with h | h
      · exact hS.2.2 q h
      · obtain ⟨z9, -, hz⟩ := List.mem_map.mp h
        rw [← hz]
        exact hA⟩ _ hheap X'
  exact ⟨t, step t b1, b2⟩
theorem s_acopy {own nm : String} {cc : ByteArray} {nL : Nat} {ret : Option FieldType} {hh : List (Nat × Nat × Nat × Nat)} {pc n : Nat} {ix : Nat} (w1 : Cond.methodLink own ix arraycopyName ∈ lw_all) (w2 : Cond.native arraycopyName ∈ lw_all) (w3 : Cond.static arraycopyName ∈ lw_all) (w4 : Cond.initialized "java/lang/System" ∈ lw_all) (hn : pc + 3 = n) (hd : decode cc pc = .ok (.invokestatic ix, 3)) : Snd own nm cc nL ret hh pc (fun _ => i_acopy n) := by
  intro σ D dA A p l e R s m args below meth c d mc ms C0 P M hnam9 hC ls st h k sl q
  unfold i_acopy at q
  subst hn
  have hK := M.2.2.2.2.2.2.2.2.2.2.1.1
  have hT2 := M.2.2.2.2.2.2.2.2.2.2.1.2.1
  split at q
  · next ln dp b sp a r =>
    obtain ⟨hd1, hr4, g1, g2, g3, q⟩ := q
    have hd1 : 1 ≤ d := hd1
    split at q
    · next t1 m1 f t2 m2 f2 ha hb =>
      obtain ⟨e1, e2, g4, g5, q⟩ := q
      subst e2
      intro H locs lsA hR hS hL
      have hA := (hR.2 b _ hb).2 (show 0 < 1000 by decide)
      have hc0 : H[a]? = some (vp_cell (dA (t1 % 1000)) (m1, .inl f)) := (hR.2 a _ ha).1
      have hc1 : H[b]? = some (vp_cell (dA 0) (m2, .inl f2)) := (hR.2 b _ hb).1
      rw [e1] at hc0
      obtain ⟨-, k0, hk0, cm0, hkk0⟩ := (hK.2 0 _ rfl).1 m1 (fun j => .int (f j))
      exact a_copy (fun x => .int x) M w1 w2 w3 w4 hd hL.2.1 hd1 hr4 hc0 hc1 hk0 hk0 hkk0 hkk0 rfl g3 g2 g1 g4 g5 (fun T hT vm' hal i hi => ⟨rfl, trivial⟩) hS hA fun H1 locs1 e z oq hS1 => q H1 locs1 lsA (hR.put z oq e (fun _ => hA)) hS1 hL
    · next t1 m1 f t2 m2 f2 ha hb =>
      obtain ⟨e1, e2, g4, g5, q⟩ := q
      subst e2
      intro H locs lsA hR hS hL
      have hA := (hR.2 b _ hb).2 (show 2 < 1000 by decide)
      have hc0 : H[a]? = some (vp_cell (dA (t1 % 1000)) (m1, .inr (.inl f))) := (hR.2 a _ ha).1
      have hc1 : H[b]? = some (vp_cell (dA 2) (m2, .inr (.inl f2))) := (hR.2 b _ hb).1
      rw [e1] at hc0
      obtain ⟨-, k0, hk0, cm0, hkk0⟩ := (hK.2 2 _ rfl).1 m1 (fun j => .long (f j))
      exact a_copy (fun x => .long x) M w1 w2 w3 w4 hd hL.2.1 hd1 hr4 hc0 hc1 hk0 hk0 hkk0 hkk0 rfl g3 g2 g1 g4 g5 (fun T hT vm' hal i hi => ⟨rfl, trivial⟩) hS hA fun H1 locs1 e z oq hS1 => q H1 locs1 lsA (hR.put z oq e (fun _ => hA)) hS1 hL
    · next t1 m1 f t2 m2 f2 ha hb =>
      obtain ⟨e1, e2, g4, g5, g6, q⟩ := q
      subst e2
      intro H locs lsA hR hS hL
      have hA := (hR.2 b _ hb).2 (show 4 < 1000 by decide)
      have hc0 : H[a]? = some (vp_cell (dA (t1 % 1000)) (m1, .inr (.inr (.inr (.inr f))))) := (hR.2 a _ ha).1
      have hc1 : H[b]? = some (vp_cell (dA 4) (m2, .inr (.inr (.inr (.inr f2))))) := (hR.2 b _ hb).1
      rw [e1] at hc0
      obtain ⟨-, k0, hk0, cm0, hkk0⟩ := (hK.2 4 _ rfl).1 m1 (fun j => va_rf (f j))
      exact a_copy (fun x => va_rf x) M w1 w2 w3 w4 hd hL.2.1 hd1 hr4 hc0 hc1 hk0 hk0 hkk0 hkk0 rfl g3 g2 g1 g4 g5 (fun T hT vm' hal i hi => by
        cases hy : f (sp.toNatClampNeg + i) with
        | none => exact ⟨rfl, trivial⟩
        | some y =>
          obtain ⟨c9, fs9, hy9, hlt9⟩ := g6 i hi y hy
          obtain ⟨r9, h9, h8⟩ := aObj_all (c9 % 1000) hlt9
          obtain ⟨r8, h7, cellV, y1, y2, y3, -⟩ := (hR.obj hy9) 0 _ rfl
          cases h9.symm.trans h7
          obtain ⟨kA, comp, r1, r2, r3, -⟩ := (hK.2 4 _ rfl).2
          cases hk0.symm.trans r1
          cases hkk0.symm.trans r2
          obtain ⟨kE, hkE, -⟩ := Vm.findClass_spec r3
          obtain ⟨kC, hkC, -⟩ := ((hK.1 _ _ h9).2).2
          obtain ⟨kC', hkC', -⟩ := hal.2.2 _ _ hkC
          obtain ⟨kE', hkE', -⟩ := hal.2.2 _ _ hkE
          refine ⟨rfl, cellV, (show T.heap[y]? = some cellV by rw [hT]; exact y1), (fun q h => by rw [h] at y3; cases y3), ⟨kC', by rw [y2]; exact hkC'⟩, ?_, ?_⟩
          · exact ⟨kE', hkE'⟩
          · show vm'.assignable _ _ = true
            rw [hal.assignable, y2]
            exact aAsg hK hT2 h9 (Or.inr h8) _ r3) hS hA fun H1 locs1 e z oq hS1 => q H1 locs1 lsA (hR.put z oq e (fun _ => hA)) hS1 hL
    · exact q.elim
  · exact q.elim
theorem outerC_arr (c : ClassId) (N h0 : Nat) : ∀ i, Jvm.Free.Multi.outerC c N h0 i = arrV c N (fun j => if j < i then .ref (h0 + 1 + j) else .null) := by
  intro i
  induction i with
  | zero =>
    show ({ cls := c, slots := Array.replicate N .null, vm := .none } : Cell) = _
    rw [arrV_new]
    congr 1
  | succ i ih =>
    show (Jvm.Free.Multi.outerC c N h0 i).setSlot i (.ref (h0 + 1 + i)) = _
    rw [ih, arrV_store]
    congr 1
    funext j
    unfold updV
    by_cases h1 : j = i
    · subst h1
      simp
    · by_cases h2 : j < i
      · simp [h1, h2, show j < i + 1 by omega]
      · simp [h1, h2, show ¬ j < i + 1 by omega]
theorem arrV_congr (c : ClassId) (N : Nat) (f g : Nat → Value) (h : ∀ j, j < N → f j = g j) : arrV c N f = arrV c N g := by
  unfold arrV
  congr 1
  exact congrArg Array.ofFn (funext fun j => h j.1 j.2)
theorem s_multi {own nm : String} {cc : ByteArray} {nL : Nat} {ret : Option FieldType} {hh : List (Nat × Nat × Nat × Nat)} {pc n : Nat} {ix : Nat} (hcl : Cond.classLink own ix ("[" ++ (FieldType.array .int).toString) ∈ lw_all) (hov : Cond.arrayOver (.array .int) ∈ lw_tbl) (hac : Cond.arrayClass .int ∈ lw_all) (hn : pc + 4 = n) (hd : decode cc pc = .ok (.multianewarray ix 2, 4)) : Snd own nm cc nL ret hh pc (fun _ => i_multi n) := by
  intro σ D dA A p l e R s m args below meth c d mc ms C0 P M hnam9 hC ls st h k sl q
  unfold i_multi at q
  subst hn
  have hK := M.2.2.2.2.2.2.2.2.2.2.1.1
  have hRR := M.2.2.2.2.2.2.2.1
  have hts := M.2.2.2.2.1
  split at q
  · next kk9 n9 r =>
    intro H locs lsA hR hS hL
    obtain ⟨h1, h2, h3, h4, h5, h6, q⟩ := q hR.wf
    intro T hT X
    obtain ⟨vm₁, cA, comp, hW1, hfA, hfC, -, -, X1, step⟩ := X.multianewarray2F M.1 (own := own) (index := ix) (ty := .int) M.2.2.2.1 (hts _ hcl) (aAOI.use (M.2.2.2.2.2.2.2.2.2.2.1.2.1.2.2.2.2.2.2 hov)) (hts _ hac) (g := F0 m pc lsA (.int kk9 :: .int n9 :: r)) rfl (by rw [M.2.1]; exact hd) (n := n9) (k := kk9) (rest := r) rfl h1 h2
      (by omega) (by show kk9.toNatClampNeg * 4 ≤ _; omega) (by omega) rfl rfl (by rw [hRR]; exact h5) (by rw [hRR]; exact h6)
    have hcA : cA = dA 5 := Option.some.inj (hfA.symm.trans (hK.2 5 _ rfl).2)
    have hcC : comp = dA 0 := Option.some.inj (hfC.symm.trans (hK.2 0 _ rfl).2)
    subst hcA
    subst hcC
    have hsz : (T.setVm vm₁).heap.size = h.1 := by show T.heap.size = _; rw [hT, hR.1]
    obtain ⟨f1, f2, f3, f4⟩ := Jvm.Free.Multi.fill_facts (T.setVm vm₁) (dA 5) (dA 0) n9.toNatClampNeg kk9.toNatClampNeg (defaultValue .int) n9.toNatClampNeg
    have fo := fun (x : Nat) (hx : x < h.1) => Jvm.Free.Multi.fill_old (T.setVm vm₁) (dA 5) (dA 0) n9.toNatClampNeg kk9.toNatClampNeg (defaultValue .int) (a := x) (by rw [hsz]; exact hx) n9.toNatClampNeg
    have fi := Jvm.Free.Multi.fill_inner (T.setVm vm₁) (dA 5) (dA 0) n9.toNatClampNeg kk9.toNatClampNeg (defaultValue .int) n9.toNatClampNeg
    rw [hsz] at f1 f2 fi
    have hold : (T.setVm vm₁).heap = H := hT
    rw [hold] at fo
    generalize hF : Jvm.Free.Multi.fill (T.setVm vm₁) (dA 5) (dA 0) n9.toNatClampNeg kk9.toNatClampNeg (defaultValue .int) n9.toNatClampNeg = F9 at f1 f2 fo fi X1 step
    have hA9 : ∀ x : Nat, h.1 ≤ x → A x := fun x hx => M.2.2.2.2.2.2.2.2.1 x (Nat.le_trans (by rw [← hR.1]; exact hS.1) hx)
    have q2 := q F9.heap locs lsA ⟨f1, fun x e9 he => by
      unfold hm at he
      by_cases y1 : x = h.1
      · subst y1
        simp only [if_true] at he
        cases he
        refine ⟨?_, fun _ => hA9 _ (Nat.le_refl _)⟩
        show F9.heap[h.1]? = some (vp_cell (dA 5) _)
        rw [f2, outerC_arr, vp_cell_q]
        exact congrArg some (arrV_congr _ _ _ _ fun j hj => by simp [hj, va_rf])
      · simp only [y1, if_false] at he
        by_cases y2 : h.1 < x ∧ x < h.1 + 1 + n9.toNatClampNeg
        · simp only [y2, and_self, if_true] at he
          cases he
          refine ⟨?_, fun _ => hA9 _ (Nat.le_of_lt y2.1)⟩
          show F9.heap[x]? = some (vp_cell (dA 0) _)
          have := fi (x - h.1 - 1) (by omega)
          rw [show h.1 + 1 + (x - h.1 - 1) = x by omega] at this
          rw [this, vp_cell_i]
          exact congrArg some (arrV_new _ _ _)
        · simp only [y2, if_false] at he
          have hx := hR.wf x e9 he
          exact ⟨(hR.2 x e9 he).1.kept (fo x hx), (hR.2 x e9 he).2⟩⟩ ⟨Nat.le_trans hS.1 (by rw [f1, hR.1]; omega), fun x y1 y2 => by
        have : x < h.1 := by rw [← hR.1]; exact Nat.lt_of_lt_of_le y1 hS.1
        rw [fo x this]
        exact hS.2.1 x y1 y2, hS.2.2⟩ hL
    rw [Nat.add_assoc, Nat.add_assoc] at X1
    obtain ⟨t, b1, b2⟩ := q2 F9 rfl X1
    rw [← hR.1, ← hT] at b1
    exact ⟨t, step t b1, b2⟩
  · exact q.elim
/-- a word that a throw asks: it rides, or is one of the others -/
def aGW (w : Cond) : Prop := w ∈ lw_all ∨ (∃ C T, w = .castable C T ∧ w ∈ lw_tbl) ∨ ∃ x, w = .declares x ∧ w ∈ lw_tbl
theorem s_throw0 {own nm : String} {cc : ByteArray} {nL : Nat} {ret : Option FieldType} {hh : List (Nat × Nat × Nat × Nat)} {pc n : Nat} {E : String} {names : List String} {ik ic : Nat} (hcls : Bundle.fit E = true) (hnames : ∀ n ∈ names, Bundle.fit n = true) (hnl : names.length ≤ 5) (hk : Cond.classLink own ik E ∈ lw_all) (hini : Cond.initialized E ∈ lw_all) (hat : ∀ w ∈ Bundle.ownAtoms0 own ic E names, vx_no w = true → aGW w) (hgood : ∀ w ∈ Cond.classLink own ik E :: Cond.initialized E :: vx_at0 own ic E names, vx_ot w = true) (hout : ∀ z ∈ tableOf hh, covers z (pc + 7) = false) (d0 : decode cc pc = .ok (.new ik, 3)) (d3 : decode cc (pc + 3) = .ok (.dup, 1)) (d4 : decode cc (pc + 4) = .ok (.invokespecial ic, 3)) (d7 : decode cc (pc + 7) = .ok (.athrow, 1)) : Snd own nm cc nL ret hh pc (fun _ => i_throw0 E) := by
  intro σ D dA A p l e R s m args below meth c d mc ms C0 P M hnam9 hC ls st h k sl q
  unfold i_throw0 at q
  obtain ⟨hr4, hd12, h3, h4, q⟩ := q
  have hd12 : 12 ≤ d := hd12
  have hRR := M.2.2.2.2.2.2.2.1
  have hts := M.2.2.2.2.1
  have hT2 := M.2.2.2.2.2.2.2.2.2.2.1.2.1
  have hST := M.2.2.2.2.2.2.2.2.2.2.1.2.2.1
  intro H locs lsA hR hS hL
  refine vx_throw0 (names := names) M.1 M.2.1 M.2.2.2.2.2.2.2.2.2.1 M.2.2.2.1 hcls hnames (hts _ hk) (hts _ hini) (fun w hw => ?_) hgood hST.2.2.1 hST.2.2.2 hS (hL.2.1.trans M.2.2.1.symm) d0 d3 d4 d7 (fun z hz => hout z (by rw [← M.2.2.2.2.2.2.2.2.2.2.2]; exact hz)) (by rw [hRR]; show _ < d; omega) (by rw [hRR]; show _ ≤ 64 * d; have := cat4 hr4; omega) (by rw [hRR]; exact h3) (by rw [hRR]; exact h4) M.2.2.2.2.2.1 (fun t hal hsz ho => ?_) hS.2.2 h3 h4
  · obtain ⟨hw1, hw2⟩ := List.mem_filter.mp hw
    rcases hat w hw1 hw2 with z | ⟨C9, T9, rfl, z⟩ | ⟨x9, rfl, z⟩
    · exact hts w z
    · exact va_Nw.use rfl (hT2.2.2.1 _ _ z)
    · exact va_Nw.use rfl (hT2.2.2.2.2.2.1 _ z)
  · refine ⟨⟨_, (q t.heap.size (by rw [← hR.1]; exact hsz)).2.2, hR.grow ho⟩, Nat.le_trans hS.1 hsz, fun x y1 y2 => ?_⟩
    rw [ho x (Nat.lt_of_lt_of_le y1 hS.1)]
    exact hS.2.1 x y1 y2
theorem s_athrow {own nm : String} {cc : ByteArray} {nL : Nat} {ret : Option FieldType} {hh : List (Nat × Nat × Nat × Nat)} {pc n : Nat} {cn : Nat} {E : String} {r9 : vw_C} (hc : aCl[cn]? = some r9) (hcn : cn < 1000) (hE : r9.1 = E) (hout : ∀ z ∈ tableOf hh, covers z pc = false) (hd : decode cc pc = .ok (.athrow, 1)) : Snd own nm cc nL ret hh pc (fun _ => i_athrow cn E) := by
  intro σ D dA A p l e R s m args below meth c d mc ms C0 P M hnam9 hC ls st h k sl q
  unfold i_athrow at q
  have hK := M.2.2.2.2.2.2.2.2.2.2.1.1
  split at q
  · next a r =>
    split at q
    · next c9 fs ha =>
      obtain ⟨rfl, q1, q2, q3⟩ := q
      intro H locs lsA hR hS hL
      have hcm : c9 % 1000 = c9 := Nat.mod_eq_of_lt hcn
      obtain ⟨r8, h8, cell, y1, y2, y3, -⟩ := (hR.obj ha) 0 _ rfl
      rw [hcm] at h8 y2
      cases hc.symm.trans h8
      refine vx_athrow M.1 M.2.1 hd ?_
      refine vx_out (E := E) (fun z hz => hout z (by rw [← M.2.2.2.2.2.2.2.2.2.2.2]; exact hz)) M.2.2.2.2.2.1 y1 y3 (by rw [y2, ← hE]; exact (hK.1 _ _ hc).2.1) (fun t9 ht9 hal => ⟨⟨h, q3, by rw [ht9]; exact hR⟩, hS.F ht9⟩) hS.2.2 q1 q2
    · exact q.elim
  · exact q.elim
theorem s_mmax {own nm : String} {cc : ByteArray} {nL : Nat} {ret : Option FieldType} {hh : List (Nat × Nat × Nat × Nat)} {pc n : Nat} {ix : Nat} (h1 : Cond.methodLink own ix Lib.Math.max.name ∈ lw_all) (h2 : Cond.static Lib.Math.max.name ∈ lw_all) (h3 : Cond.initialized "java/lang/Math" ∈ lw_all) (h4 : Cond.code Lib.Math.max.name Lib.Math.max.code 2 (some .int) ∈ lw_all) (hn : pc + 3 = n) (hd : decode cc pc = .ok (.invokestatic ix, 3)) : Snd own nm cc nL ret hh pc (fun _ => i_mmax n) := by
  intro σ D dA A p l e R s m args below meth c d mc ms C0 P M hnam9 hC ls st h k sl q
  unfold i_mmax at q
  subst hn
  have hRR := M.2.2.2.2.2.2.2.1
  have hts := M.2.2.2.2.1
  split at q
  · next y x r =>
    obtain ⟨hd1, hr4, hk, hs, q⟩ := q
    intro H locs lsA hR hS hL
    exact va_mmax M.1 M.2.1 (M.2.2.1.trans hL.2.1.symm) M.2.2.2.1 (hts _ h1) (hts _ h2) (hts _ h3) (hts _ h4) (by rw [hRR]; exact hd1) (by rw [hRR]; show _ ≤ 64 * d; have := cat4 hr4; have hd2 : 1 ≤ d := hd1; omega) (by rw [hRR]; exact hk) (by rw [hRR]; exact hs) hd (q H locs lsA hR hS hL)
  · exact q.elim
theorem s_mmin {own nm : String} {cc : ByteArray} {nL : Nat} {ret : Option FieldType} {hh : List (Nat × Nat × Nat × Nat)} {pc n : Nat} {ix : Nat} (h1 : Cond.methodLink own ix Lib.Math.min.name ∈ lw_all) (h2 : Cond.static Lib.Math.min.name ∈ lw_all) (h3 : Cond.initialized "java/lang/Math" ∈ lw_all) (h4 : Cond.code Lib.Math.min.name Lib.Math.min.code 2 (some .int) ∈ lw_all) (hn : pc + 3 = n) (hd : decode cc pc = .ok (.invokestatic ix, 3)) : Snd own nm cc nL ret hh pc (fun _ => i_mmin n) := by
  intro σ D dA A p l e R s m args below meth c d mc ms C0 P M hnam9 hC ls st h k sl q
  unfold i_mmin at q
  subst hn
  have hRR := M.2.2.2.2.2.2.2.1
  have hts := M.2.2.2.2.1
  split at q
  · next y x r =>
    obtain ⟨hd1, hr4, hk, hs, q⟩ := q
    intro H locs lsA hR hS hL
    exact va_mmin M.1 M.2.1 (M.2.2.1.trans hL.2.1.symm) M.2.2.2.1 (hts _ h1) (hts _ h2) (hts _ h3) (hts _ h4) (by rw [hRR]; exact hd1) (by rw [hRR]; show _ ≤ 64 * d; have := cat4 hr4; have hd2 : 1 ≤ d := hd1; omega) (by rw [hRR]; exact hk) (by rw [hRR]; exact hs) hd (q H locs lsA hR hS hL)
  · exact q.elim
