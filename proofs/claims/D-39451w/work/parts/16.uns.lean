/-! Unsafe.getLong and getInt of an array of ints -/
set_option maxRecDepth 100000
theorem ug_locate {E : CtlPost} {e : Env} {d : Bool} {acts : List Action} {s : State} {a : Addr} {A : Cell} {k : Class} {comp : ClassId} {off : Int64} {p : Nat} {Q : UnsafeMem.Target → Pre}
    (hA : s.heap[a]? = some A) (hvm : A.vm = .none) (hk : s.vm.classes[A.cls]? = some k) (hkind : k.kind = .array comp .int) (hneg : ¬ off < 0) (hoff : off.toNatClampNeg = 16 + p) :
    wp (UnsafeMem.locate (.ref a) off .long) Q E e d acts s ↔ Q (UnsafeMem.Target.bytes a .int p) d acts s := by
  simp [UnsafeMem.locate, hneg, hoff, hA, Cell.info, hvm, hk, hkind, UnsafeMem.arrayBase, UnsafeMem.scaleOf, UnsafeMem.isRefType]
theorem ug_byte {E : CtlPost} {e : Env} {d : Bool} {acts : List Action} {s : State} {a : Addr} {A : Cell} {i : Nat} {x : Int32} {Q : Nat → Pre} (hA : s.heap[a]? = some A) (hvm : A.vm = .none) (h : A.slots[i / 4]? = some (.int x)) :
    wp (UnsafeMem.readByte a .int i .plain) Q E e d acts s ↔ Q (x.toUInt32.toNat % 2 ^ 32 / 2 ^ (8 * (i % 4)) % 256) d (readActs ⟨a, i / 4⟩ .plain (.int x) acts) s := by
  simp [UnsafeMem.readByte, UnsafeMem.scaleOf, UnsafeMem.bitsOf, hA, hvm, h]
set_option maxRecDepth 1000000 in
theorem ug_row0 : (NativeRow.find? Jvm.natives "jdk/internal/misc/Unsafe" "getLong" "(Ljava/lang/Object;J)J").isSome = true := by decide +kernel
theorem or_some' {α : Type 1} {o p : Option α} {r : α} (h : o = some r) : o.or p = some r := by rw [h]; rfl
theorem or_none' {α : Type 1} {o p : Option α} {r : α} (h : o.isNone = true) (h2 : p = some r) : o.or p = some r := by
  rw [Option.isNone_iff_eq_none.mp h, h2]
  rfl
set_option maxRecDepth 1000000 in
set_option maxHeartbeats 4000000 in
theorem ug_find : NativeRow.find? Jvm.natives "jdk/internal/misc/Unsafe" "getLong" "(Ljava/lang/Object;J)J" = some (Native.jdk_internal_misc_Unsafe.memory.getRow "Long" "J" .long "" .plain) := by
  unfold NativeRow.find? Jvm.natives
  iterate 30 rw [List.find?_append]
  iterate 29 refine or_some' ?_
  refine or_none' (by decide +kernel) ?_
  rfl
theorem ug_row (p : Program) : NativeRow.find? p.tables.natives "jdk/internal/misc/Unsafe" "getLong" "(Ljava/lang/Object;J)J" = some (Native.jdk_internal_misc_Unsafe.memory.getRow "Long" "J" .long "" .plain) := by
  cases p <;> exact ug_find
def ug_b (x : Int32) (k : Nat) : Nat := x.toUInt32.toNat % 2 ^ 32 / 2 ^ (8 * k) % 256
/-- eight bytes of two ints, as one long -/
def ug_w (x y : Int32) : Int64 := (([ug_b x 0, ug_b x 1, ug_b x 2, ug_b x 3, ug_b y 0, ug_b y 1, ug_b y 2, ug_b y 3].zipIdx.map fun (b, k) => b * 2 ^ (8 * k)).sum).toUInt64.toInt64
theorem ug_get {E : CtlPost} {e : Env} {d : Bool} {acts : List Action} {s : State} {a : Addr} {A : Cell} {k : Class} {comp : ClassId} {off : Int64} {q : Nat} {x y : Int32} {Q : Value → Pre}
    (hA : s.heap[a]? = some A) (hvm : A.vm = .none) (hk : s.vm.classes[A.cls]? = some k) (hkind : k.kind = .array comp .int) (hneg : ¬ off < 0) (hoff : off.toNatClampNeg = 16 + 4 * q)
    (hx : A.slots[q]? = some (.int x)) (hy : A.slots[q + 1]? = some (.int y)) (hQ : ∀ d' acts', Q (.long (ug_w x y)) d' acts' s) : wp (UnsafeMem.get .long (.ref a) off .plain) Q E e d acts s := by
  have hr : List.range (UnsafeMem.scaleOf .long) = [0, 1, 2, 3, 4, 5, 6, 7] := rfl
  have e0 : A.slots[(4 * q + 0) / 4]? = some (.int x) := by rw [show (4 * q + 0) / 4 = q by omega]; exact hx
  have e1 : A.slots[(4 * q + 1) / 4]? = some (.int x) := by rw [show (4 * q + 1) / 4 = q by omega]; exact hx
  have e2 : A.slots[(4 * q + 2) / 4]? = some (.int x) := by rw [show (4 * q + 2) / 4 = q by omega]; exact hx
  have e3 : A.slots[(4 * q + 3) / 4]? = some (.int x) := by rw [show (4 * q + 3) / 4 = q by omega]; exact hx
  have e4 : A.slots[(4 * q + 4) / 4]? = some (.int y) := by rw [show (4 * q + 4) / 4 = q + 1 by omega]; exact hy
  have e5 : A.slots[(4 * q + 5) / 4]? = some (.int y) := by rw [show (4 * q + 5) / 4 = q + 1 by omega]; exact hy
  have e6 : A.slots[(4 * q + 6) / 4]? = some (.int y) := by rw [show (4 * q + 6) / 4 = q + 1 by omega]; exact hy
  have e7 : A.slots[(4 * q + 7) / 4]? = some (.int y) := by rw [show (4 * q + 7) / 4 = q + 1 by omega]; exact hy
  simp only [UnsafeMem.get, wp_bind', ug_locate hA hvm hk hkind hneg hoff, hr, List.mapM, List.mapM.loop, ug_byte hA hvm e0, ug_byte hA hvm e1, ug_byte hA hvm e2, ug_byte hA hvm e3, ug_byte hA hvm e4, ug_byte hA hvm e5, ug_byte hA hvm e6, ug_byte hA hvm e7, wp_pure', show (4 * q + 0) % 4 = 0 by omega, show (4 * q + 1) % 4 = 1 by omega, show (4 * q + 2) % 4 = 2 by omega, show (4 * q + 3) % 4 = 3 by omega, show (4 * q + 4) % 4 = 0 by omega, show (4 * q + 5) % 4 = 1 by omega, show (4 * q + 6) % 4 = 2 by omega, show (4 * q + 7) % 4 = 3 by omega]
  exact hQ _ _
def ugN : MethodName := ⟨"jdk/internal/misc/Unsafe", "getLong", "(Ljava/lang/Object;J)J"⟩
theorem ug_desc : parseMethodDescriptor ugN.desc = some { parameters := [.object "java/lang/Object", .long], returnType := some .long } := by decide +kernel
theorem ug_decl {args : Array Value} {s : State} {x : MethodName} (hnat : (Cond.native x).before args s = true) (hinst : (Cond.instanceMethod x).before args s = true) : (Cond.declares x).before args s = true := by
  obtain ⟨m, meth, h1, h2, -, -, -, h6⟩ := Cond.native_spec hnat
  obtain ⟨m', meth', g1, g2, g3, -⟩ := Cond.instanceMethod_spec hinst
  cases h1.symm.trans g1
  cases h2.symm.trans g2
  simp [Cond.before, Cond.holds, Cond.value, h1, h2, g3, h6]
abbrev ug_G : Type := Nat × Nat × ClassId × Nat × (Nat → Int32) × Nat
def ug_P (g : ug_G) (a : Array Value) (U : State) : Prop :=
  a = #[.ref g.1, .ref g.2.1, .long (Int64.ofNat (16 + 4 * g.2.2.2.2.2))] ∧ U.heap[g.2.1]? = some (arrV g.2.2.1 g.2.2.2.1 (fun j => .int (g.2.2.2.2.1 j))) ∧ (∃ (k : Class) (comp : ClassId), U.vm.classes[g.2.2.1]? = some k ∧ k.kind = .array comp .int) ∧ g.2.2.2.2.2 + 1 < g.2.2.2.1 ∧ g.2.2.2.2.2 < 2 ^ 31
theorem ug_off {q : Nat} (hq : q < 2 ^ 31) : ¬ Int64.ofNat (16 + 4 * q) < 0 ∧ (Int64.ofNat (16 + 4 * q)).toNatClampNeg = 16 + 4 * q := by
  have h1 : (Int64.ofNat (16 + 4 * q)).toInt = ((16 + 4 * q : Nat) : Int) := Int64.toInt_ofNat_of_lt (by omega)
  constructor
  · rw [Int64.lt_iff_toInt_lt, h1]
    have : (0 : Int64).toInt = 0 := rfl
    rw [this]
    omega
  · show (Int64.ofNat (16 + 4 * q)).toInt.toNat = _
    rw [h1]
    rfl
theorem ug_pays {l : Launch} {R : Room} {p : Program} {e : Env} {below : List Frame} {s : State} {sargs : Array Value} {len W9 : Nat} (hnat : (Cond.native ugN).before sargs s = true) (hinst : (Cond.instanceMethod ugN).before sargs s = true) (hfr : 1 ≤ R.frames) (hlo : W9 + 17 ≤ R.locals) :
    Free.Back l R p e below s sargs ugN len W9 (fun A a => ∃ g : ug_G, ug_P g a A.U) (fun A a v B => B = A ∧ ∀ g : ug_G, ug_P g a A.U → v = some (.long (ug_w (g.2.2.2.2.1 g.2.2.2.2.2) (g.2.2.2.2.1 (g.2.2.2.2.2 + 1))))) :=
  Free.Back.of_nativeQ (P := ug_P) (val := fun g : ug_G => some (.long (ug_w (g.2.2.2.2.1 g.2.2.2.2.2) (g.2.2.2.2.1 (g.2.2.2.2.2 + 1))))) (words := 4) (ug_row p) (Free.nativeInstance hnat hinst ug_desc) hfr (by rw [show nativeFrameWords ugN.cls ugN.name 4 = 6 from by decide +kernel]; omega) fun g U a m _ hst hps hP => by
    obtain ⟨u, arr, cA, n, f, q⟩ := g
    obtain ⟨rfl, hA, ⟨k, comp, hk, hkind⟩, hin, hq⟩ := hP
    dsimp only at hA hk hin hq
    refine ⟨rfl, by simp [seenByNative, hst, hps, narrow], fun fs Q hQ => ?_⟩
    show wp (do let v ← UnsafeMem.get .long (.ref arr) (Int64.ofNat (16 + 4 * q)) .plain; mark "nat.jdk_internal_misc_Unsafe.get"; Pure.pure (some v)) Q _ e false [] (U.setFrames fs)
    simp only [wp_bind']
    refine ug_get (s := U.setFrames fs) (A := arrV cA n (fun j => .int (f j))) (k := k) (comp := comp) (q := q) (x := f q) (y := f (q + 1)) hA rfl hk hkind (ug_off hq).1 (ug_off hq).2 (arrV_read _ _ (by omega)) (arrV_read _ _ (by omega)) fun d' acts' => ?_
    simp
    exact hQ _ _
theorem ug_W {p : Program} {l : Launch} {e : Env} {R : Room} {s : State} {m : MethodId} {args : Array Value} {below : List Frame} {meth : Method} {c : Code} {H : Heap} {locs : List Loc} {cells slots : Nat} {Q : State → Prop} {ls : Array Slot} {pc : Nat} {cc : ByteArray}
    (hexec : p.tables.exec = Jvm.exec) (hb : c.code = cc) (hml : c.maxLocals = ls.size) {own : String} {index : Nat} (hown : s.vm.findClass own = some m.cls) (hlink : (Cond.methodLink own index ugN).before args s = true)
    (hsel : (Cond.selects "jdk/internal/misc/Unsafe" ugN ugN).before args s = true) (hinst : (Cond.instanceMethod ugN).before args s = true) (hnat : (Cond.native ugN).before args s = true) {u a n q : Nat} {cA : ClassId} {f : Nat → Int32} {rest : List Value}
    (hu : ∃ cell : Cell, H[u]? = some cell ∧ cell.vm.isStatics = false ∧ s.vm.findClass "jdk/internal/misc/Unsafe" = some cell.cls) (hA : H[a]? = some (arrV cA n (fun j => .int (f j)))) (hk : ∃ (k : Class) (comp : ClassId), s.vm.classes[cA]? = some k ∧ k.kind = .array comp .int) (hq1 : q + 1 < n) (hq2 : q < 2 ^ 31)
    (hframes : 1 ≤ R.frames) (hlocals : (rest.map fun v => v.category).sum + 17 ≤ R.locals) (hdg : decode cc pc = .ok (.invokevirtual index, 3))
    (kk : W p l e R s m args below meth c H locs cells slots Q (F0 m (pc + 3) ls (.long (ug_w (f q) (f (q + 1))) :: rest))) : W p l e R s m args below meth c H locs cells slots Q (F0 m pc ls (.long (Int64.ofNat (16 + 4 * q)) :: .ref a :: .ref u :: rest)) := by
  intro T hT X
  obtain ⟨cell, g1, g2, g3⟩ := hu
  obtain ⟨k, comp, hk1, hk2⟩ := hk
  obtain ⟨vm', X', st⟩ := X.virtualQ hexec hown hlink (ug_decl hnat hinst) (notFace_of_selects hsel) hsel hinst (by decide) (ug_pays (l := l) (len := 3) (W9 := (rest.map fun v => v.category).sum) hnat hinst hframes hlocals) (b := u) (cB := cell.cls) g3 ⟨cell, by rw [hT]; exact g1, rfl, g2⟩
    (g := F0 m pc ls (.long (Int64.ofNat (16 + 4 * q)) :: .ref a :: .ref u :: rest)) rfl (by rw [hml]) (argsL := [.ref a, .long (Int64.ofNat (16 + 4 * q))]) (rest := rest) (fun sig h => by rw [ug_desc] at h; rw [← Option.some.inj h]; rfl) rfl (by show 2 * 0 + _ ≤ _; omega) (by rw [hb]; exact hdg) (u, a, cA, n, f, q)
    (fun vmx hWx => ⟨rfl, by show T.heap[a]? = _; rw [hT]; exact hA, by
      obtain ⟨k', hk', he⟩ := X.warmed.alike.2.2 _ _ hk1
      obtain ⟨k'', hk'', he'⟩ := hWx.alike.2.2 _ _ hk1
      exact ⟨k'', comp, hk'', by rw [he']; exact hk2⟩, hq1, hq2⟩)
  obtain ⟨t, a1, b1⟩ := kk (T.setVm vm') hT X'
  exact ⟨t, st t a1, b1⟩
/-- the words of a call through an interface that has the method of a wider one, J -/
def aFu (own : String) (ix : Nat) (J : String) (x : MethodName) (U : State) : Prop := (Cond.methodLink own ix x).before #[] U = true ∧ (Cond.interfaceMethod x.cls J x.name x.desc).before #[] U = true
def aFv (C J : String) (x y : MethodName) (U : State) : Prop := (Cond.declares ⟨J, x.name, x.desc⟩).before #[] U = true ∧ (Cond.publicMethod ⟨J, x.name, x.desc⟩).before #[] U = true ∧ (Cond.publicMethod y).before #[] U = true ∧ (Cond.unhidden C x.name x.desc).before #[] U = true ∧ (Cond.castable C x.cls).before #[] U = true
section
variable {p : Program} {l : Launch} {e : Env} {R : Room} {s : State} {m : MethodId} {args : Array Value} {below : List Frame} {meth : Method} {c : Code} {H : Heap} {locs : List Loc} {cells slots : Nat}
theorem ifu_call {T : State} (X : Stand p l e R s m args below meth c T locs cells slots) (hexec : p.tables.exec = Jvm.exec) {own C J : String} {index count : Nat} {x y : MethodName}
    (hown : s.vm.findClass own = some m.cls) (hU : aFu own index J x s) (hV : aFv C J x y s) (hxo : x.cls ≠ J) (hJ : J ≠ "java/lang/invoke/MethodHandle" ∧ J ≠ "java/lang/invoke/VarHandle")
    (hsel : (Cond.selects C ⟨J, x.name, x.desc⟩ y).before args s = true) (hinst : (Cond.instanceMethod y).before args s = true) (hx : x.cls ≠ "java/lang/invoke/MethodHandle" ∧ x.cls ≠ "java/lang/invoke/VarHandle")
    {W9 : Nat} {Pre : Pt → Array Value → Prop} {Post : Pt → Array Value → Option Value → Pt → Prop} {PostX : Pt → Array Value → Addr → Pt → Prop} (hK : vx_Back l R p e below s args y 5 W9 Pre Post PostX)
    {b : Addr} {cellB : Cell} {kB : Class} (hcell : T.heap[b]? = some cellB) (hobj : cellB.vm.isStatics = false) (hcls : s.vm.findClass C = some cellB.cls) (hkB : s.vm.classes[cellB.cls]? = some kB)
    {g : JFrame} (hg : g.method = m) (hsize : g.locals.size = c.maxLocals) {argsL rest : List Value} (hlen : ∀ sig, parseMethodDescriptor x.desc = some sig → argsL.length = sig.parameters.length)
    (hstack : g.stack = argsL.reverse ++ .ref b :: rest) (hW : 2 * g.monitorRoom + (rest.map fun v => v.category).sum ≤ W9) (hdg : decode c.code g.pc = .ok (.invokeinterface index count, 5))
    (hpre : ∀ vm₁, s.WarmedH vm₁ → Pre ⟨T.setVm vm₁, locs, cells, slots⟩ (Value.ref b :: argsL).toArray) :
    (∃ (v : Option Value) (vm₁ : Vm) (B : Pt), s.WarmedH vm₁ ∧ Stand p l e R s m args below meth c B.U B.locs B.cells B.slots ∧ Post ⟨T.setVm vm₁, locs, cells, slots⟩ (Value.ref b :: argsL).toArray v B ∧
      ∀ target, Steps p.tables e below (B.U.setTop { g with pc := g.pc + 5, stack := v.toList ++ rest }) target → Steps p.tables e below (T.setTop g) target) ∨
    (∃ (q : Addr) (vm₁ : Vm) (B : Pt), s.WarmedH vm₁ ∧ Stand p l e R s m args below meth c B.U B.locs B.cells B.slots ∧ PostX ⟨T.setVm vm₁, locs, cells, slots⟩ (Value.ref b :: argsL).toArray q B ∧
      Steps p.tables e below (T.setTop g) ((B.U.setTop { g with stack := rest }).pushFrame (.throwing q))) := by
  have hlink : (Cond.methodLink own index x).before args s = true := va_any rfl hU.1
  have hface : (Cond.interfaceMethod x.cls J x.name x.desc).before args s = true := va_any rfl hU.2
  have hdecl : (Cond.declares ⟨J, x.name, x.desc⟩).before args s = true := va_any rfl hV.1
  have hpubJ : (Cond.publicMethod ⟨J, x.name, x.desc⟩).before args s = true := va_any rfl hV.2.1
  have hpub : (Cond.publicMethod y).before args s = true := va_any rfl hV.2.2.1
  have hunh : (Cond.unhidden C x.name x.desc).before args s = true := va_any rfl hV.2.2.2.1
  have hcast : (Cond.castable C x.cls).before args s = true := va_any rfl hV.2.2.2.2
  obtain ⟨r0, r, hn, hrm, hstR, hsigR⟩ := Cond.declares_spec hdecl
  obtain ⟨cL, kL, r1, hcL, hkL, hiL, hfoundL, hn1⟩ := Cond.interfaceMethod_spec hface
  cases hn.symm.trans hn1
  obtain ⟨hnameR, hdescR⟩ := name_of_methodNamed hn hrm
  obtain ⟨mk, methM, hnamed, hmethM, -, habM⟩ := Cond.instanceMethod_spec hinst
  obtain ⟨c2, r2, m2, q1, q2, q3, q4, -⟩ := Cond.selects_spec hsel
  cases hcls.symm.trans q1
  cases (State.methodFound?_of_named hn hJ).symm.trans q2
  cases hnamed.symm.trans q3
  have hselP : selectMethod e.platform s.vm cellB.cls r0 = .method mk := by rw [Launch.admits_selectMethod X.admits]; exact q4
  have hpubM : hasFlag methM.accessFlags Acc.public_ = true := Cond.publicMethod_spec hnamed hmethM hpub
  have hway : ((cellB.cls :: s.vm.superclasses cellB.cls).any fun k => (declaredIn s.vm r.name r.desc k).any fun (_, z) => z.isPrivate || z.isStatic) = false := by
    rw [hnameR, hdescR]
    exact Cond.unhidden_spec hcls hunh
  obtain ⟨c3, t3, w1, w2, w3⟩ := Cond.castable_spec hcast
  cases hcls.symm.trans w1
  cases hcL.symm.trans w2
  obtain ⟨vm₁, X₁, hstep₁⟩ := X.invokeinterfaceUp hexec (J := J) hown hlink hface hdecl hpubJ hxo hx (a := b) (cell := cellB) (kcell := kB) hcL hcell
    (fun z h => by rw [h] at hobj; cases hobj) hkB w3 hn hrm hselP hmethM hway hpubM habM (g := g) hg (argsL := argsL) (rest := rest) (hlen _ hsigR) hstack hdg
  rcases hK m meth c ⟨T.setVm vm₁, locs, cells, slots⟩ { g with stack := rest } (.invokeinterface index count) mk (Value.ref b :: argsL).toArray X₁ hg hsize hdg hW (X₁.named hnamed) (hpre vm₁ X₁.warmed) with ⟨v, B, X', hpost, hsteps⟩ | ⟨q, B, X', hpost, hsteps⟩
  · exact Or.inl ⟨v, vm₁, B, X₁.warmed, X', hpost, fun target h => hstep₁ _ fun acts => by rw [doInvoke_state]; exact hsteps.trans h⟩
  · exact Or.inr ⟨q, vm₁, B, X₁.warmed, X', hpost, hstep₁ _ fun acts => by rw [doInvoke_state]; exact hsteps⟩
theorem ifu_run {x y : MethodName} {bytes cc : ByteArray} {maxL nL mc ms n index count : Nat} {ret : Option FieldType} {ws : List Cond} {rm : Room} {Pc : Array Value → State → Prop} {Qc : Array Value → State → Outcome → State → Prop} {XC : String → State → State → Prop} {free : Addr → Prop} {Ts ws' : List Cond} {own C J : String} {cC : ClassId} {b : Addr} {As rest : List Value} {g : JFrame}
    (hat : ClassAt s C cC) (S : CallFix p m c cc nL s args Ts own) (hM : vx_Met l y ws rm Pc Qc XC mc ms free) (hU : aFu own index J x s) (hV : aFv C J x y s) (hxo : x.cls ≠ J) (hJ : J ≠ "java/lang/invoke/MethodHandle" ∧ J ≠ "java/lang/invoke/VarHandle") (hsel : Cond.selects C ⟨J, x.name, x.desc⟩ y ∈ Ts) (hinst : Cond.instanceMethod y ∈ Ts) (hini : Cond.initialized y.cls ∈ Ts) (hG : GoodIn Ts ws) (hw : ws = Cond.code y bytes maxL ret :: ws') (hrc : rm.cells = mc) (hrs : rm.slots = ms)
    (hd : x.cls ≠ "java/lang/invoke/MethodHandle" ∧ x.cls ≠ "java/lang/invoke/VarHandle" ∧ (parseMethodDescriptor x.desc).map (fun d => d.parameters.length) = some n) (hR : rm.frames + 1 ≤ R.frames ∧ 8 + (maxL + 11) + rm.locals ≤ R.locals) (hp : PreV s H C b Pc As)
    (hg : g.method = m) (hn : As.length = n) (hsize : g.locals.size = nL) (hstack : g.stack = As.reverse ++ .ref b :: rest) (hW : 2 * g.monitorRoom + (rest.map fun v => v.category).sum ≤ 8) (hdg : decode cc g.pc = .ok (.invokeinterface index count, 5)) (hf : cells + mc ≤ R.cells ∧ slots + ms ≤ R.slots) :
    vx_Run5 p l e R s m args below meth c H locs cells slots mc ms g rest (Qc (Value.ref b :: As).toArray) XC free := by
  obtain ⟨hx, hb, hml, ho, ht⟩ := S
  have hc : Cond.code y bytes maxL ret ∈ ws := by rw [hw]; exact List.mem_cons_self
  have hini2 := ht _ hini
  have hK : vx_Back l R p e below s args y 5 8 (PreOf R mc ms Pc) (PostOf Qc mc ms free) (vx_Post XC mc ms free) := vx_back (bytes := bytes) (maxL := maxL) (ret := ret) hM hp.1 hrc hrs hR.1 hR.2 (pay_in ht hG) hc (fun a' U hW => word_at hW (Or.inl (by first | rfl | simp [Cond.onTables, Cond.keeps, Cond.steady])) hini2)
  obtain ⟨-, ⟨cellB, hcB, hoB, hclB⟩, hPc⟩ := hp
  obtain ⟨hfc, kB, hkB, -⟩ := hat
  cases hfc.symm.trans hclB
  intro T hT X
  rcases ifu_call X hx (C := C) ho hU hV hxo hJ (ht _ hsel) (ht _ hinst) ⟨hd.1, hd.2.1⟩ hK (by rw [hT]; exact hcB) hoB hclB hkB hg (hsize.trans hml.symm) (argsL := As) (rest := rest) (fun sig h => hn.trans (by have h2 := hd.2.2; rw [h] at h2; exact (Option.some.inj h2).symm)) hstack hW (by rw [hb]; exact hdg)
    (fun vm₁ hW₁ => ⟨hf.1, hf.2, hPc (T.setVm vm₁) hT hW₁⟩) with ⟨v, vm₁, ⟨U', l2, c2, s2⟩, hW₁, X', ⟨g', mk, t, L, e1, e2, hq, h1, hL, h2, h3⟩, st⟩ | ⟨q, vm₁, ⟨U', l2, c2, s2⟩, hW₁, X', ⟨g', mk, t, L, E, ce, e1, e2, hq, hce, hcv, hcl, h1, hL, h2, h3⟩, st⟩
  · dsimp only [Pt.U, Pt.locs, Pt.cells, Pt.slots] at X' e1 e2 h1 h2 h3 st
    subst h1; subst h2; subst h3
    exact Or.inl ⟨v, (T.setVm vm₁).calling g' mk (Value.ref b :: As).toArray, t, U', L, hT, X', hL, e1, e2, hq, st⟩
  · dsimp only [Pt.U, Pt.locs, Pt.cells, Pt.slots] at X' e1 e2 h1 h2 h3 st hcl
    subst h1; subst h2; subst h3
    exact Or.inr ⟨q, (T.setVm vm₁).calling g' mk (Value.ref b :: As).toArray, t, U', L, E, ce, hT, X', hL, e1, e2, hq, hce, hcv, vx_cls hW₁ hcl, st⟩
end
theorem aFv.moved {C J : String} {x y : MethodName} {u U : State} (hvm : u.vm.Alike U.vm) (h : aFv C J x y u) : aFv C J x y U := by
  obtain ⟨h1, h2, h3, h4, h5⟩ := h
  have tr : ∀ {c : Cond}, c.onTables = true → c.before #[] (u.setVm U.vm) = true → c.before #[] U = true := fun hc h => va_tabs hc (rfl : (u.setVm U.vm).vm = U.vm) h
  exact ⟨tr rfl (by rw [Cond.declares_setVm hvm]; exact h1), tr rfl (by rw [Cond.publicMethod_setVm hvm]; exact h2), tr rfl (by rw [Cond.publicMethod_setVm hvm]; exact h3), tr rfl (by rw [Cond.unhidden_setVm hvm]; exact h4), tr rfl (by rw [Cond.castable_setVm hvm]; exact h5)⟩
theorem aFu.warm {own J : String} {ix : Nat} {x : MethodName} {s U : State} (hW : s.WarmedH U.vm) (h : aFu own ix J x s) : aFu own ix J x U := by
  obtain ⟨h1, h2⟩ := h
  refine ⟨word_at hW (Or.inl (by first | rfl | simp [Cond.onTables, Cond.keeps, Cond.steady])) h1, ?_⟩
  refine va_tabs (A := #[]) rfl (rfl : (s.setVm U.vm).vm = U.vm) ?_
  have e : (Cond.interfaceMethod x.cls J x.name x.desc).before #[] (s.setVm U.vm) = (Cond.interfaceMethod x.cls J x.name x.desc).before #[] s := by
    simp only [Cond.before, Cond.holds, Cond.value, State.vm_setVm, hW.alike.findClass, State.methodFound?_setVm hW.alike, State.methodNamed?_setVm hW.alike, arm_isInterface_setVm hW.alike]
  rw [e]
  exact h2
theorem aFu.same {own J : String} {ix : Nat} {x : MethodName} {u U : State} (e : u.vm = U.vm) (h : aFu own ix J x u) : aFu own ix J x U := ⟨va_tabs rfl e h.1, va_tabs rfl e h.2⟩
