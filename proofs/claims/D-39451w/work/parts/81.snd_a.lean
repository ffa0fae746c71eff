/-! every table is sound (printed by gen/gen_sndrows.py) -/
set_option maxRecDepth 100000
def SndL (own nm : String) (cc : ByteArray) (nL : Nat) (ret : Option FieldType) (hh : List (Nat × Nat × Nat × Nat)) (T : aT) : Prop := ∀ q ∈ T, Snd own nm cc nL ret hh q.1 q.2
theorem aSn {own nm : String} {cc : ByteArray} {nL : Nat} {ret : Option FieldType} {hh : List (Nat × Nat × Nat × Nat)} : SndL own nm cc nL ret hh [] := fun q h => absurd h List.not_mem_nil
theorem aSa {own nm : String} {cc : ByteArray} {nL : Nat} {ret : Option FieldType} {hh : List (Nat × Nat × Nat × Nat)} {pc : Nat} {i : (Nat → Value) → aI} {T : aT} (h : Snd own nm cc nL ret hh pc i) (t : SndL own nm cc nL ret hh T) : SndL own nm cc nL ret hh ((pc, i) :: T) := List.forall_mem_cons.mpr ⟨h, t⟩
theorem aL1 {a : Cond} {B : List Cond} (h : a ∈ lw_all) (t : ∀ w ∈ B, w ∈ lw_all) : ∀ w ∈ a :: B, w ∈ lw_all := List.forall_mem_cons.mpr ⟨h, t⟩
theorem aL0 : ∀ w ∈ ([] : List Cond), w ∈ lw_all := fun _ h => absurd h List.not_mem_nil
theorem aThr : ∀ w ∈ Bundle.throwableAtoms, vx_no w = true → aGW w := List.forall_mem_cons.mpr ⟨fun _ => (Or.inl q115), List.forall_mem_cons.mpr ⟨fun _ => (Or.inl q363), List.forall_mem_cons.mpr ⟨fun _ => (Or.inl q372), List.forall_mem_cons.mpr ⟨fun _ => (Or.inl q379), List.forall_mem_cons.mpr ⟨fun _ => (Or.inl q382), List.forall_mem_cons.mpr ⟨fun _ => (Or.inl q384), List.forall_mem_cons.mpr ⟨fun _ => (Or.inl q364), List.forall_mem_cons.mpr ⟨fun _ => (Or.inl q365), List.forall_mem_cons.mpr ⟨fun _ => (Or.inl q167), List.forall_mem_cons.mpr ⟨fun _ => (Or.inl q168), List.forall_mem_cons.mpr ⟨fun _ => (Or.inl q366), List.forall_mem_cons.mpr ⟨fun _ => (Or.inl q371), List.forall_mem_cons.mpr ⟨fun _ => (Or.inl q380), List.forall_mem_cons.mpr ⟨fun _ => (Or.inl q613), List.forall_mem_cons.mpr ⟨fun _ => (Or.inl q353), List.forall_mem_cons.mpr ⟨fun _ => (Or.inl q614), List.forall_mem_cons.mpr ⟨fun _ => (Or.inl q355), List.forall_mem_cons.mpr ⟨fun _ => (Or.inl q615), List.forall_mem_cons.mpr ⟨fun _ => (Or.inl q357), List.forall_mem_cons.mpr ⟨fun _ => (Or.inl q367), List.forall_mem_cons.mpr ⟨fun h => absurd h (by decide +kernel), List.forall_mem_cons.mpr ⟨fun _ => (Or.inl q369), List.forall_mem_cons.mpr ⟨fun h => absurd h (by decide +kernel), List.forall_mem_cons.mpr ⟨fun _ => (Or.inl q359), fun _ h => absurd h List.not_mem_nil⟩⟩⟩⟩⟩⟩⟩⟩⟩⟩⟩⟩⟩⟩⟩⟩⟩⟩⟩⟩⟩⟩⟩⟩
theorem thr0 : ∀ w ∈ Bundle.ownAtoms0 "Slidingtray" 95 "java/lang/IllegalStateException" ["java/lang/RuntimeException", "java/lang/Exception"], vx_no w = true → aGW w := List.forall_mem_append.mpr ⟨List.forall_mem_append.mpr ⟨aThr, List.forall_mem_append.mpr ⟨List.forall_mem_cons.mpr ⟨fun _ => (Or.inl q2126), List.forall_mem_cons.mpr ⟨fun _ => (Or.inl q2127), List.forall_mem_cons.mpr ⟨fun _ => (Or.inl q2128), List.forall_mem_cons.mpr ⟨fun _ => (Or.inl q979), List.forall_mem_cons.mpr ⟨fun _ => (Or.inr (Or.inr ⟨_, rfl, q344⟩)), fun _ h => absurd h List.not_mem_nil⟩⟩⟩⟩⟩, List.forall_mem_append.mpr ⟨List.forall_mem_cons.mpr ⟨fun _ => (Or.inl q979), List.forall_mem_cons.mpr ⟨fun _ => (Or.inl q980), List.forall_mem_cons.mpr ⟨fun _ => (Or.inl q981), List.forall_mem_cons.mpr ⟨fun _ => (Or.inl q982), List.forall_mem_cons.mpr ⟨fun _ => (Or.inr (Or.inr ⟨_, rfl, q346⟩)), fun _ h => absurd h List.not_mem_nil⟩⟩⟩⟩⟩, List.forall_mem_cons.mpr ⟨fun _ => (Or.inl q982), List.forall_mem_cons.mpr ⟨fun _ => (Or.inl q983), List.forall_mem_cons.mpr ⟨fun _ => (Or.inl q984), List.forall_mem_cons.mpr ⟨fun _ => (Or.inl q364), List.forall_mem_cons.mpr ⟨fun _ => (Or.inr (Or.inr ⟨_, rfl, q348⟩)), fun _ h => absurd h List.not_mem_nil⟩⟩⟩⟩⟩⟩⟩⟩, List.forall_mem_cons.mpr ⟨fun _ => (Or.inl q2125), List.forall_mem_cons.mpr ⟨fun _ => (Or.inl q933), List.forall_mem_cons.mpr ⟨fun _ => (Or.inr (Or.inl ⟨_, _, rfl, q934⟩)), List.forall_mem_cons.mpr ⟨fun _ => (Or.inl q935), List.forall_mem_cons.mpr ⟨fun _ => (Or.inl q377), List.forall_mem_cons.mpr ⟨fun _ => (Or.inl q936), List.forall_mem_cons.mpr ⟨fun _ => (Or.inl q937), List.forall_mem_cons.mpr ⟨fun _ => (Or.inl q938), List.forall_mem_cons.mpr ⟨fun _ => (Or.inl q939), List.forall_mem_cons.mpr ⟨fun h => absurd h (by decide +kernel), List.forall_mem_cons.mpr ⟨fun h => absurd h (by decide +kernel), List.forall_mem_cons.mpr ⟨fun _ => (Or.inl q611), List.forall_mem_cons.mpr ⟨fun _ => (Or.inl q361), List.forall_mem_cons.mpr ⟨fun _ => (Or.inl q940), fun _ h => absurd h List.not_mem_nil⟩⟩⟩⟩⟩⟩⟩⟩⟩⟩⟩⟩⟩⟩⟩
theorem thr0g : ∀ w ∈ Cond.classLink "Slidingtray" 93 "java/lang/IllegalStateException" :: Cond.initialized "java/lang/IllegalStateException" :: vx_at0 "Slidingtray" 95 "java/lang/IllegalStateException" ["java/lang/RuntimeException", "java/lang/Exception"], vx_ot w = true := by decide +kernel
theorem thr1 : ∀ w ∈ Bundle.ownAtoms0 "Slidingtray" 92 "java/lang/IllegalArgumentException" ["java/lang/RuntimeException", "java/lang/Exception"], vx_no w = true → aGW w := List.forall_mem_append.mpr ⟨List.forall_mem_append.mpr ⟨aThr, List.forall_mem_append.mpr ⟨List.forall_mem_cons.mpr ⟨fun _ => (Or.inl q1448), List.forall_mem_cons.mpr ⟨fun _ => (Or.inl q1449), List.forall_mem_cons.mpr ⟨fun _ => (Or.inl q1450), List.forall_mem_cons.mpr ⟨fun _ => (Or.inl q979), List.forall_mem_cons.mpr ⟨fun _ => (Or.inr (Or.inr ⟨_, rfl, q344⟩)), fun _ h => absurd h List.not_mem_nil⟩⟩⟩⟩⟩, List.forall_mem_append.mpr ⟨List.forall_mem_cons.mpr ⟨fun _ => (Or.inl q979), List.forall_mem_cons.mpr ⟨fun _ => (Or.inl q980), List.forall_mem_cons.mpr ⟨fun _ => (Or.inl q981), List.forall_mem_cons.mpr ⟨fun _ => (Or.inl q982), List.forall_mem_cons.mpr ⟨fun _ => (Or.inr (Or.inr ⟨_, rfl, q346⟩)), fun _ h => absurd h List.not_mem_nil⟩⟩⟩⟩⟩, List.forall_mem_cons.mpr ⟨fun _ => (Or.inl q982), List.forall_mem_cons.mpr ⟨fun _ => (Or.inl q983), List.forall_mem_cons.mpr ⟨fun _ => (Or.inl q984), List.forall_mem_cons.mpr ⟨fun _ => (Or.inl q364), List.forall_mem_cons.mpr ⟨fun _ => (Or.inr (Or.inr ⟨_, rfl, q348⟩)), fun _ h => absurd h List.not_mem_nil⟩⟩⟩⟩⟩⟩⟩⟩, List.forall_mem_cons.mpr ⟨fun _ => (Or.inl q2014), List.forall_mem_cons.mpr ⟨fun _ => (Or.inl q585), List.forall_mem_cons.mpr ⟨fun _ => (Or.inr (Or.inl ⟨_, _, rfl, q586⟩)), List.forall_mem_cons.mpr ⟨fun _ => (Or.inl q587), List.forall_mem_cons.mpr ⟨fun _ => (Or.inl q376), List.forall_mem_cons.mpr ⟨fun _ => (Or.inl q588), List.forall_mem_cons.mpr ⟨fun _ => (Or.inl q589), List.forall_mem_cons.mpr ⟨fun _ => (Or.inl q590), List.forall_mem_cons.mpr ⟨fun _ => (Or.inl q591), List.forall_mem_cons.mpr ⟨fun h => absurd h (by decide +kernel), List.forall_mem_cons.mpr ⟨fun h => absurd h (by decide +kernel), List.forall_mem_cons.mpr ⟨fun _ => (Or.inl q611), List.forall_mem_cons.mpr ⟨fun _ => (Or.inl q361), List.forall_mem_cons.mpr ⟨fun _ => (Or.inl q592), fun _ h => absurd h List.not_mem_nil⟩⟩⟩⟩⟩⟩⟩⟩⟩⟩⟩⟩⟩⟩⟩
theorem thr1g : ∀ w ∈ Cond.classLink "Slidingtray" 90 "java/lang/IllegalArgumentException" :: Cond.initialized "java/lang/IllegalArgumentException" :: vx_at0 "Slidingtray" 92 "java/lang/IllegalArgumentException" ["java/lang/RuntimeException", "java/lang/Exception"], vx_ot w = true := by decide +kernel
theorem thr2 : ∀ w ∈ Bundle.ownAtoms0 "Slidingtray" 89 "java/lang/IndexOutOfBoundsException" ["java/lang/RuntimeException", "java/lang/Exception"], vx_no w = true → aGW w := List.forall_mem_append.mpr ⟨List.forall_mem_append.mpr ⟨aThr, List.forall_mem_append.mpr ⟨List.forall_mem_cons.mpr ⟨fun _ => (Or.inl q2088), List.forall_mem_cons.mpr ⟨fun _ => (Or.inl q2089), List.forall_mem_cons.mpr ⟨fun _ => (Or.inl q2090), List.forall_mem_cons.mpr ⟨fun _ => (Or.inl q979), List.forall_mem_cons.mpr ⟨fun _ => (Or.inr (Or.inr ⟨_, rfl, q344⟩)), fun _ h => absurd h List.not_mem_nil⟩⟩⟩⟩⟩, List.forall_mem_append.mpr ⟨List.forall_mem_cons.mpr ⟨fun _ => (Or.inl q979), List.forall_mem_cons.mpr ⟨fun _ => (Or.inl q980), List.forall_mem_cons.mpr ⟨fun _ => (Or.inl q981), List.forall_mem_cons.mpr ⟨fun _ => (Or.inl q982), List.forall_mem_cons.mpr ⟨fun _ => (Or.inr (Or.inr ⟨_, rfl, q346⟩)), fun _ h => absurd h List.not_mem_nil⟩⟩⟩⟩⟩, List.forall_mem_cons.mpr ⟨fun _ => (Or.inl q982), List.forall_mem_cons.mpr ⟨fun _ => (Or.inl q983), List.forall_mem_cons.mpr ⟨fun _ => (Or.inl q984), List.forall_mem_cons.mpr ⟨fun _ => (Or.inl q364), List.forall_mem_cons.mpr ⟨fun _ => (Or.inr (Or.inr ⟨_, rfl, q348⟩)), fun _ h => absurd h List.not_mem_nil⟩⟩⟩⟩⟩⟩⟩⟩, List.forall_mem_cons.mpr ⟨fun _ => (Or.inl q2087), List.forall_mem_cons.mpr ⟨fun _ => (Or.inl q342), List.forall_mem_cons.mpr ⟨fun _ => (Or.inr (Or.inl ⟨_, _, rfl, q343⟩)), List.forall_mem_cons.mpr ⟨fun _ => (Or.inl q350), List.forall_mem_cons.mpr ⟨fun _ => (Or.inl q351), List.forall_mem_cons.mpr ⟨fun _ => (Or.inl q352), List.forall_mem_cons.mpr ⟨fun _ => (Or.inl q354), List.forall_mem_cons.mpr ⟨fun _ => (Or.inl q356), List.forall_mem_cons.mpr ⟨fun _ => (Or.inl q358), List.forall_mem_cons.mpr ⟨fun h => absurd h (by decide +kernel), List.forall_mem_cons.mpr ⟨fun h => absurd h (by decide +kernel), List.forall_mem_cons.mpr ⟨fun _ => (Or.inl q611), List.forall_mem_cons.mpr ⟨fun _ => (Or.inl q361), List.forall_mem_cons.mpr ⟨fun _ => (Or.inl q360), fun _ h => absurd h List.not_mem_nil⟩⟩⟩⟩⟩⟩⟩⟩⟩⟩⟩⟩⟩⟩⟩
theorem thr2g : ∀ w ∈ Cond.classLink "Slidingtray" 87 "java/lang/IndexOutOfBoundsException" :: Cond.initialized "java/lang/IndexOutOfBoundsException" :: vx_at0 "Slidingtray" 89 "java/lang/IndexOutOfBoundsException" ["java/lang/RuntimeException", "java/lang/Exception"], vx_ot w = true := by decide +kernel
theorem thr3 : ∀ w ∈ Bundle.ownAtoms0 "Slidingtray" 231 "java/util/NoSuchElementException" ["java/lang/RuntimeException", "java/lang/Exception"], vx_no w = true → aGW w := List.forall_mem_append.mpr ⟨List.forall_mem_append.mpr ⟨aThr, List.forall_mem_append.mpr ⟨List.forall_mem_cons.mpr ⟨fun _ => (Or.inl q976), List.forall_mem_cons.mpr ⟨fun _ => (Or.inl q977), List.forall_mem_cons.mpr ⟨fun _ => (Or.inl q978), List.forall_mem_cons.mpr ⟨fun _ => (Or.inl q979), List.forall_mem_cons.mpr ⟨fun _ => (Or.inr (Or.inr ⟨_, rfl, q344⟩)), fun _ h => absurd h List.not_mem_nil⟩⟩⟩⟩⟩, List.forall_mem_append.mpr ⟨List.forall_mem_cons.mpr ⟨fun _ => (Or.inl q979), List.forall_mem_cons.mpr ⟨fun _ => (Or.inl q980), List.forall_mem_cons.mpr ⟨fun _ => (Or.inl q981), List.forall_mem_cons.mpr ⟨fun _ => (Or.inl q982), List.forall_mem_cons.mpr ⟨fun _ => (Or.inr (Or.inr ⟨_, rfl, q346⟩)), fun _ h => absurd h List.not_mem_nil⟩⟩⟩⟩⟩, List.forall_mem_cons.mpr ⟨fun _ => (Or.inl q982), List.forall_mem_cons.mpr ⟨fun _ => (Or.inl q983), List.forall_mem_cons.mpr ⟨fun _ => (Or.inl q984), List.forall_mem_cons.mpr ⟨fun _ => (Or.inl q364), List.forall_mem_cons.mpr ⟨fun _ => (Or.inr (Or.inr ⟨_, rfl, q348⟩)), fun _ h => absurd h List.not_mem_nil⟩⟩⟩⟩⟩⟩⟩⟩, List.forall_mem_cons.mpr ⟨fun _ => (Or.inl q2422), List.forall_mem_cons.mpr ⟨fun _ => (Or.inl q967), List.forall_mem_cons.mpr ⟨fun _ => (Or.inr (Or.inl ⟨_, _, rfl, q968⟩)), List.forall_mem_cons.mpr ⟨fun _ => (Or.inl q969), List.forall_mem_cons.mpr ⟨fun _ => (Or.inl q378), List.forall_mem_cons.mpr ⟨fun _ => (Or.inl q970), List.forall_mem_cons.mpr ⟨fun _ => (Or.inl q971), List.forall_mem_cons.mpr ⟨fun _ => (Or.inl q972), List.forall_mem_cons.mpr ⟨fun _ => (Or.inl q973), List.forall_mem_cons.mpr ⟨fun h => absurd h (by decide +kernel), List.forall_mem_cons.mpr ⟨fun h => absurd h (by decide +kernel), List.forall_mem_cons.mpr ⟨fun _ => (Or.inl q611), List.forall_mem_cons.mpr ⟨fun _ => (Or.inl q361), List.forall_mem_cons.mpr ⟨fun _ => (Or.inl q974), fun _ h => absurd h List.not_mem_nil⟩⟩⟩⟩⟩⟩⟩⟩⟩⟩⟩⟩⟩⟩⟩
theorem thr3g : ∀ w ∈ Cond.classLink "Slidingtray" 229 "java/util/NoSuchElementException" :: Cond.initialized "java/util/NoSuchElementException" :: vx_at0 "Slidingtray" 231 "java/util/NoSuchElementException" ["java/lang/RuntimeException", "java/lang/Exception"], vx_ot w = true := by decide +kernel
theorem sn0 : SndL "java/lang/Exception" "<init>" cJ10_init_3 5 (Option.none : Option Jvm.ClassFile.FieldType) [] T0 := aSa (s_aload_n rfl rfl dJ10_init_3_0) (
  aSa (s_aload_n rfl rfl dJ10_init_3_1) (
  aSa (s_aload_n rfl rfl dJ10_init_3_2) (
  aSa (s_iload_n rfl rfl dJ10_init_3_3) (
  aSa (s_iload rfl dJ10_init_3_4) (
  aSa (s_callI rfl q1920 q1921 q115 q1922 (by decide +kernel) (by decide) rfl aHS0 rfl dJ10_init_3_6) (
  aSa (s_ret (n := 0) rfl dJ10_init_3_9) (
  aSn)))))))
theorem sn1 : SndL "java/lang/Integer" "<init>" cJ5_init 2 (Option.none : Option Jvm.ClassFile.FieldType) [] T1 := aSa (s_aload_n rfl rfl dJ5_init_0) (
  aSa (s_callI rfl q240 q241 q108 q242 (by decide +kernel) (by decide) rfl aHS0 rfl dJ5_init_1) (
  aSa (s_aload_n rfl rfl dJ5_init_4) (
  aSa (s_iload_n rfl rfl dJ5_init_5) (
  aSa (s_putfF (T := TJ5) (ty0 := tyJ5) tyJ5_ok nmJ5 rfl (by decide) (by decide) in_J5 q244 (Or.inl rfl) rfl rfl rfl rfl rfl dJ5_init_6) (
  aSa (s_ret (n := 0) rfl dJ5_init_9) (
  aSn))))))
theorem sn2 : SndL "java/lang/Integer" "bitCount" cJ5_bitCount 1 (Option.some Jvm.ClassFile.FieldType.int) [] T2 := aSa (s_iload_n rfl rfl dJ5_bitCount_0) (
  aSa (s_iload_n rfl rfl dJ5_bitCount_1) (
  aSa (s_iconst (v0 := 1) (by decide) rfl dJ5_bitCount_2) (
  aSa (s_iushr rfl dJ5_bitCount_3) (
  aSa (s_ldcw q2018 rfl dJ5_bitCount_4) (
  aSa (s_iand rfl dJ5_bitCount_7) (
  aSa (s_isub rfl dJ5_bitCount_8) (
  aSa (s_istore_n rfl (by decide) rfl dJ5_bitCount_9) (
  aSa (s_iload_n rfl rfl dJ5_bitCount_10) (
  aSa (s_ldcw q2019 rfl dJ5_bitCount_11) (
  aSa (s_iand rfl dJ5_bitCount_14) (
  aSa (s_iload_n rfl rfl dJ5_bitCount_15) (
  aSa (s_iconst (v0 := 2) (by decide) rfl dJ5_bitCount_16) (
  aSa (s_iushr rfl dJ5_bitCount_17) (
  aSa (s_ldcw q2019 rfl dJ5_bitCount_18) (
  aSa (s_iand rfl dJ5_bitCount_21) (
  aSa (s_iadd rfl dJ5_bitCount_22) (
  aSa (s_istore_n rfl (by decide) rfl dJ5_bitCount_23) (
  aSa (s_iload_n rfl rfl dJ5_bitCount_24) (
  aSa (s_iload_n rfl rfl dJ5_bitCount_25) (
  aSa (s_iconst (v0 := 4) (by decide) rfl dJ5_bitCount_26) (
  aSa (s_iushr rfl dJ5_bitCount_27) (
  aSa (s_iadd rfl dJ5_bitCount_28) (
  aSa (s_ldcw q2020 rfl dJ5_bitCount_29) (
  aSa (s_iand rfl dJ5_bitCount_32) (
  aSa (s_istore_n rfl (by decide) rfl dJ5_bitCount_33) (
  aSa (s_iload_n rfl rfl dJ5_bitCount_34) (
  aSa (s_iload_n rfl rfl dJ5_bitCount_35) (
  aSa (s_bipush (v0 := 8) (by decide) rfl dJ5_bitCount_36) (
  aSa (s_iushr rfl dJ5_bitCount_38) (
  aSa (s_iadd rfl dJ5_bitCount_39) (
  aSa (s_istore_n rfl (by decide) rfl dJ5_bitCount_40) (
  aSa (s_iload_n rfl rfl dJ5_bitCount_41) (
  aSa (s_iload_n rfl rfl dJ5_bitCount_42) (
  aSa (s_bipush (v0 := 16) (by decide) rfl dJ5_bitCount_43) (
  aSa (s_iushr rfl dJ5_bitCount_45) (
  aSa (s_iadd rfl dJ5_bitCount_46) (
  aSa (s_istore_n rfl (by decide) rfl dJ5_bitCount_47) (
  aSa (s_iload_n rfl rfl dJ5_bitCount_48) (
  aSa (s_bipush (v0 := 63) (by decide) rfl dJ5_bitCount_49) (
  aSa (s_iand rfl dJ5_bitCount_51) (
  aSa (s_iret (n := 0) rfl dJ5_bitCount_52) (
  aSn))))))))))))))))))))))))))))))))))))))))))
theorem sn3 : SndL "java/lang/Integer" "compare" cJ5_compare 2 (Option.some Jvm.ClassFile.FieldType.int) [] T3 := aSa (s_iload_n rfl rfl dJ5_compare_0) (
  aSa (s_iload_n rfl rfl dJ5_compare_1) (
  aSa (s_cge (by decide) rfl dJ5_compare_2) (
  aSa (s_iconst (v0 := (-1)) (by decide) rfl dJ5_compare_5) (
  aSa (s_goto (n := 0) (by decide) dJ5_compare_6) (
  aSa (s_iload_n rfl rfl dJ5_compare_9) (
  aSa (s_iload_n rfl rfl dJ5_compare_10) (
  aSa (s_cne (by decide) rfl dJ5_compare_11) (
  aSa (s_iconst (v0 := 0) (by decide) rfl dJ5_compare_14) (
  aSa (s_goto (n := 0) (by decide) dJ5_compare_15) (
  aSa (s_iconst (v0 := 1) (by decide) rfl dJ5_compare_18) (
  aSa (s_iret (n := 0) rfl dJ5_compare_19) (
  aSn))))))))))))
theorem sn4 : SndL "java/lang/Integer" "equals" cJ5_equals 2 (Option.some Jvm.ClassFile.FieldType.boolean) [] T4 := aSa (s_aload_n rfl rfl dJ5_equals_0) (
  aSa (s_inst q235 (List.forall_mem_cons.mpr ⟨⟨_, rfl, (Or.inl rfl)⟩, List.forall_mem_cons.mpr ⟨⟨_, rfl, (Or.inl rfl)⟩, fun _ h => absurd h List.not_mem_nil⟩⟩) rfl dJ5_equals_1) (
  aSa (s_ifeq (by decide) rfl dJ5_equals_4) (
  aSa (s_aload_n rfl rfl dJ5_equals_7) (
  aSa (s_getf (T := TJ5) rfl (by decide) (by decide) in_J5 q244 (Or.inl rfl) rfl dJ5_equals_8) (
  aSa (s_aload_n rfl rfl dJ5_equals_11) (
  aSa (s_cast q235 (List.forall_mem_cons.mpr ⟨⟨_, rfl, (Or.inl rfl)⟩, List.forall_mem_cons.mpr ⟨⟨_, rfl, (Or.inl rfl)⟩, fun _ h => absurd h List.not_mem_nil⟩⟩) (fun t h => absurd h List.not_mem_nil) rfl dJ5_equals_12) (
  aSa (s_callV (List.forall_mem_cons.mpr ⟨d_V rfl rfl q870 q713 q714 q109 q715 rfl (by decide +kernel) (by decide) rfl dJ5_equals_15, List.forall_mem_cons.mpr ⟨d_V rfl rfl q870 q713 q714 q109 q715 rfl (by decide +kernel) (by decide) rfl dJ5_equals_15, fun _ h => absurd h List.not_mem_nil⟩⟩) aHS0) (
  aSa (s_cne (by decide) rfl dJ5_equals_18) (
  aSa (s_iconst (v0 := 1) (by decide) rfl dJ5_equals_21) (
  aSa (s_goto (n := 0) (by decide) dJ5_equals_22) (
  aSa (s_iconst (v0 := 0) (by decide) rfl dJ5_equals_25) (
  aSa (s_iret (n := 0) rfl dJ5_equals_26) (
  aSa (s_iconst (v0 := 0) (by decide) rfl dJ5_equals_27) (
  aSa (s_iret (n := 0) rfl dJ5_equals_28) (
  aSn)))))))))))))))
theorem sn5 : SndL "java/lang/Integer" "intValue" cJ5_intValue 1 (Option.some Jvm.ClassFile.FieldType.int) [] T5 := aSa (s_aload_n rfl rfl dJ5_intValue_0) (
  aSa (s_getf (T := TJ5) rfl (by decide) (by decide) in_J5 q244 (Or.inl rfl) rfl dJ5_intValue_1) (
  aSa (s_iret (n := 0) rfl dJ5_intValue_4) (
  aSn)))
theorem sn6 : SndL "java/lang/Integer" "numberOfLeadingZeros" cJ5_numberOfLeadingZeros 2 (Option.some Jvm.ClassFile.FieldType.int) [] T6 := aSa (s_iload_n rfl rfl dJ5_numberOfLeadingZeros_0) (
  aSa (s_ifgt (by decide) rfl dJ5_numberOfLeadingZeros_1) (
  aSa (s_iload_n rfl rfl dJ5_numberOfLeadingZeros_4) (
  aSa (s_ifne (by decide) rfl dJ5_numberOfLeadingZeros_5) (
  aSa (s_bipush (v0 := 32) (by decide) rfl dJ5_numberOfLeadingZeros_8) (
  aSa (s_goto (n := 0) (by decide) dJ5_numberOfLeadingZeros_10) (
  aSa (s_iconst (v0 := 0) (by decide) rfl dJ5_numberOfLeadingZeros_13) (
  aSa (s_iret (n := 0) rfl dJ5_numberOfLeadingZeros_14) (
  aSa (s_bipush (v0 := 31) (by decide) rfl dJ5_numberOfLeadingZeros_15) (
  aSa (s_istore_n rfl (by decide) rfl dJ5_numberOfLeadingZeros_17) (
  aSa (s_iload_n rfl rfl dJ5_numberOfLeadingZeros_18) (
  aSa (s_ldcw q829 rfl dJ5_numberOfLeadingZeros_19) (
  aSa (s_clt (by decide) rfl dJ5_numberOfLeadingZeros_22) (
  aSa (s_iinc (by decide) rfl dJ5_numberOfLeadingZeros_25) (
  aSa (s_iload_n rfl rfl dJ5_numberOfLeadingZeros_28) (
  aSa (s_bipush (v0 := 16) (by decide) rfl dJ5_numberOfLeadingZeros_29) (
  aSa (s_iushr rfl dJ5_numberOfLeadingZeros_31) (
  aSa (s_istore_n rfl (by decide) rfl dJ5_numberOfLeadingZeros_32) (
  aSa (s_iload_n rfl rfl dJ5_numberOfLeadingZeros_33) (
  aSa (s_sipush (v0 := 256) (by decide) rfl dJ5_numberOfLeadingZeros_34) (
  aSa (s_clt (by decide) rfl dJ5_numberOfLeadingZeros_37) (
  aSa (s_iinc (by decide) rfl dJ5_numberOfLeadingZeros_40) (
  aSa (s_iload_n rfl rfl dJ5_numberOfLeadingZeros_43) (
  aSa (s_bipush (v0 := 8) (by decide) rfl dJ5_numberOfLeadingZeros_44) (
  aSa (s_iushr rfl dJ5_numberOfLeadingZeros_46) (
  aSa (s_istore_n rfl (by decide) rfl dJ5_numberOfLeadingZeros_47) (
  aSa (s_iload_n rfl rfl dJ5_numberOfLeadingZeros_48) (
  aSa (s_bipush (v0 := 16) (by decide) rfl dJ5_numberOfLeadingZeros_49) (
  aSa (s_clt (by decide) rfl dJ5_numberOfLeadingZeros_51) (
  aSa (s_iinc (by decide) rfl dJ5_numberOfLeadingZeros_54) (
  aSa (s_iload_n rfl rfl dJ5_numberOfLeadingZeros_57) (
  aSa (s_iconst (v0 := 4) (by decide) rfl dJ5_numberOfLeadingZeros_58) (
  aSa (s_iushr rfl dJ5_numberOfLeadingZeros_59) (
  aSa (s_istore_n rfl (by decide) rfl dJ5_numberOfLeadingZeros_60) (
  aSa (s_iload_n rfl rfl dJ5_numberOfLeadingZeros_61) (
  aSa (s_iconst (v0 := 4) (by decide) rfl dJ5_numberOfLeadingZeros_62) (
  aSa (s_clt (by decide) rfl dJ5_numberOfLeadingZeros_63) (
  aSa (s_iinc (by decide) rfl dJ5_numberOfLeadingZeros_66) (
  aSa (s_iload_n rfl rfl dJ5_numberOfLeadingZeros_69) (
  aSa (s_iconst (v0 := 2) (by decide) rfl dJ5_numberOfLeadingZeros_70) (
  aSa (s_iushr rfl dJ5_numberOfLeadingZeros_71) (
  aSa (s_istore_n rfl (by decide) rfl dJ5_numberOfLeadingZeros_72) (
  aSa (s_iload_n rfl rfl dJ5_numberOfLeadingZeros_73) (
  aSa (s_iload_n rfl rfl dJ5_numberOfLeadingZeros_74) (
  aSa (s_iconst (v0 := 1) (by decide) rfl dJ5_numberOfLeadingZeros_75) (
  aSa (s_iushr rfl dJ5_numberOfLeadingZeros_76) (
  aSa (s_isub rfl dJ5_numberOfLeadingZeros_77) (
  aSa (s_iret (n := 0) rfl dJ5_numberOfLeadingZeros_78) (
  aSn))))))))))))))))))))))))))))))))))))))))))))))))
theorem sn7 : SndL "java/lang/Integer" "numberOfTrailingZeros" cJ5_numberOfTrailingZeros 2 (Option.some Jvm.ClassFile.FieldType.int) [] T7 := aSa (s_iload_n rfl rfl dJ5_numberOfTrailingZeros_0) (
  aSa (s_iconst (v0 := (-1)) (by decide) rfl dJ5_numberOfTrailingZeros_1) (
  aSa (s_ixor rfl dJ5_numberOfTrailingZeros_2) (
  aSa (s_iload_n rfl rfl dJ5_numberOfTrailingZeros_3) (
  aSa (s_iconst (v0 := 1) (by decide) rfl dJ5_numberOfTrailingZeros_4) (
  aSa (s_isub rfl dJ5_numberOfTrailingZeros_5) (
  aSa (s_iand rfl dJ5_numberOfTrailingZeros_6) (
  aSa (s_istore_n rfl (by decide) rfl dJ5_numberOfTrailingZeros_7) (
  aSa (s_iload_n rfl rfl dJ5_numberOfTrailingZeros_8) (
  aSa (s_ifgt (by decide) rfl dJ5_numberOfTrailingZeros_9) (
  aSa (s_iload_n rfl rfl dJ5_numberOfTrailingZeros_12) (
  aSa (s_bipush (v0 := 32) (by decide) rfl dJ5_numberOfTrailingZeros_13) (
  aSa (s_iand rfl dJ5_numberOfTrailingZeros_15) (
  aSa (s_iret (n := 0) rfl dJ5_numberOfTrailingZeros_16) (
  aSa (s_iconst (v0 := 1) (by decide) rfl dJ5_numberOfTrailingZeros_17) (
  aSa (s_istore_n rfl (by decide) rfl dJ5_numberOfTrailingZeros_18) (
  aSa (s_iload_n rfl rfl dJ5_numberOfTrailingZeros_19) (
  aSa (s_ldcw q829 rfl dJ5_numberOfTrailingZeros_20) (
  aSa (s_cle (by decide) rfl dJ5_numberOfTrailingZeros_23) (
  aSa (s_iinc (by decide) rfl dJ5_numberOfTrailingZeros_26) (
  aSa (s_iload_n rfl rfl dJ5_numberOfTrailingZeros_29) (
  aSa (s_bipush (v0 := 16) (by decide) rfl dJ5_numberOfTrailingZeros_30) (
  aSa (s_iushr rfl dJ5_numberOfTrailingZeros_32) (
  aSa (s_istore_n rfl (by decide) rfl dJ5_numberOfTrailingZeros_33) (
  aSa (s_iload_n rfl rfl dJ5_numberOfTrailingZeros_34) (
  aSa (s_sipush (v0 := 256) (by decide) rfl dJ5_numberOfTrailingZeros_35) (
  aSa (s_cle (by decide) rfl dJ5_numberOfTrailingZeros_38) (
  aSa (s_iinc (by decide) rfl dJ5_numberOfTrailingZeros_41) (
  aSa (s_iload_n rfl rfl dJ5_numberOfTrailingZeros_44) (
  aSa (s_bipush (v0 := 8) (by decide) rfl dJ5_numberOfTrailingZeros_45) (
  aSa (s_iushr rfl dJ5_numberOfTrailingZeros_47) (
  aSa (s_istore_n rfl (by decide) rfl dJ5_numberOfTrailingZeros_48) (
  aSa (s_iload_n rfl rfl dJ5_numberOfTrailingZeros_49) (
  aSa (s_bipush (v0 := 16) (by decide) rfl dJ5_numberOfTrailingZeros_50) (
  aSa (s_cle (by decide) rfl dJ5_numberOfTrailingZeros_52) (
  aSa (s_iinc (by decide) rfl dJ5_numberOfTrailingZeros_55) (
  aSa (s_iload_n rfl rfl dJ5_numberOfTrailingZeros_58) (
  aSa (s_iconst (v0 := 4) (by decide) rfl dJ5_numberOfTrailingZeros_59) (
  aSa (s_iushr rfl dJ5_numberOfTrailingZeros_60) (
  aSa (s_istore_n rfl (by decide) rfl dJ5_numberOfTrailingZeros_61) (
  aSa (s_iload_n rfl rfl dJ5_numberOfTrailingZeros_62) (
  aSa (s_iconst (v0 := 4) (by decide) rfl dJ5_numberOfTrailingZeros_63) (
  aSa (s_cle (by decide) rfl dJ5_numberOfTrailingZeros_64) (
  aSa (s_iinc (by decide) rfl dJ5_numberOfTrailingZeros_67) (
  aSa (s_iload_n rfl rfl dJ5_numberOfTrailingZeros_70) (
  aSa (s_iconst (v0 := 2) (by decide) rfl dJ5_numberOfTrailingZeros_71) (
  aSa (s_iushr rfl dJ5_numberOfTrailingZeros_72) (
  aSa (s_istore_n rfl (by decide) rfl dJ5_numberOfTrailingZeros_73) (
  aSa (s_iload_n rfl rfl dJ5_numberOfTrailingZeros_74) (
  aSa (s_iload_n rfl rfl dJ5_numberOfTrailingZeros_75) (
  aSa (s_iconst (v0 := 1) (by decide) rfl dJ5_numberOfTrailingZeros_76) (
  aSa (s_iushr rfl dJ5_numberOfTrailingZeros_77) (
  aSa (s_iadd rfl dJ5_numberOfTrailingZeros_78) (
  aSa (s_iret (n := 0) rfl dJ5_numberOfTrailingZeros_79) (
  aSn))))))))))))))))))))))))))))))))))))))))))))))))))))))
theorem sn8 : SndL "java/lang/Integer" "valueOf" cJ5_valueOf 1 (Option.some (Jvm.ClassFile.FieldType.object "java/lang/Integer")) [] T8 := aSa (s_iload_n rfl rfl dJ5_valueOf_0) (
  aSa (s_bipush (v0 := (-128)) (by decide) rfl dJ5_valueOf_1) (
  aSa (s_clt (by decide) rfl dJ5_valueOf_3) (
  aSa (s_iload_n rfl rfl dJ5_valueOf_6) (
  aSa (s_getsC (C := "java/lang/Integer$IntegerCache") (nm0 := "high") q231 (by decide) rfl dJ5_valueOf_7) (
  aSa (s_cgt (by decide) rfl dJ5_valueOf_10) (
  aSa (s_gets (C := "java/lang/Integer$IntegerCache") (nm0 := "cache") q233 (by decide) rfl dJ5_valueOf_13) (
  aSa (s_iload_n rfl rfl dJ5_valueOf_16) (
  aSa (s_sipush (v0 := 128) (by decide) rfl dJ5_valueOf_17) (
  aSa (s_iadd rfl dJ5_valueOf_20) (
  aSa (s_aald rfl dJ5_valueOf_21) (
  aSa (s_aret (n := 0) rfl (Or.inl ⟨_, rfl⟩) dJ5_valueOf_22) (
  aSa (s_new (T := TJ5) (ty0 := tyJ5) tyJ5_ok rfl (by decide) in_J5 q235 q236 q109 (by decide) rfl dJ5_valueOf_23) (
  aSa (s_dup rfl dJ5_valueOf_26) (
  aSa (s_iload_n rfl rfl dJ5_valueOf_27) (
  aSa (s_callI rfl q237 q238 q109 q239 (by decide +kernel) (by decide) rfl aHS0 rfl dJ5_valueOf_28) (
  aSa (s_aret (n := 0) rfl (Or.inl ⟨_, rfl⟩) dJ5_valueOf_31) (
  aSn)))))))))))))))))
theorem sn9 : SndL "java/lang/Long" "<init>" cJ22_init 3 (Option.none : Option Jvm.ClassFile.FieldType) [] T9 := aSa (s_aload_n rfl rfl dJ22_init_0) (
  aSa (s_callI rfl q1801 q241 q108 q242 (by decide +kernel) (by decide) rfl aHS0 rfl dJ22_init_1) (
  aSa (s_aload_n rfl rfl dJ22_init_4) (
  aSa (s_lload_n rfl rfl dJ22_init_5) (
  aSa (s_putfF (T := TJ22) (ty0 := tyJ22) tyJ22_ok nmJ22 rfl (by decide) (by decide) in_J22 q1802 (Or.inl rfl) rfl rfl rfl rfl rfl dJ22_init_6) (
  aSa (s_ret (n := 0) rfl dJ22_init_9) (
  aSn))))))
theorem sn10 : SndL "java/lang/Long" "compare" cJ22_compare 4 (Option.some Jvm.ClassFile.FieldType.int) [] T10 := aSa (s_lload_n rfl rfl dJ22_compare_0) (
  aSa (s_lload_n rfl rfl dJ22_compare_1) (
  aSa (s_lcmp rfl dJ22_compare_2) (
  aSa (s_ifge (by decide) rfl dJ22_compare_3) (
  aSa (s_iconst (v0 := (-1)) (by decide) rfl dJ22_compare_6) (
  aSa (s_goto (n := 0) (by decide) dJ22_compare_7) (
  aSa (s_lload_n rfl rfl dJ22_compare_10) (
  aSa (s_lload_n rfl rfl dJ22_compare_11) (
  aSa (s_lcmp rfl dJ22_compare_12) (
  aSa (s_ifne (by decide) rfl dJ22_compare_13) (
  aSa (s_iconst (v0 := 0) (by decide) rfl dJ22_compare_16) (
  aSa (s_goto (n := 0) (by decide) dJ22_compare_17) (
  aSa (s_iconst (v0 := 1) (by decide) rfl dJ22_compare_20) (
  aSa (s_iret (n := 0) rfl dJ22_compare_21) (
  aSn))))))))))))))
theorem sn11 : SndL "java/lang/Long" "compareTo" cJ22_compareTo_2 2 (Option.some Jvm.ClassFile.FieldType.int) [] T11 := aSa (s_aload_n rfl rfl dJ22_compareTo_2_0) (
  aSa (s_getf (T := TJ22) rfl (by decide) (by decide) in_J22 q1802 (Or.inl rfl) rfl dJ22_compareTo_2_1) (
  aSa (s_aload_n rfl rfl dJ22_compareTo_2_4) (
  aSa (s_getf (T := TJ22) rfl (by decide) (by decide) in_J22 q1802 (Or.inl rfl) rfl dJ22_compareTo_2_5) (
  aSa (s_callS rfl q1588 q1565 q129 q1566 (by decide +kernel) (by decide) aHS0 rfl dJ22_compareTo_2_8) (
  aSa (s_iret (n := 0) rfl dJ22_compareTo_2_11) (
  aSn))))))
theorem sn12 : SndL "java/lang/Long" "compareTo" cJ22_compareTo 2 (Option.some Jvm.ClassFile.FieldType.int) [] T12 := aSa (s_aload_n rfl rfl dJ22_compareTo_0) (
  aSa (s_aload_n rfl rfl dJ22_compareTo_1) (
  aSa (s_cast q874 (List.forall_mem_cons.mpr ⟨⟨_, rfl, (Or.inl rfl)⟩, List.forall_mem_cons.mpr ⟨⟨_, rfl, (Or.inl rfl)⟩, fun _ h => absurd h List.not_mem_nil⟩⟩) (fun t h => absurd h List.not_mem_nil) rfl dJ22_compareTo_2) (
  aSa (s_callV (List.forall_mem_cons.mpr ⟨d_V rfl rfl q1584 q1585 q1586 q129 q1587 rfl (by decide +kernel) (by decide) rfl dJ22_compareTo_5, List.forall_mem_cons.mpr ⟨d_V rfl rfl q1584 q1585 q1586 q129 q1587 rfl (by decide +kernel) (by decide) rfl dJ22_compareTo_5, fun _ h => absurd h List.not_mem_nil⟩⟩) aHS0) (
  aSa (s_iret (n := 0) rfl dJ22_compareTo_8) (
  aSn)))))
theorem sn13 : SndL "java/lang/Long" "valueOf" cJ22_valueOf 3 (Option.some (Jvm.ClassFile.FieldType.object "java/lang/Long")) [] T13 := aSa (s_sipush (v0 := 128) (by decide) rfl dJ22_valueOf_0) (
  aSa (s_istore_n rfl (by decide) rfl dJ22_valueOf_3) (
  aSa (s_lload_n rfl rfl dJ22_valueOf_4) (
  aSa (s_ldc2 q1793 rfl dJ22_valueOf_5) (
  aSa (s_lcmp rfl dJ22_valueOf_8) (
  aSa (s_iflt (by decide) rfl dJ22_valueOf_9) (
  aSa (s_lload_n rfl rfl dJ22_valueOf_12) (
  aSa (s_ldc2 q1794 rfl dJ22_valueOf_13) (
  aSa (s_lcmp rfl dJ22_valueOf_16) (
  aSa (s_ifgt (by decide) rfl dJ22_valueOf_17) (
  aSa (s_gets (C := "java/lang/Long$LongCache") (nm0 := "cache") q1795 (by decide) rfl dJ22_valueOf_20) (
  aSa (s_lload_n rfl rfl dJ22_valueOf_23) (
  aSa (s_l2i rfl dJ22_valueOf_24) (
  aSa (s_sipush (v0 := 128) (by decide) rfl dJ22_valueOf_25) (
  aSa (s_iadd rfl dJ22_valueOf_28) (
  aSa (s_aald rfl dJ22_valueOf_29) (
  aSa (s_aret (n := 0) rfl (Or.inl ⟨_, rfl⟩) dJ22_valueOf_30) (
  aSa (s_new (T := TJ22) (ty0 := tyJ22) tyJ22_ok rfl (by decide) in_J22 q874 q1797 q129 (by decide) rfl dJ22_valueOf_31) (
  aSa (s_dup rfl dJ22_valueOf_34) (
  aSa (s_lload_n rfl rfl dJ22_valueOf_35) (
  aSa (s_callI rfl q1798 q1799 q129 q1800 (by decide +kernel) (by decide) rfl aHS0 rfl dJ22_valueOf_36) (
  aSa (s_aret (n := 0) rfl (Or.inl ⟨_, rfl⟩) dJ22_valueOf_39) (
  aSn))))))))))))))))))))))
theorem sn14 : SndL "java/lang/Number" "<init>" cJ4_init 1 (Option.none : Option Jvm.ClassFile.FieldType) [] T14 := aSa (s_aload_n rfl rfl dJ4_init_0) (
  aSa (s_oinit q243 q167 q168 rfl dJ4_init_1) (
  aSa (s_ret (n := 0) rfl dJ4_init_4) (
  aSn)))
theorem sn15 : SndL "java/lang/String" "coder" cJ15_coder 1 (Option.some Jvm.ClassFile.FieldType.byte) [] T15 := aSa (s_getsC (C := "java/lang/String") (nm0 := "COMPACT_STRINGS") q488 (by decide) rfl dJ15_coder_0) (
  aSa (s_ifeq (by decide) rfl dJ15_coder_3) (
  aSa (s_aload_n rfl rfl dJ15_coder_6) (
  aSa (s_getf (T := TJ15) rfl (by decide) (by decide) in_J15 q638 (Or.inl rfl) rfl dJ15_coder_7) (
  aSa (s_goto (n := 0) (by decide) dJ15_coder_10) (
  aSa (s_iconst (v0 := 1) (by decide) rfl dJ15_coder_13) (
  aSa (s_iret (n := 0) rfl dJ15_coder_14) (
  aSn)))))))
theorem sn16 : SndL "java/lang/String" "indexOf" cJ15_indexOf 2 (Option.some Jvm.ClassFile.FieldType.int) [] T16 := aSa (s_aload_n rfl rfl dJ15_indexOf_0) (
  aSa (s_iload_n rfl rfl dJ15_indexOf_1) (
  aSa (s_iconst (v0 := 0) (by decide) rfl dJ15_indexOf_2) (
  aSa (s_callV (List.forall_mem_cons.mpr ⟨d_V rfl rfl q2172 q2173 q2174 q121 q2175 rfl (by decide +kernel) (by decide) rfl dJ15_indexOf_3, List.forall_mem_cons.mpr ⟨d_V rfl rfl q2172 q2173 q2174 q121 q2175 rfl (by decide +kernel) (by decide) rfl dJ15_indexOf_3, fun _ h => absurd h List.not_mem_nil⟩⟩) aHS0) (
  aSa (s_iret (n := 0) rfl dJ15_indexOf_6) (
  aSn)))))
theorem sn17 : SndL "java/lang/String" "indexOf" cJ15_indexOf_2 3 (Option.some Jvm.ClassFile.FieldType.int) [] T17 := aSa (s_aload_n rfl rfl dJ15_indexOf_2_0) (
  aSa (s_callV (List.forall_mem_cons.mpr ⟨d_V rfl rfl q2176 q2177 q2178 q121 q2179 rfl (by decide +kernel) (by decide) rfl dJ15_indexOf_2_1, List.forall_mem_cons.mpr ⟨d_V rfl rfl q2176 q2177 q2178 q121 q2179 rfl (by decide +kernel) (by decide) rfl dJ15_indexOf_2_1, fun _ h => absurd h List.not_mem_nil⟩⟩) aHS0) (
  aSa (s_ifeq (by decide) rfl dJ15_indexOf_2_4) (
  aSa (s_aload_n rfl rfl dJ15_indexOf_2_7) (
  aSa (s_getf (T := TJ15) rfl (by decide) (by decide) in_J15 q637 (Or.inl rfl) rfl dJ15_indexOf_2_8) (
  aSa (s_iload_n rfl rfl dJ15_indexOf_2_11) (
  aSa (s_iload_n rfl rfl dJ15_indexOf_2_12) (
  aSa (s_aload_n rfl rfl dJ15_indexOf_2_13) (
  aSa (s_callV (List.forall_mem_cons.mpr ⟨d_V rfl rfl q2180 q481 q482 q121 q483 rfl (by decide +kernel) (by decide) rfl dJ15_indexOf_2_14, List.forall_mem_cons.mpr ⟨d_V rfl rfl q2180 q481 q482 q121 q483 rfl (by decide +kernel) (by decide) rfl dJ15_indexOf_2_14, fun _ h => absurd h List.not_mem_nil⟩⟩) aHS0) (
  aSa (s_callS rfl q2181 q2182 q124 q2183 (by decide +kernel) (by decide) aHS0 rfl dJ15_indexOf_2_17) (
  aSa (s_goto (n := 0) (by decide) dJ15_indexOf_2_20) (
  aSa (s_aload_n rfl rfl dJ15_indexOf_2_23) (
  aSa (s_getf (T := TJ15) rfl (by decide) (by decide) in_J15 q637 (Or.inl rfl) rfl dJ15_indexOf_2_24) (
  aSa (s_iload_n rfl rfl dJ15_indexOf_2_27) (
  aSa (s_iload_n rfl rfl dJ15_indexOf_2_28) (
  aSa (s_aload_n rfl rfl dJ15_indexOf_2_29) (
  aSa (s_callV (List.forall_mem_cons.mpr ⟨d_V rfl rfl q2180 q481 q482 q121 q483 rfl (by decide +kernel) (by decide) rfl dJ15_indexOf_2_30, List.forall_mem_cons.mpr ⟨d_V rfl rfl q2180 q481 q482 q121 q483 rfl (by decide +kernel) (by decide) rfl dJ15_indexOf_2_30, fun _ h => absurd h List.not_mem_nil⟩⟩) aHS0) (
  aSa (s_iret (n := 0) rfl dJ15_indexOf_2_36) (
  aSn))))))))))))))))))
theorem sn18 : SndL "java/lang/String" "isLatin1" cJ15_isLatin1 1 (Option.some Jvm.ClassFile.FieldType.boolean) [] T18 := aSa (s_getsC (C := "java/lang/String") (nm0 := "COMPACT_STRINGS") q488 (by decide) rfl dJ15_isLatin1_0) (
  aSa (s_ifeq (by decide) rfl dJ15_isLatin1_3) (
  aSa (s_aload_n rfl rfl dJ15_isLatin1_6) (
  aSa (s_getf (T := TJ15) rfl (by decide) (by decide) in_J15 q638 (Or.inl rfl) rfl dJ15_isLatin1_7) (
  aSa (s_ifne (by decide) rfl dJ15_isLatin1_10) (
  aSa (s_iconst (v0 := 1) (by decide) rfl dJ15_isLatin1_13) (
  aSa (s_goto (n := 0) (by decide) dJ15_isLatin1_14) (
  aSa (s_iconst (v0 := 0) (by decide) rfl dJ15_isLatin1_17) (
  aSa (s_iret (n := 0) rfl dJ15_isLatin1_18) (
  aSn)))))))))
theorem sn19 : SndL "java/lang/String" "length" cJ15_length 1 (Option.some Jvm.ClassFile.FieldType.int) [] T19 := aSa (s_aload_n rfl rfl dJ15_length_0) (
  aSa (s_getf (T := TJ15) rfl (by decide) (by decide) in_J15 q637 (Or.inl rfl) rfl dJ15_length_1) (
  aSa (s_alen rfl dJ15_length_4) (
  aSa (s_aload_n rfl rfl dJ15_length_5) (
  aSa (s_callV (List.forall_mem_cons.mpr ⟨d_V rfl rfl q484 q485 q486 q121 q487 rfl (by decide +kernel) (by decide) rfl dJ15_length_6, List.forall_mem_cons.mpr ⟨d_V rfl rfl q484 q485 q486 q121 q487 rfl (by decide +kernel) (by decide) rfl dJ15_length_6, fun _ h => absurd h List.not_mem_nil⟩⟩) aHS0) (
  aSa (s_ishr rfl dJ15_length_9) (
  aSa (s_iret (n := 0) rfl dJ15_length_10) (
  aSn)))))))
theorem sn20 : SndL "java/lang/StringLatin1" "canEncode" cJ18_canEncode 1 (Option.some Jvm.ClassFile.FieldType.boolean) [] T20 := aSa (s_iload_n rfl rfl dJ18_canEncode_0) (
  aSa (s_iflt (by decide) rfl dJ18_canEncode_1) (
  aSa (s_iload_n rfl rfl dJ18_canEncode_4) (
  aSa (s_sipush (v0 := 255) (by decide) rfl dJ18_canEncode_5) (
  aSa (s_cgt (by decide) rfl dJ18_canEncode_8) (
  aSa (s_iconst (v0 := 1) (by decide) rfl dJ18_canEncode_11) (
  aSa (s_goto (n := 0) (by decide) dJ18_canEncode_12) (
  aSa (s_iconst (v0 := 0) (by decide) rfl dJ18_canEncode_15) (
  aSa (s_iret (n := 0) rfl dJ18_canEncode_16) (
  aSn)))))))))
theorem sn21 : SndL "java/lang/StringLatin1" "indexOf" cJ18_indexOf 4 (Option.some Jvm.ClassFile.FieldType.int) [] T21 := aSa (s_iload_n rfl rfl dJ18_indexOf_0) (
  aSa (s_callS rfl q2184 q2185 q124 q2186 (by decide +kernel) (by decide) aHS0 rfl dJ18_indexOf_1) (
  aSa (s_ifne (by decide) rfl dJ18_indexOf_4) (
  aSa (s_iconst (v0 := (-1)) (by decide) rfl dJ18_indexOf_7) (
  aSa (s_iret (n := 0) rfl dJ18_indexOf_8) (
  aSa (s_iload_n rfl rfl dJ18_indexOf_9) (
  aSa (s_iconst (v0 := 0) (by decide) rfl dJ18_indexOf_10) (
  aSa (s_mmax q2187 q274 q112 q275 rfl dJ18_indexOf_11) (
  aSa (s_istore_n rfl (by decide) rfl dJ18_indexOf_14) (
  aSa (s_iload_n rfl rfl dJ18_indexOf_15) (
  aSa (s_aload_n rfl rfl dJ18_indexOf_16) (
  aSa (s_alen rfl dJ18_indexOf_17) (
  aSa (s_mmin q1605 q330 q112 q331 rfl dJ18_indexOf_18) (
  aSa (s_istore_n rfl (by decide) rfl dJ18_indexOf_21) (
  aSa (s_iload_n rfl rfl dJ18_indexOf_22) (
  aSa (s_iload_n rfl rfl dJ18_indexOf_23) (
  aSa (s_clt (by decide) rfl dJ18_indexOf_24) (
  aSa (s_iconst (v0 := (-1)) (by decide) rfl dJ18_indexOf_27) (
  aSa (s_iret (n := 0) rfl dJ18_indexOf_28) (
  aSa (s_aload_n rfl rfl dJ18_indexOf_29) (
  aSa (s_iload_n rfl rfl dJ18_indexOf_30) (
  aSa (s_iload_n rfl rfl dJ18_indexOf_31) (
  aSa (s_iload_n rfl rfl dJ18_indexOf_32) (
  aSa (s_callS rfl q2188 q2189 q124 q2190 (by decide +kernel) (by decide) aHS0 rfl dJ18_indexOf_33) (
  aSa (s_iret (n := 0) rfl dJ18_indexOf_36) (
  aSn)))))))))))))))))))))))))
theorem sn22 : SndL "java/lang/StringLatin1" "indexOfChar" cJ18_indexOfChar 6 (Option.some Jvm.ClassFile.FieldType.int) [] T22 := aSa (s_iload_n rfl rfl dJ18_indexOfChar_0) (
  aSa (s_i2b rfl dJ18_indexOfChar_1) (
  aSa (s_istore (by decide) rfl dJ18_indexOfChar_2) (
  aSa (s_iload_n rfl rfl dJ18_indexOfChar_4) (
  aSa (s_istore (by decide) rfl dJ18_indexOfChar_5) (
  aSa (s_iload rfl dJ18_indexOfChar_7) (
  aSa (s_iload_n rfl rfl dJ18_indexOfChar_9) (
  aSa (s_cge (by decide) rfl dJ18_indexOfChar_10) (
  aSa (s_aload_n rfl rfl dJ18_indexOfChar_13) (
  aSa (s_iload rfl dJ18_indexOfChar_14) (
  aSa (s_bald rfl dJ18_indexOfChar_16) (
  aSa (s_iload rfl dJ18_indexOfChar_17) (
  aSa (s_cne (by decide) rfl dJ18_indexOfChar_19) (
  aSa (s_iload rfl dJ18_indexOfChar_22) (
  aSa (s_iret (n := 0) rfl dJ18_indexOfChar_24) (
  aSa (s_iinc (by decide) rfl dJ18_indexOfChar_25) (
  aSa (s_goto (n := 0) (by decide) dJ18_indexOfChar_28) (
  aSa (s_iconst (v0 := (-1)) (by decide) rfl dJ18_indexOfChar_31) (
  aSa (s_iret (n := 0) rfl dJ18_indexOfChar_32) (
  aSn)))))))))))))))))))
theorem sn23 : SndL "java/lang/Throwable" "<init>" cJ9_init_3 5 (Option.none : Option Jvm.ClassFile.FieldType) [] T23 := aSa (s_aload_n rfl rfl dJ9_init_3_0) (
  aSa (s_oinit q366 q167 q168 rfl dJ9_init_3_1) (
  aSa (s_aload_n rfl rfl dJ9_init_3_4) (
  aSa (s_aload_n rfl rfl dJ9_init_3_5) (
  aSa (s_putf (T := TX10) (ty0 := tyX10) tyX10_ok nmX10 rfl (by decide) (by decide) in_X10 q613 (Or.inl rfl) rfl rfl rfl dJ9_init_3_6) (
  aSa (s_aload_n rfl rfl dJ9_init_3_9) (
  aSa (s_gets (C := "java/lang/Throwable") (nm0 := "UNASSIGNED_STACK") q367 (by decide) rfl dJ9_init_3_10) (
  aSa (s_putf (T := TX10) (ty0 := tyX10) tyX10_ok nmX10 rfl (by decide) (by decide) in_X10 q614 (Or.inl rfl) rfl rfl rfl dJ9_init_3_13) (
  aSa (s_aload_n rfl rfl dJ9_init_3_16) (
  aSa (s_gets (C := "java/lang/Throwable") (nm0 := "SUPPRESSED_SENTINEL") q369 (by decide) rfl dJ9_init_3_17) (
  aSa (s_putf (T := TX10) (ty0 := tyX10) tyX10_ok nmX10 rfl (by decide) (by decide) in_X10 q615 (Or.inl rfl) rfl rfl rfl dJ9_init_3_20) (
  aSa (s_iload rfl dJ9_init_3_23) (
  aSa (s_ifeq (by decide) rfl dJ9_init_3_25) (
  aSa (s_aload_n rfl rfl dJ9_init_3_28) (
  aSa (s_pop rfl dJ9_init_3_32) (
  aSa (s_goto (n := 0) (by decide) dJ9_init_3_33) (
  aSa (s_aload_n rfl rfl dJ9_init_3_36) (
  aSa (s_null rfl dJ9_init_3_37) (
  aSa (s_putf (T := TX10) (ty0 := tyX10) tyX10_ok nmX10 rfl (by decide) (by decide) in_X10 q614 (Or.inl rfl) rfl rfl rfl dJ9_init_3_38) (
  aSa (s_aload_n rfl rfl dJ9_init_3_41) (
  aSa (s_aload_n rfl rfl dJ9_init_3_42) (
  aSa (s_putf (T := TX10) (ty0 := tyX10) tyX10_ok nmX10 rfl (by decide) (by decide) in_X10 q612 (Or.inl rfl) rfl rfl rfl dJ9_init_3_43) (
  aSa (s_aload_n rfl rfl dJ9_init_3_46) (
  aSa (s_aload_n rfl rfl dJ9_init_3_47) (
  aSa (s_putf (T := TX10) (ty0 := tyX10) tyX10_ok nmX10 rfl (by decide) (by decide) in_X10 q613 (Or.inl rfl) rfl rfl rfl dJ9_init_3_48) (
  aSa (s_iload_n rfl rfl dJ9_init_3_51) (
  aSa (s_ifne (by decide) rfl dJ9_init_3_52) (
  aSa (s_aload_n rfl rfl dJ9_init_3_55) (
  aSa (s_null rfl dJ9_init_3_56) (
  aSa (s_putf (T := TX10) (ty0 := tyX10) tyX10_ok nmX10 rfl (by decide) (by decide) in_X10 q615 (Or.inl rfl) rfl rfl rfl dJ9_init_3_57) (
  aSa (s_ret (n := 0) rfl dJ9_init_3_60) (
  aSn)))))))))))))))))))))))))))))))
theorem sn24 : SndL "java/util/AbstractCollection" "<init>" cJ0_init 1 (Option.none : Option Jvm.ClassFile.FieldType) [] T24 := aSa (s_aload_n rfl rfl dJ0_init_0) (
  aSa (s_oinit q186 q167 q168 rfl dJ0_init_1) (
  aSa (s_ret (n := 0) rfl dJ0_init_4) (
  aSn)))
theorem sn25 : SndL "java/util/AbstractCollection" "isEmpty" cJ0_isEmpty 1 (Option.some Jvm.ClassFile.FieldType.boolean) [] T25 := aSa (s_aload_n rfl rfl dJ0_isEmpty_0) (
  aSa (s_callV (List.forall_mem_cons.mpr ⟨d_A (x := ⟨"java/util/AbstractCollection", "size", "()I"⟩) (ow := "java/util/AbstractCollection") rfl rfl (aL1 q1676 (aL1 q1678 (aL1 q1686 (aL1 q1687 (aL1 q151 aL0))))) q1688 q1677 (by decide +kernel) (by decide) rfl dJ0_isEmpty_1, fun _ h => absurd h List.not_mem_nil⟩) aHS0) (
  aSa (s_ifne (by decide) rfl dJ0_isEmpty_4) (
  aSa (s_iconst (v0 := 1) (by decide) rfl dJ0_isEmpty_7) (
  aSa (s_goto (n := 0) (by decide) dJ0_isEmpty_8) (
  aSa (s_iconst (v0 := 0) (by decide) rfl dJ0_isEmpty_11) (
  aSa (s_iret (n := 0) rfl dJ0_isEmpty_12) (
  aSn)))))))
theorem sn26 : SndL "java/util/AbstractList" "<init>" cJ1_init 1 (Option.none : Option Jvm.ClassFile.FieldType) [] T26 := aSa (s_aload_n rfl rfl dJ1_init_0) (
  aSa (s_callI rfl q183 q184 q104 q185 (by decide +kernel) (by decide) rfl aHS0 rfl dJ1_init_1) (
  aSa (s_aload_n rfl rfl dJ1_init_4) (
  aSa (s_iconst (v0 := 0) (by decide) rfl dJ1_init_5) (
  aSa (s_putf (T := TJ2) (ty0 := tyJ2) tyJ2_ok nmJ2 rfl (by decide) (by decide) in_J2 q193 (Or.inl rfl) rfl rfl rfl dJ1_init_6) (
  aSa (s_ret (n := 0) rfl dJ1_init_9) (
  aSn))))))
theorem sn27 : SndL "java/util/AbstractMap" "<init>" cJ27_init 1 (Option.none : Option Jvm.ClassFile.FieldType) [] T27 := aSa (s_aload_n rfl rfl dJ27_init_0) (
  aSa (s_oinit q1762 q167 q168 rfl dJ27_init_1) (
  aSa (s_ret (n := 0) rfl dJ27_init_4) (
  aSn)))
theorem sn28 : SndL "java/util/AbstractQueue" "<init>" cJ37_init 1 (Option.none : Option Jvm.ClassFile.FieldType) [] T28 := aSa (s_aload_n rfl rfl dJ37_init_0) (
  aSa (s_callI rfl q1445 q184 q104 q185 (by decide +kernel) (by decide) rfl aHS0 rfl dJ37_init_1) (
  aSa (s_ret (n := 0) rfl dJ37_init_4) (
  aSn)))
theorem sn29 : SndL "java/util/AbstractSet" "<init>" cJ35_init 1 (Option.none : Option Jvm.ClassFile.FieldType) [] T29 := aSa (s_aload_n rfl rfl dJ35_init_0) (
  aSa (s_callI rfl q2375 q184 q104 q185 (by decide +kernel) (by decide) rfl aHS0 rfl dJ35_init_1) (
  aSa (s_ret (n := 0) rfl dJ35_init_4) (
  aSn)))
theorem sn30 : SndL "java/util/ArrayDeque" "<init>" cJ23_init 1 (Option.none : Option Jvm.ClassFile.FieldType) [] T30 := aSa (s_aload_n rfl rfl dJ23_init_0) (
  aSa (s_callI rfl q901 q184 q104 q185 (by decide +kernel) (by decide) rfl aHS0 rfl dJ23_init_1) (
  aSa (s_aload_n rfl rfl dJ23_init_4) (
  aSa (s_bipush (v0 := 17) (by decide) rfl dJ23_init_5) (
  aSa (s_newq (kd := 4) q902 q327 (fun _ => rfl) rfl (by decide) rfl dJ23_init_7) (
  aSa (s_putf (T := TJ23) (ty0 := tyJ23) tyJ23_ok nmJ23 rfl (by decide) (by decide) in_J23 q903 (Or.inl rfl) rfl rfl rfl dJ23_init_10) (
  aSa (s_ret (n := 0) rfl dJ23_init_13) (
  aSn)))))))
theorem sn31 : SndL "java/util/ArrayDeque" "addLast" cJ23_addLast 3 (Option.none : Option Jvm.ClassFile.FieldType) [] T31 := aSa (s_aload_n rfl rfl dJ23_addLast_0) (
  aSa (s_ifnonnull (by decide) rfl dJ23_addLast_1) (
  aSa (s_dup rfl dJ23_addLast_7) (
  aSa (s_aload_n rfl rfl dJ23_addLast_12) (
  aSa (s_getf (T := TJ23) rfl (by decide) (by decide) in_J23 q903 (Or.inl rfl) rfl dJ23_addLast_13) (
  aSa (s_astore_n rfl (by decide) rfl dJ23_addLast_16) (
  aSa (s_aload_n rfl rfl dJ23_addLast_17) (
  aSa (s_aload_n rfl rfl dJ23_addLast_18) (
  aSa (s_getf (T := TJ23) rfl (by decide) (by decide) in_J23 q907 (Or.inl rfl) rfl dJ23_addLast_19) (
  aSa (s_aload_n rfl rfl dJ23_addLast_22) (
  aSa (s_aast rfl dJ23_addLast_23) (
  aSa (s_aload_n rfl rfl dJ23_addLast_24) (
  aSa (s_getf (T := TJ23) rfl (by decide) (by decide) in_J23 q906 (Or.inl rfl) rfl dJ23_addLast_25) (
  aSa (s_aload_n rfl rfl dJ23_addLast_28) (
  aSa (s_aload_n rfl rfl dJ23_addLast_29) (
  aSa (s_getf (T := TJ23) rfl (by decide) (by decide) in_J23 q907 (Or.inl rfl) rfl dJ23_addLast_30) (
  aSa (s_aload_n rfl rfl dJ23_addLast_33) (
  aSa (s_alen rfl dJ23_addLast_34) (
  aSa (s_callS rfl q920 q921 q130 q922 (by decide +kernel) (by decide) aHS0 rfl dJ23_addLast_35) (
  aSa (s_dup_x1 rfl dJ23_addLast_38) (
  aSa (s_putf (T := TJ23) (ty0 := tyJ23) tyJ23_ok nmJ23 rfl (by decide) (by decide) in_J23 q907 (Or.inl rfl) rfl rfl rfl dJ23_addLast_39) (
  aSa (s_cne (by decide) rfl dJ23_addLast_42) (
  aSa (s_aload_n rfl rfl dJ23_addLast_45) (
  aSa (s_iconst (v0 := 1) (by decide) rfl dJ23_addLast_46) (
  aSa (s_callV (List.forall_mem_cons.mpr ⟨d_V rfl rfl q923 q925 qs9 q130 q926 rfl (by decide +kernel) (by decide) rfl dJ23_addLast_47, fun _ h => absurd h List.not_mem_nil⟩) aHS0) (
  aSa (s_ret (n := 0) rfl dJ23_addLast_50) (
  aSn))))))))))))))))))))))))))
theorem sn32 : SndL "java/util/ArrayDeque" "circularClear" cJ23_circularClear 4 (Option.none : Option Jvm.ClassFile.FieldType) [] T32 := aSa (s_iload_n rfl rfl dJ23_circularClear_0) (
  aSa (s_iload_n rfl rfl dJ23_circularClear_1) (
  aSa (s_cgt (by decide) rfl dJ23_circularClear_2) (
  aSa (s_iload_n rfl rfl dJ23_circularClear_5) (
  aSa (s_goto (n := 0) (by decide) dJ23_circularClear_6) (
  aSa (s_aload_n rfl rfl dJ23_circularClear_9) (
  aSa (s_alen rfl dJ23_circularClear_10) (
  aSa (s_istore_n rfl (by decide) rfl dJ23_circularClear_11) (
  aSa (s_iload_n rfl rfl dJ23_circularClear_12) (
  aSa (s_iload_n rfl rfl dJ23_circularClear_13) (
  aSa (s_cge (by decide) rfl dJ23_circularClear_14) (
  aSa (s_aload_n rfl rfl dJ23_circularClear_17) (
  aSa (s_iload_n rfl rfl dJ23_circularClear_18) (
  aSa (s_null rfl dJ23_circularClear_19) (
  aSa (s_aast rfl dJ23_circularClear_20) (
  aSa (s_iinc (by decide) rfl dJ23_circularClear_21) (
  aSa (s_goto (n := 0) (by decide) dJ23_circularClear_24) (
  aSa (s_iload_n rfl rfl dJ23_circularClear_27) (
  aSa (s_iload_n rfl rfl dJ23_circularClear_28) (
  aSa (s_cne (by decide) rfl dJ23_circularClear_29) (
  aSa (s_goto (n := 0) (by decide) dJ23_circularClear_32) (
  aSa (s_iconst (v0 := 0) (by decide) rfl dJ23_circularClear_35) (
  aSa (s_istore_n rfl (by decide) rfl dJ23_circularClear_36) (
  aSa (s_iload_n rfl rfl dJ23_circularClear_37) (
  aSa (s_istore_n rfl (by decide) rfl dJ23_circularClear_38) (
  aSa (s_goto (n := 0) (by decide) dJ23_circularClear_39) (
  aSa (s_ret (n := 0) rfl dJ23_circularClear_42) (
  aSn)))))))))))))))))))))))))))
theorem sn33 : SndL "java/util/ArrayDeque" "clear" cJ23_clear 1 (Option.none : Option Jvm.ClassFile.FieldType) [] T33 := aSa (s_aload_n rfl rfl dJ23_clear_0) (
  aSa (s_getf (T := TJ23) rfl (by decide) (by decide) in_J23 q903 (Or.inl rfl) rfl dJ23_clear_1) (
  aSa (s_aload_n rfl rfl dJ23_clear_4) (
  aSa (s_getf (T := TJ23) rfl (by decide) (by decide) in_J23 q906 (Or.inl rfl) rfl dJ23_clear_5) (
  aSa (s_aload_n rfl rfl dJ23_clear_8) (
  aSa (s_getf (T := TJ23) rfl (by decide) (by decide) in_J23 q907 (Or.inl rfl) rfl dJ23_clear_9) (
  aSa (s_callS rfl q2030 q2031 q130 q2032 (by decide +kernel) (by decide) aHS0 rfl dJ23_clear_12) (
  aSa (s_aload_n rfl rfl dJ23_clear_15) (
  aSa (s_aload_n rfl rfl dJ23_clear_16) (
  aSa (s_iconst (v0 := 0) (by decide) rfl dJ23_clear_17) (
  aSa (s_dup_x1 rfl dJ23_clear_18) (
  aSa (s_putf (T := TJ23) (ty0 := tyJ23) tyJ23_ok nmJ23 rfl (by decide) (by decide) in_J23 q907 (Or.inl rfl) rfl rfl rfl dJ23_clear_19) (
  aSa (s_putf (T := TJ23) (ty0 := tyJ23) tyJ23_ok nmJ23 rfl (by decide) (by decide) in_J23 q906 (Or.inl rfl) rfl rfl rfl dJ23_clear_22) (
  aSa (s_ret (n := 0) rfl dJ23_clear_25) (
  aSn))))))))))))))
theorem sn34 : SndL "java/util/ArrayDeque" "dec" cJ23_dec 2 (Option.some Jvm.ClassFile.FieldType.int) [] T34 := aSa (s_iinc (by decide) rfl dJ23_dec_0) (
  aSa (s_iload_n rfl rfl dJ23_dec_3) (
  aSa (s_ifge (by decide) rfl dJ23_dec_4) (
  aSa (s_iload_n rfl rfl dJ23_dec_7) (
  aSa (s_iconst (v0 := 1) (by decide) rfl dJ23_dec_8) (
  aSa (s_isub rfl dJ23_dec_9) (
  aSa (s_istore_n rfl (by decide) rfl dJ23_dec_10) (
  aSa (s_iload_n rfl rfl dJ23_dec_11) (
  aSa (s_iret (n := 0) rfl dJ23_dec_12) (
  aSn)))))))))
theorem sn35 : SndL "java/util/ArrayDeque" "elementAt" cJ23_elementAt 2 (Option.some (Jvm.ClassFile.FieldType.object "java/lang/Object")) [] T35 := aSa (s_aload_n rfl rfl dJ23_elementAt_0) (
  aSa (s_iload_n rfl rfl dJ23_elementAt_1) (
  aSa (s_aald rfl dJ23_elementAt_2) (
  aSa (s_aret (n := 0) rfl (Or.inl ⟨_, rfl⟩) dJ23_elementAt_3) (
  aSn))))
theorem sn36 : SndL "java/util/ArrayDeque" "grow" cJ23_grow 9 (Option.none : Option Jvm.ClassFile.FieldType) [] T36 := aSa (s_aload_n rfl rfl dJ23_grow_0) (
  aSa (s_getf (T := TJ23) rfl (by decide) (by decide) in_J23 q903 (Or.inl rfl) rfl dJ23_grow_1) (
  aSa (s_alen rfl dJ23_grow_4) (
  aSa (s_istore_n rfl (by decide) rfl dJ23_grow_5) (
  aSa (s_iload_n rfl rfl dJ23_grow_6) (
  aSa (s_bipush (v0 := 64) (by decide) rfl dJ23_grow_7) (
  aSa (s_cge (by decide) rfl dJ23_grow_9) (
  aSa (s_iload_n rfl rfl dJ23_grow_12) (
  aSa (s_iconst (v0 := 2) (by decide) rfl dJ23_grow_13) (
  aSa (s_iadd rfl dJ23_grow_14) (
  aSa (s_goto (n := 0) (by decide) dJ23_grow_15) (
  aSa (s_iload_n rfl rfl dJ23_grow_18) (
  aSa (s_iconst (v0 := 1) (by decide) rfl dJ23_grow_19) (
  aSa (s_ishr rfl dJ23_grow_20) (
  aSa (s_istore (by decide) rfl dJ23_grow_21) (
  aSa (s_iload rfl dJ23_grow_23) (
  aSa (s_iload_n rfl rfl dJ23_grow_25) (
  aSa (s_clt (by decide) rfl dJ23_grow_26) (
  aSa (s_iload_n rfl rfl dJ23_grow_29) (
  aSa (s_iload rfl dJ23_grow_30) (
  aSa (s_iadd rfl dJ23_grow_32) (
  aSa (s_dup rfl dJ23_grow_33) (
  aSa (s_istore_n rfl (by decide) rfl dJ23_grow_34) (
  aSa (s_ldc q927 rfl dJ23_grow_35) (
  aSa (s_isub rfl dJ23_grow_37) (
  aSa (s_ifle (by decide) rfl dJ23_grow_38) (
  aSa (s_aload_n rfl rfl dJ23_grow_41) (
  aSa (s_iload_n rfl rfl dJ23_grow_42) (
  aSa (s_iload rfl dJ23_grow_43) (
  aSa (s_callV (List.forall_mem_cons.mpr ⟨d_V rfl rfl q928 q930 qs10 q130 q931 rfl (by decide +kernel) (by decide) rfl dJ23_grow_45, fun _ h => absurd h List.not_mem_nil⟩) aHS0) (
  aSa (s_istore_n rfl (by decide) rfl dJ23_grow_48) (
  aSa (s_aload_n rfl rfl dJ23_grow_49) (
  aSa (s_aload_n rfl rfl dJ23_grow_50) (
  aSa (s_getf (T := TJ23) rfl (by decide) (by decide) in_J23 q903 (Or.inl rfl) rfl dJ23_grow_51) (
  aSa (s_iload_n rfl rfl dJ23_grow_54) (
  aSa (s_callS rfl q949 q281 q113 q282 (by decide +kernel) (by decide) aHS0 rfl dJ23_grow_55) (
  aSa (s_dup_x1 rfl dJ23_grow_58) (
  aSa (s_putf (T := TJ23) (ty0 := tyJ23) tyJ23_ok nmJ23 rfl (by decide) (by decide) in_J23 q903 (Or.inl rfl) rfl rfl rfl dJ23_grow_59) (
  aSa (s_astore (by decide) rfl dJ23_grow_62) (
  aSa (s_aload_n rfl rfl dJ23_grow_64) (
  aSa (s_getf (T := TJ23) rfl (by decide) (by decide) in_J23 q907 (Or.inl rfl) rfl dJ23_grow_65) (
  aSa (s_aload_n rfl rfl dJ23_grow_68) (
  aSa (s_getf (T := TJ23) rfl (by decide) (by decide) in_J23 q906 (Or.inl rfl) rfl dJ23_grow_69) (
  aSa (s_clt (by decide) rfl dJ23_grow_72) (
  aSa (s_aload_n rfl rfl dJ23_grow_75) (
  aSa (s_getf (T := TJ23) rfl (by decide) (by decide) in_J23 q907 (Or.inl rfl) rfl dJ23_grow_76) (
  aSa (s_aload_n rfl rfl dJ23_grow_79) (
  aSa (s_getf (T := TJ23) rfl (by decide) (by decide) in_J23 q906 (Or.inl rfl) rfl dJ23_grow_80) (
  aSa (s_cne (by decide) rfl dJ23_grow_83) (
  aSa (s_aload rfl dJ23_grow_86) (
  aSa (s_aload_n rfl rfl dJ23_grow_88) (
  aSa (s_getf (T := TJ23) rfl (by decide) (by decide) in_J23 q906 (Or.inl rfl) rfl dJ23_grow_89) (
  aSa (s_aald rfl dJ23_grow_92) (
  aSa (s_ifnull (by decide) rfl dJ23_grow_93) (
  aSa (s_iload_n rfl rfl dJ23_grow_96) (
  aSa (s_iload_n rfl rfl dJ23_grow_97) (
  aSa (s_isub rfl dJ23_grow_98) (
  aSa (s_istore (by decide) rfl dJ23_grow_99) (
  aSa (s_aload rfl dJ23_grow_101) (
  aSa (s_aload_n rfl rfl dJ23_grow_103) (
  aSa (s_getf (T := TJ23) rfl (by decide) (by decide) in_J23 q906 (Or.inl rfl) rfl dJ23_grow_104) (
  aSa (s_aload rfl dJ23_grow_107) (
  aSa (s_aload_n rfl rfl dJ23_grow_109) (
  aSa (s_getf (T := TJ23) rfl (by decide) (by decide) in_J23 q906 (Or.inl rfl) rfl dJ23_grow_110) (
  aSa (s_iload rfl dJ23_grow_113) (
  aSa (s_iadd rfl dJ23_grow_115) (
  aSa (s_iload_n rfl rfl dJ23_grow_116) (
  aSa (s_aload_n rfl rfl dJ23_grow_117) (
  aSa (s_getf (T := TJ23) rfl (by decide) (by decide) in_J23 q906 (Or.inl rfl) rfl dJ23_grow_118) (
  aSa (s_isub rfl dJ23_grow_121) (
  aSa (s_acopy q950 q334 q333 q114 rfl dJ23_grow_122) (
  aSa (s_aload_n rfl rfl dJ23_grow_125) (
  aSa (s_getf (T := TJ23) rfl (by decide) (by decide) in_J23 q906 (Or.inl rfl) rfl dJ23_grow_126) (
  aSa (s_istore (by decide) rfl dJ23_grow_129) (
  aSa (s_aload_n rfl rfl dJ23_grow_131) (
  aSa (s_dup rfl dJ23_grow_132) (
  aSa (s_getf (T := TJ23) rfl (by decide) (by decide) in_J23 q906 (Or.inl rfl) rfl dJ23_grow_133) (
  aSa (s_iload rfl dJ23_grow_136) (
  aSa (s_iadd rfl dJ23_grow_138) (
  aSa (s_dup_x1 rfl dJ23_grow_139) (
  aSa (s_putf (T := TJ23) (ty0 := tyJ23) tyJ23_ok nmJ23 rfl (by decide) (by decide) in_J23 q906 (Or.inl rfl) rfl rfl rfl dJ23_grow_140) (
  aSa (s_istore (by decide) rfl dJ23_grow_143) (
  aSa (s_iload rfl dJ23_grow_145) (
  aSa (s_iload rfl dJ23_grow_147) (
  aSa (s_cge (by decide) rfl dJ23_grow_149) (
  aSa (s_aload rfl dJ23_grow_152) (
  aSa (s_iload rfl dJ23_grow_154) (
  aSa (s_null rfl dJ23_grow_156) (
  aSa (s_aast rfl dJ23_grow_157) (
  aSa (s_iinc (by decide) rfl dJ23_grow_158) (
  aSa (s_goto (n := 0) (by decide) dJ23_grow_161) (
  aSa (s_ret (n := 0) rfl dJ23_grow_164) (
  aSn))))))))))))))))))))))))))))))))))))))))))))))))))))))))))))))))))))))))))))))))))))))))))))
theorem sn37 : SndL "java/util/ArrayDeque" "inc" cJ23_inc 2 (Option.some Jvm.ClassFile.FieldType.int) [] T37 := aSa (s_iinc (by decide) rfl dJ23_inc_0) (
  aSa (s_iload_n rfl rfl dJ23_inc_3) (
  aSa (s_iload_n rfl rfl dJ23_inc_4) (
  aSa (s_clt (by decide) rfl dJ23_inc_5) (
  aSa (s_iconst (v0 := 0) (by decide) rfl dJ23_inc_8) (
  aSa (s_istore_n rfl (by decide) rfl dJ23_inc_9) (
  aSa (s_iload_n rfl rfl dJ23_inc_10) (
  aSa (s_iret (n := 0) rfl dJ23_inc_11) (
  aSn))))))))
theorem sn38 : SndL "java/util/ArrayDeque" "isEmpty" cJ23_isEmpty 1 (Option.some Jvm.ClassFile.FieldType.boolean) [] T38 := aSa (s_aload_n rfl rfl dJ23_isEmpty_0) (
  aSa (s_getf (T := TJ23) rfl (by decide) (by decide) in_J23 q906 (Or.inl rfl) rfl dJ23_isEmpty_1) (
  aSa (s_aload_n rfl rfl dJ23_isEmpty_4) (
  aSa (s_getf (T := TJ23) rfl (by decide) (by decide) in_J23 q907 (Or.inl rfl) rfl dJ23_isEmpty_5) (
  aSa (s_cne (by decide) rfl dJ23_isEmpty_8) (
  aSa (s_iconst (v0 := 1) (by decide) rfl dJ23_isEmpty_11) (
  aSa (s_goto (n := 0) (by decide) dJ23_isEmpty_12) (
  aSa (s_iconst (v0 := 0) (by decide) rfl dJ23_isEmpty_15) (
  aSa (s_iret (n := 0) rfl dJ23_isEmpty_16) (
  aSn)))))))))
theorem sn39 : SndL "java/util/ArrayDeque" "newCapacity" cJ23_newCapacity 5 (Option.some Jvm.ClassFile.FieldType.int) [] T39 := aSa (s_aload_n rfl rfl dJ23_newCapacity_0) (
  aSa (s_getf (T := TJ23) rfl (by decide) (by decide) in_J23 q903 (Or.inl rfl) rfl dJ23_newCapacity_1) (
  aSa (s_alen rfl dJ23_newCapacity_4) (
  aSa (s_istore_n rfl (by decide) rfl dJ23_newCapacity_5) (
  aSa (s_iload_n rfl rfl dJ23_newCapacity_6) (
  aSa (s_iload_n rfl rfl dJ23_newCapacity_7) (
  aSa (s_iadd rfl dJ23_newCapacity_8) (
  aSa (s_dup rfl dJ23_newCapacity_9) (
  aSa (s_istore (by decide) rfl dJ23_newCapacity_10) (
  aSa (s_ldc q927 rfl dJ23_newCapacity_12) (
  aSa (s_isub rfl dJ23_newCapacity_14) (
  aSa (s_ifle (by decide) rfl dJ23_newCapacity_15) (
  aSa (s_iload rfl dJ23_newCapacity_18) (
  aSa (s_ifge (by decide) rfl dJ23_newCapacity_20) (
  aSa (s_dup rfl dJ23_newCapacity_26) (
  aSa (s_ldc q948 rfl dJ23_newCapacity_33) (
  aSa (s_iret (n := 0) rfl dJ23_newCapacity_35) (
  aSa (s_iload_n rfl rfl dJ23_newCapacity_36) (
  aSa (s_iload_n rfl rfl dJ23_newCapacity_37) (
  aSa (s_cle (by decide) rfl dJ23_newCapacity_38) (
  aSa (s_iload rfl dJ23_newCapacity_41) (
  aSa (s_iret (n := 0) rfl dJ23_newCapacity_43) (
  aSa (s_iload_n rfl rfl dJ23_newCapacity_44) (
  aSa (s_iload_n rfl rfl dJ23_newCapacity_45) (
  aSa (s_iadd rfl dJ23_newCapacity_46) (
  aSa (s_ldc q927 rfl dJ23_newCapacity_47) (
  aSa (s_isub rfl dJ23_newCapacity_49) (
  aSa (s_ifge (by decide) rfl dJ23_newCapacity_50) (
  aSa (s_iload_n rfl rfl dJ23_newCapacity_53) (
  aSa (s_iload_n rfl rfl dJ23_newCapacity_54) (
  aSa (s_iadd rfl dJ23_newCapacity_55) (
  aSa (s_goto (n := 0) (by decide) dJ23_newCapacity_56) (
  aSa (s_ldc q927 rfl dJ23_newCapacity_59) (
  aSa (s_iret (n := 0) rfl dJ23_newCapacity_61) (
  aSn))))))))))))))))))))))))))))))))))
theorem sn40 : SndL "java/util/ArrayDeque" "pollFirst" cJ23_pollFirst 4 (Option.some (Jvm.ClassFile.FieldType.object "java/lang/Object")) [] T40 := aSa (s_aload_n rfl rfl dJ23_pollFirst_0) (
  aSa (s_getf (T := TJ23) rfl (by decide) (by decide) in_J23 q903 (Or.inl rfl) rfl dJ23_pollFirst_1) (
  aSa (s_dup rfl dJ23_pollFirst_4) (
  aSa (s_astore_n rfl (by decide) rfl dJ23_pollFirst_5) (
  aSa (s_aload_n rfl rfl dJ23_pollFirst_6) (
  aSa (s_getf (T := TJ23) rfl (by decide) (by decide) in_J23 q906 (Or.inl rfl) rfl dJ23_pollFirst_7) (
  aSa (s_dup rfl dJ23_pollFirst_10) (
  aSa (s_istore_n rfl (by decide) rfl dJ23_pollFirst_11) (
  aSa (s_callS rfl q963 q964 q130 q965 (by decide +kernel) (by decide) aHS0 rfl dJ23_pollFirst_12) (
  aSa (s_astore_n rfl (by decide) rfl dJ23_pollFirst_15) (
  aSa (s_aload_n rfl rfl dJ23_pollFirst_16) (
  aSa (s_ifnull (by decide) rfl dJ23_pollFirst_17) (
  aSa (s_aload_n rfl rfl dJ23_pollFirst_20) (
  aSa (s_iload_n rfl rfl dJ23_pollFirst_21) (
  aSa (s_null rfl dJ23_pollFirst_22) (
  aSa (s_aast rfl dJ23_pollFirst_23) (
  aSa (s_aload_n rfl rfl dJ23_pollFirst_24) (
  aSa (s_iload_n rfl rfl dJ23_pollFirst_25) (
  aSa (s_aload_n rfl rfl dJ23_pollFirst_26) (
  aSa (s_alen rfl dJ23_pollFirst_27) (
  aSa (s_callS rfl q920 q921 q130 q922 (by decide +kernel) (by decide) aHS0 rfl dJ23_pollFirst_28) (
  aSa (s_putf (T := TJ23) (ty0 := tyJ23) tyJ23_ok nmJ23 rfl (by decide) (by decide) in_J23 q906 (Or.inl rfl) rfl rfl rfl dJ23_pollFirst_31) (
  aSa (s_aload_n rfl rfl dJ23_pollFirst_34) (
  aSa (s_aret (n := 0) rfl (Or.inl ⟨_, rfl⟩) dJ23_pollFirst_35) (
  aSn))))))))))))))))))))))))
theorem sn41 : SndL "java/util/ArrayDeque" "pollLast" cJ23_pollLast 4 (Option.some (Jvm.ClassFile.FieldType.object "java/lang/Object")) [] T41 := aSa (s_aload_n rfl rfl dJ23_pollLast_0) (
  aSa (s_getf (T := TJ23) rfl (by decide) (by decide) in_J23 q903 (Or.inl rfl) rfl dJ23_pollLast_1) (
  aSa (s_dup rfl dJ23_pollLast_4) (
  aSa (s_astore_n rfl (by decide) rfl dJ23_pollLast_5) (
  aSa (s_aload_n rfl rfl dJ23_pollLast_6) (
  aSa (s_getf (T := TJ23) rfl (by decide) (by decide) in_J23 q907 (Or.inl rfl) rfl dJ23_pollLast_7) (
  aSa (s_aload_n rfl rfl dJ23_pollLast_10) (
  aSa (s_alen rfl dJ23_pollLast_11) (
  aSa (s_callS rfl q2152 q2153 q130 q2154 (by decide +kernel) (by decide) aHS0 rfl dJ23_pollLast_12) (
  aSa (s_dup rfl dJ23_pollLast_15) (
  aSa (s_istore_n rfl (by decide) rfl dJ23_pollLast_16) (
  aSa (s_callS rfl q963 q964 q130 q965 (by decide +kernel) (by decide) aHS0 rfl dJ23_pollLast_17) (
  aSa (s_astore_n rfl (by decide) rfl dJ23_pollLast_20) (
  aSa (s_aload_n rfl rfl dJ23_pollLast_21) (
  aSa (s_ifnull (by decide) rfl dJ23_pollLast_22) (
  aSa (s_aload_n rfl rfl dJ23_pollLast_25) (
  aSa (s_aload_n rfl rfl dJ23_pollLast_26) (
  aSa (s_iload_n rfl rfl dJ23_pollLast_27) (
  aSa (s_dup_x1 rfl dJ23_pollLast_28) (
  aSa (s_putf (T := TJ23) (ty0 := tyJ23) tyJ23_ok nmJ23 rfl (by decide) (by decide) in_J23 q907 (Or.inl rfl) rfl rfl rfl dJ23_pollLast_29) (
  aSa (s_null rfl dJ23_pollLast_32) (
  aSa (s_aast rfl dJ23_pollLast_33) (
  aSa (s_aload_n rfl rfl dJ23_pollLast_34) (
  aSa (s_aret (n := 0) rfl (Or.inl ⟨_, rfl⟩) dJ23_pollLast_35) (
  aSn))))))))))))))))))))))))
theorem sn42 : SndL "java/util/ArrayDeque" "removeFirst" cJ23_removeFirst 2 (Option.some (Jvm.ClassFile.FieldType.object "java/lang/Object")) [] T42 := aSa (s_aload_n rfl rfl dJ23_removeFirst_0) (
  aSa (s_callV (List.forall_mem_cons.mpr ⟨d_V rfl rfl q959 q960 q961 q130 q962 rfl (by decide +kernel) (by decide) rfl dJ23_removeFirst_1, fun _ h => absurd h List.not_mem_nil⟩) aHS0) (
  aSa (s_astore_n rfl (by decide) rfl dJ23_removeFirst_4) (
  aSa (s_aload_n rfl rfl dJ23_removeFirst_5) (
  aSa (s_ifnonnull (by decide) rfl dJ23_removeFirst_6) (
  aSa (s_dup rfl dJ23_removeFirst_12) (
  aSa (s_aload_n rfl rfl dJ23_removeFirst_17) (
  aSa (s_aret (n := 0) rfl (Or.inl ⟨_, rfl⟩) dJ23_removeFirst_18) (
  aSn))))))))
theorem sn43 : SndL "java/util/ArrayDeque" "removeLast" cJ23_removeLast 2 (Option.some (Jvm.ClassFile.FieldType.object "java/lang/Object")) [] T43 := aSa (s_aload_n rfl rfl dJ23_removeLast_0) (
  aSa (s_callV (List.forall_mem_cons.mpr ⟨d_V rfl rfl q2148 q2149 q2150 q130 q2151 rfl (by decide +kernel) (by decide) rfl dJ23_removeLast_1, fun _ h => absurd h List.not_mem_nil⟩) aHS0) (
  aSa (s_astore_n rfl (by decide) rfl dJ23_removeLast_4) (
  aSa (s_aload_n rfl rfl dJ23_removeLast_5) (
  aSa (s_ifnonnull (by decide) rfl dJ23_removeLast_6) (
  aSa (s_dup rfl dJ23_removeLast_12) (
  aSa (s_aload_n rfl rfl dJ23_removeLast_17) (
  aSa (s_aret (n := 0) rfl (Or.inl ⟨_, rfl⟩) dJ23_removeLast_18) (
  aSn))))))))
theorem sn44 : SndL "java/util/ArrayDeque" "size" cJ23_size 1 (Option.some Jvm.ClassFile.FieldType.int) [] T44 := aSa (s_aload_n rfl rfl dJ23_size_0) (
  aSa (s_getf (T := TJ23) rfl (by decide) (by decide) in_J23 q907 (Or.inl rfl) rfl dJ23_size_1) (
  aSa (s_aload_n rfl rfl dJ23_size_4) (
  aSa (s_getf (T := TJ23) rfl (by decide) (by decide) in_J23 q906 (Or.inl rfl) rfl dJ23_size_5) (
  aSa (s_aload_n rfl rfl dJ23_size_8) (
  aSa (s_getf (T := TJ23) rfl (by decide) (by decide) in_J23 q903 (Or.inl rfl) rfl dJ23_size_9) (
  aSa (s_alen rfl dJ23_size_12) (
  aSa (s_callS rfl q1682 q1683 q130 q1684 (by decide +kernel) (by decide) aHS0 rfl dJ23_size_13) (
  aSa (s_iret (n := 0) rfl dJ23_size_16) (
  aSn)))))))))
theorem sn45 : SndL "java/util/ArrayDeque" "sub" cJ23_sub 3 (Option.some Jvm.ClassFile.FieldType.int) [] T45 := aSa (s_iload_n rfl rfl dJ23_sub_0) (
  aSa (s_iload_n rfl rfl dJ23_sub_1) (
  aSa (s_isub rfl dJ23_sub_2) (
  aSa (s_dup rfl dJ23_sub_3) (
  aSa (s_istore_n rfl (by decide) rfl dJ23_sub_4) (
  aSa (s_ifge (by decide) rfl dJ23_sub_5) (
  aSa (s_iload_n rfl rfl dJ23_sub_8) (
  aSa (s_iload_n rfl rfl dJ23_sub_9) (
  aSa (s_iadd rfl dJ23_sub_10) (
  aSa (s_istore_n rfl (by decide) rfl dJ23_sub_11) (
  aSa (s_iload_n rfl rfl dJ23_sub_12) (
  aSa (s_iret (n := 0) rfl dJ23_sub_13) (
  aSn))))))))))))
theorem sn46 : SndL "java/util/ArrayList" "<init>" cJ2_init 1 (Option.none : Option Jvm.ClassFile.FieldType) [] T46 := aSa (s_aload_n rfl rfl dJ2_init_0) (
  aSa (s_callI rfl q180 q181 q105 q182 (by decide +kernel) (by decide) rfl aHS0 rfl dJ2_init_1) (
  aSa (s_aload_n rfl rfl dJ2_init_4) (
  aSa (s_gets (C := "java/util/ArrayList") (nm0 := "DEFAULTCAPACITY_EMPTY_ELEMENTDATA") q187 (by decide) rfl dJ2_init_5) (
  aSa (s_putf (T := TJ2) (ty0 := tyJ2) tyJ2_ok nmJ2 rfl (by decide) (by decide) in_J2 q189 (Or.inl rfl) rfl rfl rfl dJ2_init_8) (
  aSa (s_ret (n := 0) rfl dJ2_init_11) (
  aSn))))))
theorem sn47 : SndL "java/util/ArrayList" "add" cJ2_add_3 5 (Option.none : Option Jvm.ClassFile.FieldType) [] T47 := aSa (s_aload_n rfl rfl dJ2_add_3_0) (
  aSa (s_iload_n rfl rfl dJ2_add_3_1) (
  aSa (s_callV (List.forall_mem_cons.mpr ⟨d_V rfl rfl q1936 q1938 qs36 q106 q1939 rfl (by decide +kernel) (by decide) rfl dJ2_add_3_2, fun _ h => absurd h List.not_mem_nil⟩) aHS0) (
  aSa (s_aload_n rfl rfl dJ2_add_3_5) (
  aSa (s_dup rfl dJ2_add_3_6) (
  aSa (s_getf (T := TJ2) rfl (by decide) (by decide) in_J2 q196 (Or.inr q195) rfl dJ2_add_3_7) (
  aSa (s_iconst (v0 := 1) (by decide) rfl dJ2_add_3_10) (
  aSa (s_iadd rfl dJ2_add_3_11) (
  aSa (s_putf (T := TJ2) (ty0 := tyJ2) tyJ2_ok nmJ2 rfl (by decide) (by decide) in_J2 q196 (Or.inr q195) rfl rfl rfl dJ2_add_3_12) (
  aSa (s_aload_n rfl rfl dJ2_add_3_15) (
  aSa (s_getf (T := TJ2) rfl (by decide) (by decide) in_J2 q192 (Or.inl rfl) rfl dJ2_add_3_16) (
  aSa (s_dup rfl dJ2_add_3_19) (
  aSa (s_istore_n rfl (by decide) rfl dJ2_add_3_20) (
  aSa (s_aload_n rfl rfl dJ2_add_3_21) (
  aSa (s_getf (T := TJ2) rfl (by decide) (by decide) in_J2 q189 (Or.inl rfl) rfl dJ2_add_3_22) (
  aSa (s_dup rfl dJ2_add_3_25) (
  aSa (s_astore (by decide) rfl dJ2_add_3_26) (
  aSa (s_alen rfl dJ2_add_3_28) (
  aSa (s_cne (by decide) rfl dJ2_add_3_29) (
  aSa (s_aload_n rfl rfl dJ2_add_3_32) (
  aSa (s_callV (List.forall_mem_cons.mpr ⟨d_V rfl rfl q262 q264 qs2 q106 q265 rfl (by decide +kernel) (by decide) rfl dJ2_add_3_33, fun _ h => absurd h List.not_mem_nil⟩) aHS0) (
  aSa (s_astore (by decide) rfl dJ2_add_3_36) (
  aSa (s_aload rfl dJ2_add_3_38) (
  aSa (s_iload_n rfl rfl dJ2_add_3_40) (
  aSa (s_aload rfl dJ2_add_3_41) (
  aSa (s_iload_n rfl rfl dJ2_add_3_43) (
  aSa (s_iconst (v0 := 1) (by decide) rfl dJ2_add_3_44) (
  aSa (s_iadd rfl dJ2_add_3_45) (
  aSa (s_iload_n rfl rfl dJ2_add_3_46) (
  aSa (s_iload_n rfl rfl dJ2_add_3_47) (
  aSa (s_isub rfl dJ2_add_3_48) (
  aSa (s_acopy q1042 q334 q333 q114 rfl dJ2_add_3_49) (
  aSa (s_aload rfl dJ2_add_3_52) (
  aSa (s_iload_n rfl rfl dJ2_add_3_54) (
  aSa (s_aload_n rfl rfl dJ2_add_3_55) (
  aSa (s_aast rfl dJ2_add_3_56) (
  aSa (s_aload_n rfl rfl dJ2_add_3_57) (
  aSa (s_iload_n rfl rfl dJ2_add_3_58) (
  aSa (s_iconst (v0 := 1) (by decide) rfl dJ2_add_3_59) (
  aSa (s_iadd rfl dJ2_add_3_60) (
  aSa (s_putf (T := TJ2) (ty0 := tyJ2) tyJ2_ok nmJ2 rfl (by decide) (by decide) in_J2 q192 (Or.inl rfl) rfl rfl rfl dJ2_add_3_61) (
  aSa (s_ret (n := 0) rfl dJ2_add_3_64) (
  aSn))))))))))))))))))))))))))))))))))))))))))
theorem sn48 : SndL "java/util/ArrayList" "add" cJ2_add 2 (Option.some Jvm.ClassFile.FieldType.boolean) [] T48 := aSa (s_aload_n rfl rfl dJ2_add_0) (
  aSa (s_dup rfl dJ2_add_1) (
  aSa (s_getf (T := TJ2) rfl (by decide) (by decide) in_J2 q196 (Or.inr q195) rfl dJ2_add_2) (
  aSa (s_iconst (v0 := 1) (by decide) rfl dJ2_add_5) (
  aSa (s_iadd rfl dJ2_add_6) (
  aSa (s_putf (T := TJ2) (ty0 := tyJ2) tyJ2_ok nmJ2 rfl (by decide) (by decide) in_J2 q196 (Or.inr q195) rfl rfl rfl dJ2_add_7) (
  aSa (s_aload_n rfl rfl dJ2_add_10) (
  aSa (s_aload_n rfl rfl dJ2_add_11) (
  aSa (s_aload_n rfl rfl dJ2_add_12) (
  aSa (s_getf (T := TJ2) rfl (by decide) (by decide) in_J2 q189 (Or.inl rfl) rfl dJ2_add_13) (
  aSa (s_aload_n rfl rfl dJ2_add_16) (
  aSa (s_getf (T := TJ2) rfl (by decide) (by decide) in_J2 q192 (Or.inl rfl) rfl dJ2_add_17) (
  aSa (s_callV (List.forall_mem_cons.mpr ⟨d_V rfl rfl q258 q260 qs1 q106 q261 rfl (by decide +kernel) (by decide) rfl dJ2_add_20, fun _ h => absurd h List.not_mem_nil⟩) aHS0) (
  aSa (s_iconst (v0 := 1) (by decide) rfl dJ2_add_23) (
  aSa (s_iret (n := 0) rfl dJ2_add_24) (
  aSn)))))))))))))))
theorem sn49 : SndL "java/util/ArrayList" "add" cJ2_add_2 4 (Option.none : Option Jvm.ClassFile.FieldType) [] T49 := aSa (s_iload_n rfl rfl dJ2_add_2_0) (
  aSa (s_aload_n rfl rfl dJ2_add_2_1) (
  aSa (s_alen rfl dJ2_add_2_2) (
  aSa (s_cne (by decide) rfl dJ2_add_2_3) (
  aSa (s_aload_n rfl rfl dJ2_add_2_6) (
  aSa (s_callV (List.forall_mem_cons.mpr ⟨d_V rfl rfl q262 q264 qs2 q106 q265 rfl (by decide +kernel) (by decide) rfl dJ2_add_2_7, fun _ h => absurd h List.not_mem_nil⟩) aHS0) (
  aSa (s_astore_n rfl (by decide) rfl dJ2_add_2_10) (
  aSa (s_aload_n rfl rfl dJ2_add_2_11) (
  aSa (s_iload_n rfl rfl dJ2_add_2_12) (
  aSa (s_aload_n rfl rfl dJ2_add_2_13) (
  aSa (s_aast rfl dJ2_add_2_14) (
  aSa (s_aload_n rfl rfl dJ2_add_2_15) (
  aSa (s_iload_n rfl rfl dJ2_add_2_16) (
  aSa (s_iconst (v0 := 1) (by decide) rfl dJ2_add_2_17) (
  aSa (s_iadd rfl dJ2_add_2_18) (
  aSa (s_putf (T := TJ2) (ty0 := tyJ2) tyJ2_ok nmJ2 rfl (by decide) (by decide) in_J2 q192 (Or.inl rfl) rfl rfl rfl dJ2_add_2_19) (
  aSa (s_ret (n := 0) rfl dJ2_add_2_22) (
  aSn)))))))))))))))))
theorem sn50 : SndL "java/util/ArrayList" "addAll" cJ2_addAll 6 (Option.some Jvm.ClassFile.FieldType.boolean) [] T50 := aSa (s_aload_n rfl rfl dJ2_addAll_0) (
  aSa (s_callV (List.forall_mem_cons.mpr ⟨d_F (x := ⟨"java/util/Collection", "toArray", "()[Ljava/lang/Object;"⟩) rfl rfl (aL1 q2226 (aL1 q2244 (aL1 q2246 (aL1 q106 aL0)))) q2248 q2228 q2227 q2247 q2245 q2243 (by decide +kernel) (by decide) rfl dJ2_addAll_1, fun _ h => absurd h List.not_mem_nil⟩) aHS0) (
  aSa (s_astore_n rfl (by decide) rfl dJ2_addAll_6) (
  aSa (s_aload_n rfl rfl dJ2_addAll_7) (
  aSa (s_dup rfl dJ2_addAll_8) (
  aSa (s_getf (T := TJ2) rfl (by decide) (by decide) in_J2 q196 (Or.inr q195) rfl dJ2_addAll_9) (
  aSa (s_iconst (v0 := 1) (by decide) rfl dJ2_addAll_12) (
  aSa (s_iadd rfl dJ2_addAll_13) (
  aSa (s_putf (T := TJ2) (ty0 := tyJ2) tyJ2_ok nmJ2 rfl (by decide) (by decide) in_J2 q196 (Or.inr q195) rfl rfl rfl dJ2_addAll_14) (
  aSa (s_aload_n rfl rfl dJ2_addAll_17) (
  aSa (s_alen rfl dJ2_addAll_18) (
  aSa (s_istore_n rfl (by decide) rfl dJ2_addAll_19) (
  aSa (s_iload_n rfl rfl dJ2_addAll_20) (
  aSa (s_ifne (by decide) rfl dJ2_addAll_21) (
  aSa (s_iconst (v0 := 0) (by decide) rfl dJ2_addAll_24) (
  aSa (s_iret (n := 0) rfl dJ2_addAll_25) (
  aSa (s_iload_n rfl rfl dJ2_addAll_26) (
  aSa (s_aload_n rfl rfl dJ2_addAll_27) (
  aSa (s_getf (T := TJ2) rfl (by decide) (by decide) in_J2 q189 (Or.inl rfl) rfl dJ2_addAll_28) (
  aSa (s_dup rfl dJ2_addAll_31) (
  aSa (s_astore (by decide) rfl dJ2_addAll_32) (
  aSa (s_alen rfl dJ2_addAll_34) (
  aSa (s_aload_n rfl rfl dJ2_addAll_35) (
  aSa (s_getf (T := TJ2) rfl (by decide) (by decide) in_J2 q192 (Or.inl rfl) rfl dJ2_addAll_36) (
  aSa (s_dup rfl dJ2_addAll_39) (
  aSa (s_istore (by decide) rfl dJ2_addAll_40) (
  aSa (s_isub rfl dJ2_addAll_42) (
  aSa (s_cle (by decide) rfl dJ2_addAll_43) (
  aSa (s_aload_n rfl rfl dJ2_addAll_46) (
  aSa (s_iload rfl dJ2_addAll_47) (
  aSa (s_iload_n rfl rfl dJ2_addAll_49) (
  aSa (s_iadd rfl dJ2_addAll_50) (
  aSa (s_callV (List.forall_mem_cons.mpr ⟨d_V rfl rfl q266 q268 qs3 q106 q269 rfl (by decide +kernel) (by decide) rfl dJ2_addAll_51, fun _ h => absurd h List.not_mem_nil⟩) aHS0) (
  aSa (s_astore (by decide) rfl dJ2_addAll_54) (
  aSa (s_aload_n rfl rfl dJ2_addAll_56) (
  aSa (s_iconst (v0 := 0) (by decide) rfl dJ2_addAll_57) (
  aSa (s_aload rfl dJ2_addAll_58) (
  aSa (s_iload rfl dJ2_addAll_60) (
  aSa (s_iload_n rfl rfl dJ2_addAll_62) (
  aSa (s_acopy q1042 q334 q333 q114 rfl dJ2_addAll_63) (
  aSa (s_aload_n rfl rfl dJ2_addAll_66) (
  aSa (s_iload rfl dJ2_addAll_67) (
  aSa (s_iload_n rfl rfl dJ2_addAll_69) (
  aSa (s_iadd rfl dJ2_addAll_70) (
  aSa (s_putf (T := TJ2) (ty0 := tyJ2) tyJ2_ok nmJ2 rfl (by decide) (by decide) in_J2 q192 (Or.inl rfl) rfl rfl rfl dJ2_addAll_71) (
  aSa (s_iconst (v0 := 1) (by decide) rfl dJ2_addAll_74) (
  aSa (s_iret (n := 0) rfl dJ2_addAll_75) (
  aSn)))))))))))))))))))))))))))))))))))))))))))))))
theorem sn51 : SndL "java/util/ArrayList" "clear" cJ2_clear 4 (Option.none : Option Jvm.ClassFile.FieldType) [] T51 := aSa (s_aload_n rfl rfl dJ2_clear_0) (
  aSa (s_dup rfl dJ2_clear_1) (
  aSa (s_getf (T := TJ2) rfl (by decide) (by decide) in_J2 q196 (Or.inr q195) rfl dJ2_clear_2) (
  aSa (s_iconst (v0 := 1) (by decide) rfl dJ2_clear_5) (
  aSa (s_iadd rfl dJ2_clear_6) (
  aSa (s_putf (T := TJ2) (ty0 := tyJ2) tyJ2_ok nmJ2 rfl (by decide) (by decide) in_J2 q196 (Or.inr q195) rfl rfl rfl dJ2_clear_7) (
  aSa (s_aload_n rfl rfl dJ2_clear_10) (
  aSa (s_getf (T := TJ2) rfl (by decide) (by decide) in_J2 q189 (Or.inl rfl) rfl dJ2_clear_11) (
  aSa (s_astore_n rfl (by decide) rfl dJ2_clear_14) (
  aSa (s_aload_n rfl rfl dJ2_clear_15) (
  aSa (s_getf (T := TJ2) rfl (by decide) (by decide) in_J2 q192 (Or.inl rfl) rfl dJ2_clear_16) (
  aSa (s_istore_n rfl (by decide) rfl dJ2_clear_19) (
  aSa (s_aload_n rfl rfl dJ2_clear_20) (
  aSa (s_iconst (v0 := 0) (by decide) rfl dJ2_clear_21) (
  aSa (s_dup_x1 rfl dJ2_clear_22) (
  aSa (s_putf (T := TJ2) (ty0 := tyJ2) tyJ2_ok nmJ2 rfl (by decide) (by decide) in_J2 q192 (Or.inl rfl) rfl rfl rfl dJ2_clear_23) (
  aSa (s_istore_n rfl (by decide) rfl dJ2_clear_26) (
  aSa (s_iload_n rfl rfl dJ2_clear_27) (
  aSa (s_iload_n rfl rfl dJ2_clear_28) (
  aSa (s_cge (by decide) rfl dJ2_clear_29) (
  aSa (s_aload_n rfl rfl dJ2_clear_32) (
  aSa (s_iload_n rfl rfl dJ2_clear_33) (
  aSa (s_null rfl dJ2_clear_34) (
  aSa (s_aast rfl dJ2_clear_35) (
  aSa (s_iinc (by decide) rfl dJ2_clear_36) (
  aSa (s_goto (n := 0) (by decide) dJ2_clear_39) (
  aSa (s_ret (n := 0) rfl dJ2_clear_42) (
  aSn)))))))))))))))))))))))))))
theorem sn52 : SndL "java/util/ArrayList" "elementData" cJ2_elementData 2 (Option.some (Jvm.ClassFile.FieldType.object "java/lang/Object")) [] T52 := aSa (s_aload_n rfl rfl dJ2_elementData_0) (
  aSa (s_getf (T := TJ2) rfl (by decide) (by decide) in_J2 q189 (Or.inl rfl) rfl dJ2_elementData_1) (
  aSa (s_iload_n rfl rfl dJ2_elementData_4) (
  aSa (s_aald rfl dJ2_elementData_5) (
  aSa (s_aret (n := 0) rfl (Or.inl ⟨_, rfl⟩) dJ2_elementData_6) (
  aSn)))))
theorem sn53 : SndL "java/util/ArrayList" "fastRemove" cJ2_fastRemove 4 (Option.none : Option Jvm.ClassFile.FieldType) [] T53 := aSa (s_aload_n rfl rfl dJ2_fastRemove_0) (
  aSa (s_dup rfl dJ2_fastRemove_1) (
  aSa (s_getf (T := TJ2) rfl (by decide) (by decide) in_J2 q196 (Or.inr q195) rfl dJ2_fastRemove_2) (
  aSa (s_iconst (v0 := 1) (by decide) rfl dJ2_fastRemove_5) (
  aSa (s_iadd rfl dJ2_fastRemove_6) (
  aSa (s_putf (T := TJ2) (ty0 := tyJ2) tyJ2_ok nmJ2 rfl (by decide) (by decide) in_J2 q196 (Or.inr q195) rfl rfl rfl dJ2_fastRemove_7) (
  aSa (s_aload_n rfl rfl dJ2_fastRemove_10) (
  aSa (s_getf (T := TJ2) rfl (by decide) (by decide) in_J2 q192 (Or.inl rfl) rfl dJ2_fastRemove_11) (
  aSa (s_iconst (v0 := 1) (by decide) rfl dJ2_fastRemove_14) (
  aSa (s_isub rfl dJ2_fastRemove_15) (
  aSa (s_dup rfl dJ2_fastRemove_16) (
  aSa (s_istore_n rfl (by decide) rfl dJ2_fastRemove_17) (
  aSa (s_iload_n rfl rfl dJ2_fastRemove_18) (
  aSa (s_cle (by decide) rfl dJ2_fastRemove_19) (
  aSa (s_aload_n rfl rfl dJ2_fastRemove_22) (
  aSa (s_iload_n rfl rfl dJ2_fastRemove_23) (
  aSa (s_iconst (v0 := 1) (by decide) rfl dJ2_fastRemove_24) (
  aSa (s_iadd rfl dJ2_fastRemove_25) (
  aSa (s_aload_n rfl rfl dJ2_fastRemove_26) (
  aSa (s_iload_n rfl rfl dJ2_fastRemove_27) (
  aSa (s_iload_n rfl rfl dJ2_fastRemove_28) (
  aSa (s_iload_n rfl rfl dJ2_fastRemove_29) (
  aSa (s_isub rfl dJ2_fastRemove_30) (
  aSa (s_acopy q1042 q334 q333 q114 rfl dJ2_fastRemove_31) (
  aSa (s_aload_n rfl rfl dJ2_fastRemove_34) (
  aSa (s_aload_n rfl rfl dJ2_fastRemove_35) (
  aSa (s_iload_n rfl rfl dJ2_fastRemove_36) (
  aSa (s_dup_x1 rfl dJ2_fastRemove_37) (
  aSa (s_putf (T := TJ2) (ty0 := tyJ2) tyJ2_ok nmJ2 rfl (by decide) (by decide) in_J2 q192 (Or.inl rfl) rfl rfl rfl dJ2_fastRemove_38) (
  aSa (s_null rfl dJ2_fastRemove_41) (
  aSa (s_aast rfl dJ2_fastRemove_42) (
  aSa (s_ret (n := 0) rfl dJ2_fastRemove_43) (
  aSn))))))))))))))))))))))))))))))))
theorem sn54 : SndL "java/util/ArrayList" "get" cJ2_get 2 (Option.some (Jvm.ClassFile.FieldType.object "java/lang/Object")) [] T54 := aSa (s_iload_n rfl rfl dJ2_get_0) (
  aSa (s_aload_n rfl rfl dJ2_get_1) (
  aSa (s_getf (T := TJ2) rfl (by decide) (by decide) in_J2 q192 (Or.inl rfl) rfl dJ2_get_2) (
  aSa (s_callS rfl q701 q702 q126 q703 (by decide +kernel) (by decide) aHS0 rfl dJ2_get_5) (
  aSa (s_pop rfl dJ2_get_8) (
  aSa (s_aload_n rfl rfl dJ2_get_9) (
  aSa (s_iload_n rfl rfl dJ2_get_10) (
  aSa (s_callV (List.forall_mem_cons.mpr ⟨d_V rfl rfl q707 q708 q709 q106 q710 rfl (by decide +kernel) (by decide) rfl dJ2_get_11, fun _ h => absurd h List.not_mem_nil⟩) aHS0) (
  aSa (s_aret (n := 0) rfl (Or.inl ⟨_, rfl⟩) dJ2_get_14) (
  aSn)))))))))
theorem sn55 : SndL "java/util/ArrayList" "grow" cJ2_grow 1 (Option.some (Jvm.ClassFile.FieldType.array (Jvm.ClassFile.FieldType.object "java/lang/Object"))) [] T55 := aSa (s_aload_n rfl rfl dJ2_grow_0) (
  aSa (s_aload_n rfl rfl dJ2_grow_1) (
  aSa (s_getf (T := TJ2) rfl (by decide) (by decide) in_J2 q192 (Or.inl rfl) rfl dJ2_grow_2) (
  aSa (s_iconst (v0 := 1) (by decide) rfl dJ2_grow_5) (
  aSa (s_iadd rfl dJ2_grow_6) (
  aSa (s_callV (List.forall_mem_cons.mpr ⟨d_V rfl rfl q266 q268 qs3 q106 q269 rfl (by decide +kernel) (by decide) rfl dJ2_grow_7, fun _ h => absurd h List.not_mem_nil⟩) aHS0) (
  aSa (s_aret (n := 0) rfl (Or.inr ⟨_, rfl⟩) dJ2_grow_10) (
  aSn)))))))
theorem sn56 : SndL "java/util/ArrayList" "grow" cJ2_grow_2 4 (Option.some (Jvm.ClassFile.FieldType.array (Jvm.ClassFile.FieldType.object "java/lang/Object"))) [] T56 := aSa (s_aload_n rfl rfl dJ2_grow_2_0) (
  aSa (s_getf (T := TJ2) rfl (by decide) (by decide) in_J2 q189 (Or.inl rfl) rfl dJ2_grow_2_1) (
  aSa (s_alen rfl dJ2_grow_2_4) (
  aSa (s_istore_n rfl (by decide) rfl dJ2_grow_2_5) (
  aSa (s_iload_n rfl rfl dJ2_grow_2_6) (
  aSa (s_ifgt (by decide) rfl dJ2_grow_2_7) (
  aSa (s_aload_n rfl rfl dJ2_grow_2_10) (
  aSa (s_getf (T := TJ2) rfl (by decide) (by decide) in_J2 q189 (Or.inl rfl) rfl dJ2_grow_2_11) (
  aSa (s_gets (C := "java/util/ArrayList") (nm0 := "DEFAULTCAPACITY_EMPTY_ELEMENTDATA") q187 (by decide) rfl dJ2_grow_2_14) (
  aSa (s_aceq (by decide) rfl dJ2_grow_2_17) (
  aSa (s_iload_n rfl rfl dJ2_grow_2_20) (
  aSa (s_iload_n rfl rfl dJ2_grow_2_21) (
  aSa (s_iload_n rfl rfl dJ2_grow_2_22) (
  aSa (s_isub rfl dJ2_grow_2_23) (
  aSa (s_iload_n rfl rfl dJ2_grow_2_24) (
  aSa (s_iconst (v0 := 1) (by decide) rfl dJ2_grow_2_25) (
  aSa (s_ishr rfl dJ2_grow_2_26) (
  aSa (s_callS rfl q270 q271 q111 q272 (by decide +kernel) (by decide) aHS0 rfl dJ2_grow_2_27) (
  aSa (s_istore_n rfl (by decide) rfl dJ2_grow_2_30) (
  aSa (s_aload_n rfl rfl dJ2_grow_2_31) (
  aSa (s_aload_n rfl rfl dJ2_grow_2_32) (
  aSa (s_getf (T := TJ2) rfl (by decide) (by decide) in_J2 q189 (Or.inl rfl) rfl dJ2_grow_2_33) (
  aSa (s_iload_n rfl rfl dJ2_grow_2_36) (
  aSa (s_callS rfl q280 q281 q113 q282 (by decide +kernel) (by decide) aHS0 rfl dJ2_grow_2_37) (
  aSa (s_dup_x1 rfl dJ2_grow_2_40) (
  aSa (s_putf (T := TJ2) (ty0 := tyJ2) tyJ2_ok nmJ2 rfl (by decide) (by decide) in_J2 q189 (Or.inl rfl) rfl rfl rfl dJ2_grow_2_41) (
  aSa (s_aret (n := 0) rfl (Or.inr ⟨_, rfl⟩) dJ2_grow_2_44) (
  aSa (s_aload_n rfl rfl dJ2_grow_2_45) (
  aSa (s_bipush (v0 := 10) (by decide) rfl dJ2_grow_2_46) (
  aSa (s_iload_n rfl rfl dJ2_grow_2_48) (
  aSa (s_mmax q335 q274 q112 q275 rfl dJ2_grow_2_49) (
  aSa (s_newq (kd := 4) q336 q327 (fun _ => rfl) rfl (by decide) rfl dJ2_grow_2_52) (
  aSa (s_dup_x1 rfl dJ2_grow_2_55) (
  aSa (s_putf (T := TJ2) (ty0 := tyJ2) tyJ2_ok nmJ2 rfl (by decide) (by decide) in_J2 q189 (Or.inl rfl) rfl rfl rfl dJ2_grow_2_56) (
  aSa (s_aret (n := 0) rfl (Or.inr ⟨_, rfl⟩) dJ2_grow_2_59) (
  aSn)))))))))))))))))))))))))))))))))))
theorem sn57 : SndL "java/util/ArrayList" "indexOf" cJ2_indexOf 2 (Option.some Jvm.ClassFile.FieldType.int) [] T57 := aSa (s_aload_n rfl rfl dJ2_indexOf_0) (
  aSa (s_aload_n rfl rfl dJ2_indexOf_1) (
  aSa (s_iconst (v0 := 0) (by decide) rfl dJ2_indexOf_2) (
  aSa (s_aload_n rfl rfl dJ2_indexOf_3) (
  aSa (s_getf (T := TJ2) rfl (by decide) (by decide) in_J2 q192 (Or.inl rfl) rfl dJ2_indexOf_4) (
  aSa (s_callV (List.forall_mem_cons.mpr ⟨d_V rfl rfl q733 q734 q735 q106 q736 rfl (by decide +kernel) (by decide) rfl dJ2_indexOf_7, fun _ h => absurd h List.not_mem_nil⟩) aHS0) (
  aSa (s_iret (n := 0) rfl dJ2_indexOf_10) (
  aSn)))))))
theorem sn58 : SndL "java/util/ArrayList" "indexOfRange" cJ2_indexOfRange 6 (Option.some Jvm.ClassFile.FieldType.int) [] T58 := aSa (s_aload_n rfl rfl dJ2_indexOfRange_0) (
  aSa (s_getf (T := TJ2) rfl (by decide) (by decide) in_J2 q189 (Or.inl rfl) rfl dJ2_indexOfRange_1) (
  aSa (s_astore (by decide) rfl dJ2_indexOfRange_4) (
  aSa (s_aload_n rfl rfl dJ2_indexOfRange_6) (
  aSa (s_ifnonnull (by decide) rfl dJ2_indexOfRange_7) (
  aSa (s_iload_n rfl rfl dJ2_indexOfRange_10) (
  aSa (s_istore (by decide) rfl dJ2_indexOfRange_11) (
  aSa (s_iload rfl dJ2_indexOfRange_13) (
  aSa (s_iload_n rfl rfl dJ2_indexOfRange_15) (
  aSa (s_cge (by decide) rfl dJ2_indexOfRange_16) (
  aSa (s_aload rfl dJ2_indexOfRange_19) (
  aSa (s_iload rfl dJ2_indexOfRange_21) (
  aSa (s_aald rfl dJ2_indexOfRange_23) (
  aSa (s_ifnonnull (by decide) rfl dJ2_indexOfRange_24) (
  aSa (s_iload rfl dJ2_indexOfRange_27) (
  aSa (s_iret (n := 0) rfl dJ2_indexOfRange_29) (
  aSa (s_iinc (by decide) rfl dJ2_indexOfRange_30) (
  aSa (s_goto (n := 0) (by decide) dJ2_indexOfRange_33) (
  aSa (s_goto (n := 0) (by decide) dJ2_indexOfRange_36) (
  aSa (s_iload_n rfl rfl dJ2_indexOfRange_39) (
  aSa (s_istore (by decide) rfl dJ2_indexOfRange_40) (
  aSa (s_iload rfl dJ2_indexOfRange_42) (
  aSa (s_iload_n rfl rfl dJ2_indexOfRange_44) (
  aSa (s_cge (by decide) rfl dJ2_indexOfRange_45) (
  aSa (s_aload_n rfl rfl dJ2_indexOfRange_48) (
  aSa (s_aload rfl dJ2_indexOfRange_49) (
  aSa (s_iload rfl dJ2_indexOfRange_51) (
  aSa (s_aald rfl dJ2_indexOfRange_53) (
  aSa (s_callV (List.forall_mem_cons.mpr ⟨d_O (x := ⟨"java/lang/Object", "equals", "(Ljava/lang/Object;)Z"⟩) (ow := "java/lang/Object") rfl rfl (aL1 q738 (aL1 q740 (aL1 q739 (aL1 q867 (aL1 q868 (aL1 q109 aL0)))))) q869 q888 (by decide +kernel) (by decide) rfl dJ2_indexOfRange_54, List.forall_mem_cons.mpr ⟨d_O (x := ⟨"java/lang/Object", "equals", "(Ljava/lang/Object;)Z"⟩) (ow := "java/lang/Object") rfl rfl (aL1 q738 (aL1 q740 (aL1 q739 (aL1 q867 (aL1 q868 (aL1 q109 aL0)))))) q869 q888 (by decide +kernel) (by decide) rfl dJ2_indexOfRange_54, fun _ h => absurd h List.not_mem_nil⟩⟩) aHS0) (
  aSa (s_ifeq (by decide) rfl dJ2_indexOfRange_57) (
  aSa (s_iload rfl dJ2_indexOfRange_60) (
  aSa (s_iret (n := 0) rfl dJ2_indexOfRange_62) (
  aSa (s_iinc (by decide) rfl dJ2_indexOfRange_63) (
  aSa (s_goto (n := 0) (by decide) dJ2_indexOfRange_66) (
  aSa (s_iconst (v0 := (-1)) (by decide) rfl dJ2_indexOfRange_69) (
  aSa (s_iret (n := 0) rfl dJ2_indexOfRange_70) (
  aSn))))))))))))))))))))))))))))))))))))
theorem sn59 : SndL "java/util/ArrayList" "isEmpty" cJ2_isEmpty 1 (Option.some Jvm.ClassFile.FieldType.boolean) [] T59 := aSa (s_aload_n rfl rfl dJ2_isEmpty_0) (
  aSa (s_getf (T := TJ2) rfl (by decide) (by decide) in_J2 q192 (Or.inl rfl) rfl dJ2_isEmpty_1) (
  aSa (s_ifne (by decide) rfl dJ2_isEmpty_4) (
  aSa (s_iconst (v0 := 1) (by decide) rfl dJ2_isEmpty_7) (
  aSa (s_goto (n := 0) (by decide) dJ2_isEmpty_8) (
  aSa (s_iconst (v0 := 0) (by decide) rfl dJ2_isEmpty_11) (
  aSa (s_iret (n := 0) rfl dJ2_isEmpty_12) (
  aSn)))))))
theorem sn60 : SndL "java/util/ArrayList" "iterator" cJ2_iterator 1 (Option.some (Jvm.ClassFile.FieldType.object "java/util/Iterator")) [] T60 := aSa (s_new (T := TJ26) (ty0 := tyJ26) tyJ26_ok rfl (by decide) in_J26 q1277 q1278 q137 (by decide) rfl dJ2_iterator_0) (
  aSa (s_dup rfl dJ2_iterator_3) (
  aSa (s_aload_n rfl rfl dJ2_iterator_4) (
  aSa (s_callI rfl q1279 q1280 q137 q1281 (by decide +kernel) (by decide) rfl aHS0 rfl dJ2_iterator_5) (
  aSa (s_aret (n := 0) rfl (Or.inl ⟨_, rfl⟩) dJ2_iterator_8) (
  aSn)))))
theorem sn61 : SndL "java/util/ArrayList" "rangeCheckForAdd" cJ2_rangeCheckForAdd 2 (Option.none : Option Jvm.ClassFile.FieldType) [] T61 := aSa (s_iload_n rfl rfl dJ2_rangeCheckForAdd_0) (
  aSa (s_aload_n rfl rfl dJ2_rangeCheckForAdd_1) (
  aSa (s_getf (T := TJ2) rfl (by decide) (by decide) in_J2 q192 (Or.inl rfl) rfl dJ2_rangeCheckForAdd_2) (
  aSa (s_cgt (by decide) rfl dJ2_rangeCheckForAdd_5) (
  aSa (s_iload_n rfl rfl dJ2_rangeCheckForAdd_8) (
  aSa (s_ifge (by decide) rfl dJ2_rangeCheckForAdd_9) (
  aSa (s_dup rfl dJ2_rangeCheckForAdd_15) (
  aSa (s_aload_n rfl rfl dJ2_rangeCheckForAdd_16) (
  aSa (s_iload_n rfl rfl dJ2_rangeCheckForAdd_17) (
  aSa (s_ret (n := 0) rfl dJ2_rangeCheckForAdd_25) (
  aSn))))))))))
theorem sn62 : SndL "java/util/ArrayList" "remove" cJ2_remove 4 (Option.some (Jvm.ClassFile.FieldType.object "java/lang/Object")) [] T62 := aSa (s_iload_n rfl rfl dJ2_remove_0) (
  aSa (s_aload_n rfl rfl dJ2_remove_1) (
  aSa (s_getf (T := TJ2) rfl (by decide) (by decide) in_J2 q192 (Or.inl rfl) rfl dJ2_remove_2) (
  aSa (s_callS rfl q701 q702 q126 q703 (by decide +kernel) (by decide) aHS0 rfl dJ2_remove_5) (
  aSa (s_pop rfl dJ2_remove_8) (
  aSa (s_aload_n rfl rfl dJ2_remove_9) (
  aSa (s_getf (T := TJ2) rfl (by decide) (by decide) in_J2 q189 (Or.inl rfl) rfl dJ2_remove_10) (
  aSa (s_astore_n rfl (by decide) rfl dJ2_remove_13) (
  aSa (s_aload_n rfl rfl dJ2_remove_14) (
  aSa (s_iload_n rfl rfl dJ2_remove_15) (
  aSa (s_aald rfl dJ2_remove_16) (
  aSa (s_astore_n rfl (by decide) rfl dJ2_remove_17) (
  aSa (s_aload_n rfl rfl dJ2_remove_18) (
  aSa (s_aload_n rfl rfl dJ2_remove_19) (
  aSa (s_iload_n rfl rfl dJ2_remove_20) (
  aSa (s_callV (List.forall_mem_cons.mpr ⟨d_V rfl rfl q1038 q1040 qs11 q106 q1041 rfl (by decide +kernel) (by decide) rfl dJ2_remove_21, fun _ h => absurd h List.not_mem_nil⟩) aHS0) (
  aSa (s_aload_n rfl rfl dJ2_remove_24) (
  aSa (s_aret (n := 0) rfl (Or.inl ⟨_, rfl⟩) dJ2_remove_25) (
  aSn))))))))))))))))))
theorem sn63 : SndL "java/util/ArrayList" "size" cJ2_size 1 (Option.some Jvm.ClassFile.FieldType.int) [] T63 := aSa (s_aload_n rfl rfl dJ2_size_0) (
  aSa (s_getf (T := TJ2) rfl (by decide) (by decide) in_J2 q192 (Or.inl rfl) rfl dJ2_size_1) (
  aSa (s_iret (n := 0) rfl dJ2_size_4) (
  aSn)))
theorem sn64 : SndL "java/util/ArrayList" "toArray" cJ2_toArray 1 (Option.some (Jvm.ClassFile.FieldType.array (Jvm.ClassFile.FieldType.object "java/lang/Object"))) [] T64 := aSa (s_aload_n rfl rfl dJ2_toArray_0) (
  aSa (s_getf (T := TJ2) rfl (by decide) (by decide) in_J2 q189 (Or.inl rfl) rfl dJ2_toArray_1) (
  aSa (s_aload_n rfl rfl dJ2_toArray_4) (
  aSa (s_getf (T := TJ2) rfl (by decide) (by decide) in_J2 q192 (Or.inl rfl) rfl dJ2_toArray_5) (
  aSa (s_callS rfl q280 q281 q113 q282 (by decide +kernel) (by decide) aHS0 rfl dJ2_toArray_8) (
  aSa (s_aret (n := 0) rfl (Or.inr ⟨_, rfl⟩) dJ2_toArray_11) (
  aSn))))))
theorem sn65 : SndL "java/util/ArrayList$Itr" "<init>" cJ26_init 2 (Option.none : Option Jvm.ClassFile.FieldType) [] T65 := aSa (s_aload_n rfl rfl dJ26_init_0) (
  aSa (s_aload_n rfl rfl dJ26_init_1) (
  aSa (s_putfF (T := TJ26) (ty0 := tyJ26) tyJ26_ok nmJ26 rfl (by decide) (by decide) in_J26 q1286 (Or.inl rfl) rfl rfl rfl rfl rfl dJ26_init_2) (
  aSa (s_aload_n rfl rfl dJ26_init_5) (
  aSa (s_oinit q1282 q167 q168 rfl dJ26_init_6) (
  aSa (s_aload_n rfl rfl dJ26_init_9) (
  aSa (s_iconst (v0 := (-1)) (by decide) rfl dJ26_init_10) (
  aSa (s_putf (T := TJ26) (ty0 := tyJ26) tyJ26_ok nmJ26 rfl (by decide) (by decide) in_J26 q1284 (Or.inl rfl) rfl rfl rfl dJ26_init_11) (
  aSa (s_aload_n rfl rfl dJ26_init_14) (
  aSa (s_aload_n rfl rfl dJ26_init_15) (
  aSa (s_getf (T := TJ26) rfl (by decide) (by decide) in_J26 q1286 (Or.inl rfl) rfl dJ26_init_16) (
  aSa (s_getf (T := TJ2) rfl (by decide) (by decide) in_J2 q194 (Or.inr q195) rfl dJ26_init_19) (
  aSa (s_putf (T := TJ26) (ty0 := tyJ26) tyJ26_ok nmJ26 rfl (by decide) (by decide) in_J26 q1285 (Or.inl rfl) rfl rfl rfl dJ26_init_22) (
  aSa (s_ret (n := 0) rfl dJ26_init_25) (
  aSn))))))))))))))
theorem sn66 : SndL "java/util/ArrayList$Itr" "checkForComodification" cJ26_checkForComodification 1 (Option.none : Option Jvm.ClassFile.FieldType) [] T66 := aSa (s_aload_n rfl rfl dJ26_checkForComodification_0) (
  aSa (s_getf (T := TJ26) rfl (by decide) (by decide) in_J26 q1286 (Or.inl rfl) rfl dJ26_checkForComodification_1) (
  aSa (s_getf (T := TJ2) rfl (by decide) (by decide) in_J2 q194 (Or.inr q195) rfl dJ26_checkForComodification_4) (
  aSa (s_aload_n rfl rfl dJ26_checkForComodification_7) (
  aSa (s_getf (T := TJ26) rfl (by decide) (by decide) in_J26 q1285 (Or.inl rfl) rfl dJ26_checkForComodification_8) (
  aSa (s_ceq (by decide) rfl dJ26_checkForComodification_11) (
  aSa (s_dup rfl dJ26_checkForComodification_17) (
  aSa (s_ret (n := 0) rfl dJ26_checkForComodification_22) (
  aSn))))))))
theorem sn67 : SndL "java/util/ArrayList$Itr" "hasNext" cJ26_hasNext 1 (Option.some Jvm.ClassFile.FieldType.boolean) [] T67 := aSa (s_aload_n rfl rfl dJ26_hasNext_0) (
  aSa (s_getf (T := TJ26) rfl (by decide) (by decide) in_J26 q1283 (Or.inl rfl) rfl dJ26_hasNext_1) (
  aSa (s_aload_n rfl rfl dJ26_hasNext_4) (
  aSa (s_getf (T := TJ26) rfl (by decide) (by decide) in_J26 q1286 (Or.inl rfl) rfl dJ26_hasNext_5) (
  aSa (s_getfN (T := TJ2) rfl (by decide) (by decide) in_J2 q191 rfl rfl dJ26_hasNext_8) (
  aSa (s_ceq (by decide) rfl dJ26_hasNext_11) (
  aSa (s_iconst (v0 := 1) (by decide) rfl dJ26_hasNext_14) (
  aSa (s_goto (n := 0) (by decide) dJ26_hasNext_15) (
  aSa (s_iconst (v0 := 0) (by decide) rfl dJ26_hasNext_18) (
  aSa (s_iret (n := 0) rfl dJ26_hasNext_19) (
  aSn))))))))))
theorem sn68 : SndL "java/util/ArrayList$Itr" "next" cJ26_next 3 (Option.some (Jvm.ClassFile.FieldType.object "java/lang/Object")) [] T68 := aSa (s_aload_n rfl rfl dJ26_next_0) (
  aSa (s_callV (List.forall_mem_cons.mpr ⟨d_V rfl rfl q1345 q1346 q1347 q137 q1348 rfl (by decide +kernel) (by decide) rfl dJ26_next_1, fun _ h => absurd h List.not_mem_nil⟩) aHS0) (
  aSa (s_aload_n rfl rfl dJ26_next_4) (
  aSa (s_getf (T := TJ26) rfl (by decide) (by decide) in_J26 q1283 (Or.inl rfl) rfl dJ26_next_5) (
  aSa (s_istore_n rfl (by decide) rfl dJ26_next_8) (
  aSa (s_iload_n rfl rfl dJ26_next_9) (
  aSa (s_aload_n rfl rfl dJ26_next_10) (
  aSa (s_getf (T := TJ26) rfl (by decide) (by decide) in_J26 q1286 (Or.inl rfl) rfl dJ26_next_11) (
  aSa (s_getfN (T := TJ2) rfl (by decide) (by decide) in_J2 q191 rfl rfl dJ26_next_14) (
  aSa (s_clt (by decide) rfl dJ26_next_17) (
  aSa (s_dup rfl dJ26_next_23) (
  aSa (s_aload_n rfl rfl dJ26_next_28) (
  aSa (s_getf (T := TJ26) rfl (by decide) (by decide) in_J26 q1286 (Or.inl rfl) rfl dJ26_next_29) (
  aSa (s_getf (T := TJ2) rfl (by decide) (by decide) in_J2 q190 (Or.inl rfl) rfl dJ26_next_32) (
  aSa (s_astore_n rfl (by decide) rfl dJ26_next_35) (
  aSa (s_iload_n rfl rfl dJ26_next_36) (
  aSa (s_aload_n rfl rfl dJ26_next_37) (
  aSa (s_alen rfl dJ26_next_38) (
  aSa (s_clt (by decide) rfl dJ26_next_39) (
  aSa (s_dup rfl dJ26_next_45) (
  aSa (s_aload_n rfl rfl dJ26_next_50) (
  aSa (s_iload_n rfl rfl dJ26_next_51) (
  aSa (s_iconst (v0 := 1) (by decide) rfl dJ26_next_52) (
  aSa (s_iadd rfl dJ26_next_53) (
  aSa (s_putf (T := TJ26) (ty0 := tyJ26) tyJ26_ok nmJ26 rfl (by decide) (by decide) in_J26 q1283 (Or.inl rfl) rfl rfl rfl dJ26_next_54) (
  aSa (s_aload_n rfl rfl dJ26_next_57) (
  aSa (s_aload_n rfl rfl dJ26_next_58) (
  aSa (s_iload_n rfl rfl dJ26_next_59) (
  aSa (s_dup_x1 rfl dJ26_next_60) (
  aSa (s_putf (T := TJ26) (ty0 := tyJ26) tyJ26_ok nmJ26 rfl (by decide) (by decide) in_J26 q1284 (Or.inl rfl) rfl rfl rfl dJ26_next_61) (
  aSa (s_aald rfl dJ26_next_64) (
  aSa (s_aret (n := 0) rfl (Or.inl ⟨_, rfl⟩) dJ26_next_65) (
  aSn))))))))))))))))))))))))))))))))
theorem sn69 : SndL "java/util/Arrays" "copyOf" cJ8_copyOf_4 3 (Option.some (Jvm.ClassFile.FieldType.array Jvm.ClassFile.FieldType.long)) [] T69 := aSa (s_iload_n rfl rfl dJ8_copyOf_4_0) (
  aSa (s_aload_n rfl rfl dJ8_copyOf_4_1) (
  aSa (s_alen rfl dJ8_copyOf_4_2) (
  aSa (s_cne (by decide) rfl dJ8_copyOf_4_3) (
  aSa (s_aload_n rfl rfl dJ8_copyOf_4_6) (
  aSa (s_cast q670 (fun _ h => absurd h List.not_mem_nil) (fun t h => absurd h List.not_mem_nil) rfl dJ8_copyOf_4_10) (
  aSa (s_aret (n := 0) rfl (Or.inr ⟨_, rfl⟩) dJ8_copyOf_4_13) (
  aSa (s_iload_n rfl rfl dJ8_copyOf_4_14) (
  aSa (s_newa_long q227 rfl dJ8_copyOf_4_15) (
  aSa (s_astore_n rfl (by decide) rfl dJ8_copyOf_4_17) (
  aSa (s_aload_n rfl rfl dJ8_copyOf_4_18) (
  aSa (s_iconst (v0 := 0) (by decide) rfl dJ8_copyOf_4_19) (
  aSa (s_aload_n rfl rfl dJ8_copyOf_4_20) (
  aSa (s_iconst (v0 := 0) (by decide) rfl dJ8_copyOf_4_21) (
  aSa (s_aload_n rfl rfl dJ8_copyOf_4_22) (
  aSa (s_alen rfl dJ8_copyOf_4_23) (
  aSa (s_iload_n rfl rfl dJ8_copyOf_4_24) (
  aSa (s_mmin q329 q330 q112 q331 rfl dJ8_copyOf_4_25) (
  aSa (s_acopy q332 q334 q333 q114 rfl dJ8_copyOf_4_28) (
  aSa (s_aload_n rfl rfl dJ8_copyOf_4_31) (
  aSa (s_aret (n := 0) rfl (Or.inr ⟨_, rfl⟩) dJ8_copyOf_4_32) (
  aSn)))))))))))))))))))))
theorem sn70 : SndL "java/util/Arrays" "copyOf" cJ8_copyOf 2 (Option.some (Jvm.ClassFile.FieldType.array (Jvm.ClassFile.FieldType.object "java/lang/Object"))) [] T70 := aSa (s_aload_n rfl rfl dJ8_copyOf_0) (
  aSa (s_iload_n rfl rfl dJ8_copyOf_1) (
  aSa (s_aload_n rfl rfl dJ8_copyOf_2) (
  aSa (s_getC q283 q3332 q284 q322 rfl dJ8_copyOf_3) (
  aSa (s_callS rfl q323 q324 q113 q325 (by decide +kernel) (by decide) aHS0 rfl dJ8_copyOf_6) (
  aSa (s_aret (n := 0) rfl (Or.inr ⟨_, rfl⟩) dJ8_copyOf_9) (
  aSn))))))
theorem sn71 : SndL "java/util/Arrays" "copyOf" cJ8_copyOf_2 4 (Option.some (Jvm.ClassFile.FieldType.array (Jvm.ClassFile.FieldType.object "java/lang/Object"))) [] T71 := aSa (s_aload_n rfl rfl dJ8_copyOf_2_0) (
  aSa (s_ldcM q326 rfl dJ8_copyOf_2_1) (
  aSa (s_acne (by decide) rfl dJ8_copyOf_2_3) (
  aSa (s_iload_n rfl rfl dJ8_copyOf_2_6) (
  aSa (s_newq (kd := 4) q328 q327 (fun _ => rfl) rfl (by decide) rfl dJ8_copyOf_2_7) (
  aSa (s_goto (n := 0) (by decide) dJ8_copyOf_2_10) (
  aSa (s_aload_n rfl rfl dJ8_copyOf_2_13) (
  aSa (s_iload_n rfl rfl dJ8_copyOf_2_17) (
  aSa (s_cast q326 (fun _ h => absurd h List.not_mem_nil) (fun t h => by simp only [List.mem_cons, List.not_mem_nil, or_false] at h; rcases h with z | z <;> subst z <;> exact ⟨rfl, rfl⟩) rfl dJ8_copyOf_2_21) (
  aSa (s_astore_n rfl (by decide) rfl dJ8_copyOf_2_24) (
  aSa (s_aload_n rfl rfl dJ8_copyOf_2_25) (
  aSa (s_iconst (v0 := 0) (by decide) rfl dJ8_copyOf_2_26) (
  aSa (s_aload_n rfl rfl dJ8_copyOf_2_27) (
  aSa (s_iconst (v0 := 0) (by decide) rfl dJ8_copyOf_2_28) (
  aSa (s_aload_n rfl rfl dJ8_copyOf_2_29) (
  aSa (s_alen rfl dJ8_copyOf_2_30) (
  aSa (s_iload_n rfl rfl dJ8_copyOf_2_31) (
  aSa (s_mmin q329 q330 q112 q331 rfl dJ8_copyOf_2_32) (
  aSa (s_acopy q332 q334 q333 q114 rfl dJ8_copyOf_2_35) (
  aSa (s_aload_n rfl rfl dJ8_copyOf_2_38) (
  aSa (s_aret (n := 0) rfl (Or.inr ⟨_, rfl⟩) dJ8_copyOf_2_39) (
  aSn)))))))))))))))))))))
theorem sn72 : SndL "java/util/Arrays" "equals" cJ8_equals 3 (Option.some Jvm.ClassFile.FieldType.boolean) [] T72 := aSa (s_aload_n rfl rfl dJ8_equals_0) (
  aSa (s_aload_n rfl rfl dJ8_equals_1) (
  aSa (s_acne (by decide) rfl dJ8_equals_2) (
  aSa (s_iconst (v0 := 1) (by decide) rfl dJ8_equals_5) (
  aSa (s_iret (n := 0) rfl dJ8_equals_6) (
  aSa (s_aload_n rfl rfl dJ8_equals_7) (
  aSa (s_ifnull (by decide) rfl dJ8_equals_8) (
  aSa (s_aload_n rfl rfl dJ8_equals_11) (
  aSa (s_ifnonnull (by decide) rfl dJ8_equals_12) (
  aSa (s_iconst (v0 := 0) (by decide) rfl dJ8_equals_15) (
  aSa (s_iret (n := 0) rfl dJ8_equals_16) (
  aSa (s_aload_n rfl rfl dJ8_equals_17) (
  aSa (s_alen rfl dJ8_equals_18) (
  aSa (s_istore_n rfl (by decide) rfl dJ8_equals_19) (
  aSa (s_aload_n rfl rfl dJ8_equals_20) (
  aSa (s_alen rfl dJ8_equals_21) (
  aSa (s_iload_n rfl rfl dJ8_equals_22) (
  aSa (s_ceq (by decide) rfl dJ8_equals_23) (
  aSa (s_iconst (v0 := 0) (by decide) rfl dJ8_equals_26) (
  aSa (s_iret (n := 0) rfl dJ8_equals_27) (
  aSa (s_aload_n rfl rfl dJ8_equals_28) (
  aSa (s_aload_n rfl rfl dJ8_equals_29) (
  aSa (s_iload_n rfl rfl dJ8_equals_30) (
  aSa (s_callS rfl q755 q756 q111 q757 (by decide +kernel) (by decide) aHS0 rfl dJ8_equals_31) (
  aSa (s_ifge (by decide) rfl dJ8_equals_34) (
  aSa (s_iconst (v0 := 1) (by decide) rfl dJ8_equals_37) (
  aSa (s_goto (n := 0) (by decide) dJ8_equals_38) (
  aSa (s_iconst (v0 := 0) (by decide) rfl dJ8_equals_41) (
  aSa (s_iret (n := 0) rfl dJ8_equals_42) (
  aSn)))))))))))))))))))))))))))))
theorem sn73 : SndL "java/util/Arrays" "fill" cJ8_fill 4 (Option.none : Option Jvm.ClassFile.FieldType) [] T73 := aSa (s_iconst (v0 := 0) (by decide) rfl dJ8_fill_0) (
  aSa (s_istore_n rfl (by decide) rfl dJ8_fill_1) (
  aSa (s_aload_n rfl rfl dJ8_fill_2) (
  aSa (s_alen rfl dJ8_fill_3) (
  aSa (s_istore_n rfl (by decide) rfl dJ8_fill_4) (
  aSa (s_iload_n rfl rfl dJ8_fill_5) (
  aSa (s_iload_n rfl rfl dJ8_fill_6) (
  aSa (s_cge (by decide) rfl dJ8_fill_7) (
  aSa (s_aload_n rfl rfl dJ8_fill_10) (
  aSa (s_iload_n rfl rfl dJ8_fill_11) (
  aSa (s_iload_n rfl rfl dJ8_fill_12) (
  aSa (s_iast rfl dJ8_fill_13) (
  aSa (s_iinc (by decide) rfl dJ8_fill_14) (
  aSa (s_goto (n := 0) (by decide) dJ8_fill_17) (
  aSa (s_ret (n := 0) rfl dJ8_fill_20) (
  aSn)))))))))))))))
theorem sn74 : SndL "java/util/BitSet" "<init>" cJ3_init 1 (Option.none : Option Jvm.ClassFile.FieldType) [] T74 := aSa (s_aload_n rfl rfl dJ3_init_0) (
  aSa (s_oinit q209 q167 q168 rfl dJ3_init_1) (
  aSa (s_aload_n rfl rfl dJ3_init_4) (
  aSa (s_iconst (v0 := 0) (by decide) rfl dJ3_init_5) (
  aSa (s_putf (T := TJ3) (ty0 := tyJ3) tyJ3_ok nmJ3 rfl (by decide) (by decide) in_J3 q218 (Or.inl rfl) rfl rfl rfl dJ3_init_6) (
  aSa (s_aload_n rfl rfl dJ3_init_9) (
  aSa (s_iconst (v0 := 0) (by decide) rfl dJ3_init_10) (
  aSa (s_putf (T := TJ3) (ty0 := tyJ3) tyJ3_ok nmJ3 rfl (by decide) (by decide) in_J3 q219 (Or.inl rfl) rfl rfl rfl dJ3_init_11) (
  aSa (s_aload_n rfl rfl dJ3_init_14) (
  aSa (s_bipush (v0 := 64) (by decide) rfl dJ3_init_15) (
  aSa (s_callV (List.forall_mem_cons.mpr ⟨d_V rfl rfl q210 q212 qs0 q107 q213 rfl (by decide +kernel) (by decide) rfl dJ3_init_17, fun _ h => absurd h List.not_mem_nil⟩) aHS0) (
  aSa (s_aload_n rfl rfl dJ3_init_20) (
  aSa (s_iconst (v0 := 0) (by decide) rfl dJ3_init_21) (
  aSa (s_putf (T := TJ3) (ty0 := tyJ3) tyJ3_ok nmJ3 rfl (by decide) (by decide) in_J3 q219 (Or.inl rfl) rfl rfl rfl dJ3_init_22) (
  aSa (s_ret (n := 0) rfl dJ3_init_25) (
  aSn)))))))))))))))
theorem sn75 : SndL "java/util/BitSet" "checkInvariants" cJ3_checkInvariants 1 (Option.none : Option Jvm.ClassFile.FieldType) [] T75 := aSa (s_getsC (C := "java/util/BitSet") (nm0 := "$assertionsDisabled") q675 (by decide) rfl dJ3_checkInvariants_0) (
  aSa (s_ifne (by decide) rfl dJ3_checkInvariants_3) (
  aSa (s_aload_n rfl rfl dJ3_checkInvariants_6) (
  aSa (s_getf (T := TJ3) rfl (by decide) (by decide) in_J3 q218 (Or.inl rfl) rfl dJ3_checkInvariants_7) (
  aSa (s_ifeq (by decide) rfl dJ3_checkInvariants_10) (
  aSa (s_aload_n rfl rfl dJ3_checkInvariants_13) (
  aSa (s_getf (T := TJ3) rfl (by decide) (by decide) in_J3 q217 (Or.inl rfl) rfl dJ3_checkInvariants_14) (
  aSa (s_aload_n rfl rfl dJ3_checkInvariants_17) (
  aSa (s_getf (T := TJ3) rfl (by decide) (by decide) in_J3 q218 (Or.inl rfl) rfl dJ3_checkInvariants_18) (
  aSa (s_iconst (v0 := 1) (by decide) rfl dJ3_checkInvariants_21) (
  aSa (s_isub rfl dJ3_checkInvariants_22) (
  aSa (s_lald rfl dJ3_checkInvariants_23) (
  aSa (s_lconst (by decide) rfl dJ3_checkInvariants_24) (
  aSa (s_lcmp rfl dJ3_checkInvariants_25) (
  aSa (s_ifne (by decide) rfl dJ3_checkInvariants_26) (
  aSa (s_dup rfl dJ3_checkInvariants_32) (
  aSa (s_getsC (C := "java/util/BitSet") (nm0 := "$assertionsDisabled") q675 (by decide) rfl dJ3_checkInvariants_37) (
  aSa (s_ifne (by decide) rfl dJ3_checkInvariants_40) (
  aSa (s_aload_n rfl rfl dJ3_checkInvariants_43) (
  aSa (s_getf (T := TJ3) rfl (by decide) (by decide) in_J3 q218 (Or.inl rfl) rfl dJ3_checkInvariants_44) (
  aSa (s_iflt (by decide) rfl dJ3_checkInvariants_47) (
  aSa (s_aload_n rfl rfl dJ3_checkInvariants_50) (
  aSa (s_getf (T := TJ3) rfl (by decide) (by decide) in_J3 q218 (Or.inl rfl) rfl dJ3_checkInvariants_51) (
  aSa (s_aload_n rfl rfl dJ3_checkInvariants_54) (
  aSa (s_getf (T := TJ3) rfl (by decide) (by decide) in_J3 q217 (Or.inl rfl) rfl dJ3_checkInvariants_55) (
  aSa (s_alen rfl dJ3_checkInvariants_58) (
  aSa (s_cle (by decide) rfl dJ3_checkInvariants_59) (
  aSa (s_dup rfl dJ3_checkInvariants_65) (
  aSa (s_getsC (C := "java/util/BitSet") (nm0 := "$assertionsDisabled") q675 (by decide) rfl dJ3_checkInvariants_70) (
  aSa (s_ifne (by decide) rfl dJ3_checkInvariants_73) (
  aSa (s_aload_n rfl rfl dJ3_checkInvariants_76) (
  aSa (s_getf (T := TJ3) rfl (by decide) (by decide) in_J3 q218 (Or.inl rfl) rfl dJ3_checkInvariants_77) (
  aSa (s_aload_n rfl rfl dJ3_checkInvariants_80) (
  aSa (s_getf (T := TJ3) rfl (by decide) (by decide) in_J3 q217 (Or.inl rfl) rfl dJ3_checkInvariants_81) (
  aSa (s_alen rfl dJ3_checkInvariants_84) (
  aSa (s_ceq (by decide) rfl dJ3_checkInvariants_85) (
  aSa (s_aload_n rfl rfl dJ3_checkInvariants_88) (
  aSa (s_getf (T := TJ3) rfl (by decide) (by decide) in_J3 q217 (Or.inl rfl) rfl dJ3_checkInvariants_89) (
  aSa (s_aload_n rfl rfl dJ3_checkInvariants_92) (
  aSa (s_getf (T := TJ3) rfl (by decide) (by decide) in_J3 q218 (Or.inl rfl) rfl dJ3_checkInvariants_93) (
  aSa (s_lald rfl dJ3_checkInvariants_96) (
  aSa (s_lconst (by decide) rfl dJ3_checkInvariants_97) (
  aSa (s_lcmp rfl dJ3_checkInvariants_98) (
  aSa (s_ifeq (by decide) rfl dJ3_checkInvariants_99) (
  aSa (s_dup rfl dJ3_checkInvariants_105) (
  aSa (s_ret (n := 0) rfl dJ3_checkInvariants_110) (
  aSn))))))))))))))))))))))))))))))))))))))))))))))
theorem sn76 : SndL "java/util/BitSet" "ensureCapacity" cJ3_ensureCapacity 3 (Option.none : Option Jvm.ClassFile.FieldType) [] T76 := aSa (s_aload_n rfl rfl dJ3_ensureCapacity_0) (
  aSa (s_getf (T := TJ3) rfl (by decide) (by decide) in_J3 q217 (Or.inl rfl) rfl dJ3_ensureCapacity_1) (
  aSa (s_alen rfl dJ3_ensureCapacity_4) (
  aSa (s_iload_n rfl rfl dJ3_ensureCapacity_5) (
  aSa (s_cge (by decide) rfl dJ3_ensureCapacity_6) (
  aSa (s_iconst (v0 := 2) (by decide) rfl dJ3_ensureCapacity_9) (
  aSa (s_aload_n rfl rfl dJ3_ensureCapacity_10) (
  aSa (s_getf (T := TJ3) rfl (by decide) (by decide) in_J3 q217 (Or.inl rfl) rfl dJ3_ensureCapacity_11) (
  aSa (s_alen rfl dJ3_ensureCapacity_14) (
  aSa (s_imul rfl dJ3_ensureCapacity_15) (
  aSa (s_iload_n rfl rfl dJ3_ensureCapacity_16) (
  aSa (s_mmax q662 q274 q112 q275 rfl dJ3_ensureCapacity_17) (
  aSa (s_istore_n rfl (by decide) rfl dJ3_ensureCapacity_20) (
  aSa (s_aload_n rfl rfl dJ3_ensureCapacity_21) (
  aSa (s_aload_n rfl rfl dJ3_ensureCapacity_22) (
  aSa (s_getf (T := TJ3) rfl (by decide) (by decide) in_J3 q217 (Or.inl rfl) rfl dJ3_ensureCapacity_23) (
  aSa (s_iload_n rfl rfl dJ3_ensureCapacity_26) (
  aSa (s_callS rfl q663 q664 q113 q665 (by decide +kernel) (by decide) aHS0 rfl dJ3_ensureCapacity_27) (
  aSa (s_putf (T := TJ3) (ty0 := tyJ3) tyJ3_ok nmJ3 rfl (by decide) (by decide) in_J3 q217 (Or.inl rfl) rfl rfl rfl dJ3_ensureCapacity_30) (
  aSa (s_aload_n rfl rfl dJ3_ensureCapacity_33) (
  aSa (s_iconst (v0 := 0) (by decide) rfl dJ3_ensureCapacity_34) (
  aSa (s_putf (T := TJ3) (ty0 := tyJ3) tyJ3_ok nmJ3 rfl (by decide) (by decide) in_J3 q219 (Or.inl rfl) rfl rfl rfl dJ3_ensureCapacity_35) (
  aSa (s_ret (n := 0) rfl dJ3_ensureCapacity_38) (
  aSn)))))))))))))))))))))))
theorem sn77 : SndL "java/util/BitSet" "expandTo" cJ3_expandTo 3 (Option.none : Option Jvm.ClassFile.FieldType) [] T77 := aSa (s_iload_n rfl rfl dJ3_expandTo_0) (
  aSa (s_iconst (v0 := 1) (by decide) rfl dJ3_expandTo_1) (
  aSa (s_iadd rfl dJ3_expandTo_2) (
  aSa (s_istore_n rfl (by decide) rfl dJ3_expandTo_3) (
  aSa (s_aload_n rfl rfl dJ3_expandTo_4) (
  aSa (s_getf (T := TJ3) rfl (by decide) (by decide) in_J3 q218 (Or.inl rfl) rfl dJ3_expandTo_5) (
  aSa (s_iload_n rfl rfl dJ3_expandTo_8) (
  aSa (s_cge (by decide) rfl dJ3_expandTo_9) (
  aSa (s_aload_n rfl rfl dJ3_expandTo_12) (
  aSa (s_iload_n rfl rfl dJ3_expandTo_13) (
  aSa (s_callV (List.forall_mem_cons.mpr ⟨d_V rfl rfl q658 q660 qs6 q107 q661 rfl (by decide +kernel) (by decide) rfl dJ3_expandTo_14, fun _ h => absurd h List.not_mem_nil⟩) aHS0) (
  aSa (s_aload_n rfl rfl dJ3_expandTo_17) (
  aSa (s_iload_n rfl rfl dJ3_expandTo_18) (
  aSa (s_putf (T := TJ3) (ty0 := tyJ3) tyJ3_ok nmJ3 rfl (by decide) (by decide) in_J3 q218 (Or.inl rfl) rfl rfl rfl dJ3_expandTo_19) (
  aSa (s_ret (n := 0) rfl dJ3_expandTo_22) (
  aSn)))))))))))))))
theorem sn78 : SndL "java/util/BitSet" "flip" cJ3_flip 3 (Option.none : Option Jvm.ClassFile.FieldType) [] T78 := aSa (s_iload_n rfl rfl dJ3_flip_0) (
  aSa (s_ifge (by decide) rfl dJ3_flip_1) (
  aSa (s_dup rfl dJ3_flip_7) (
  aSa (s_dup rfl dJ3_flip_11) (
  aSa (s_iload_n rfl rfl dJ3_flip_20) (
  aSa (s_iload_n rfl rfl dJ3_flip_31) (
  aSa (s_callS rfl q214 q215 q107 q216 (by decide +kernel) (by decide) aHS0 rfl dJ3_flip_32) (
  aSa (s_istore_n rfl (by decide) rfl dJ3_flip_35) (
  aSa (s_aload_n rfl rfl dJ3_flip_36) (
  aSa (s_iload_n rfl rfl dJ3_flip_37) (
  aSa (s_callV (List.forall_mem_cons.mpr ⟨d_V rfl rfl q654 q656 qs5 q107 q657 rfl (by decide +kernel) (by decide) rfl dJ3_flip_38, fun _ h => absurd h List.not_mem_nil⟩) aHS0) (
  aSa (s_aload_n rfl rfl dJ3_flip_41) (
  aSa (s_getf (T := TJ3) rfl (by decide) (by decide) in_J3 q217 (Or.inl rfl) rfl dJ3_flip_42) (
  aSa (s_iload_n rfl rfl dJ3_flip_45) (
  aSa (s_dup2 rfl dJ3_flip_46) (
  aSa (s_lald rfl dJ3_flip_47) (
  aSa (s_lconst (by decide) rfl dJ3_flip_48) (
  aSa (s_iload_n rfl rfl dJ3_flip_49) (
  aSa (s_lshl rfl dJ3_flip_50) (
  aSa (s_lxor rfl dJ3_flip_51) (
  aSa (s_last rfl dJ3_flip_52) (
  aSa (s_aload_n rfl rfl dJ3_flip_53) (
  aSa (s_callV (List.forall_mem_cons.mpr ⟨d_V rfl rfl q2095 q2097 qs40 q107 q2098 rfl (by decide +kernel) (by decide) rfl dJ3_flip_54, fun _ h => absurd h List.not_mem_nil⟩) aHS0) (
  aSa (s_aload_n rfl rfl dJ3_flip_57) (
  aSa (s_callV (List.forall_mem_cons.mpr ⟨d_V rfl rfl q671 q673 qs7 q107 q674 rfl (by decide +kernel) (by decide) rfl dJ3_flip_58, fun _ h => absurd h List.not_mem_nil⟩) aHS0) (
  aSa (s_ret (n := 0) rfl dJ3_flip_61) (
  aSn))))))))))))))))))))))))))
theorem sn79 : SndL "java/util/BitSet" "get" cJ3_get 3 (Option.some Jvm.ClassFile.FieldType.boolean) [] T79 := aSa (s_iload_n rfl rfl dJ3_get_0) (
  aSa (s_ifge (by decide) rfl dJ3_get_1) (
  aSa (s_dup rfl dJ3_get_7) (
  aSa (s_dup rfl dJ3_get_11) (
  aSa (s_iload_n rfl rfl dJ3_get_20) (
  aSa (s_aload_n rfl rfl dJ3_get_31) (
  aSa (s_callV (List.forall_mem_cons.mpr ⟨d_V rfl rfl q671 q673 qs7 q107 q674 rfl (by decide +kernel) (by decide) rfl dJ3_get_32, fun _ h => absurd h List.not_mem_nil⟩) aHS0) (
  aSa (s_iload_n rfl rfl dJ3_get_35) (
  aSa (s_callS rfl q214 q215 q107 q216 (by decide +kernel) (by decide) aHS0 rfl dJ3_get_36) (
  aSa (s_istore_n rfl (by decide) rfl dJ3_get_39) (
  aSa (s_iload_n rfl rfl dJ3_get_40) (
  aSa (s_aload_n rfl rfl dJ3_get_41) (
  aSa (s_getf (T := TJ3) rfl (by decide) (by decide) in_J3 q218 (Or.inl rfl) rfl dJ3_get_42) (
  aSa (s_cge (by decide) rfl dJ3_get_45) (
  aSa (s_aload_n rfl rfl dJ3_get_48) (
  aSa (s_getf (T := TJ3) rfl (by decide) (by decide) in_J3 q217 (Or.inl rfl) rfl dJ3_get_49) (
  aSa (s_iload_n rfl rfl dJ3_get_52) (
  aSa (s_lald rfl dJ3_get_53) (
  aSa (s_lconst (by decide) rfl dJ3_get_54) (
  aSa (s_iload_n rfl rfl dJ3_get_55) (
  aSa (s_lshl rfl dJ3_get_56) (
  aSa (s_land rfl dJ3_get_57) (
  aSa (s_lconst (by decide) rfl dJ3_get_58) (
  aSa (s_lcmp rfl dJ3_get_59) (
  aSa (s_ifeq (by decide) rfl dJ3_get_60) (
  aSa (s_iconst (v0 := 1) (by decide) rfl dJ3_get_63) (
  aSa (s_goto (n := 0) (by decide) dJ3_get_64) (
  aSa (s_iconst (v0 := 0) (by decide) rfl dJ3_get_67) (
  aSa (s_iret (n := 0) rfl dJ3_get_68) (
  aSn)))))))))))))))))))))))))))))
theorem sn80 : SndL "java/util/BitSet" "initWords" cJ3_initWords 2 (Option.none : Option Jvm.ClassFile.FieldType) [] T80 := aSa (s_aload_n rfl rfl dJ3_initWords_0) (
  aSa (s_iload_n rfl rfl dJ3_initWords_1) (
  aSa (s_iconst (v0 := 1) (by decide) rfl dJ3_initWords_2) (
  aSa (s_isub rfl dJ3_initWords_3) (
  aSa (s_callS rfl q214 q215 q107 q216 (by decide +kernel) (by decide) aHS0 rfl dJ3_initWords_4) (
  aSa (s_iconst (v0 := 1) (by decide) rfl dJ3_initWords_7) (
  aSa (s_iadd rfl dJ3_initWords_8) (
  aSa (s_newa_long q227 rfl dJ3_initWords_9) (
  aSa (s_putf (T := TJ3) (ty0 := tyJ3) tyJ3_ok nmJ3 rfl (by decide) (by decide) in_J3 q217 (Or.inl rfl) rfl rfl rfl dJ3_initWords_11) (
  aSa (s_ret (n := 0) rfl dJ3_initWords_14) (
  aSn))))))))))
theorem sn81 : SndL "java/util/BitSet" "isEmpty" cJ3_isEmpty 1 (Option.some Jvm.ClassFile.FieldType.boolean) [] T81 := aSa (s_aload_n rfl rfl dJ3_isEmpty_0) (
  aSa (s_getf (T := TJ3) rfl (by decide) (by decide) in_J3 q218 (Or.inl rfl) rfl dJ3_isEmpty_1) (
  aSa (s_ifne (by decide) rfl dJ3_isEmpty_4) (
  aSa (s_iconst (v0 := 1) (by decide) rfl dJ3_isEmpty_7) (
  aSa (s_goto (n := 0) (by decide) dJ3_isEmpty_8) (
  aSa (s_iconst (v0 := 0) (by decide) rfl dJ3_isEmpty_11) (
  aSa (s_iret (n := 0) rfl dJ3_isEmpty_12) (
  aSn)))))))
theorem sn82 : SndL "java/util/BitSet" "or" cJ3_or 4 (Option.none : Option Jvm.ClassFile.FieldType) [] T82 := aSa (s_aload_n rfl rfl dJ3_or_0) (
  aSa (s_aload_n rfl rfl dJ3_or_1) (
  aSa (s_acne (by decide) rfl dJ3_or_2) (
  aSa (s_ret (n := 0) rfl dJ3_or_5) (
  aSa (s_aload_n rfl rfl dJ3_or_6) (
  aSa (s_getf (T := TJ3) rfl (by decide) (by decide) in_J3 q218 (Or.inl rfl) rfl dJ3_or_7) (
  aSa (s_aload_n rfl rfl dJ3_or_10) (
  aSa (s_getf (T := TJ3) rfl (by decide) (by decide) in_J3 q218 (Or.inl rfl) rfl dJ3_or_11) (
  aSa (s_mmin q1187 q330 q112 q331 rfl dJ3_or_14) (
  aSa (s_istore_n rfl (by decide) rfl dJ3_or_17) (
  aSa (s_aload_n rfl rfl dJ3_or_18) (
  aSa (s_getf (T := TJ3) rfl (by decide) (by decide) in_J3 q218 (Or.inl rfl) rfl dJ3_or_19) (
  aSa (s_aload_n rfl rfl dJ3_or_22) (
  aSa (s_getf (T := TJ3) rfl (by decide) (by decide) in_J3 q218 (Or.inl rfl) rfl dJ3_or_23) (
  aSa (s_cge (by decide) rfl dJ3_or_26) (
  aSa (s_aload_n rfl rfl dJ3_or_29) (
  aSa (s_aload_n rfl rfl dJ3_or_30) (
  aSa (s_getf (T := TJ3) rfl (by decide) (by decide) in_J3 q218 (Or.inl rfl) rfl dJ3_or_31) (
  aSa (s_callV (List.forall_mem_cons.mpr ⟨d_V rfl rfl q658 q660 qs6 q107 q661 rfl (by decide +kernel) (by decide) rfl dJ3_or_34, fun _ h => absurd h List.not_mem_nil⟩) aHS0) (
  aSa (s_aload_n rfl rfl dJ3_or_37) (
  aSa (s_aload_n rfl rfl dJ3_or_38) (
  aSa (s_getf (T := TJ3) rfl (by decide) (by decide) in_J3 q218 (Or.inl rfl) rfl dJ3_or_39) (
  aSa (s_putf (T := TJ3) (ty0 := tyJ3) tyJ3_ok nmJ3 rfl (by decide) (by decide) in_J3 q218 (Or.inl rfl) rfl rfl rfl dJ3_or_42) (
  aSa (s_iconst (v0 := 0) (by decide) rfl dJ3_or_45) (
  aSa (s_istore_n rfl (by decide) rfl dJ3_or_46) (
  aSa (s_iload_n rfl rfl dJ3_or_47) (
  aSa (s_iload_n rfl rfl dJ3_or_48) (
  aSa (s_cge (by decide) rfl dJ3_or_49) (
  aSa (s_aload_n rfl rfl dJ3_or_52) (
  aSa (s_getf (T := TJ3) rfl (by decide) (by decide) in_J3 q217 (Or.inl rfl) rfl dJ3_or_53) (
  aSa (s_iload_n rfl rfl dJ3_or_56) (
  aSa (s_dup2 rfl dJ3_or_57) (
  aSa (s_lald rfl dJ3_or_58) (
  aSa (s_aload_n rfl rfl dJ3_or_59) (
  aSa (s_getf (T := TJ3) rfl (by decide) (by decide) in_J3 q217 (Or.inl rfl) rfl dJ3_or_60) (
  aSa (s_iload_n rfl rfl dJ3_or_63) (
  aSa (s_lald rfl dJ3_or_64) (
  aSa (s_lor rfl dJ3_or_65) (
  aSa (s_last rfl dJ3_or_66) (
  aSa (s_iinc (by decide) rfl dJ3_or_67) (
  aSa (s_goto (n := 0) (by decide) dJ3_or_70) (
  aSa (s_iload_n rfl rfl dJ3_or_73) (
  aSa (s_aload_n rfl rfl dJ3_or_74) (
  aSa (s_getf (T := TJ3) rfl (by decide) (by decide) in_J3 q218 (Or.inl rfl) rfl dJ3_or_75) (
  aSa (s_cge (by decide) rfl dJ3_or_78) (
  aSa (s_aload_n rfl rfl dJ3_or_81) (
  aSa (s_getf (T := TJ3) rfl (by decide) (by decide) in_J3 q217 (Or.inl rfl) rfl dJ3_or_82) (
  aSa (s_iload_n rfl rfl dJ3_or_85) (
  aSa (s_aload_n rfl rfl dJ3_or_86) (
  aSa (s_getf (T := TJ3) rfl (by decide) (by decide) in_J3 q217 (Or.inl rfl) rfl dJ3_or_87) (
  aSa (s_iload_n rfl rfl dJ3_or_90) (
  aSa (s_aload_n rfl rfl dJ3_or_91) (
  aSa (s_getf (T := TJ3) rfl (by decide) (by decide) in_J3 q218 (Or.inl rfl) rfl dJ3_or_92) (
  aSa (s_iload_n rfl rfl dJ3_or_95) (
  aSa (s_isub rfl dJ3_or_96) (
  aSa (s_acopy q1188 q334 q333 q114 rfl dJ3_or_97) (
  aSa (s_aload_n rfl rfl dJ3_or_100) (
  aSa (s_callV (List.forall_mem_cons.mpr ⟨d_V rfl rfl q671 q673 qs7 q107 q674 rfl (by decide +kernel) (by decide) rfl dJ3_or_101, fun _ h => absurd h List.not_mem_nil⟩) aHS0) (
  aSa (s_ret (n := 0) rfl dJ3_or_104) (
  aSn)))))))))))))))))))))))))))))))))))))))))))))))))))))))))))
theorem sn83 : SndL "java/util/BitSet" "recalculateWordsInUse" cJ3_recalculateWordsInUse 2 (Option.none : Option Jvm.ClassFile.FieldType) [] T83 := aSa (s_aload_n rfl rfl dJ3_recalculateWordsInUse_0) (
  aSa (s_getf (T := TJ3) rfl (by decide) (by decide) in_J3 q218 (Or.inl rfl) rfl dJ3_recalculateWordsInUse_1) (
  aSa (s_iconst (v0 := 1) (by decide) rfl dJ3_recalculateWordsInUse_4) (
  aSa (s_isub rfl dJ3_recalculateWordsInUse_5) (
  aSa (s_istore_n rfl (by decide) rfl dJ3_recalculateWordsInUse_6) (
  aSa (s_iload_n rfl rfl dJ3_recalculateWordsInUse_7) (
  aSa (s_iflt (by decide) rfl dJ3_recalculateWordsInUse_8) (
  aSa (s_aload_n rfl rfl dJ3_recalculateWordsInUse_11) (
  aSa (s_getf (T := TJ3) rfl (by decide) (by decide) in_J3 q217 (Or.inl rfl) rfl dJ3_recalculateWordsInUse_12) (
  aSa (s_iload_n rfl rfl dJ3_recalculateWordsInUse_15) (
  aSa (s_lald rfl dJ3_recalculateWordsInUse_16) (
  aSa (s_lconst (by decide) rfl dJ3_recalculateWordsInUse_17) (
  aSa (s_lcmp rfl dJ3_recalculateWordsInUse_18) (
  aSa (s_ifeq (by decide) rfl dJ3_recalculateWordsInUse_19) (
  aSa (s_goto (n := 0) (by decide) dJ3_recalculateWordsInUse_22) (
  aSa (s_iinc (by decide) rfl dJ3_recalculateWordsInUse_25) (
  aSa (s_goto (n := 0) (by decide) dJ3_recalculateWordsInUse_28) (
  aSa (s_aload_n rfl rfl dJ3_recalculateWordsInUse_31) (
  aSa (s_iload_n rfl rfl dJ3_recalculateWordsInUse_32) (
  aSa (s_iconst (v0 := 1) (by decide) rfl dJ3_recalculateWordsInUse_33) (
  aSa (s_iadd rfl dJ3_recalculateWordsInUse_34) (
  aSa (s_putf (T := TJ3) (ty0 := tyJ3) tyJ3_ok nmJ3 rfl (by decide) (by decide) in_J3 q218 (Or.inl rfl) rfl rfl rfl dJ3_recalculateWordsInUse_35) (
  aSa (s_ret (n := 0) rfl dJ3_recalculateWordsInUse_38) (
  aSn)))))))))))))))))))))))
theorem sn84 : SndL "java/util/BitSet" "set" cJ3_set 3 (Option.none : Option Jvm.ClassFile.FieldType) [] T84 := aSa (s_iload_n rfl rfl dJ3_set_0) (
  aSa (s_ifge (by decide) rfl dJ3_set_1) (
  aSa (s_dup rfl dJ3_set_7) (
  aSa (s_dup rfl dJ3_set_11) (
  aSa (s_iload_n rfl rfl dJ3_set_20) (
  aSa (s_iload_n rfl rfl dJ3_set_31) (
  aSa (s_callS rfl q214 q215 q107 q216 (by decide +kernel) (by decide) aHS0 rfl dJ3_set_32) (
  aSa (s_istore_n rfl (by decide) rfl dJ3_set_35) (
  aSa (s_aload_n rfl rfl dJ3_set_36) (
  aSa (s_iload_n rfl rfl dJ3_set_37) (
  aSa (s_callV (List.forall_mem_cons.mpr ⟨d_V rfl rfl q654 q656 qs5 q107 q657 rfl (by decide +kernel) (by decide) rfl dJ3_set_38, fun _ h => absurd h List.not_mem_nil⟩) aHS0) (
  aSa (s_aload_n rfl rfl dJ3_set_41) (
  aSa (s_getf (T := TJ3) rfl (by decide) (by decide) in_J3 q217 (Or.inl rfl) rfl dJ3_set_42) (
  aSa (s_iload_n rfl rfl dJ3_set_45) (
  aSa (s_dup2 rfl dJ3_set_46) (
  aSa (s_lald rfl dJ3_set_47) (
  aSa (s_lconst (by decide) rfl dJ3_set_48) (
  aSa (s_iload_n rfl rfl dJ3_set_49) (
  aSa (s_lshl rfl dJ3_set_50) (
  aSa (s_lor rfl dJ3_set_51) (
  aSa (s_last rfl dJ3_set_52) (
  aSa (s_aload_n rfl rfl dJ3_set_53) (
  aSa (s_callV (List.forall_mem_cons.mpr ⟨d_V rfl rfl q671 q673 qs7 q107 q674 rfl (by decide +kernel) (by decide) rfl dJ3_set_54, fun _ h => absurd h List.not_mem_nil⟩) aHS0) (
  aSa (s_ret (n := 0) rfl dJ3_set_57) (
  aSn))))))))))))))))))))))))
theorem sn85 : SndL "java/util/BitSet" "wordIndex" cJ3_wordIndex 1 (Option.some Jvm.ClassFile.FieldType.int) [] T85 := aSa (s_iload_n rfl rfl dJ3_wordIndex_0) (
  aSa (s_bipush (v0 := 6) (by decide) rfl dJ3_wordIndex_1) (
  aSa (s_ishr rfl dJ3_wordIndex_3) (
  aSa (s_iret (n := 0) rfl dJ3_wordIndex_4) (
  aSn))))
theorem sn86 : SndL "java/util/Objects" "checkIndex" cJ20_checkIndex 2 (Option.some Jvm.ClassFile.FieldType.int) [] T86 := aSa (s_iload_n rfl rfl dJ20_checkIndex_0) (
  aSa (s_iload_n rfl rfl dJ20_checkIndex_1) (
  aSa (s_null rfl dJ20_checkIndex_2) (
  aSa (s_callS rfl q704 q705 q123 q706 (by decide +kernel) (by decide) aHS0 rfl dJ20_checkIndex_3) (
  aSa (s_iret (n := 0) rfl dJ20_checkIndex_6) (
  aSn)))))
theorem sn87 : SndL "java/util/Objects" "requireNonNull" cJ20_requireNonNull 1 (Option.some (Jvm.ClassFile.FieldType.object "java/lang/Object")) [] T87 := aSa (s_aload_n rfl rfl dJ20_requireNonNull_0) (
  aSa (s_ifnonnull (by decide) rfl dJ20_requireNonNull_1) (
  aSa (s_dup rfl dJ20_requireNonNull_7) (
  aSa (s_aload_n rfl rfl dJ20_requireNonNull_12) (
  aSa (s_aret (n := 0) rfl (Or.inl ⟨_, rfl⟩) dJ20_requireNonNull_13) (
  aSn)))))
theorem sn88 : SndL "java/util/PriorityQueue" "<init>" cJ38_init 1 (Option.none : Option Jvm.ClassFile.FieldType) [] T88 := aSa (s_aload_n rfl rfl dJ38_init_0) (
  aSa (s_bipush (v0 := 11) (by decide) rfl dJ38_init_1) (
  aSa (s_null rfl dJ38_init_3) (
  aSa (s_callI rfl q1439 q1440 q151 q1441 (by decide +kernel) (by decide) rfl aHS0 rfl dJ38_init_4) (
  aSa (s_ret (n := 0) rfl dJ38_init_7) (
  aSn)))))
theorem sn89 : SndL "java/util/PriorityQueue" "<init>" cJ38_init_2 3 (Option.none : Option Jvm.ClassFile.FieldType) [] T89 := aSa (s_aload_n rfl rfl dJ38_init_2_0) (
  aSa (s_callI rfl q1442 q1443 q150 q1444 (by decide +kernel) (by decide) rfl aHS0 rfl dJ38_init_2_1) (
  aSa (s_iload_n rfl rfl dJ38_init_2_4) (
  aSa (s_iconst (v0 := 1) (by decide) rfl dJ38_init_2_5) (
  aSa (s_cge (by decide) rfl dJ38_init_2_6) (
  aSa (s_dup rfl dJ38_init_2_12) (
  aSa (s_aload_n rfl rfl dJ38_init_2_17) (
  aSa (s_iload_n rfl rfl dJ38_init_2_18) (
  aSa (s_newq (kd := 4) q1451 q327 (fun _ => rfl) rfl (by decide) rfl dJ38_init_2_19) (
  aSa (s_putf (T := TJ38) (ty0 := tyJ38) tyJ38_ok nmJ38 rfl (by decide) (by decide) in_J38 q1453 (Or.inl rfl) rfl rfl rfl dJ38_init_2_22) (
  aSa (s_aload_n rfl rfl dJ38_init_2_25) (
  aSa (s_aload_n rfl rfl dJ38_init_2_26) (
  aSa (s_putfF (T := TJ38) (ty0 := tyJ38) tyJ38_ok nmJ38 rfl (by decide) (by decide) in_J38 q1456 (Or.inl rfl) rfl rfl rfl rfl rfl dJ38_init_2_27) (
  aSa (s_ret (n := 0) rfl dJ38_init_2_30) (
  aSn))))))))))))))
theorem sn90 : SndL "java/util/PriorityQueue" "grow" cJ38_grow 4 (Option.none : Option Jvm.ClassFile.FieldType) [] T90 := aSa (s_aload_n rfl rfl dJ38_grow_0) (
  aSa (s_getf (T := TJ38) rfl (by decide) (by decide) in_J38 q1453 (Or.inl rfl) rfl dJ38_grow_1) (
  aSa (s_alen rfl dJ38_grow_4) (
  aSa (s_istore_n rfl (by decide) rfl dJ38_grow_5) (
  aSa (s_iload_n rfl rfl dJ38_grow_6) (
  aSa (s_iload_n rfl rfl dJ38_grow_7) (
  aSa (s_iload_n rfl rfl dJ38_grow_8) (
  aSa (s_isub rfl dJ38_grow_9) (
  aSa (s_iload_n rfl rfl dJ38_grow_10) (
  aSa (s_bipush (v0 := 64) (by decide) rfl dJ38_grow_11) (
  aSa (s_cge (by decide) rfl dJ38_grow_13) (
  aSa (s_iload_n rfl rfl dJ38_grow_16) (
  aSa (s_iconst (v0 := 2) (by decide) rfl dJ38_grow_17) (
  aSa (s_iadd rfl dJ38_grow_18) (
  aSa (s_goto (n := 0) (by decide) dJ38_grow_19) (
  aSa (s_iload_n rfl rfl dJ38_grow_22) (
  aSa (s_iconst (v0 := 1) (by decide) rfl dJ38_grow_23) (
  aSa (s_ishr rfl dJ38_grow_24) (
  aSa (s_callS rfl q1517 q271 q111 q272 (by decide +kernel) (by decide) aHS0 rfl dJ38_grow_25) (
  aSa (s_istore_n rfl (by decide) rfl dJ38_grow_28) (
  aSa (s_aload_n rfl rfl dJ38_grow_29) (
  aSa (s_aload_n rfl rfl dJ38_grow_30) (
  aSa (s_getf (T := TJ38) rfl (by decide) (by decide) in_J38 q1453 (Or.inl rfl) rfl dJ38_grow_31) (
  aSa (s_iload_n rfl rfl dJ38_grow_34) (
  aSa (s_callS rfl q1518 q281 q113 q282 (by decide +kernel) (by decide) aHS0 rfl dJ38_grow_35) (
  aSa (s_putf (T := TJ38) (ty0 := tyJ38) tyJ38_ok nmJ38 rfl (by decide) (by decide) in_J38 q1453 (Or.inl rfl) rfl rfl rfl dJ38_grow_38) (
  aSa (s_ret (n := 0) rfl dJ38_grow_41) (
  aSn)))))))))))))))))))))))))))
theorem sn91 : SndL "java/util/PriorityQueue" "offer" cJ38_offer 3 (Option.some Jvm.ClassFile.FieldType.boolean) [] T91 := aSa (s_aload_n rfl rfl dJ38_offer_0) (
  aSa (s_ifnonnull (by decide) rfl dJ38_offer_1) (
  aSa (s_dup rfl dJ38_offer_7) (
  aSa (s_aload_n rfl rfl dJ38_offer_12) (
  aSa (s_dup rfl dJ38_offer_13) (
  aSa (s_getf (T := TJ38) rfl (by decide) (by decide) in_J38 q1458 (Or.inl rfl) rfl dJ38_offer_14) (
  aSa (s_iconst (v0 := 1) (by decide) rfl dJ38_offer_17) (
  aSa (s_iadd rfl dJ38_offer_18) (
  aSa (s_putf (T := TJ38) (ty0 := tyJ38) tyJ38_ok nmJ38 rfl (by decide) (by decide) in_J38 q1458 (Or.inl rfl) rfl rfl rfl dJ38_offer_19) (
  aSa (s_aload_n rfl rfl dJ38_offer_22) (
  aSa (s_getf (T := TJ38) rfl (by decide) (by decide) in_J38 q1455 (Or.inl rfl) rfl dJ38_offer_23) (
  aSa (s_istore_n rfl (by decide) rfl dJ38_offer_26) (
  aSa (s_iload_n rfl rfl dJ38_offer_27) (
  aSa (s_aload_n rfl rfl dJ38_offer_28) (
  aSa (s_getf (T := TJ38) rfl (by decide) (by decide) in_J38 q1453 (Or.inl rfl) rfl dJ38_offer_29) (
  aSa (s_alen rfl dJ38_offer_32) (
  aSa (s_clt (by decide) rfl dJ38_offer_33) (
  aSa (s_aload_n rfl rfl dJ38_offer_36) (
  aSa (s_iload_n rfl rfl dJ38_offer_37) (
  aSa (s_iconst (v0 := 1) (by decide) rfl dJ38_offer_38) (
  aSa (s_iadd rfl dJ38_offer_39) (
  aSa (s_callV (List.forall_mem_cons.mpr ⟨d_V rfl rfl q1513 q1515 qs24 q151 q1516 rfl (by decide +kernel) (by decide) rfl dJ38_offer_40, fun _ h => absurd h List.not_mem_nil⟩) aHS0) (
  aSa (s_aload_n rfl rfl dJ38_offer_43) (
  aSa (s_iload_n rfl rfl dJ38_offer_44) (
  aSa (s_aload_n rfl rfl dJ38_offer_45) (
  aSa (s_callV (List.forall_mem_cons.mpr ⟨d_V rfl rfl q1519 q1521 qs25 q151 q1522 rfl (by decide +kernel) (by decide) rfl dJ38_offer_46, fun _ h => absurd h List.not_mem_nil⟩) aHS0) (
  aSa (s_aload_n rfl rfl dJ38_offer_49) (
  aSa (s_iload_n rfl rfl dJ38_offer_50) (
  aSa (s_iconst (v0 := 1) (by decide) rfl dJ38_offer_51) (
  aSa (s_iadd rfl dJ38_offer_52) (
  aSa (s_putf (T := TJ38) (ty0 := tyJ38) tyJ38_ok nmJ38 rfl (by decide) (by decide) in_J38 q1455 (Or.inl rfl) rfl rfl rfl dJ38_offer_53) (
  aSa (s_iconst (v0 := 1) (by decide) rfl dJ38_offer_56) (
  aSa (s_iret (n := 0) rfl dJ38_offer_57) (
  aSn)))))))))))))))))))))))))))))))))
theorem sn92 : SndL "java/util/PriorityQueue" "poll" cJ38_poll 6 (Option.some (Jvm.ClassFile.FieldType.object "java/lang/Object")) [] T92 := aSa (s_aload_n rfl rfl dJ38_poll_0) (
  aSa (s_getf (T := TJ38) rfl (by decide) (by decide) in_J38 q1453 (Or.inl rfl) rfl dJ38_poll_1) (
  aSa (s_dup rfl dJ38_poll_4) (
  aSa (s_astore_n rfl (by decide) rfl dJ38_poll_5) (
  aSa (s_iconst (v0 := 0) (by decide) rfl dJ38_poll_6) (
  aSa (s_aald rfl dJ38_poll_7) (
  aSa (s_dup rfl dJ38_poll_8) (
  aSa (s_astore_n rfl (by decide) rfl dJ38_poll_9) (
  aSa (s_ifnull (by decide) rfl dJ38_poll_10) (
  aSa (s_aload_n rfl rfl dJ38_poll_13) (
  aSa (s_dup rfl dJ38_poll_14) (
  aSa (s_getf (T := TJ38) rfl (by decide) (by decide) in_J38 q1458 (Or.inl rfl) rfl dJ38_poll_15) (
  aSa (s_iconst (v0 := 1) (by decide) rfl dJ38_poll_18) (
  aSa (s_iadd rfl dJ38_poll_19) (
  aSa (s_putf (T := TJ38) (ty0 := tyJ38) tyJ38_ok nmJ38 rfl (by decide) (by decide) in_J38 q1458 (Or.inl rfl) rfl rfl rfl dJ38_poll_20) (
  aSa (s_aload_n rfl rfl dJ38_poll_23) (
  aSa (s_aload_n rfl rfl dJ38_poll_24) (
  aSa (s_dup rfl dJ38_poll_25) (
  aSa (s_getf (T := TJ38) rfl (by decide) (by decide) in_J38 q1455 (Or.inl rfl) rfl dJ38_poll_26) (
  aSa (s_iconst (v0 := 1) (by decide) rfl dJ38_poll_29) (
  aSa (s_isub rfl dJ38_poll_30) (
  aSa (s_dup_x1 rfl dJ38_poll_31) (
  aSa (s_putf (T := TJ38) (ty0 := tyJ38) tyJ38_ok nmJ38 rfl (by decide) (by decide) in_J38 q1455 (Or.inl rfl) rfl rfl rfl dJ38_poll_32) (
  aSa (s_dup rfl dJ38_poll_35) (
  aSa (s_istore_n rfl (by decide) rfl dJ38_poll_36) (
  aSa (s_aald rfl dJ38_poll_37) (
  aSa (s_astore (by decide) rfl dJ38_poll_38) (
  aSa (s_aload_n rfl rfl dJ38_poll_40) (
  aSa (s_iload_n rfl rfl dJ38_poll_41) (
  aSa (s_null rfl dJ38_poll_42) (
  aSa (s_aast rfl dJ38_poll_43) (
  aSa (s_iload_n rfl rfl dJ38_poll_44) (
  aSa (s_ifle (by decide) rfl dJ38_poll_45) (
  aSa (s_aload_n rfl rfl dJ38_poll_48) (
  aSa (s_getf (T := TJ38) rfl (by decide) (by decide) in_J38 q1456 (Or.inl rfl) rfl dJ38_poll_49) (
  aSa (s_dup rfl dJ38_poll_52) (
  aSa (s_astore (by decide) rfl dJ38_poll_53) (
  aSa (s_ifnonnull (by decide) rfl dJ38_poll_55) (
  aSa (s_iconst (v0 := 0) (by decide) rfl dJ38_poll_58) (
  aSa (s_aload rfl dJ38_poll_59) (
  aSa (s_aload_n rfl rfl dJ38_poll_61) (
  aSa (s_iload_n rfl rfl dJ38_poll_62) (
  aSa (s_callS rfl q1709 q1710 q151 q1711 (by decide +kernel) (by decide) aHS0 rfl dJ38_poll_63) (
  aSa (s_goto (n := 0) (by decide) dJ38_poll_66) (
  aSa (s_iconst (v0 := 0) (by decide) rfl dJ38_poll_69) (
  aSa (s_aload rfl dJ38_poll_70) (
  aSa (s_aload_n rfl rfl dJ38_poll_72) (
  aSa (s_iload_n rfl rfl dJ38_poll_73) (
  aSa (s_aload rfl dJ38_poll_74) (
  aSa (s_aload_n rfl rfl dJ38_poll_79) (
  aSa (s_aret (n := 0) rfl (Or.inl ⟨_, rfl⟩) dJ38_poll_80) (
  aSn)))))))))))))))))))))))))))))))))))))))))))))))))))
theorem sn93 : SndL "java/util/PriorityQueue" "siftDownComparable" cJ38_siftDownComparable 9 (Option.none : Option Jvm.ClassFile.FieldType) [] T93 := aSa (s_aload_n rfl rfl dJ38_siftDownComparable_0) (
  aSa (s_cast q1533 (List.forall_mem_cons.mpr ⟨⟨_, rfl, (Or.inr q1578)⟩, List.forall_mem_cons.mpr ⟨⟨_, rfl, (Or.inr q1567)⟩, List.forall_mem_cons.mpr ⟨⟨_, rfl, (Or.inr q1589)⟩, List.forall_mem_cons.mpr ⟨⟨_, rfl, (Or.inr q1538)⟩, List.forall_mem_cons.mpr ⟨⟨_, rfl, (Or.inr q1552)⟩, List.forall_mem_cons.mpr ⟨⟨_, rfl, (Or.inr q1578)⟩, List.forall_mem_cons.mpr ⟨⟨_, rfl, (Or.inr q1567)⟩, List.forall_mem_cons.mpr ⟨⟨_, rfl, (Or.inr q1589)⟩, fun _ h => absurd h List.not_mem_nil⟩⟩⟩⟩⟩⟩⟩⟩) (fun t h => absurd h List.not_mem_nil) rfl dJ38_siftDownComparable_1) (
  aSa (s_astore (by decide) rfl dJ38_siftDownComparable_4) (
  aSa (s_iload_n rfl rfl dJ38_siftDownComparable_6) (
  aSa (s_iconst (v0 := 1) (by decide) rfl dJ38_siftDownComparable_7) (
  aSa (s_iushr rfl dJ38_siftDownComparable_8) (
  aSa (s_istore (by decide) rfl dJ38_siftDownComparable_9) (
  aSa (s_iload_n rfl rfl dJ38_siftDownComparable_11) (
  aSa (s_iload rfl dJ38_siftDownComparable_12) (
  aSa (s_cge (by decide) rfl dJ38_siftDownComparable_14) (
  aSa (s_iload_n rfl rfl dJ38_siftDownComparable_17) (
  aSa (s_iconst (v0 := 1) (by decide) rfl dJ38_siftDownComparable_18) (
  aSa (s_ishl rfl dJ38_siftDownComparable_19) (
  aSa (s_iconst (v0 := 1) (by decide) rfl dJ38_siftDownComparable_20) (
  aSa (s_iadd rfl dJ38_siftDownComparable_21) (
  aSa (s_istore (by decide) rfl dJ38_siftDownComparable_22) (
  aSa (s_aload_n rfl rfl dJ38_siftDownComparable_24) (
  aSa (s_iload rfl dJ38_siftDownComparable_25) (
  aSa (s_aald rfl dJ38_siftDownComparable_27) (
  aSa (s_astore (by decide) rfl dJ38_siftDownComparable_28) (
  aSa (s_iload rfl dJ38_siftDownComparable_30) (
  aSa (s_iconst (v0 := 1) (by decide) rfl dJ38_siftDownComparable_32) (
  aSa (s_iadd rfl dJ38_siftDownComparable_33) (
  aSa (s_istore (by decide) rfl dJ38_siftDownComparable_34) (
  aSa (s_iload rfl dJ38_siftDownComparable_36) (
  aSa (s_iload_n rfl rfl dJ38_siftDownComparable_38) (
  aSa (s_cge (by decide) rfl dJ38_siftDownComparable_39) (
  aSa (s_aload rfl dJ38_siftDownComparable_42) (
  aSa (s_cast q1533 (List.forall_mem_cons.mpr ⟨⟨_, rfl, (Or.inr q1578)⟩, List.forall_mem_cons.mpr ⟨⟨_, rfl, (Or.inr q1567)⟩, List.forall_mem_cons.mpr ⟨⟨_, rfl, (Or.inr q1589)⟩, List.forall_mem_cons.mpr ⟨⟨_, rfl, (Or.inr q1538)⟩, List.forall_mem_cons.mpr ⟨⟨_, rfl, (Or.inr q1552)⟩, List.forall_mem_cons.mpr ⟨⟨_, rfl, (Or.inr q1578)⟩, List.forall_mem_cons.mpr ⟨⟨_, rfl, (Or.inr q1567)⟩, List.forall_mem_cons.mpr ⟨⟨_, rfl, (Or.inr q1589)⟩, fun _ h => absurd h List.not_mem_nil⟩⟩⟩⟩⟩⟩⟩⟩) (fun t h => absurd h List.not_mem_nil) rfl dJ38_siftDownComparable_44) (
  aSa (s_aload_n rfl rfl dJ38_siftDownComparable_47) (
  aSa (s_iload rfl dJ38_siftDownComparable_48) (
  aSa (s_aald rfl dJ38_siftDownComparable_50) (
  aSa (s_callV (List.forall_mem_cons.mpr ⟨d_F (x := ⟨"java/lang/Comparable", "compareTo", "(Ljava/lang/Object;)I"⟩) rfl rfl (aL1 q1535 (aL1 q1579 (aL1 q1581 (aL1 q129 aL0)))) q1583 q1537 q1536 q1582 q1580 q1578 (by decide +kernel) (by decide) rfl dJ38_siftDownComparable_51, List.forall_mem_cons.mpr ⟨d_F (x := ⟨"java/lang/Comparable", "compareTo", "(Ljava/lang/Object;)I"⟩) rfl rfl (aL1 q1535 (aL1 q1553 (aL1 q1555 (aL1 q152 aL0)))) q1557 q1537 q1536 q1556 q1554 q1552 (by decide +kernel) (by decide) rfl dJ38_siftDownComparable_51, List.forall_mem_cons.mpr ⟨d_F (x := ⟨"java/lang/Comparable", "compareTo", "(Ljava/lang/Object;)I"⟩) rfl rfl (aL1 q1535 (aL1 q1539 (aL1 q1541 (aL1 q160 aL0)))) q1543 q1537 q1536 q1542 q1540 q1538 (by decide +kernel) (by decide) rfl dJ38_siftDownComparable_51, List.forall_mem_cons.mpr ⟨d_F (x := ⟨"java/lang/Comparable", "compareTo", "(Ljava/lang/Object;)I"⟩) rfl rfl (aL1 q1535 (aL1 q1579 (aL1 q1581 (aL1 q129 aL0)))) q1583 q1537 q1536 q1582 q1580 q1578 (by decide +kernel) (by decide) rfl dJ38_siftDownComparable_51, fun _ h => absurd h List.not_mem_nil⟩⟩⟩⟩) aHS0) (
  aSa (s_ifle (by decide) rfl dJ38_siftDownComparable_56) (
  aSa (s_aload_n rfl rfl dJ38_siftDownComparable_59) (
  aSa (s_iload rfl dJ38_siftDownComparable_60) (
  aSa (s_dup rfl dJ38_siftDownComparable_62) (
  aSa (s_istore (by decide) rfl dJ38_siftDownComparable_63) (
  aSa (s_aald rfl dJ38_siftDownComparable_65) (
  aSa (s_astore (by decide) rfl dJ38_siftDownComparable_66) (
  aSa (s_aload rfl dJ38_siftDownComparable_68) (
  aSa (s_aload rfl dJ38_siftDownComparable_70) (
  aSa (s_callV (List.forall_mem_cons.mpr ⟨d_F (x := ⟨"java/lang/Comparable", "compareTo", "(Ljava/lang/Object;)I"⟩) rfl rfl (aL1 q1535 (aL1 q1579 (aL1 q1581 (aL1 q129 aL0)))) q1583 q1537 q1536 q1582 q1580 q1578 (by decide +kernel) (by decide) rfl dJ38_siftDownComparable_72, List.forall_mem_cons.mpr ⟨d_F (x := ⟨"java/lang/Comparable", "compareTo", "(Ljava/lang/Object;)I"⟩) rfl rfl (aL1 q1535 (aL1 q1553 (aL1 q1555 (aL1 q152 aL0)))) q1557 q1537 q1536 q1556 q1554 q1552 (by decide +kernel) (by decide) rfl dJ38_siftDownComparable_72, List.forall_mem_cons.mpr ⟨d_F (x := ⟨"java/lang/Comparable", "compareTo", "(Ljava/lang/Object;)I"⟩) rfl rfl (aL1 q1535 (aL1 q1539 (aL1 q1541 (aL1 q160 aL0)))) q1543 q1537 q1536 q1542 q1540 q1538 (by decide +kernel) (by decide) rfl dJ38_siftDownComparable_72, List.forall_mem_cons.mpr ⟨d_F (x := ⟨"java/lang/Comparable", "compareTo", "(Ljava/lang/Object;)I"⟩) rfl rfl (aL1 q1535 (aL1 q1579 (aL1 q1581 (aL1 q129 aL0)))) q1583 q1537 q1536 q1582 q1580 q1578 (by decide +kernel) (by decide) rfl dJ38_siftDownComparable_72, fun _ h => absurd h List.not_mem_nil⟩⟩⟩⟩) aHS0) (
  aSa (s_ifgt (by decide) rfl dJ38_siftDownComparable_77) (
  aSa (s_goto (n := 0) (by decide) dJ38_siftDownComparable_80) (
  aSa (s_aload_n rfl rfl dJ38_siftDownComparable_83) (
  aSa (s_iload_n rfl rfl dJ38_siftDownComparable_84) (
  aSa (s_aload rfl dJ38_siftDownComparable_85) (
  aSa (s_aast rfl dJ38_siftDownComparable_87) (
  aSa (s_iload rfl dJ38_siftDownComparable_88) (
  aSa (s_istore_n rfl (by decide) rfl dJ38_siftDownComparable_90) (
  aSa (s_goto (n := 0) (by decide) dJ38_siftDownComparable_91) (
  aSa (s_aload_n rfl rfl dJ38_siftDownComparable_94) (
  aSa (s_iload_n rfl rfl dJ38_siftDownComparable_95) (
  aSa (s_aload rfl dJ38_siftDownComparable_96) (
  aSa (s_aast rfl dJ38_siftDownComparable_98) (
  aSa (s_ret (n := 0) rfl dJ38_siftDownComparable_99) (
  aSn)))))))))))))))))))))))))))))))))))))))))))))))))))))))))
theorem sn94 : SndL "java/util/PriorityQueue" "siftUp" cJ38_siftUp 3 (Option.none : Option Jvm.ClassFile.FieldType) [] T94 := aSa (s_aload_n rfl rfl dJ38_siftUp_0) (
  aSa (s_getf (T := TJ38) rfl (by decide) (by decide) in_J38 q1456 (Or.inl rfl) rfl dJ38_siftUp_1) (
  aSa (s_ifnull (by decide) rfl dJ38_siftUp_4) (
  aSa (s_iload_n rfl rfl dJ38_siftUp_7) (
  aSa (s_aload_n rfl rfl dJ38_siftUp_8) (
  aSa (s_aload_n rfl rfl dJ38_siftUp_9) (
  aSa (s_getf (T := TJ38) rfl (by decide) (by decide) in_J38 q1453 (Or.inl rfl) rfl dJ38_siftUp_10) (
  aSa (s_aload_n rfl rfl dJ38_siftUp_13) (
  aSa (s_getf (T := TJ38) rfl (by decide) (by decide) in_J38 q1456 (Or.inl rfl) rfl dJ38_siftUp_14) (
  aSa (s_goto (n := 0) (by decide) dJ38_siftUp_20) (
  aSa (s_iload_n rfl rfl dJ38_siftUp_23) (
  aSa (s_aload_n rfl rfl dJ38_siftUp_24) (
  aSa (s_aload_n rfl rfl dJ38_siftUp_25) (
  aSa (s_getf (T := TJ38) rfl (by decide) (by decide) in_J38 q1453 (Or.inl rfl) rfl dJ38_siftUp_26) (
  aSa (s_callS rfl q1530 q1531 q151 q1532 (by decide +kernel) (by decide) aHS0 rfl dJ38_siftUp_29) (
  aSa (s_ret (n := 0) rfl dJ38_siftUp_32) (
  aSn))))))))))))))))
theorem sn95 : SndL "java/util/PriorityQueue" "siftUpComparable" cJ38_siftUpComparable 6 (Option.none : Option Jvm.ClassFile.FieldType) [] T95 := aSa (s_aload_n rfl rfl dJ38_siftUpComparable_0) (
  aSa (s_cast q1533 (List.forall_mem_cons.mpr ⟨⟨_, rfl, (Or.inr q1578)⟩, List.forall_mem_cons.mpr ⟨⟨_, rfl, (Or.inr q1567)⟩, List.forall_mem_cons.mpr ⟨⟨_, rfl, (Or.inr q1589)⟩, List.forall_mem_cons.mpr ⟨⟨_, rfl, (Or.inr q1538)⟩, List.forall_mem_cons.mpr ⟨⟨_, rfl, (Or.inr q1552)⟩, List.forall_mem_cons.mpr ⟨⟨_, rfl, (Or.inr q1578)⟩, List.forall_mem_cons.mpr ⟨⟨_, rfl, (Or.inr q1567)⟩, List.forall_mem_cons.mpr ⟨⟨_, rfl, (Or.inr q1589)⟩, fun _ h => absurd h List.not_mem_nil⟩⟩⟩⟩⟩⟩⟩⟩) (fun t h => absurd h List.not_mem_nil) rfl dJ38_siftUpComparable_1) (
  aSa (s_astore_n rfl (by decide) rfl dJ38_siftUpComparable_4) (
  aSa (s_iload_n rfl rfl dJ38_siftUpComparable_5) (
  aSa (s_ifle (by decide) rfl dJ38_siftUpComparable_6) (
  aSa (s_iload_n rfl rfl dJ38_siftUpComparable_9) (
  aSa (s_iconst (v0 := 1) (by decide) rfl dJ38_siftUpComparable_10) (
  aSa (s_isub rfl dJ38_siftUpComparable_11) (
  aSa (s_iconst (v0 := 1) (by decide) rfl dJ38_siftUpComparable_12) (
  aSa (s_iushr rfl dJ38_siftUpComparable_13) (
  aSa (s_istore (by decide) rfl dJ38_siftUpComparable_14) (
  aSa (s_aload_n rfl rfl dJ38_siftUpComparable_16) (
  aSa (s_iload rfl dJ38_siftUpComparable_17) (
  aSa (s_aald rfl dJ38_siftUpComparable_19) (
  aSa (s_astore (by decide) rfl dJ38_siftUpComparable_20) (
  aSa (s_aload_n rfl rfl dJ38_siftUpComparable_22) (
  aSa (s_aload rfl dJ38_siftUpComparable_23) (
  aSa (s_callV (List.forall_mem_cons.mpr ⟨d_F (x := ⟨"java/lang/Comparable", "compareTo", "(Ljava/lang/Object;)I"⟩) rfl rfl (aL1 q1535 (aL1 q1579 (aL1 q1581 (aL1 q129 aL0)))) q1583 q1537 q1536 q1582 q1580 q1578 (by decide +kernel) (by decide) rfl dJ38_siftUpComparable_25, List.forall_mem_cons.mpr ⟨d_F (x := ⟨"java/lang/Comparable", "compareTo", "(Ljava/lang/Object;)I"⟩) rfl rfl (aL1 q1535 (aL1 q1553 (aL1 q1555 (aL1 q152 aL0)))) q1557 q1537 q1536 q1556 q1554 q1552 (by decide +kernel) (by decide) rfl dJ38_siftUpComparable_25, List.forall_mem_cons.mpr ⟨d_F (x := ⟨"java/lang/Comparable", "compareTo", "(Ljava/lang/Object;)I"⟩) rfl rfl (aL1 q1535 (aL1 q1539 (aL1 q1541 (aL1 q160 aL0)))) q1543 q1537 q1536 q1542 q1540 q1538 (by decide +kernel) (by decide) rfl dJ38_siftUpComparable_25, List.forall_mem_cons.mpr ⟨d_F (x := ⟨"java/lang/Comparable", "compareTo", "(Ljava/lang/Object;)I"⟩) rfl rfl (aL1 q1535 (aL1 q1579 (aL1 q1581 (aL1 q129 aL0)))) q1583 q1537 q1536 q1582 q1580 q1578 (by decide +kernel) (by decide) rfl dJ38_siftUpComparable_25, fun _ h => absurd h List.not_mem_nil⟩⟩⟩⟩) aHS0) (
  aSa (s_iflt (by decide) rfl dJ38_siftUpComparable_30) (
  aSa (s_goto (n := 0) (by decide) dJ38_siftUpComparable_33) (
  aSa (s_aload_n rfl rfl dJ38_siftUpComparable_36) (
  aSa (s_iload_n rfl rfl dJ38_siftUpComparable_37) (
  aSa (s_aload rfl dJ38_siftUpComparable_38) (
  aSa (s_aast rfl dJ38_siftUpComparable_40) (
  aSa (s_iload rfl dJ38_siftUpComparable_41) (
  aSa (s_istore_n rfl (by decide) rfl dJ38_siftUpComparable_43) (
  aSa (s_goto (n := 0) (by decide) dJ38_siftUpComparable_44) (
  aSa (s_aload_n rfl rfl dJ38_siftUpComparable_47) (
  aSa (s_iload_n rfl rfl dJ38_siftUpComparable_48) (
  aSa (s_aload_n rfl rfl dJ38_siftUpComparable_49) (
  aSa (s_aast rfl dJ38_siftUpComparable_50) (
  aSa (s_ret (n := 0) rfl dJ38_siftUpComparable_51) (
  aSn))))))))))))))))))))))))))))))))
theorem sn96 : SndL "java/util/PriorityQueue" "size" cJ38_size 1 (Option.some Jvm.ClassFile.FieldType.int) [] T96 := aSa (s_aload_n rfl rfl dJ38_size_0) (
  aSa (s_getf (T := TJ38) rfl (by decide) (by decide) in_J38 q1455 (Or.inl rfl) rfl dJ38_size_1) (
  aSa (s_iret (n := 0) rfl dJ38_size_4) (
  aSn)))
theorem sn97 : SndL "java/util/TreeMap" "<init>" cJ28_init 1 (Option.none : Option Jvm.ClassFile.FieldType) [] T97 := aSa (s_aload_n rfl rfl dJ28_init_0) (
  aSa (s_callI rfl q1759 q1760 q138 q1761 (by decide +kernel) (by decide) rfl aHS0 rfl dJ28_init_1) (
  aSa (s_aload_n rfl rfl dJ28_init_4) (
  aSa (s_iconst (v0 := 0) (by decide) rfl dJ28_init_5) (
  aSa (s_putf (T := TJ28) (ty0 := tyJ28) tyJ28_ok nmJ28 rfl (by decide) (by decide) in_J28 q1765 (Or.inl rfl) rfl rfl rfl dJ28_init_6) (
  aSa (s_aload_n rfl rfl dJ28_init_9) (
  aSa (s_iconst (v0 := 0) (by decide) rfl dJ28_init_10) (
  aSa (s_putf (T := TJ28) (ty0 := tyJ28) tyJ28_ok nmJ28 rfl (by decide) (by decide) in_J28 q1767 (Or.inl rfl) rfl rfl rfl dJ28_init_11) (
  aSa (s_aload_n rfl rfl dJ28_init_14) (
  aSa (s_null rfl dJ28_init_15) (
  aSa (s_putfF (T := TJ28) (ty0 := tyJ28) tyJ28_ok nmJ28 rfl (by decide) (by decide) in_J28 q1763 (Or.inl rfl) rfl rfl rfl rfl rfl dJ28_init_16) (
  aSa (s_ret (n := 0) rfl dJ28_init_19) (
  aSn))))))))))))
theorem sn98 : SndL "java/util/TreeMap" "addEntry" cJ28_addEntry 6 (Option.none : Option Jvm.ClassFile.FieldType) [] T98 := aSa (s_new (T := TJ39) (ty0 := tyJ39) tyJ39_ok rfl (by decide) in_J39 q1827 q1828 q154 (by decide) rfl dJ28_addEntry_0) (
  aSa (s_dup rfl dJ28_addEntry_3) (
  aSa (s_aload_n rfl rfl dJ28_addEntry_4) (
  aSa (s_aload_n rfl rfl dJ28_addEntry_5) (
  aSa (s_aload_n rfl rfl dJ28_addEntry_6) (
  aSa (s_callI rfl q1829 q1830 q154 q1831 (by decide +kernel) (by decide) rfl aHS0 rfl dJ28_addEntry_7) (
  aSa (s_astore (by decide) rfl dJ28_addEntry_10) (
  aSa (s_iload rfl dJ28_addEntry_12) (
  aSa (s_ifeq (by decide) rfl dJ28_addEntry_14) (
  aSa (s_aload_n rfl rfl dJ28_addEntry_17) (
  aSa (s_aload rfl dJ28_addEntry_18) (
  aSa (s_putf (T := TJ39) (ty0 := tyJ39) tyJ39_ok nmJ39 rfl (by decide) (by decide) in_J39 q1838 (Or.inl rfl) rfl rfl rfl dJ28_addEntry_20) (
  aSa (s_goto (n := 0) (by decide) dJ28_addEntry_23) (
  aSa (s_aload_n rfl rfl dJ28_addEntry_26) (
  aSa (s_aload rfl dJ28_addEntry_27) (
  aSa (s_putf (T := TJ39) (ty0 := tyJ39) tyJ39_ok nmJ39 rfl (by decide) (by decide) in_J39 q1839 (Or.inl rfl) rfl rfl rfl dJ28_addEntry_29) (
  aSa (s_aload_n rfl rfl dJ28_addEntry_32) (
  aSa (s_aload rfl dJ28_addEntry_33) (
  aSa (s_callV (List.forall_mem_cons.mpr ⟨d_V rfl rfl q1864 q1866 qs33 q139 q1867 rfl (by decide +kernel) (by decide) rfl dJ28_addEntry_35, fun _ h => absurd h List.not_mem_nil⟩) aHS0) (
  aSa (s_aload_n rfl rfl dJ28_addEntry_38) (
  aSa (s_dup rfl dJ28_addEntry_39) (
  aSa (s_getf (T := TJ28) rfl (by decide) (by decide) in_J28 q1765 (Or.inl rfl) rfl dJ28_addEntry_40) (
  aSa (s_iconst (v0 := 1) (by decide) rfl dJ28_addEntry_43) (
  aSa (s_iadd rfl dJ28_addEntry_44) (
  aSa (s_putf (T := TJ28) (ty0 := tyJ28) tyJ28_ok nmJ28 rfl (by decide) (by decide) in_J28 q1765 (Or.inl rfl) rfl rfl rfl dJ28_addEntry_45) (
  aSa (s_aload_n rfl rfl dJ28_addEntry_48) (
  aSa (s_dup rfl dJ28_addEntry_49) (
  aSa (s_getf (T := TJ28) rfl (by decide) (by decide) in_J28 q1767 (Or.inl rfl) rfl dJ28_addEntry_50) (
  aSa (s_iconst (v0 := 1) (by decide) rfl dJ28_addEntry_53) (
  aSa (s_iadd rfl dJ28_addEntry_54) (
  aSa (s_putf (T := TJ28) (ty0 := tyJ28) tyJ28_ok nmJ28 rfl (by decide) (by decide) in_J28 q1767 (Or.inl rfl) rfl rfl rfl dJ28_addEntry_55) (
  aSa (s_ret (n := 0) rfl dJ28_addEntry_58) (
  aSn))))))))))))))))))))))))))))))))
theorem sn99 : SndL "java/util/TreeMap" "addEntryToEmptyMap" cJ28_addEntryToEmptyMap 3 (Option.none : Option Jvm.ClassFile.FieldType) [] T99 := aSa (s_aload_n rfl rfl dJ28_addEntryToEmptyMap_0) (
  aSa (s_aload_n rfl rfl dJ28_addEntryToEmptyMap_1) (
  aSa (s_aload_n rfl rfl dJ28_addEntryToEmptyMap_2) (
  aSa (s_callV (List.forall_mem_cons.mpr ⟨d_V rfl rfl q1818 q1819 q1820 q139 q1821 rfl (by decide +kernel) (by decide) rfl dJ28_addEntryToEmptyMap_3, fun _ h => absurd h List.not_mem_nil⟩) aHS0) (
  aSa (s_pop rfl dJ28_addEntryToEmptyMap_6) (
  aSa (s_aload_n rfl rfl dJ28_addEntryToEmptyMap_7) (
  aSa (s_new (T := TJ39) (ty0 := tyJ39) tyJ39_ok rfl (by decide) in_J39 q1827 q1828 q154 (by decide) rfl dJ28_addEntryToEmptyMap_8) (
  aSa (s_dup rfl dJ28_addEntryToEmptyMap_11) (
  aSa (s_aload_n rfl rfl dJ28_addEntryToEmptyMap_12) (
  aSa (s_aload_n rfl rfl dJ28_addEntryToEmptyMap_13) (
  aSa (s_null rfl dJ28_addEntryToEmptyMap_14) (
  aSa (s_callI rfl q1829 q1830 q154 q1831 (by decide +kernel) (by decide) rfl aHS0 rfl dJ28_addEntryToEmptyMap_15) (
  aSa (s_putf (T := TJ28) (ty0 := tyJ28) tyJ28_ok nmJ28 rfl (by decide) (by decide) in_J28 q1764 (Or.inl rfl) rfl rfl rfl dJ28_addEntryToEmptyMap_18) (
  aSa (s_aload_n rfl rfl dJ28_addEntryToEmptyMap_21) (
  aSa (s_iconst (v0 := 1) (by decide) rfl dJ28_addEntryToEmptyMap_22) (
  aSa (s_putf (T := TJ28) (ty0 := tyJ28) tyJ28_ok nmJ28 rfl (by decide) (by decide) in_J28 q1765 (Or.inl rfl) rfl rfl rfl dJ28_addEntryToEmptyMap_23) (
  aSa (s_aload_n rfl rfl dJ28_addEntryToEmptyMap_26) (
  aSa (s_dup rfl dJ28_addEntryToEmptyMap_27) (
  aSa (s_getf (T := TJ28) rfl (by decide) (by decide) in_J28 q1767 (Or.inl rfl) rfl dJ28_addEntryToEmptyMap_28) (
  aSa (s_iconst (v0 := 1) (by decide) rfl dJ28_addEntryToEmptyMap_31) (
  aSa (s_iadd rfl dJ28_addEntryToEmptyMap_32) (
  aSa (s_putf (T := TJ28) (ty0 := tyJ28) tyJ28_ok nmJ28 rfl (by decide) (by decide) in_J28 q1767 (Or.inl rfl) rfl rfl rfl dJ28_addEntryToEmptyMap_33) (
  aSa (s_ret (n := 0) rfl dJ28_addEntryToEmptyMap_36) (
  aSn)))))))))))))))))))))))
theorem sn100 : SndL "java/util/TreeMap" "colorOf" cJ28_colorOf 1 (Option.some Jvm.ClassFile.FieldType.boolean) [] T100 := aSa (s_aload_n rfl rfl dJ28_colorOf_0) (
  aSa (s_ifnonnull (by decide) rfl dJ28_colorOf_1) (
  aSa (s_iconst (v0 := 1) (by decide) rfl dJ28_colorOf_4) (
  aSa (s_goto (n := 0) (by decide) dJ28_colorOf_5) (
  aSa (s_aload_n rfl rfl dJ28_colorOf_8) (
  aSa (s_getf (T := TJ39) rfl (by decide) (by decide) in_J39 q1843 (Or.inl rfl) rfl dJ28_colorOf_9) (
  aSa (s_iret (n := 0) rfl dJ28_colorOf_12) (
  aSn)))))))
theorem sn101 : SndL "java/util/TreeMap" "compare" cJ28_compare 3 (Option.some Jvm.ClassFile.FieldType.int) [] T101 := aSa (s_aload_n rfl rfl dJ28_compare_0) (
  aSa (s_getf (T := TJ28) rfl (by decide) (by decide) in_J28 q1763 (Or.inl rfl) rfl dJ28_compare_1) (
  aSa (s_ifnonnull (by decide) rfl dJ28_compare_4) (
  aSa (s_aload_n rfl rfl dJ28_compare_7) (
  aSa (s_cast q1822 (List.forall_mem_cons.mpr ⟨⟨_, rfl, (Or.inr q1578)⟩, List.forall_mem_cons.mpr ⟨⟨_, rfl, (Or.inr q1567)⟩, List.forall_mem_cons.mpr ⟨⟨_, rfl, (Or.inr q1589)⟩, List.forall_mem_cons.mpr ⟨⟨_, rfl, (Or.inr q1538)⟩, List.forall_mem_cons.mpr ⟨⟨_, rfl, (Or.inr q1552)⟩, List.forall_mem_cons.mpr ⟨⟨_, rfl, (Or.inr q1578)⟩, List.forall_mem_cons.mpr ⟨⟨_, rfl, (Or.inr q1567)⟩, List.forall_mem_cons.mpr ⟨⟨_, rfl, (Or.inr q1589)⟩, fun _ h => absurd h List.not_mem_nil⟩⟩⟩⟩⟩⟩⟩⟩) (fun t h => absurd h List.not_mem_nil) rfl dJ28_compare_8) (
  aSa (s_aload_n rfl rfl dJ28_compare_11) (
  aSa (s_callV (List.forall_mem_cons.mpr ⟨d_F (x := ⟨"java/lang/Comparable", "compareTo", "(Ljava/lang/Object;)I"⟩) rfl rfl (aL1 q1824 (aL1 q1579 (aL1 q1581 (aL1 q129 aL0)))) q1583 q1537 q1536 q1582 q1580 q1578 (by decide +kernel) (by decide) rfl dJ28_compare_12, List.forall_mem_cons.mpr ⟨d_F (x := ⟨"java/lang/Comparable", "compareTo", "(Ljava/lang/Object;)I"⟩) rfl rfl (aL1 q1824 (aL1 q1553 (aL1 q1555 (aL1 q152 aL0)))) q1557 q1537 q1536 q1556 q1554 q1552 (by decide +kernel) (by decide) rfl dJ28_compare_12, List.forall_mem_cons.mpr ⟨d_F (x := ⟨"java/lang/Comparable", "compareTo", "(Ljava/lang/Object;)I"⟩) rfl rfl (aL1 q1824 (aL1 q1539 (aL1 q1541 (aL1 q160 aL0)))) q1543 q1537 q1536 q1542 q1540 q1538 (by decide +kernel) (by decide) rfl dJ28_compare_12, List.forall_mem_cons.mpr ⟨d_F (x := ⟨"java/lang/Comparable", "compareTo", "(Ljava/lang/Object;)I"⟩) rfl rfl (aL1 q1824 (aL1 q1579 (aL1 q1581 (aL1 q129 aL0)))) q1583 q1537 q1536 q1582 q1580 q1578 (by decide +kernel) (by decide) rfl dJ28_compare_12, fun _ h => absurd h List.not_mem_nil⟩⟩⟩⟩) aHS0) (
  aSa (s_goto (n := 0) (by decide) dJ28_compare_17) (
  aSa (s_aload_n rfl rfl dJ28_compare_20) (
  aSa (s_getf (T := TJ28) rfl (by decide) (by decide) in_J28 q1763 (Or.inl rfl) rfl dJ28_compare_21) (
  aSa (s_aload_n rfl rfl dJ28_compare_24) (
  aSa (s_aload_n rfl rfl dJ28_compare_25) (
  aSa (s_iret (n := 0) rfl dJ28_compare_31) (
  aSn)))))))))))))
theorem sn102 : SndL "java/util/TreeMap" "containsKey" cJ28_containsKey 2 (Option.some Jvm.ClassFile.FieldType.boolean) [] T102 := aSa (s_aload_n rfl rfl dJ28_containsKey_0) (
  aSa (s_aload_n rfl rfl dJ28_containsKey_1) (
  aSa (s_callV (List.forall_mem_cons.mpr ⟨d_V rfl rfl q1898 q1899 q1900 q139 q1901 rfl (by decide +kernel) (by decide) rfl dJ28_containsKey_2, fun _ h => absurd h List.not_mem_nil⟩) aHS0) (
  aSa (s_ifnull (by decide) rfl dJ28_containsKey_5) (
  aSa (s_iconst (v0 := 1) (by decide) rfl dJ28_containsKey_8) (
  aSa (s_goto (n := 0) (by decide) dJ28_containsKey_9) (
  aSa (s_iconst (v0 := 0) (by decide) rfl dJ28_containsKey_12) (
  aSa (s_iret (n := 0) rfl dJ28_containsKey_13) (
  aSn))))))))
theorem sn103 : SndL "java/util/TreeMap" "fixAfterInsertion" cJ28_fixAfterInsertion 3 (Option.none : Option Jvm.ClassFile.FieldType) [] T103 := aSa (s_aload_n rfl rfl dJ28_fixAfterInsertion_0) (
  aSa (s_iconst (v0 := 0) (by decide) rfl dJ28_fixAfterInsertion_1) (
  aSa (s_putf (T := TJ39) (ty0 := tyJ39) tyJ39_ok nmJ39 rfl (by decide) (by decide) in_J39 q1843 (Or.inl rfl) rfl rfl rfl dJ28_fixAfterInsertion_2) (
  aSa (s_aload_n rfl rfl dJ28_fixAfterInsertion_5) (
  aSa (s_ifnull (by decide) rfl dJ28_fixAfterInsertion_6) (
  aSa (s_aload_n rfl rfl dJ28_fixAfterInsertion_9) (
  aSa (s_aload_n rfl rfl dJ28_fixAfterInsertion_10) (
  aSa (s_getf (T := TJ28) rfl (by decide) (by decide) in_J28 q1764 (Or.inl rfl) rfl dJ28_fixAfterInsertion_11) (
  aSa (s_aceq (by decide) rfl dJ28_fixAfterInsertion_14) (
  aSa (s_aload_n rfl rfl dJ28_fixAfterInsertion_17) (
  aSa (s_getf (T := TJ39) rfl (by decide) (by decide) in_J39 q1841 (Or.inl rfl) rfl dJ28_fixAfterInsertion_18) (
  aSa (s_getf (T := TJ39) rfl (by decide) (by decide) in_J39 q1843 (Or.inl rfl) rfl dJ28_fixAfterInsertion_21) (
  aSa (s_ifne (by decide) rfl dJ28_fixAfterInsertion_24) (
  aSa (s_aload_n rfl rfl dJ28_fixAfterInsertion_27) (
  aSa (s_callS rfl q1868 q1869 q139 q1870 (by decide +kernel) (by decide) aHS0 rfl dJ28_fixAfterInsertion_28) (
  aSa (s_aload_n rfl rfl dJ28_fixAfterInsertion_31) (
  aSa (s_callS rfl q1868 q1869 q139 q1870 (by decide +kernel) (by decide) aHS0 rfl dJ28_fixAfterInsertion_32) (
  aSa (s_callS rfl q1868 q1869 q139 q1870 (by decide +kernel) (by decide) aHS0 rfl dJ28_fixAfterInsertion_35) (
  aSa (s_callS rfl q1871 q1872 q139 q1873 (by decide +kernel) (by decide) aHS0 rfl dJ28_fixAfterInsertion_38) (
  aSa (s_acne (by decide) rfl dJ28_fixAfterInsertion_41) (
  aSa (s_aload_n rfl rfl dJ28_fixAfterInsertion_44) (
  aSa (s_callS rfl q1868 q1869 q139 q1870 (by decide +kernel) (by decide) aHS0 rfl dJ28_fixAfterInsertion_45) (
  aSa (s_callS rfl q1868 q1869 q139 q1870 (by decide +kernel) (by decide) aHS0 rfl dJ28_fixAfterInsertion_48) (
  aSa (s_callS rfl q1874 q1875 q139 q1876 (by decide +kernel) (by decide) aHS0 rfl dJ28_fixAfterInsertion_51) (
  aSa (s_astore_n rfl (by decide) rfl dJ28_fixAfterInsertion_54) (
  aSa (s_aload_n rfl rfl dJ28_fixAfterInsertion_55) (
  aSa (s_callS rfl q1877 q1878 q139 q1879 (by decide +kernel) (by decide) aHS0 rfl dJ28_fixAfterInsertion_56) (
  aSa (s_ifne (by decide) rfl dJ28_fixAfterInsertion_59) (
  aSa (s_aload_n rfl rfl dJ28_fixAfterInsertion_62) (
  aSa (s_callS rfl q1868 q1869 q139 q1870 (by decide +kernel) (by decide) aHS0 rfl dJ28_fixAfterInsertion_63) (
  aSa (s_iconst (v0 := 1) (by decide) rfl dJ28_fixAfterInsertion_66) (
  aSa (s_callS rfl q1880 q1881 q139 q1882 (by decide +kernel) (by decide) aHS0 rfl dJ28_fixAfterInsertion_67) (
  aSa (s_aload_n rfl rfl dJ28_fixAfterInsertion_70) (
  aSa (s_iconst (v0 := 1) (by decide) rfl dJ28_fixAfterInsertion_71) (
  aSa (s_callS rfl q1880 q1881 q139 q1882 (by decide +kernel) (by decide) aHS0 rfl dJ28_fixAfterInsertion_72) (
  aSa (s_aload_n rfl rfl dJ28_fixAfterInsertion_75) (
  aSa (s_callS rfl q1868 q1869 q139 q1870 (by decide +kernel) (by decide) aHS0 rfl dJ28_fixAfterInsertion_76) (
  aSa (s_callS rfl q1868 q1869 q139 q1870 (by decide +kernel) (by decide) aHS0 rfl dJ28_fixAfterInsertion_79) (
  aSa (s_iconst (v0 := 0) (by decide) rfl dJ28_fixAfterInsertion_82) (
  aSa (s_callS rfl q1880 q1881 q139 q1882 (by decide +kernel) (by decide) aHS0 rfl dJ28_fixAfterInsertion_83) (
  aSa (s_aload_n rfl rfl dJ28_fixAfterInsertion_86) (
  aSa (s_callS rfl q1868 q1869 q139 q1870 (by decide +kernel) (by decide) aHS0 rfl dJ28_fixAfterInsertion_87) (
  aSa (s_callS rfl q1868 q1869 q139 q1870 (by decide +kernel) (by decide) aHS0 rfl dJ28_fixAfterInsertion_90) (
  aSa (s_astore_n rfl (by decide) rfl dJ28_fixAfterInsertion_93) (
  aSa (s_goto (n := 0) (by decide) dJ28_fixAfterInsertion_94) (
  aSa (s_aload_n rfl rfl dJ28_fixAfterInsertion_97) (
  aSa (s_aload_n rfl rfl dJ28_fixAfterInsertion_98) (
  aSa (s_callS rfl q1868 q1869 q139 q1870 (by decide +kernel) (by decide) aHS0 rfl dJ28_fixAfterInsertion_99) (
  aSa (s_callS rfl q1874 q1875 q139 q1876 (by decide +kernel) (by decide) aHS0 rfl dJ28_fixAfterInsertion_102) (
  aSa (s_acne (by decide) rfl dJ28_fixAfterInsertion_105) (
  aSa (s_aload_n rfl rfl dJ28_fixAfterInsertion_108) (
  aSa (s_callS rfl q1868 q1869 q139 q1870 (by decide +kernel) (by decide) aHS0 rfl dJ28_fixAfterInsertion_109) (
  aSa (s_astore_n rfl (by decide) rfl dJ28_fixAfterInsertion_112) (
  aSa (s_aload_n rfl rfl dJ28_fixAfterInsertion_113) (
  aSa (s_aload_n rfl rfl dJ28_fixAfterInsertion_114) (
  aSa (s_callV (List.forall_mem_cons.mpr ⟨d_V rfl rfl q1883 q1885 qs34 q139 q1886 rfl (by decide +kernel) (by decide) rfl dJ28_fixAfterInsertion_115, fun _ h => absurd h List.not_mem_nil⟩) aHS0) (
  aSa (s_aload_n rfl rfl dJ28_fixAfterInsertion_118) (
  aSa (s_callS rfl q1868 q1869 q139 q1870 (by decide +kernel) (by decide) aHS0 rfl dJ28_fixAfterInsertion_119) (
  aSa (s_iconst (v0 := 1) (by decide) rfl dJ28_fixAfterInsertion_122) (
  aSa (s_callS rfl q1880 q1881 q139 q1882 (by decide +kernel) (by decide) aHS0 rfl dJ28_fixAfterInsertion_123) (
  aSa (s_aload_n rfl rfl dJ28_fixAfterInsertion_126) (
  aSa (s_callS rfl q1868 q1869 q139 q1870 (by decide +kernel) (by decide) aHS0 rfl dJ28_fixAfterInsertion_127) (
  aSa (s_callS rfl q1868 q1869 q139 q1870 (by decide +kernel) (by decide) aHS0 rfl dJ28_fixAfterInsertion_130) (
  aSa (s_iconst (v0 := 0) (by decide) rfl dJ28_fixAfterInsertion_133) (
  aSa (s_callS rfl q1880 q1881 q139 q1882 (by decide +kernel) (by decide) aHS0 rfl dJ28_fixAfterInsertion_134) (
  aSa (s_aload_n rfl rfl dJ28_fixAfterInsertion_137) (
  aSa (s_aload_n rfl rfl dJ28_fixAfterInsertion_138) (
  aSa (s_callS rfl q1868 q1869 q139 q1870 (by decide +kernel) (by decide) aHS0 rfl dJ28_fixAfterInsertion_139) (
  aSa (s_callS rfl q1868 q1869 q139 q1870 (by decide +kernel) (by decide) aHS0 rfl dJ28_fixAfterInsertion_142) (
  aSa (s_callV (List.forall_mem_cons.mpr ⟨d_V rfl rfl q1887 q1889 qs35 q139 q1890 rfl (by decide +kernel) (by decide) rfl dJ28_fixAfterInsertion_145, fun _ h => absurd h List.not_mem_nil⟩) aHS0) (
  aSa (s_goto (n := 0) (by decide) dJ28_fixAfterInsertion_148) (
  aSa (s_aload_n rfl rfl dJ28_fixAfterInsertion_151) (
  aSa (s_callS rfl q1868 q1869 q139 q1870 (by decide +kernel) (by decide) aHS0 rfl dJ28_fixAfterInsertion_152) (
  aSa (s_callS rfl q1868 q1869 q139 q1870 (by decide +kernel) (by decide) aHS0 rfl dJ28_fixAfterInsertion_155) (
  aSa (s_callS rfl q1871 q1872 q139 q1873 (by decide +kernel) (by decide) aHS0 rfl dJ28_fixAfterInsertion_158) (
  aSa (s_astore_n rfl (by decide) rfl dJ28_fixAfterInsertion_161) (
  aSa (s_aload_n rfl rfl dJ28_fixAfterInsertion_162) (
  aSa (s_callS rfl q1877 q1878 q139 q1879 (by decide +kernel) (by decide) aHS0 rfl dJ28_fixAfterInsertion_163) (
  aSa (s_ifne (by decide) rfl dJ28_fixAfterInsertion_166) (
  aSa (s_aload_n rfl rfl dJ28_fixAfterInsertion_169) (
  aSa (s_callS rfl q1868 q1869 q139 q1870 (by decide +kernel) (by decide) aHS0 rfl dJ28_fixAfterInsertion_170) (
  aSa (s_iconst (v0 := 1) (by decide) rfl dJ28_fixAfterInsertion_173) (
  aSa (s_callS rfl q1880 q1881 q139 q1882 (by decide +kernel) (by decide) aHS0 rfl dJ28_fixAfterInsertion_174) (
  aSa (s_aload_n rfl rfl dJ28_fixAfterInsertion_177) (
  aSa (s_iconst (v0 := 1) (by decide) rfl dJ28_fixAfterInsertion_178) (
  aSa (s_callS rfl q1880 q1881 q139 q1882 (by decide +kernel) (by decide) aHS0 rfl dJ28_fixAfterInsertion_179) (
  aSa (s_aload_n rfl rfl dJ28_fixAfterInsertion_182) (
  aSa (s_callS rfl q1868 q1869 q139 q1870 (by decide +kernel) (by decide) aHS0 rfl dJ28_fixAfterInsertion_183) (
  aSa (s_callS rfl q1868 q1869 q139 q1870 (by decide +kernel) (by decide) aHS0 rfl dJ28_fixAfterInsertion_186) (
  aSa (s_iconst (v0 := 0) (by decide) rfl dJ28_fixAfterInsertion_189) (
  aSa (s_callS rfl q1880 q1881 q139 q1882 (by decide +kernel) (by decide) aHS0 rfl dJ28_fixAfterInsertion_190) (
  aSa (s_aload_n rfl rfl dJ28_fixAfterInsertion_193) (
  aSa (s_callS rfl q1868 q1869 q139 q1870 (by decide +kernel) (by decide) aHS0 rfl dJ28_fixAfterInsertion_194) (
  aSa (s_callS rfl q1868 q1869 q139 q1870 (by decide +kernel) (by decide) aHS0 rfl dJ28_fixAfterInsertion_197) (
  aSa (s_astore_n rfl (by decide) rfl dJ28_fixAfterInsertion_200) (
  aSa (s_goto (n := 0) (by decide) dJ28_fixAfterInsertion_201) (
  aSa (s_aload_n rfl rfl dJ28_fixAfterInsertion_204) (
  aSa (s_aload_n rfl rfl dJ28_fixAfterInsertion_205) (
  aSa (s_callS rfl q1868 q1869 q139 q1870 (by decide +kernel) (by decide) aHS0 rfl dJ28_fixAfterInsertion_206) (
  aSa (s_callS rfl q1871 q1872 q139 q1873 (by decide +kernel) (by decide) aHS0 rfl dJ28_fixAfterInsertion_209) (
  aSa (s_acne (by decide) rfl dJ28_fixAfterInsertion_212) (
  aSa (s_aload_n rfl rfl dJ28_fixAfterInsertion_215) (
  aSa (s_callS rfl q1868 q1869 q139 q1870 (by decide +kernel) (by decide) aHS0 rfl dJ28_fixAfterInsertion_216) (
  aSa (s_astore_n rfl (by decide) rfl dJ28_fixAfterInsertion_219) (
  aSa (s_aload_n rfl rfl dJ28_fixAfterInsertion_220) (
  aSa (s_aload_n rfl rfl dJ28_fixAfterInsertion_221) (
  aSa (s_callV (List.forall_mem_cons.mpr ⟨d_V rfl rfl q1887 q1889 qs35 q139 q1890 rfl (by decide +kernel) (by decide) rfl dJ28_fixAfterInsertion_222, fun _ h => absurd h List.not_mem_nil⟩) aHS0) (
  aSa (s_aload_n rfl rfl dJ28_fixAfterInsertion_225) (
  aSa (s_callS rfl q1868 q1869 q139 q1870 (by decide +kernel) (by decide) aHS0 rfl dJ28_fixAfterInsertion_226) (
  aSa (s_iconst (v0 := 1) (by decide) rfl dJ28_fixAfterInsertion_229) (
  aSa (s_callS rfl q1880 q1881 q139 q1882 (by decide +kernel) (by decide) aHS0 rfl dJ28_fixAfterInsertion_230) (
  aSa (s_aload_n rfl rfl dJ28_fixAfterInsertion_233) (
  aSa (s_callS rfl q1868 q1869 q139 q1870 (by decide +kernel) (by decide) aHS0 rfl dJ28_fixAfterInsertion_234) (
  aSa (s_callS rfl q1868 q1869 q139 q1870 (by decide +kernel) (by decide) aHS0 rfl dJ28_fixAfterInsertion_237) (
  aSa (s_iconst (v0 := 0) (by decide) rfl dJ28_fixAfterInsertion_240) (
  aSa (s_callS rfl q1880 q1881 q139 q1882 (by decide +kernel) (by decide) aHS0 rfl dJ28_fixAfterInsertion_241) (
  aSa (s_aload_n rfl rfl dJ28_fixAfterInsertion_244) (
  aSa (s_aload_n rfl rfl dJ28_fixAfterInsertion_245) (
  aSa (s_callS rfl q1868 q1869 q139 q1870 (by decide +kernel) (by decide) aHS0 rfl dJ28_fixAfterInsertion_246) (
  aSa (s_callS rfl q1868 q1869 q139 q1870 (by decide +kernel) (by decide) aHS0 rfl dJ28_fixAfterInsertion_249) (
  aSa (s_callV (List.forall_mem_cons.mpr ⟨d_V rfl rfl q1883 q1885 qs34 q139 q1886 rfl (by decide +kernel) (by decide) rfl dJ28_fixAfterInsertion_252, fun _ h => absurd h List.not_mem_nil⟩) aHS0) (
  aSa (s_goto (n := 0) (by decide) dJ28_fixAfterInsertion_255) (
  aSa (s_aload_n rfl rfl dJ28_fixAfterInsertion_258) (
  aSa (s_getf (T := TJ28) rfl (by decide) (by decide) in_J28 q1764 (Or.inl rfl) rfl dJ28_fixAfterInsertion_259) (
  aSa (s_iconst (v0 := 1) (by decide) rfl dJ28_fixAfterInsertion_262) (
  aSa (s_putf (T := TJ39) (ty0 := tyJ39) tyJ39_ok nmJ39 rfl (by decide) (by decide) in_J39 q1843 (Or.inl rfl) rfl rfl rfl dJ28_fixAfterInsertion_263) (
  aSa (s_ret (n := 0) rfl dJ28_fixAfterInsertion_266) (
  aSn)))))))))))))))))))))))))))))))))))))))))))))))))))))))))))))))))))))))))))))))))))))))))))))))))))))))))))))))))))))))))))))))
theorem sn104 : SndL "java/util/TreeMap" "get" cJ28_get 3 (Option.some (Jvm.ClassFile.FieldType.object "java/lang/Object")) [] T104 := aSa (s_aload_n rfl rfl dJ28_get_0) (
  aSa (s_aload_n rfl rfl dJ28_get_1) (
  aSa (s_callV (List.forall_mem_cons.mpr ⟨d_V rfl rfl q1898 q1899 q1900 q139 q1901 rfl (by decide +kernel) (by decide) rfl dJ28_get_2, fun _ h => absurd h List.not_mem_nil⟩) aHS0) (
  aSa (s_astore_n rfl (by decide) rfl dJ28_get_5) (
  aSa (s_aload_n rfl rfl dJ28_get_6) (
  aSa (s_ifnonnull (by decide) rfl dJ28_get_7) (
  aSa (s_null rfl dJ28_get_10) (
  aSa (s_goto (n := 0) (by decide) dJ28_get_11) (
  aSa (s_aload_n rfl rfl dJ28_get_14) (
  aSa (s_getf (T := TJ39) rfl (by decide) (by decide) in_J39 q1837 (Or.inl rfl) rfl dJ28_get_15) (
  aSa (s_aret (n := 0) rfl (Or.inl ⟨_, rfl⟩) dJ28_get_18) (
  aSn)))))))))))
theorem sn105 : SndL "java/util/TreeMap" "getEntry" cJ28_getEntry 5 (Option.some (Jvm.ClassFile.FieldType.object "java/util/TreeMap$Entry")) [] T105 := aSa (s_aload_n rfl rfl dJ28_getEntry_0) (
  aSa (s_getf (T := TJ28) rfl (by decide) (by decide) in_J28 q1763 (Or.inl rfl) rfl dJ28_getEntry_1) (
  aSa (s_ifnull (by decide) rfl dJ28_getEntry_4) (
  aSa (s_aload_n rfl rfl dJ28_getEntry_7) (
  aSa (s_aload_n rfl rfl dJ28_getEntry_8) (
  aSa (s_aret (n := 0) rfl (Or.inl ⟨_, rfl⟩) dJ28_getEntry_12) (
  aSa (s_aload_n rfl rfl dJ28_getEntry_13) (
  aSa (s_callS rfl q1857 q1858 q126 q1859 (by decide +kernel) (by decide) aHS0 rfl dJ28_getEntry_14) (
  aSa (s_pop rfl dJ28_getEntry_17) (
  aSa (s_aload_n rfl rfl dJ28_getEntry_18) (
  aSa (s_cast q1822 (List.forall_mem_cons.mpr ⟨⟨_, rfl, (Or.inr q1578)⟩, List.forall_mem_cons.mpr ⟨⟨_, rfl, (Or.inr q1567)⟩, List.forall_mem_cons.mpr ⟨⟨_, rfl, (Or.inr q1589)⟩, List.forall_mem_cons.mpr ⟨⟨_, rfl, (Or.inr q1538)⟩, List.forall_mem_cons.mpr ⟨⟨_, rfl, (Or.inr q1552)⟩, List.forall_mem_cons.mpr ⟨⟨_, rfl, (Or.inr q1578)⟩, List.forall_mem_cons.mpr ⟨⟨_, rfl, (Or.inr q1567)⟩, List.forall_mem_cons.mpr ⟨⟨_, rfl, (Or.inr q1589)⟩, fun _ h => absurd h List.not_mem_nil⟩⟩⟩⟩⟩⟩⟩⟩) (fun t h => absurd h List.not_mem_nil) rfl dJ28_getEntry_19) (
  aSa (s_astore_n rfl (by decide) rfl dJ28_getEntry_22) (
  aSa (s_aload_n rfl rfl dJ28_getEntry_23) (
  aSa (s_getf (T := TJ28) rfl (by decide) (by decide) in_J28 q1764 (Or.inl rfl) rfl dJ28_getEntry_24) (
  aSa (s_astore_n rfl (by decide) rfl dJ28_getEntry_27) (
  aSa (s_aload_n rfl rfl dJ28_getEntry_28) (
  aSa (s_ifnull (by decide) rfl dJ28_getEntry_29) (
  aSa (s_aload_n rfl rfl dJ28_getEntry_32) (
  aSa (s_aload_n rfl rfl dJ28_getEntry_33) (
  aSa (s_getf (T := TJ39) rfl (by decide) (by decide) in_J39 q1835 (Or.inl rfl) rfl dJ28_getEntry_34) (
  aSa (s_callV (List.forall_mem_cons.mpr ⟨d_F (x := ⟨"java/lang/Comparable", "compareTo", "(Ljava/lang/Object;)I"⟩) rfl rfl (aL1 q1824 (aL1 q1579 (aL1 q1581 (aL1 q129 aL0)))) q1583 q1537 q1536 q1582 q1580 q1578 (by decide +kernel) (by decide) rfl dJ28_getEntry_37, List.forall_mem_cons.mpr ⟨d_F (x := ⟨"java/lang/Comparable", "compareTo", "(Ljava/lang/Object;)I"⟩) rfl rfl (aL1 q1824 (aL1 q1553 (aL1 q1555 (aL1 q152 aL0)))) q1557 q1537 q1536 q1556 q1554 q1552 (by decide +kernel) (by decide) rfl dJ28_getEntry_37, List.forall_mem_cons.mpr ⟨d_F (x := ⟨"java/lang/Comparable", "compareTo", "(Ljava/lang/Object;)I"⟩) rfl rfl (aL1 q1824 (aL1 q1539 (aL1 q1541 (aL1 q160 aL0)))) q1543 q1537 q1536 q1542 q1540 q1538 (by decide +kernel) (by decide) rfl dJ28_getEntry_37, List.forall_mem_cons.mpr ⟨d_F (x := ⟨"java/lang/Comparable", "compareTo", "(Ljava/lang/Object;)I"⟩) rfl rfl (aL1 q1824 (aL1 q1579 (aL1 q1581 (aL1 q129 aL0)))) q1583 q1537 q1536 q1582 q1580 q1578 (by decide +kernel) (by decide) rfl dJ28_getEntry_37, fun _ h => absurd h List.not_mem_nil⟩⟩⟩⟩) aHS0) (
  aSa (s_istore (by decide) rfl dJ28_getEntry_42) (
  aSa (s_iload rfl dJ28_getEntry_44) (
  aSa (s_ifge (by decide) rfl dJ28_getEntry_46) (
  aSa (s_aload_n rfl rfl dJ28_getEntry_49) (
  aSa (s_getf (T := TJ39) rfl (by decide) (by decide) in_J39 q1838 (Or.inl rfl) rfl dJ28_getEntry_50) (
  aSa (s_astore_n rfl (by decide) rfl dJ28_getEntry_53) (
  aSa (s_goto (n := 0) (by decide) dJ28_getEntry_54) (
  aSa (s_iload rfl dJ28_getEntry_57) (
  aSa (s_ifle (by decide) rfl dJ28_getEntry_59) (
  aSa (s_aload_n rfl rfl dJ28_getEntry_62) (
  aSa (s_getf (T := TJ39) rfl (by decide) (by decide) in_J39 q1839 (Or.inl rfl) rfl dJ28_getEntry_63) (
  aSa (s_astore_n rfl (by decide) rfl dJ28_getEntry_66) (
  aSa (s_goto (n := 0) (by decide) dJ28_getEntry_67) (
  aSa (s_aload_n rfl rfl dJ28_getEntry_70) (
  aSa (s_aret (n := 0) rfl (Or.inl ⟨_, rfl⟩) dJ28_getEntry_71) (
  aSa (s_goto (n := 0) (by decide) dJ28_getEntry_72) (
  aSa (s_null rfl dJ28_getEntry_75) (
  aSa (s_aret (n := 0) rfl (Or.inl ⟨_, rfl⟩) dJ28_getEntry_76) (
  aSn)))))))))))))))))))))))))))))))))))))))
theorem sn106 : SndL "java/util/TreeMap" "leftOf" cJ28_leftOf 1 (Option.some (Jvm.ClassFile.FieldType.object "java/util/TreeMap$Entry")) [] T106 := aSa (s_aload_n rfl rfl dJ28_leftOf_0) (
  aSa (s_ifnonnull (by decide) rfl dJ28_leftOf_1) (
  aSa (s_null rfl dJ28_leftOf_4) (
  aSa (s_goto (n := 0) (by decide) dJ28_leftOf_5) (
  aSa (s_aload_n rfl rfl dJ28_leftOf_8) (
  aSa (s_getf (T := TJ39) rfl (by decide) (by decide) in_J39 q1838 (Or.inl rfl) rfl dJ28_leftOf_9) (
  aSa (s_aret (n := 0) rfl (Or.inl ⟨_, rfl⟩) dJ28_leftOf_12) (
  aSn)))))))
theorem sn107 : SndL "java/util/TreeMap" "parentOf" cJ28_parentOf 1 (Option.some (Jvm.ClassFile.FieldType.object "java/util/TreeMap$Entry")) [] T107 := aSa (s_aload_n rfl rfl dJ28_parentOf_0) (
  aSa (s_ifnonnull (by decide) rfl dJ28_parentOf_1) (
  aSa (s_null rfl dJ28_parentOf_4) (
  aSa (s_goto (n := 0) (by decide) dJ28_parentOf_5) (
  aSa (s_aload_n rfl rfl dJ28_parentOf_8) (
  aSa (s_getf (T := TJ39) rfl (by decide) (by decide) in_J39 q1841 (Or.inl rfl) rfl dJ28_parentOf_9) (
  aSa (s_aret (n := 0) rfl (Or.inl ⟨_, rfl⟩) dJ28_parentOf_12) (
  aSn)))))))
theorem sn108 : SndL "java/util/TreeMap" "put" cJ28_put 3 (Option.some (Jvm.ClassFile.FieldType.object "java/lang/Object")) [] T108 := aSa (s_aload_n rfl rfl dJ28_put_0) (
  aSa (s_aload_n rfl rfl dJ28_put_1) (
  aSa (s_aload_n rfl rfl dJ28_put_2) (
  aSa (s_iconst (v0 := 1) (by decide) rfl dJ28_put_3) (
  aSa (s_callV (List.forall_mem_cons.mpr ⟨d_V rfl rfl q1810 q1812 qs30 q139 q1813 rfl (by decide +kernel) (by decide) rfl dJ28_put_4, fun _ h => absurd h List.not_mem_nil⟩) aHS0) (
  aSa (s_aret (n := 0) rfl (Or.inl ⟨_, rfl⟩) dJ28_put_7) (
  aSn))))))
theorem sn109 : SndL "java/util/TreeMap" "put" cJ28_put_2 10 (Option.some (Jvm.ClassFile.FieldType.object "java/lang/Object")) [] T109 := aSa (s_aload_n rfl rfl dJ28_put_2_0) (
  aSa (s_getf (T := TJ28) rfl (by decide) (by decide) in_J28 q1764 (Or.inl rfl) rfl dJ28_put_2_1) (
  aSa (s_astore (by decide) rfl dJ28_put_2_4) (
  aSa (s_aload rfl dJ28_put_2_6) (
  aSa (s_ifnonnull (by decide) rfl dJ28_put_2_8) (
  aSa (s_aload_n rfl rfl dJ28_put_2_11) (
  aSa (s_aload_n rfl rfl dJ28_put_2_12) (
  aSa (s_aload_n rfl rfl dJ28_put_2_13) (
  aSa (s_callV (List.forall_mem_cons.mpr ⟨d_V rfl rfl q1814 q1816 qs31 q139 q1817 rfl (by decide +kernel) (by decide) rfl dJ28_put_2_14, fun _ h => absurd h List.not_mem_nil⟩) aHS0) (
  aSa (s_null rfl dJ28_put_2_17) (
  aSa (s_aret (n := 0) rfl (Or.inl ⟨_, rfl⟩) dJ28_put_2_18) (
  aSa (s_aload_n rfl rfl dJ28_put_2_19) (
  aSa (s_getf (T := TJ28) rfl (by decide) (by decide) in_J28 q1763 (Or.inl rfl) rfl dJ28_put_2_20) (
  aSa (s_astore (by decide) rfl dJ28_put_2_23) (
  aSa (s_aload rfl dJ28_put_2_25) (
  aSa (s_ifnull (by decide) rfl dJ28_put_2_27) (
  aSa (s_aload rfl dJ28_put_2_30) (
  aSa (s_astore (by decide) rfl dJ28_put_2_32) (
  aSa (s_aload rfl dJ28_put_2_34) (
  aSa (s_aload_n rfl rfl dJ28_put_2_36) (
  aSa (s_aload rfl dJ28_put_2_37) (
  aSa (s_getf (T := TJ39) rfl (by decide) (by decide) in_J39 q1835 (Or.inl rfl) rfl dJ28_put_2_39) (
  aSa (s_istore (by decide) rfl dJ28_put_2_47) (
  aSa (s_iload rfl dJ28_put_2_49) (
  aSa (s_ifge (by decide) rfl dJ28_put_2_51) (
  aSa (s_aload rfl dJ28_put_2_54) (
  aSa (s_getf (T := TJ39) rfl (by decide) (by decide) in_J39 q1838 (Or.inl rfl) rfl dJ28_put_2_56) (
  aSa (s_astore (by decide) rfl dJ28_put_2_59) (
  aSa (s_goto (n := 0) (by decide) dJ28_put_2_61) (
  aSa (s_iload rfl dJ28_put_2_64) (
  aSa (s_ifle (by decide) rfl dJ28_put_2_66) (
  aSa (s_aload rfl dJ28_put_2_69) (
  aSa (s_getf (T := TJ39) rfl (by decide) (by decide) in_J39 q1839 (Or.inl rfl) rfl dJ28_put_2_71) (
  aSa (s_astore (by decide) rfl dJ28_put_2_74) (
  aSa (s_goto (n := 0) (by decide) dJ28_put_2_76) (
  aSa (s_aload rfl dJ28_put_2_79) (
  aSa (s_getf (T := TJ39) rfl (by decide) (by decide) in_J39 q1837 (Or.inl rfl) rfl dJ28_put_2_81) (
  aSa (s_astore (by decide) rfl dJ28_put_2_84) (
  aSa (s_iload_n rfl rfl dJ28_put_2_86) (
  aSa (s_ifne (by decide) rfl dJ28_put_2_87) (
  aSa (s_aload rfl dJ28_put_2_90) (
  aSa (s_ifnonnull (by decide) rfl dJ28_put_2_92) (
  aSa (s_aload rfl dJ28_put_2_95) (
  aSa (s_aload_n rfl rfl dJ28_put_2_97) (
  aSa (s_putf (T := TJ39) (ty0 := tyJ39) tyJ39_ok nmJ39 rfl (by decide) (by decide) in_J39 q1837 (Or.inl rfl) rfl rfl rfl dJ28_put_2_98) (
  aSa (s_aload rfl dJ28_put_2_101) (
  aSa (s_aret (n := 0) rfl (Or.inl ⟨_, rfl⟩) dJ28_put_2_103) (
  aSa (s_aload rfl dJ28_put_2_104) (
  aSa (s_ifnonnull (by decide) rfl dJ28_put_2_106) (
  aSa (s_goto (n := 0) (by decide) dJ28_put_2_109) (
  aSa (s_aload_n rfl rfl dJ28_put_2_112) (
  aSa (s_callS rfl q1857 q1858 q126 q1859 (by decide +kernel) (by decide) aHS0 rfl dJ28_put_2_113) (
  aSa (s_pop rfl dJ28_put_2_116) (
  aSa (s_aload_n rfl rfl dJ28_put_2_117) (
  aSa (s_cast q1822 (List.forall_mem_cons.mpr ⟨⟨_, rfl, (Or.inr q1578)⟩, List.forall_mem_cons.mpr ⟨⟨_, rfl, (Or.inr q1567)⟩, List.forall_mem_cons.mpr ⟨⟨_, rfl, (Or.inr q1589)⟩, List.forall_mem_cons.mpr ⟨⟨_, rfl, (Or.inr q1538)⟩, List.forall_mem_cons.mpr ⟨⟨_, rfl, (Or.inr q1552)⟩, List.forall_mem_cons.mpr ⟨⟨_, rfl, (Or.inr q1578)⟩, List.forall_mem_cons.mpr ⟨⟨_, rfl, (Or.inr q1567)⟩, List.forall_mem_cons.mpr ⟨⟨_, rfl, (Or.inr q1589)⟩, fun _ h => absurd h List.not_mem_nil⟩⟩⟩⟩⟩⟩⟩⟩) (fun t h => absurd h List.not_mem_nil) rfl dJ28_put_2_118) (
  aSa (s_astore (by decide) rfl dJ28_put_2_121) (
  aSa (s_aload rfl dJ28_put_2_123) (
  aSa (s_astore (by decide) rfl dJ28_put_2_125) (
  aSa (s_aload rfl dJ28_put_2_127) (
  aSa (s_aload rfl dJ28_put_2_129) (
  aSa (s_getf (T := TJ39) rfl (by decide) (by decide) in_J39 q1835 (Or.inl rfl) rfl dJ28_put_2_131) (
  aSa (s_callV (List.forall_mem_cons.mpr ⟨d_F (x := ⟨"java/lang/Comparable", "compareTo", "(Ljava/lang/Object;)I"⟩) rfl rfl (aL1 q1824 (aL1 q1579 (aL1 q1581 (aL1 q129 aL0)))) q1583 q1537 q1536 q1582 q1580 q1578 (by decide +kernel) (by decide) rfl dJ28_put_2_134, List.forall_mem_cons.mpr ⟨d_F (x := ⟨"java/lang/Comparable", "compareTo", "(Ljava/lang/Object;)I"⟩) rfl rfl (aL1 q1824 (aL1 q1553 (aL1 q1555 (aL1 q152 aL0)))) q1557 q1537 q1536 q1556 q1554 q1552 (by decide +kernel) (by decide) rfl dJ28_put_2_134, List.forall_mem_cons.mpr ⟨d_F (x := ⟨"java/lang/Comparable", "compareTo", "(Ljava/lang/Object;)I"⟩) rfl rfl (aL1 q1824 (aL1 q1539 (aL1 q1541 (aL1 q160 aL0)))) q1543 q1537 q1536 q1542 q1540 q1538 (by decide +kernel) (by decide) rfl dJ28_put_2_134, List.forall_mem_cons.mpr ⟨d_F (x := ⟨"java/lang/Comparable", "compareTo", "(Ljava/lang/Object;)I"⟩) rfl rfl (aL1 q1824 (aL1 q1579 (aL1 q1581 (aL1 q129 aL0)))) q1583 q1537 q1536 q1582 q1580 q1578 (by decide +kernel) (by decide) rfl dJ28_put_2_134, fun _ h => absurd h List.not_mem_nil⟩⟩⟩⟩) aHS0) (
  aSa (s_istore (by decide) rfl dJ28_put_2_139) (
  aSa (s_iload rfl dJ28_put_2_141) (
  aSa (s_ifge (by decide) rfl dJ28_put_2_143) (
  aSa (s_aload rfl dJ28_put_2_146) (
  aSa (s_getf (T := TJ39) rfl (by decide) (by decide) in_J39 q1838 (Or.inl rfl) rfl dJ28_put_2_148) (
  aSa (s_astore (by decide) rfl dJ28_put_2_151) (
  aSa (s_goto (n := 0) (by decide) dJ28_put_2_153) (
  aSa (s_iload rfl dJ28_put_2_156) (
  aSa (s_ifle (by decide) rfl dJ28_put_2_158) (
  aSa (s_aload rfl dJ28_put_2_161) (
  aSa (s_getf (T := TJ39) rfl (by decide) (by decide) in_J39 q1839 (Or.inl rfl) rfl dJ28_put_2_163) (
  aSa (s_astore (by decide) rfl dJ28_put_2_166) (
  aSa (s_goto (n := 0) (by decide) dJ28_put_2_168) (
  aSa (s_aload rfl dJ28_put_2_171) (
  aSa (s_getf (T := TJ39) rfl (by decide) (by decide) in_J39 q1837 (Or.inl rfl) rfl dJ28_put_2_173) (
  aSa (s_astore (by decide) rfl dJ28_put_2_176) (
  aSa (s_iload_n rfl rfl dJ28_put_2_178) (
  aSa (s_ifne (by decide) rfl dJ28_put_2_179) (
  aSa (s_aload rfl dJ28_put_2_182) (
  aSa (s_ifnonnull (by decide) rfl dJ28_put_2_184) (
  aSa (s_aload rfl dJ28_put_2_187) (
  aSa (s_aload_n rfl rfl dJ28_put_2_189) (
  aSa (s_putf (T := TJ39) (ty0 := tyJ39) tyJ39_ok nmJ39 rfl (by decide) (by decide) in_J39 q1837 (Or.inl rfl) rfl rfl rfl dJ28_put_2_190) (
  aSa (s_aload rfl dJ28_put_2_193) (
  aSa (s_aret (n := 0) rfl (Or.inl ⟨_, rfl⟩) dJ28_put_2_195) (
  aSa (s_aload rfl dJ28_put_2_196) (
  aSa (s_ifnonnull (by decide) rfl dJ28_put_2_198) (
  aSa (s_aload_n rfl rfl dJ28_put_2_201) (
  aSa (s_aload_n rfl rfl dJ28_put_2_202) (
  aSa (s_aload_n rfl rfl dJ28_put_2_203) (
  aSa (s_aload rfl dJ28_put_2_204) (
  aSa (s_iload rfl dJ28_put_2_206) (
  aSa (s_ifge (by decide) rfl dJ28_put_2_208) (
  aSa (s_iconst (v0 := 1) (by decide) rfl dJ28_put_2_211) (
  aSa (s_goto (n := 0) (by decide) dJ28_put_2_212) (
  aSa (s_iconst (v0 := 0) (by decide) rfl dJ28_put_2_215) (
  aSa (s_callV (List.forall_mem_cons.mpr ⟨d_V rfl rfl q1860 q1862 qs32 q139 q1863 rfl (by decide +kernel) (by decide) rfl dJ28_put_2_216, fun _ h => absurd h List.not_mem_nil⟩) aHS0) (
  aSa (s_null rfl dJ28_put_2_219) (
  aSa (s_aret (n := 0) rfl (Or.inl ⟨_, rfl⟩) dJ28_put_2_220) (
  aSn)))))))))))))))))))))))))))))))))))))))))))))))))))))))))))))))))))))))))))))))))))))))))))))))))))))
theorem sn110 : SndL "java/util/TreeMap" "rightOf" cJ28_rightOf 1 (Option.some (Jvm.ClassFile.FieldType.object "java/util/TreeMap$Entry")) [] T110 := aSa (s_aload_n rfl rfl dJ28_rightOf_0) (
  aSa (s_ifnonnull (by decide) rfl dJ28_rightOf_1) (
  aSa (s_null rfl dJ28_rightOf_4) (
  aSa (s_goto (n := 0) (by decide) dJ28_rightOf_5) (
  aSa (s_aload_n rfl rfl dJ28_rightOf_8) (
  aSa (s_getf (T := TJ39) rfl (by decide) (by decide) in_J39 q1839 (Or.inl rfl) rfl dJ28_rightOf_9) (
  aSa (s_aret (n := 0) rfl (Or.inl ⟨_, rfl⟩) dJ28_rightOf_12) (
  aSn)))))))
theorem sn111 : SndL "java/util/TreeMap" "rotateLeft" cJ28_rotateLeft 3 (Option.none : Option Jvm.ClassFile.FieldType) [] T111 := aSa (s_aload_n rfl rfl dJ28_rotateLeft_0) (
  aSa (s_ifnull (by decide) rfl dJ28_rotateLeft_1) (
  aSa (s_aload_n rfl rfl dJ28_rotateLeft_4) (
  aSa (s_getf (T := TJ39) rfl (by decide) (by decide) in_J39 q1839 (Or.inl rfl) rfl dJ28_rotateLeft_5) (
  aSa (s_astore_n rfl (by decide) rfl dJ28_rotateLeft_8) (
  aSa (s_aload_n rfl rfl dJ28_rotateLeft_9) (
  aSa (s_aload_n rfl rfl dJ28_rotateLeft_10) (
  aSa (s_getf (T := TJ39) rfl (by decide) (by decide) in_J39 q1838 (Or.inl rfl) rfl dJ28_rotateLeft_11) (
  aSa (s_putf (T := TJ39) (ty0 := tyJ39) tyJ39_ok nmJ39 rfl (by decide) (by decide) in_J39 q1839 (Or.inl rfl) rfl rfl rfl dJ28_rotateLeft_14) (
  aSa (s_aload_n rfl rfl dJ28_rotateLeft_17) (
  aSa (s_getf (T := TJ39) rfl (by decide) (by decide) in_J39 q1838 (Or.inl rfl) rfl dJ28_rotateLeft_18) (
  aSa (s_ifnull (by decide) rfl dJ28_rotateLeft_21) (
  aSa (s_aload_n rfl rfl dJ28_rotateLeft_24) (
  aSa (s_getf (T := TJ39) rfl (by decide) (by decide) in_J39 q1838 (Or.inl rfl) rfl dJ28_rotateLeft_25) (
  aSa (s_aload_n rfl rfl dJ28_rotateLeft_28) (
  aSa (s_putf (T := TJ39) (ty0 := tyJ39) tyJ39_ok nmJ39 rfl (by decide) (by decide) in_J39 q1841 (Or.inl rfl) rfl rfl rfl dJ28_rotateLeft_29) (
  aSa (s_aload_n rfl rfl dJ28_rotateLeft_32) (
  aSa (s_aload_n rfl rfl dJ28_rotateLeft_33) (
  aSa (s_getf (T := TJ39) rfl (by decide) (by decide) in_J39 q1841 (Or.inl rfl) rfl dJ28_rotateLeft_34) (
  aSa (s_putf (T := TJ39) (ty0 := tyJ39) tyJ39_ok nmJ39 rfl (by decide) (by decide) in_J39 q1841 (Or.inl rfl) rfl rfl rfl dJ28_rotateLeft_37) (
  aSa (s_aload_n rfl rfl dJ28_rotateLeft_40) (
  aSa (s_getf (T := TJ39) rfl (by decide) (by decide) in_J39 q1841 (Or.inl rfl) rfl dJ28_rotateLeft_41) (
  aSa (s_ifnonnull (by decide) rfl dJ28_rotateLeft_44) (
  aSa (s_aload_n rfl rfl dJ28_rotateLeft_47) (
  aSa (s_aload_n rfl rfl dJ28_rotateLeft_48) (
  aSa (s_putf (T := TJ28) (ty0 := tyJ28) tyJ28_ok nmJ28 rfl (by decide) (by decide) in_J28 q1764 (Or.inl rfl) rfl rfl rfl dJ28_rotateLeft_49) (
  aSa (s_goto (n := 0) (by decide) dJ28_rotateLeft_52) (
  aSa (s_aload_n rfl rfl dJ28_rotateLeft_55) (
  aSa (s_getf (T := TJ39) rfl (by decide) (by decide) in_J39 q1841 (Or.inl rfl) rfl dJ28_rotateLeft_56) (
  aSa (s_getf (T := TJ39) rfl (by decide) (by decide) in_J39 q1838 (Or.inl rfl) rfl dJ28_rotateLeft_59) (
  aSa (s_aload_n rfl rfl dJ28_rotateLeft_62) (
  aSa (s_acne (by decide) rfl dJ28_rotateLeft_63) (
  aSa (s_aload_n rfl rfl dJ28_rotateLeft_66) (
  aSa (s_getf (T := TJ39) rfl (by decide) (by decide) in_J39 q1841 (Or.inl rfl) rfl dJ28_rotateLeft_67) (
  aSa (s_aload_n rfl rfl dJ28_rotateLeft_70) (
  aSa (s_putf (T := TJ39) (ty0 := tyJ39) tyJ39_ok nmJ39 rfl (by decide) (by decide) in_J39 q1838 (Or.inl rfl) rfl rfl rfl dJ28_rotateLeft_71) (
  aSa (s_goto (n := 0) (by decide) dJ28_rotateLeft_74) (
  aSa (s_aload_n rfl rfl dJ28_rotateLeft_77) (
  aSa (s_getf (T := TJ39) rfl (by decide) (by decide) in_J39 q1841 (Or.inl rfl) rfl dJ28_rotateLeft_78) (
  aSa (s_aload_n rfl rfl dJ28_rotateLeft_81) (
  aSa (s_putf (T := TJ39) (ty0 := tyJ39) tyJ39_ok nmJ39 rfl (by decide) (by decide) in_J39 q1839 (Or.inl rfl) rfl rfl rfl dJ28_rotateLeft_82) (
  aSa (s_aload_n rfl rfl dJ28_rotateLeft_85) (
  aSa (s_aload_n rfl rfl dJ28_rotateLeft_86) (
  aSa (s_putf (T := TJ39) (ty0 := tyJ39) tyJ39_ok nmJ39 rfl (by decide) (by decide) in_J39 q1838 (Or.inl rfl) rfl rfl rfl dJ28_rotateLeft_87) (
  aSa (s_aload_n rfl rfl dJ28_rotateLeft_90) (
  aSa (s_aload_n rfl rfl dJ28_rotateLeft_91) (
  aSa (s_putf (T := TJ39) (ty0 := tyJ39) tyJ39_ok nmJ39 rfl (by decide) (by decide) in_J39 q1841 (Or.inl rfl) rfl rfl rfl dJ28_rotateLeft_92) (
  aSa (s_ret (n := 0) rfl dJ28_rotateLeft_95) (
  aSn))))))))))))))))))))))))))))))))))))))))))))))))
theorem sn112 : SndL "java/util/TreeMap" "rotateRight" cJ28_rotateRight 3 (Option.none : Option Jvm.ClassFile.FieldType) [] T112 := aSa (s_aload_n rfl rfl dJ28_rotateRight_0) (
  aSa (s_ifnull (by decide) rfl dJ28_rotateRight_1) (
  aSa (s_aload_n rfl rfl dJ28_rotateRight_4) (
  aSa (s_getf (T := TJ39) rfl (by decide) (by decide) in_J39 q1838 (Or.inl rfl) rfl dJ28_rotateRight_5) (
  aSa (s_astore_n rfl (by decide) rfl dJ28_rotateRight_8) (
  aSa (s_aload_n rfl rfl dJ28_rotateRight_9) (
  aSa (s_aload_n rfl rfl dJ28_rotateRight_10) (
  aSa (s_getf (T := TJ39) rfl (by decide) (by decide) in_J39 q1839 (Or.inl rfl) rfl dJ28_rotateRight_11) (
  aSa (s_putf (T := TJ39) (ty0 := tyJ39) tyJ39_ok nmJ39 rfl (by decide) (by decide) in_J39 q1838 (Or.inl rfl) rfl rfl rfl dJ28_rotateRight_14) (
  aSa (s_aload_n rfl rfl dJ28_rotateRight_17) (
  aSa (s_getf (T := TJ39) rfl (by decide) (by decide) in_J39 q1839 (Or.inl rfl) rfl dJ28_rotateRight_18) (
  aSa (s_ifnull (by decide) rfl dJ28_rotateRight_21) (
  aSa (s_aload_n rfl rfl dJ28_rotateRight_24) (
  aSa (s_getf (T := TJ39) rfl (by decide) (by decide) in_J39 q1839 (Or.inl rfl) rfl dJ28_rotateRight_25) (
  aSa (s_aload_n rfl rfl dJ28_rotateRight_28) (
  aSa (s_putf (T := TJ39) (ty0 := tyJ39) tyJ39_ok nmJ39 rfl (by decide) (by decide) in_J39 q1841 (Or.inl rfl) rfl rfl rfl dJ28_rotateRight_29) (
  aSa (s_aload_n rfl rfl dJ28_rotateRight_32) (
  aSa (s_aload_n rfl rfl dJ28_rotateRight_33) (
  aSa (s_getf (T := TJ39) rfl (by decide) (by decide) in_J39 q1841 (Or.inl rfl) rfl dJ28_rotateRight_34) (
  aSa (s_putf (T := TJ39) (ty0 := tyJ39) tyJ39_ok nmJ39 rfl (by decide) (by decide) in_J39 q1841 (Or.inl rfl) rfl rfl rfl dJ28_rotateRight_37) (
  aSa (s_aload_n rfl rfl dJ28_rotateRight_40) (
  aSa (s_getf (T := TJ39) rfl (by decide) (by decide) in_J39 q1841 (Or.inl rfl) rfl dJ28_rotateRight_41) (
  aSa (s_ifnonnull (by decide) rfl dJ28_rotateRight_44) (
  aSa (s_aload_n rfl rfl dJ28_rotateRight_47) (
  aSa (s_aload_n rfl rfl dJ28_rotateRight_48) (
  aSa (s_putf (T := TJ28) (ty0 := tyJ28) tyJ28_ok nmJ28 rfl (by decide) (by decide) in_J28 q1764 (Or.inl rfl) rfl rfl rfl dJ28_rotateRight_49) (
  aSa (s_goto (n := 0) (by decide) dJ28_rotateRight_52) (
  aSa (s_aload_n rfl rfl dJ28_rotateRight_55) (
  aSa (s_getf (T := TJ39) rfl (by decide) (by decide) in_J39 q1841 (Or.inl rfl) rfl dJ28_rotateRight_56) (
  aSa (s_getf (T := TJ39) rfl (by decide) (by decide) in_J39 q1839 (Or.inl rfl) rfl dJ28_rotateRight_59) (
  aSa (s_aload_n rfl rfl dJ28_rotateRight_62) (
  aSa (s_acne (by decide) rfl dJ28_rotateRight_63) (
  aSa (s_aload_n rfl rfl dJ28_rotateRight_66) (
  aSa (s_getf (T := TJ39) rfl (by decide) (by decide) in_J39 q1841 (Or.inl rfl) rfl dJ28_rotateRight_67) (
  aSa (s_aload_n rfl rfl dJ28_rotateRight_70) (
  aSa (s_putf (T := TJ39) (ty0 := tyJ39) tyJ39_ok nmJ39 rfl (by decide) (by decide) in_J39 q1839 (Or.inl rfl) rfl rfl rfl dJ28_rotateRight_71) (
  aSa (s_goto (n := 0) (by decide) dJ28_rotateRight_74) (
  aSa (s_aload_n rfl rfl dJ28_rotateRight_77) (
  aSa (s_getf (T := TJ39) rfl (by decide) (by decide) in_J39 q1841 (Or.inl rfl) rfl dJ28_rotateRight_78) (
  aSa (s_aload_n rfl rfl dJ28_rotateRight_81) (
  aSa (s_putf (T := TJ39) (ty0 := tyJ39) tyJ39_ok nmJ39 rfl (by decide) (by decide) in_J39 q1838 (Or.inl rfl) rfl rfl rfl dJ28_rotateRight_82) (
  aSa (s_aload_n rfl rfl dJ28_rotateRight_85) (
  aSa (s_aload_n rfl rfl dJ28_rotateRight_86) (
  aSa (s_putf (T := TJ39) (ty0 := tyJ39) tyJ39_ok nmJ39 rfl (by decide) (by decide) in_J39 q1839 (Or.inl rfl) rfl rfl rfl dJ28_rotateRight_87) (
  aSa (s_aload_n rfl rfl dJ28_rotateRight_90) (
  aSa (s_aload_n rfl rfl dJ28_rotateRight_91) (
  aSa (s_putf (T := TJ39) (ty0 := tyJ39) tyJ39_ok nmJ39 rfl (by decide) (by decide) in_J39 q1841 (Or.inl rfl) rfl rfl rfl dJ28_rotateRight_92) (
  aSa (s_ret (n := 0) rfl dJ28_rotateRight_95) (
  aSn))))))))))))))))))))))))))))))))))))))))))))))))
theorem sn113 : SndL "java/util/TreeMap" "setColor" cJ28_setColor 2 (Option.none : Option Jvm.ClassFile.FieldType) [] T113 := aSa (s_aload_n rfl rfl dJ28_setColor_0) (
  aSa (s_ifnull (by decide) rfl dJ28_setColor_1) (
  aSa (s_aload_n rfl rfl dJ28_setColor_4) (
  aSa (s_iload_n rfl rfl dJ28_setColor_5) (
  aSa (s_putf (T := TJ39) (ty0 := tyJ39) tyJ39_ok nmJ39 rfl (by decide) (by decide) in_J39 q1843 (Or.inl rfl) rfl rfl rfl dJ28_setColor_6) (
  aSa (s_ret (n := 0) rfl dJ28_setColor_9) (
  aSn))))))
theorem sn114 : SndL "java/util/TreeMap$Entry" "<init>" cJ39_init 4 (Option.none : Option Jvm.ClassFile.FieldType) [] T114 := aSa (s_aload_n rfl rfl dJ39_init_0) (
  aSa (s_oinit q1832 q167 q168 rfl dJ39_init_1) (
  aSa (s_aload_n rfl rfl dJ39_init_4) (
  aSa (s_iconst (v0 := 1) (by decide) rfl dJ39_init_5) (
  aSa (s_putf (T := TJ39) (ty0 := tyJ39) tyJ39_ok nmJ39 rfl (by decide) (by decide) in_J39 q1842 (Or.inl rfl) rfl rfl rfl dJ39_init_6) (
  aSa (s_aload_n rfl rfl dJ39_init_9) (
  aSa (s_aload_n rfl rfl dJ39_init_10) (
  aSa (s_putf (T := TJ39) (ty0 := tyJ39) tyJ39_ok nmJ39 rfl (by decide) (by decide) in_J39 q1833 (Or.inl rfl) rfl rfl rfl dJ39_init_11) (
  aSa (s_aload_n rfl rfl dJ39_init_14) (
  aSa (s_aload_n rfl rfl dJ39_init_15) (
  aSa (s_putf (T := TJ39) (ty0 := tyJ39) tyJ39_ok nmJ39 rfl (by decide) (by decide) in_J39 q1836 (Or.inl rfl) rfl rfl rfl dJ39_init_16) (
  aSa (s_aload_n rfl rfl dJ39_init_19) (
  aSa (s_aload_n rfl rfl dJ39_init_20) (
  aSa (s_putf (T := TJ39) (ty0 := tyJ39) tyJ39_ok nmJ39 rfl (by decide) (by decide) in_J39 q1840 (Or.inl rfl) rfl rfl rfl dJ39_init_21) (
  aSa (s_ret (n := 0) rfl dJ39_init_24) (
  aSn)))))))))))))))
theorem sn115 : SndL "java/util/TreeSet" "<init>" cJ40_init 1 (Option.none : Option Jvm.ClassFile.FieldType) [] T115 := aSa (s_aload_n rfl rfl dJ40_init_0) (
  aSa (s_new (T := TJ28) (ty0 := tyJ28) tyJ28_ok rfl (by decide) in_J28 q2521 q1755 q139 (by decide) rfl dJ40_init_1) (
  aSa (s_dup rfl dJ40_init_4) (
  aSa (s_callI rfl q2522 q1757 q139 q1758 (by decide +kernel) (by decide) rfl aHS0 rfl dJ40_init_5) (
  aSa (s_callI rfl q2523 q2524 q158 q2525 (by decide +kernel) (by decide) rfl aHS0 rfl dJ40_init_8) (
  aSa (s_ret (n := 0) rfl dJ40_init_11) (
  aSn))))))
theorem sn116 : SndL "java/util/TreeSet" "<init>" cJ40_init_2 2 (Option.none : Option Jvm.ClassFile.FieldType) [] T116 := aSa (s_aload_n rfl rfl dJ40_init_2_0) (
  aSa (s_callI rfl q2526 q2373 q146 q2374 (by decide +kernel) (by decide) rfl aHS0 rfl dJ40_init_2_1) (
  aSa (s_aload_n rfl rfl dJ40_init_2_4) (
  aSa (s_aload_n rfl rfl dJ40_init_2_5) (
  aSa (s_putf (T := TJ40) (ty0 := tyJ40) tyJ40_ok nmJ40 rfl (by decide) (by decide) in_J40 q2527 (Or.inl rfl) rfl rfl rfl dJ40_init_2_6) (
  aSa (s_ret (n := 0) rfl dJ40_init_2_9) (
  aSn))))))
theorem sn117 : SndL "java/util/TreeSet" "add" cJ40_add 2 (Option.some Jvm.ClassFile.FieldType.boolean) [] T117 := aSa (s_aload_n rfl rfl dJ40_add_0) (
  aSa (s_getf (T := TJ40) rfl (by decide) (by decide) in_J40 q2527 (Or.inl rfl) rfl dJ40_add_1) (
  aSa (s_aload_n rfl rfl dJ40_add_4) (
  aSa (s_gets (C := "java/util/TreeSet") (nm0 := "PRESENT") q2539 (by decide) rfl dJ40_add_5) (
  aSa (s_callV (List.forall_mem_cons.mpr ⟨d_Fu (x := ⟨"java/util/NavigableMap", "put", "(Ljava/lang/Object;Ljava/lang/Object;)Ljava/lang/Object;"⟩) (J := "java/util/Map") rfl rfl q2544 q1807 q139 q1809 List.mem_cons_self List.mem_cons_self (by decide) (by decide) (by decide +kernel) (by decide) rfl dJ40_add_8, fun _ h => absurd h List.not_mem_nil⟩) aHS0) (
  aSa (s_ifnonnull (by decide) rfl dJ40_add_13) (
  aSa (s_iconst (v0 := 1) (by decide) rfl dJ40_add_16) (
  aSa (s_goto (n := 0) (by decide) dJ40_add_17) (
  aSa (s_iconst (v0 := 0) (by decide) rfl dJ40_add_20) (
  aSa (s_iret (n := 0) rfl dJ40_add_21) (
  aSn))))))))))
theorem sn118 : SndL "java/util/TreeSet" "contains" cJ40_contains 2 (Option.some Jvm.ClassFile.FieldType.boolean) [] T118 := aSa (s_aload_n rfl rfl dJ40_contains_0) (
  aSa (s_getf (T := TJ40) rfl (by decide) (by decide) in_J40 q2527 (Or.inl rfl) rfl dJ40_contains_1) (
  aSa (s_aload_n rfl rfl dJ40_contains_4) (
  aSa (s_callV (List.forall_mem_cons.mpr ⟨d_Fu (x := ⟨"java/util/NavigableMap", "containsKey", "(Ljava/lang/Object;)Z"⟩) (J := "java/util/Map") rfl rfl q2574 q2576 q139 q2578 (List.mem_cons_of_mem _ List.mem_cons_self) (List.mem_cons_of_mem _ List.mem_cons_self) (by decide) (by decide) (by decide +kernel) (by decide) rfl dJ40_contains_5, fun _ h => absurd h List.not_mem_nil⟩) aHS0) (
  aSa (s_iret (n := 0) rfl dJ40_contains_10) (
  aSn)))))
theorem sn119 : SndL "jdk/internal/util/ArraysSupport" "mismatch" cJ6_mismatch 4 (Option.some Jvm.ClassFile.FieldType.int) [] T119 := aSa (s_iconst (v0 := 0) (by decide) rfl dJ6_mismatch_0) (
  aSa (s_istore_n rfl (by decide) rfl dJ6_mismatch_1) (
  aSa (s_iload_n rfl rfl dJ6_mismatch_2) (
  aSa (s_iconst (v0 := 1) (by decide) rfl dJ6_mismatch_3) (
  aSa (s_cle (by decide) rfl dJ6_mismatch_4) (
  aSa (s_aload_n rfl rfl dJ6_mismatch_7) (
  aSa (s_iconst (v0 := 0) (by decide) rfl dJ6_mismatch_8) (
  aSa (s_iald rfl dJ6_mismatch_9) (
  aSa (s_aload_n rfl rfl dJ6_mismatch_10) (
  aSa (s_iconst (v0 := 0) (by decide) rfl dJ6_mismatch_11) (
  aSa (s_iald rfl dJ6_mismatch_12) (
  aSa (s_ceq (by decide) rfl dJ6_mismatch_13) (
  aSa (s_iconst (v0 := 0) (by decide) rfl dJ6_mismatch_16) (
  aSa (s_iret (n := 0) rfl dJ6_mismatch_17) (
  aSa (s_aload_n rfl rfl dJ6_mismatch_18) (
  aSa (s_getsC (C := "jdk/internal/misc/Unsafe") (nm0 := "ARRAY_INT_BASE_OFFSET") q758 (by decide) rfl dJ6_mismatch_19) (
  aSa (s_i2l rfl dJ6_mismatch_22) (
  aSa (s_aload_n rfl rfl dJ6_mismatch_23) (
  aSa (s_getsC (C := "jdk/internal/misc/Unsafe") (nm0 := "ARRAY_INT_BASE_OFFSET") q758 (by decide) rfl dJ6_mismatch_24) (
  aSa (s_i2l rfl dJ6_mismatch_27) (
  aSa (s_iload_n rfl rfl dJ6_mismatch_28) (
  aSa (s_getsC (C := "jdk/internal/util/ArraysSupport") (nm0 := "LOG2_ARRAY_INT_INDEX_SCALE") q760 (by decide) rfl dJ6_mismatch_29) (
  aSa (s_callS rfl q762 q763 q111 q764 (by decide +kernel) (by decide) aHS0 rfl dJ6_mismatch_32) (
  aSa (s_istore_n rfl (by decide) rfl dJ6_mismatch_35) (
  aSa (s_iload_n rfl rfl dJ6_mismatch_36) (
  aSa (s_iflt (by decide) rfl dJ6_mismatch_37) (
  aSa (s_iload_n rfl rfl dJ6_mismatch_40) (
  aSa (s_iret (n := 0) rfl dJ6_mismatch_41) (
  aSa (s_iload_n rfl rfl dJ6_mismatch_42) (
  aSa (s_iload_n rfl rfl dJ6_mismatch_43) (
  aSa (s_iconst (v0 := (-1)) (by decide) rfl dJ6_mismatch_44) (
  aSa (s_ixor rfl dJ6_mismatch_45) (
  aSa (s_isub rfl dJ6_mismatch_46) (
  aSa (s_istore_n rfl (by decide) rfl dJ6_mismatch_47) (
  aSa (s_iload_n rfl rfl dJ6_mismatch_48) (
  aSa (s_iload_n rfl rfl dJ6_mismatch_49) (
  aSa (s_cge (by decide) rfl dJ6_mismatch_50) (
  aSa (s_aload_n rfl rfl dJ6_mismatch_53) (
  aSa (s_iload_n rfl rfl dJ6_mismatch_54) (
  aSa (s_iald rfl dJ6_mismatch_55) (
  aSa (s_aload_n rfl rfl dJ6_mismatch_56) (
  aSa (s_iload_n rfl rfl dJ6_mismatch_57) (
  aSa (s_iald rfl dJ6_mismatch_58) (
  aSa (s_ceq (by decide) rfl dJ6_mismatch_59) (
  aSa (s_iload_n rfl rfl dJ6_mismatch_62) (
  aSa (s_iret (n := 0) rfl dJ6_mismatch_63) (
  aSa (s_iinc (by decide) rfl dJ6_mismatch_64) (
  aSa (s_goto (n := 0) (by decide) dJ6_mismatch_67) (
  aSa (s_iconst (v0 := (-1)) (by decide) rfl dJ6_mismatch_70) (
  aSa (s_iret (n := 0) rfl dJ6_mismatch_71) (
  aSn))))))))))))))))))))))))))))))))))))))))))))))))))
theorem sn120 : SndL "jdk/internal/util/ArraysSupport" "newLength" cJ6_newLength 4 (Option.some Jvm.ClassFile.FieldType.int) [] T120 := aSa (s_iload_n rfl rfl dJ6_newLength_0) (
  aSa (s_iload_n rfl rfl dJ6_newLength_1) (
  aSa (s_iload_n rfl rfl dJ6_newLength_2) (
  aSa (s_mmax q273 q274 q112 q275 rfl dJ6_newLength_3) (
  aSa (s_iadd rfl dJ6_newLength_6) (
  aSa (s_istore_n rfl (by decide) rfl dJ6_newLength_7) (
  aSa (s_iconst (v0 := 0) (by decide) rfl dJ6_newLength_8) (
  aSa (s_iload_n rfl rfl dJ6_newLength_9) (
  aSa (s_cge (by decide) rfl dJ6_newLength_10) (
  aSa (s_iload_n rfl rfl dJ6_newLength_13) (
  aSa (s_ldc q276 rfl dJ6_newLength_14) (
  aSa (s_cgt (by decide) rfl dJ6_newLength_16) (
  aSa (s_iload_n rfl rfl dJ6_newLength_19) (
  aSa (s_iret (n := 0) rfl dJ6_newLength_20) (
  aSa (s_iload_n rfl rfl dJ6_newLength_21) (
  aSa (s_iload_n rfl rfl dJ6_newLength_22) (
  aSa (s_iret (n := 0) rfl dJ6_newLength_26) (
  aSn)))))))))))))))))
theorem sn121 : SndL "jdk/internal/util/ArraysSupport" "vectorizedMismatch" cJ6_vectorizedMismatch 19 (Option.some Jvm.ClassFile.FieldType.int) [] T121 := aSa (s_getsC (C := "jdk/internal/util/ArraysSupport") (nm0 := "LOG2_ARRAY_LONG_INDEX_SCALE") q765 (by decide) rfl dJ6_vectorizedMismatch_0) (
  aSa (s_iload rfl dJ6_vectorizedMismatch_3) (
  aSa (s_isub rfl dJ6_vectorizedMismatch_5) (
  aSa (s_istore (by decide) rfl dJ6_vectorizedMismatch_6) (
  aSa (s_iconst (v0 := 0) (by decide) rfl dJ6_vectorizedMismatch_8) (
  aSa (s_istore (by decide) rfl dJ6_vectorizedMismatch_9) (
  aSa (s_iload rfl dJ6_vectorizedMismatch_11) (
  aSa (s_iload rfl dJ6_vectorizedMismatch_13) (
  aSa (s_iload rfl dJ6_vectorizedMismatch_15) (
  aSa (s_ishr rfl dJ6_vectorizedMismatch_17) (
  aSa (s_cge (by decide) rfl dJ6_vectorizedMismatch_18) (
  aSa (s_iload rfl dJ6_vectorizedMismatch_21) (
  aSa (s_i2l rfl dJ6_vectorizedMismatch_23) (
  aSa (s_getsC (C := "jdk/internal/util/ArraysSupport") (nm0 := "LOG2_ARRAY_LONG_INDEX_SCALE") q765 (by decide) rfl dJ6_vectorizedMismatch_24) (
  aSa (s_lshl rfl dJ6_vectorizedMismatch_27) (
  aSa (s_lstore (by decide) rfl dJ6_vectorizedMismatch_28) (
  aSa (s_gets (C := "jdk/internal/util/ArraysSupport") (nm0 := "U") q767 (by decide) rfl dJ6_vectorizedMismatch_30) (
  aSa (s_aload_n rfl rfl dJ6_vectorizedMismatch_33) (
  aSa (s_lload_n rfl rfl dJ6_vectorizedMismatch_34) (
  aSa (s_lload rfl dJ6_vectorizedMismatch_35) (
  aSa (s_ladd rfl dJ6_vectorizedMismatch_37) (
  aSa (s_callU rfl q769 q770 q771 q127 q772 rfl (by decide +kernel) (by decide) aHS0 rfl dJ6_vectorizedMismatch_38) (
  aSa (s_lstore (by decide) rfl dJ6_vectorizedMismatch_41) (
  aSa (s_gets (C := "jdk/internal/util/ArraysSupport") (nm0 := "U") q767 (by decide) rfl dJ6_vectorizedMismatch_43) (
  aSa (s_aload_n rfl rfl dJ6_vectorizedMismatch_46) (
  aSa (s_lload rfl dJ6_vectorizedMismatch_47) (
  aSa (s_lload rfl dJ6_vectorizedMismatch_49) (
  aSa (s_ladd rfl dJ6_vectorizedMismatch_51) (
  aSa (s_callU rfl q769 q770 q771 q127 q772 rfl (by decide +kernel) (by decide) aHS0 rfl dJ6_vectorizedMismatch_52) (
  aSa (s_lstore (by decide) rfl dJ6_vectorizedMismatch_55) (
  aSa (s_lload rfl dJ6_vectorizedMismatch_57) (
  aSa (s_lload rfl dJ6_vectorizedMismatch_59) (
  aSa (s_lcmp rfl dJ6_vectorizedMismatch_61) (
  aSa (s_ifeq (by decide) rfl dJ6_vectorizedMismatch_62) (
  aSa (s_lload rfl dJ6_vectorizedMismatch_65) (
  aSa (s_lload rfl dJ6_vectorizedMismatch_67) (
  aSa (s_lxor rfl dJ6_vectorizedMismatch_69) (
  aSa (s_lstore (by decide) rfl dJ6_vectorizedMismatch_70) (
  aSa (s_getsC (C := "jdk/internal/util/ArraysSupport") (nm0 := "BIG_ENDIAN") q821 (by decide) rfl dJ6_vectorizedMismatch_72) (
  aSa (s_ifeq (by decide) rfl dJ6_vectorizedMismatch_75) (
  aSa (s_lload rfl dJ6_vectorizedMismatch_78) (
  aSa (s_getsC (C := "jdk/internal/util/ArraysSupport") (nm0 := "LOG2_BYTE_BIT_SIZE") q830 (by decide) rfl dJ6_vectorizedMismatch_83) (
  aSa (s_iload rfl dJ6_vectorizedMismatch_86) (
  aSa (s_iadd rfl dJ6_vectorizedMismatch_88) (
  aSa (s_ishr rfl dJ6_vectorizedMismatch_89) (
  aSa (s_goto (n := 0) (by decide) dJ6_vectorizedMismatch_90) (
  aSa (s_lload rfl dJ6_vectorizedMismatch_93) (
  aSa (s_getsC (C := "jdk/internal/util/ArraysSupport") (nm0 := "LOG2_BYTE_BIT_SIZE") q830 (by decide) rfl dJ6_vectorizedMismatch_98) (
  aSa (s_iload rfl dJ6_vectorizedMismatch_101) (
  aSa (s_iadd rfl dJ6_vectorizedMismatch_103) (
  aSa (s_ishr rfl dJ6_vectorizedMismatch_104) (
  aSa (s_istore (by decide) rfl dJ6_vectorizedMismatch_105) (
  aSa (s_iload rfl dJ6_vectorizedMismatch_107) (
  aSa (s_iload rfl dJ6_vectorizedMismatch_109) (
  aSa (s_ishl rfl dJ6_vectorizedMismatch_111) (
  aSa (s_iload rfl dJ6_vectorizedMismatch_112) (
  aSa (s_iadd rfl dJ6_vectorizedMismatch_114) (
  aSa (s_iret (n := 0) rfl dJ6_vectorizedMismatch_115) (
  aSa (s_iinc (by decide) rfl dJ6_vectorizedMismatch_116) (
  aSa (s_goto (n := 0) (by decide) dJ6_vectorizedMismatch_119) (
  aSa (s_iload rfl dJ6_vectorizedMismatch_122) (
  aSa (s_iload rfl dJ6_vectorizedMismatch_124) (
  aSa (s_iload rfl dJ6_vectorizedMismatch_126) (
  aSa (s_ishl rfl dJ6_vectorizedMismatch_128) (
  aSa (s_isub rfl dJ6_vectorizedMismatch_129) (
  aSa (s_istore (by decide) rfl dJ6_vectorizedMismatch_130) (
  aSa (s_iload rfl dJ6_vectorizedMismatch_132) (
  aSa (s_getsC (C := "jdk/internal/util/ArraysSupport") (nm0 := "LOG2_ARRAY_INT_INDEX_SCALE") q760 (by decide) rfl dJ6_vectorizedMismatch_134) (
  aSa (s_cge (by decide) rfl dJ6_vectorizedMismatch_137) (
  aSa (s_iconst (v0 := 1) (by decide) rfl dJ6_vectorizedMismatch_140) (
  aSa (s_getsC (C := "jdk/internal/util/ArraysSupport") (nm0 := "LOG2_ARRAY_INT_INDEX_SCALE") q760 (by decide) rfl dJ6_vectorizedMismatch_141) (
  aSa (s_iload rfl dJ6_vectorizedMismatch_144) (
  aSa (s_isub rfl dJ6_vectorizedMismatch_146) (
  aSa (s_ishl rfl dJ6_vectorizedMismatch_147) (
  aSa (s_istore (by decide) rfl dJ6_vectorizedMismatch_148) (
  aSa (s_iload rfl dJ6_vectorizedMismatch_150) (
  aSa (s_iload rfl dJ6_vectorizedMismatch_152) (
  aSa (s_clt (by decide) rfl dJ6_vectorizedMismatch_154) (
  aSa (s_iload rfl dJ6_vectorizedMismatch_157) (
  aSa (s_i2l rfl dJ6_vectorizedMismatch_159) (
  aSa (s_getsC (C := "jdk/internal/util/ArraysSupport") (nm0 := "LOG2_ARRAY_LONG_INDEX_SCALE") q765 (by decide) rfl dJ6_vectorizedMismatch_160) (
  aSa (s_lshl rfl dJ6_vectorizedMismatch_163) (
  aSa (s_lstore (by decide) rfl dJ6_vectorizedMismatch_164) (
  aSa (s_gets (C := "jdk/internal/util/ArraysSupport") (nm0 := "U") q767 (by decide) rfl dJ6_vectorizedMismatch_166) (
  aSa (s_aload_n rfl rfl dJ6_vectorizedMismatch_169) (
  aSa (s_lload_n rfl rfl dJ6_vectorizedMismatch_170) (
  aSa (s_lload rfl dJ6_vectorizedMismatch_171) (
  aSa (s_ladd rfl dJ6_vectorizedMismatch_173) (
  aSa (s_istore (by decide) rfl dJ6_vectorizedMismatch_177) (
  aSa (s_gets (C := "jdk/internal/util/ArraysSupport") (nm0 := "U") q767 (by decide) rfl dJ6_vectorizedMismatch_179) (
  aSa (s_aload_n rfl rfl dJ6_vectorizedMismatch_182) (
  aSa (s_lload rfl dJ6_vectorizedMismatch_183) (
  aSa (s_lload rfl dJ6_vectorizedMismatch_185) (
  aSa (s_ladd rfl dJ6_vectorizedMismatch_187) (
  aSa (s_istore (by decide) rfl dJ6_vectorizedMismatch_191) (
  aSa (s_iload rfl dJ6_vectorizedMismatch_193) (
  aSa (s_iload rfl dJ6_vectorizedMismatch_195) (
  aSa (s_ceq (by decide) rfl dJ6_vectorizedMismatch_197) (
  aSa (s_iload rfl dJ6_vectorizedMismatch_200) (
  aSa (s_iload rfl dJ6_vectorizedMismatch_202) (
  aSa (s_ixor rfl dJ6_vectorizedMismatch_204) (
  aSa (s_istore (by decide) rfl dJ6_vectorizedMismatch_205) (
  aSa (s_getsC (C := "jdk/internal/util/ArraysSupport") (nm0 := "BIG_ENDIAN") q821 (by decide) rfl dJ6_vectorizedMismatch_207) (
  aSa (s_ifeq (by decide) rfl dJ6_vectorizedMismatch_210) (
  aSa (s_iload rfl dJ6_vectorizedMismatch_213) (
  aSa (s_callS rfl q855 q827 q109 q828 (by decide +kernel) (by decide) aHS0 rfl dJ6_vectorizedMismatch_215) (
  aSa (s_getsC (C := "jdk/internal/util/ArraysSupport") (nm0 := "LOG2_BYTE_BIT_SIZE") q830 (by decide) rfl dJ6_vectorizedMismatch_218) (
  aSa (s_iload rfl dJ6_vectorizedMismatch_221) (
  aSa (s_iadd rfl dJ6_vectorizedMismatch_223) (
  aSa (s_ishr rfl dJ6_vectorizedMismatch_224) (
  aSa (s_goto (n := 0) (by decide) dJ6_vectorizedMismatch_225) (
  aSa (s_iload rfl dJ6_vectorizedMismatch_228) (
  aSa (s_callS rfl q856 q836 q109 q837 (by decide +kernel) (by decide) aHS0 rfl dJ6_vectorizedMismatch_230) (
  aSa (s_getsC (C := "jdk/internal/util/ArraysSupport") (nm0 := "LOG2_BYTE_BIT_SIZE") q830 (by decide) rfl dJ6_vectorizedMismatch_233) (
  aSa (s_iload rfl dJ6_vectorizedMismatch_236) (
  aSa (s_iadd rfl dJ6_vectorizedMismatch_238) (
  aSa (s_ishr rfl dJ6_vectorizedMismatch_239) (
  aSa (s_istore (by decide) rfl dJ6_vectorizedMismatch_240) (
  aSa (s_iload rfl dJ6_vectorizedMismatch_242) (
  aSa (s_iload rfl dJ6_vectorizedMismatch_244) (
  aSa (s_ishl rfl dJ6_vectorizedMismatch_246) (
  aSa (s_iload rfl dJ6_vectorizedMismatch_247) (
  aSa (s_iadd rfl dJ6_vectorizedMismatch_249) (
  aSa (s_iret (n := 0) rfl dJ6_vectorizedMismatch_250) (
  aSa (s_iload rfl dJ6_vectorizedMismatch_251) (
  aSa (s_iload rfl dJ6_vectorizedMismatch_253) (
  aSa (s_isub rfl dJ6_vectorizedMismatch_255) (
  aSa (s_istore (by decide) rfl dJ6_vectorizedMismatch_256) (
  aSa (s_iload rfl dJ6_vectorizedMismatch_258) (
  aSa (s_iconst (v0 := (-1)) (by decide) rfl dJ6_vectorizedMismatch_260) (
  aSa (s_ixor rfl dJ6_vectorizedMismatch_261) (
  aSa (s_iret (n := 0) rfl dJ6_vectorizedMismatch_262) (
  aSa (s_iload rfl dJ6_vectorizedMismatch_263) (
  aSa (s_iconst (v0 := (-1)) (by decide) rfl dJ6_vectorizedMismatch_265) (
  aSa (s_ixor rfl dJ6_vectorizedMismatch_266) (
  aSa (s_iret (n := 0) rfl dJ6_vectorizedMismatch_267) (
  aSn))))))))))))))))))))))))))))))))))))))))))))))))))))))))))))))))))))))))))))))))))))))))))))))))))))))))))))))))))))))))))))))))))))))))
theorem sn122 : SndL "jdk/internal/util/Preconditions" "checkIndex" cJ17_checkIndex 3 (Option.some Jvm.ClassFile.FieldType.int) [] T122 := aSa (s_iload_n rfl rfl dJ17_checkIndex_0) (
  aSa (s_iflt (by decide) rfl dJ17_checkIndex_1) (
  aSa (s_iload_n rfl rfl dJ17_checkIndex_4) (
  aSa (s_iload_n rfl rfl dJ17_checkIndex_5) (
  aSa (s_clt (by decide) rfl dJ17_checkIndex_6) (
  aSa (s_aload_n rfl rfl dJ17_checkIndex_9) (
  aSa (s_iload_n rfl rfl dJ17_checkIndex_10) (
  aSa (s_iload_n rfl rfl dJ17_checkIndex_11) (
  aSa (s_iload_n rfl rfl dJ17_checkIndex_16) (
  aSa (s_iret (n := 0) rfl dJ17_checkIndex_17) (
  aSn))))))))))
theorem sn340 : SndL "jdk/internal/misc/Unsafe" "getLongUnaligned" cJ21_getLongUnaligned 4 (Option.some Jvm.ClassFile.FieldType.long) [] T340 := aSa (s_lload_n rfl rfl dJ21_getLongUnaligned_0) (
  aSa (s_ldc2 q773 rfl dJ21_getLongUnaligned_1) (
  aSa (s_land rfl dJ21_getLongUnaligned_4) (
  aSa (s_lconst (by decide) rfl dJ21_getLongUnaligned_5) (
  aSa (s_lcmp rfl dJ21_getLongUnaligned_6) (
  aSa (s_ifne (by decide) rfl dJ21_getLongUnaligned_7) (
  aSa (s_aload_n rfl rfl dJ21_getLongUnaligned_10) (
  aSa (s_aload_n rfl rfl dJ21_getLongUnaligned_11) (
  aSa (s_lload_n rfl rfl dJ21_getLongUnaligned_12) (
  aSa (s_ulong q774 q776 q775 q777 rfl dJ21_getLongUnaligned_13) (
  aSa (s_lret (n := 0) rfl dJ21_getLongUnaligned_16) (
  aSa (s_lload_n rfl rfl dJ21_getLongUnaligned_17) (
  aSa (s_ldc2 q778 rfl dJ21_getLongUnaligned_18) (
  aSa (s_land rfl dJ21_getLongUnaligned_21) (
  aSa (s_lconst (by decide) rfl dJ21_getLongUnaligned_22) (
  aSa (s_lcmp rfl dJ21_getLongUnaligned_23) (
  aSa (s_ifne (by decide) rfl dJ21_getLongUnaligned_24) (
  aSa (s_aload_n rfl rfl dJ21_getLongUnaligned_27) (
  aSa (s_aload_n rfl rfl dJ21_getLongUnaligned_28) (
  aSa (s_lload_n rfl rfl dJ21_getLongUnaligned_29) (
  aSa (s_aload_n rfl rfl dJ21_getLongUnaligned_33) (
  aSa (s_aload_n rfl rfl dJ21_getLongUnaligned_34) (
  aSa (s_lload_n rfl rfl dJ21_getLongUnaligned_35) (
  aSa (s_ldc2 q783 rfl dJ21_getLongUnaligned_36) (
  aSa (s_ladd rfl dJ21_getLongUnaligned_39) (
  aSa (s_lret (n := 0) rfl dJ21_getLongUnaligned_46) (
  aSa (s_lload_n rfl rfl dJ21_getLongUnaligned_47) (
  aSa (s_lconst (by decide) rfl dJ21_getLongUnaligned_48) (
  aSa (s_land rfl dJ21_getLongUnaligned_49) (
  aSa (s_lconst (by decide) rfl dJ21_getLongUnaligned_50) (
  aSa (s_lcmp rfl dJ21_getLongUnaligned_51) (
  aSa (s_ifne (by decide) rfl dJ21_getLongUnaligned_52) (
  aSa (s_aload_n rfl rfl dJ21_getLongUnaligned_55) (
  aSa (s_aload_n rfl rfl dJ21_getLongUnaligned_56) (
  aSa (s_lload_n rfl rfl dJ21_getLongUnaligned_57) (
  aSa (s_aload_n rfl rfl dJ21_getLongUnaligned_61) (
  aSa (s_aload_n rfl rfl dJ21_getLongUnaligned_62) (
  aSa (s_lload_n rfl rfl dJ21_getLongUnaligned_63) (
  aSa (s_ldc2 q800 rfl dJ21_getLongUnaligned_64) (
  aSa (s_ladd rfl dJ21_getLongUnaligned_67) (
  aSa (s_aload_n rfl rfl dJ21_getLongUnaligned_71) (
  aSa (s_aload_n rfl rfl dJ21_getLongUnaligned_72) (
  aSa (s_lload_n rfl rfl dJ21_getLongUnaligned_73) (
  aSa (s_ldc2 q783 rfl dJ21_getLongUnaligned_74) (
  aSa (s_ladd rfl dJ21_getLongUnaligned_77) (
  aSa (s_aload_n rfl rfl dJ21_getLongUnaligned_81) (
  aSa (s_aload_n rfl rfl dJ21_getLongUnaligned_82) (
  aSa (s_lload_n rfl rfl dJ21_getLongUnaligned_83) (
  aSa (s_ldc2 q801 rfl dJ21_getLongUnaligned_84) (
  aSa (s_ladd rfl dJ21_getLongUnaligned_87) (
  aSa (s_lret (n := 0) rfl dJ21_getLongUnaligned_94) (
  aSa (s_aload_n rfl rfl dJ21_getLongUnaligned_95) (
  aSa (s_aload_n rfl rfl dJ21_getLongUnaligned_96) (
  aSa (s_lload_n rfl rfl dJ21_getLongUnaligned_97) (
  aSa (s_aload_n rfl rfl dJ21_getLongUnaligned_101) (
  aSa (s_aload_n rfl rfl dJ21_getLongUnaligned_102) (
  aSa (s_lload_n rfl rfl dJ21_getLongUnaligned_103) (
  aSa (s_lconst (by decide) rfl dJ21_getLongUnaligned_104) (
  aSa (s_ladd rfl dJ21_getLongUnaligned_105) (
  aSa (s_aload_n rfl rfl dJ21_getLongUnaligned_109) (
  aSa (s_aload_n rfl rfl dJ21_getLongUnaligned_110) (
  aSa (s_lload_n rfl rfl dJ21_getLongUnaligned_111) (
  aSa (s_ldc2 q800 rfl dJ21_getLongUnaligned_112) (
  aSa (s_ladd rfl dJ21_getLongUnaligned_115) (
  aSa (s_aload_n rfl rfl dJ21_getLongUnaligned_119) (
  aSa (s_aload_n rfl rfl dJ21_getLongUnaligned_120) (
  aSa (s_lload_n rfl rfl dJ21_getLongUnaligned_121) (
  aSa (s_ldc2 q778 rfl dJ21_getLongUnaligned_122) (
  aSa (s_ladd rfl dJ21_getLongUnaligned_125) (
  aSa (s_aload_n rfl rfl dJ21_getLongUnaligned_129) (
  aSa (s_aload_n rfl rfl dJ21_getLongUnaligned_130) (
  aSa (s_lload_n rfl rfl dJ21_getLongUnaligned_131) (
  aSa (s_ldc2 q783 rfl dJ21_getLongUnaligned_132) (
  aSa (s_ladd rfl dJ21_getLongUnaligned_135) (
  aSa (s_aload_n rfl rfl dJ21_getLongUnaligned_139) (
  aSa (s_aload_n rfl rfl dJ21_getLongUnaligned_140) (
  aSa (s_lload_n rfl rfl dJ21_getLongUnaligned_141) (
  aSa (s_ldc2 q813 rfl dJ21_getLongUnaligned_142) (
  aSa (s_ladd rfl dJ21_getLongUnaligned_145) (
  aSa (s_aload_n rfl rfl dJ21_getLongUnaligned_149) (
  aSa (s_aload_n rfl rfl dJ21_getLongUnaligned_150) (
  aSa (s_lload_n rfl rfl dJ21_getLongUnaligned_151) (
  aSa (s_ldc2 q801 rfl dJ21_getLongUnaligned_152) (
  aSa (s_ladd rfl dJ21_getLongUnaligned_155) (
  aSa (s_aload_n rfl rfl dJ21_getLongUnaligned_159) (
  aSa (s_aload_n rfl rfl dJ21_getLongUnaligned_160) (
  aSa (s_lload_n rfl rfl dJ21_getLongUnaligned_161) (
  aSa (s_ldc2 q773 rfl dJ21_getLongUnaligned_162) (
  aSa (s_ladd rfl dJ21_getLongUnaligned_165) (
  aSa (s_lret (n := 0) rfl dJ21_getLongUnaligned_172) (
  aSn))))))))))))))))))))))))))))))))))))))))))))))))))))))))))))))))))))))))))))))))))))))))))
