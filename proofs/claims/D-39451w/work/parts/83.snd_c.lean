set_option maxRecDepth 100000
theorem sn123 : SndL "Slidingtray" "<init>" cX1_init 2 (Option.none : Option Jvm.ClassFile.FieldType) [] T123 := aSa (s_aload_n rfl rfl dX1_init_0) (
  aSa (s_oinit q166 q167 q168 rfl dX1_init_1) (
  aSa (s_aload_n rfl rfl dX1_init_4) (
  aSa (s_new (T := TX2) (ty0 := tyX2) tyX2_ok rfl (by decide) in_X2 q169 q170 q103 (by decide) rfl dX1_init_5) (
  aSa (s_dup rfl dX1_init_8) (
  aSa (s_iconst (v0 := 3) (by decide) rfl dX1_init_9) (
  aSa (s_iconst (v0 := 3) (by decide) rfl dX1_init_10) (
  aSa (s_iconst (v0 := 0) (by decide) rfl dX1_init_11) (
  aSa (s_callI rfl q171 q172 q103 q173 (by decide +kernel) (by decide) rfl aHS0 rfl dX1_init_12) (
  aSa (s_putf (T := TX1) (ty0 := tyX1) tyX1_ok nmX1 rfl (by decide) (by decide) in_X1 q1132 (Or.inl rfl) rfl rfl rfl dX1_init_15) (
  aSa (s_aload_n rfl rfl dX1_init_18) (
  aSa (s_aload_n rfl rfl dX1_init_19) (
  aSa (s_getf (T := TX1) rfl (by decide) (by decide) in_X1 q1132 (Or.inl rfl) rfl dX1_init_20) (
  aSa (s_lconst (by decide) rfl dX1_init_23) (
  aSa (s_callS rfl q1017 q1018 q133 q1019 (by decide +kernel) (by decide) aHS0 rfl dX1_init_24) (
  aSa (s_putf (T := TX1) (ty0 := tyX1) tyX1_ok nmX1 rfl (by decide) (by decide) in_X1 q1134 (Or.inl rfl) rfl rfl rfl dX1_init_27) (
  aSa (s_aload_n rfl rfl dX1_init_30) (
  aSa (s_new (T := TX4) (ty0 := tyX4) tyX4_ok rfl (by decide) in_X4 q1067 q1068 q134 (by decide) rfl dX1_init_31) (
  aSa (s_dup rfl dX1_init_34) (
  aSa (s_aload_n rfl rfl dX1_init_35) (
  aSa (s_getf (T := TX1) rfl (by decide) (by decide) in_X1 q1134 (Or.inl rfl) rfl dX1_init_36) (
  aSa (s_callI rfl q1069 q1070 q134 q1071 (by decide +kernel) (by decide) rfl aHS0 rfl dX1_init_39) (
  aSa (s_putf (T := TX1) (ty0 := tyX1) tyX1_ok nmX1 rfl (by decide) (by decide) in_X1 q1135 (Or.inl rfl) rfl rfl rfl dX1_init_42) (
  aSa (s_aload_n rfl rfl dX1_init_45) (
  aSa (s_new (T := TJ2) (ty0 := tyJ2) tyJ2_ok rfl (by decide) in_J2 q1097 q176 q106 (by decide) rfl dX1_init_46) (
  aSa (s_dup rfl dX1_init_49) (
  aSa (s_callI rfl q1098 q178 q106 q179 (by decide +kernel) (by decide) rfl aHS0 rfl dX1_init_50) (
  aSa (s_putfF (T := TX1) (ty0 := tyX1) tyX1_ok nmX1 rfl (by decide) (by decide) in_X1 q1138 (Or.inl rfl) rfl rfl rfl rfl rfl dX1_init_53) (
  aSa (s_aload_n rfl rfl dX1_init_56) (
  aSa (s_new (T := TJ23) (ty0 := tyJ23) tyJ23_ok rfl (by decide) in_J23 q1099 q897 q130 (by decide) rfl dX1_init_57) (
  aSa (s_dup rfl dX1_init_60) (
  aSa (s_callI rfl q1100 q899 q130 q900 (by decide +kernel) (by decide) rfl aHS0 rfl dX1_init_61) (
  aSa (s_putfF (T := TX1) (ty0 := tyX1) tyX1_ok nmX1 rfl (by decide) (by decide) in_X1 q1139 (Or.inl rfl) rfl rfl rfl rfl rfl dX1_init_64) (
  aSa (s_aload_n rfl rfl dX1_init_67) (
  aSa (s_new (T := TJ2) (ty0 := tyJ2) tyJ2_ok rfl (by decide) in_J2 q1097 q176 q106 (by decide) rfl dX1_init_68) (
  aSa (s_dup rfl dX1_init_71) (
  aSa (s_callI rfl q1098 q178 q106 q179 (by decide +kernel) (by decide) rfl aHS0 rfl dX1_init_72) (
  aSa (s_putfF (T := TX1) (ty0 := tyX1) tyX1_ok nmX1 rfl (by decide) (by decide) in_X1 q1140 (Or.inl rfl) rfl rfl rfl rfl rfl dX1_init_75) (
  aSa (s_aload_n rfl rfl dX1_init_78) (
  aSa (s_iconst (v0 := 2) (by decide) rfl dX1_init_79) (
  aSa (s_newq (kd := 7) q1101 q1102 (fun _ => rfl) rfl (by decide) rfl dX1_init_80) (
  aSa (s_putfF (T := TX1) (ty0 := tyX1) tyX1_ok nmX1 rfl (by decide) (by decide) in_X1 q1141 (Or.inl rfl) rfl rfl rfl rfl rfl dX1_init_83) (
  aSa (s_aload_n rfl rfl dX1_init_86) (
  aSa (s_sipush (v0 := 500) (by decide) rfl dX1_init_87) (
  aSa (s_putf (T := TX1) (ty0 := tyX1) tyX1_ok nmX1 rfl (by decide) (by decide) in_X1 q1142 (Or.inl rfl) rfl rfl rfl dX1_init_90) (
  aSa (s_aload_n rfl rfl dX1_init_93) (
  aSa (s_new (T := TX5) (ty0 := tyX5) tyX5_ok rfl (by decide) in_X5 q1103 q1104 q135 (by decide) rfl dX1_init_94) (
  aSa (s_dup rfl dX1_init_97) (
  aSa (s_callIN rfl q1105 q1106 q135 q1107 (by decide +kernel) (by decide) rfl aHS0 rfl dX1_init_98) (
  aSa (s_putf (T := TX1) (ty0 := tyX1) tyX1_ok nmX1 rfl (by decide) (by decide) in_X1 q1144 (Or.inl rfl) rfl rfl rfl dX1_init_101) (
  aSa (s_aload_n rfl rfl dX1_init_104) (
  aSa (s_new (T := TJ2) (ty0 := tyJ2) tyJ2_ok rfl (by decide) in_J2 q1097 q176 q106 (by decide) rfl dX1_init_105) (
  aSa (s_dup rfl dX1_init_108) (
  aSa (s_callI rfl q1098 q178 q106 q179 (by decide +kernel) (by decide) rfl aHS0 rfl dX1_init_109) (
  aSa (s_putf (T := TX1) (ty0 := tyX1) tyX1_ok nmX1 rfl (by decide) (by decide) in_X1 q1145 (Or.inl rfl) rfl rfl rfl dX1_init_112) (
  aSa (s_aload_n rfl rfl dX1_init_115) (
  aSa (s_iconst (v0 := 4) (by decide) rfl dX1_init_116) (
  aSa (s_newa_int q915 rfl dX1_init_117) (
  aSa (s_putfF (T := TX1) (ty0 := tyX1) tyX1_ok nmX1 rfl (by decide) (by decide) in_X1 q1146 (Or.inl rfl) rfl rfl rfl rfl rfl dX1_init_119) (
  aSa (s_aload_n rfl rfl dX1_init_122) (
  aSa (s_iconst (v0 := 4) (by decide) rfl dX1_init_123) (
  aSa (s_newa_int q915 rfl dX1_init_124) (
  aSa (s_putfF (T := TX1) (ty0 := tyX1) tyX1_ok nmX1 rfl (by decide) (by decide) in_X1 q1147 (Or.inl rfl) rfl rfl rfl rfl rfl dX1_init_126) (
  aSa (s_iconst (v0 := 0) (by decide) rfl dX1_init_129) (
  aSa (s_istore_n rfl (by decide) rfl dX1_init_130) (
  aSa (s_iload_n rfl rfl dX1_init_131) (
  aSa (s_iconst (v0 := 4) (by decide) rfl dX1_init_132) (
  aSa (s_cge (by decide) rfl dX1_init_133) (
  aSa (s_aload_n rfl rfl dX1_init_136) (
  aSa (s_getf (T := TX1) rfl (by decide) (by decide) in_X1 q1140 (Or.inl rfl) rfl dX1_init_137) (
  aSa (s_new (T := TJ2) (ty0 := tyJ2) tyJ2_ok rfl (by decide) in_J2 q1097 q176 q106 (by decide) rfl dX1_init_140) (
  aSa (s_dup rfl dX1_init_143) (
  aSa (s_callI rfl q1098 q178 q106 q179 (by decide +kernel) (by decide) rfl aHS0 rfl dX1_init_144) (
  aSa (s_callV (List.forall_mem_cons.mpr ⟨d_F (x := ⟨"java/util/List", "add", "(Ljava/lang/Object;)Z"⟩) rfl rfl (aL1 q1131 (aL1 q253 (aL1 q255 (aL1 q106 aL0)))) q257 q251 q250 q256 q254 q252 (by decide +kernel) (by decide) rfl dX1_init_147, fun _ h => absurd h List.not_mem_nil⟩) aHS0) (
  aSa (s_pop rfl dX1_init_152) (
  aSa (s_iinc (by decide) rfl dX1_init_153) (
  aSa (s_goto (n := 0) (by decide) dX1_init_156) (
  aSa (s_ret (n := 0) rfl dX1_init_159) (
  aSn))))))))))))))))))))))))))))))))))))))))))))))))))))))))))))))))))))))))))))))
theorem sn124 : SndL "Slidingtray" "arrangements" cX1_arrangements 4 (Option.some Jvm.ClassFile.FieldType.long) [] T124 := aSa (s_lconst (by decide) rfl dX1_arrangements_0) (
  aSa (s_lstore_n rfl (by decide) rfl dX1_arrangements_1) (
  aSa (s_iconst (v0 := 2) (by decide) rfl dX1_arrangements_2) (
  aSa (s_istore_n rfl (by decide) rfl dX1_arrangements_3) (
  aSa (s_iload_n rfl rfl dX1_arrangements_4) (
  aSa (s_aload_n rfl rfl dX1_arrangements_5) (
  aSa (s_getf (T := TX1) rfl (by decide) (by decide) in_X1 q1132 (Or.inl rfl) rfl dX1_arrangements_6) (
  aSa (s_callV (List.forall_mem_cons.mpr ⟨d_V rfl rfl q1226 q1023 q1024 q103 q1025 rfl (by decide +kernel) (by decide) rfl dX1_arrangements_9, fun _ h => absurd h List.not_mem_nil⟩) aHS0) (
  aSa (s_cgt (by decide) rfl dX1_arrangements_12) (
  aSa (s_lload_n rfl rfl dX1_arrangements_15) (
  aSa (s_iload_n rfl rfl dX1_arrangements_16) (
  aSa (s_i2l rfl dX1_arrangements_17) (
  aSa (s_lmul rfl dX1_arrangements_18) (
  aSa (s_lstore_n rfl (by decide) rfl dX1_arrangements_19) (
  aSa (s_iinc (by decide) rfl dX1_arrangements_20) (
  aSa (s_goto (n := 0) (by decide) dX1_arrangements_23) (
  aSa (s_lload_n rfl rfl dX1_arrangements_26) (
  aSa (s_lret (n := 0) rfl dX1_arrangements_27) (
  aSn))))))))))))))))))
theorem sn125 : SndL "Slidingtray" "best" cX1_best 15 (Option.some (Jvm.ClassFile.FieldType.object "Slidingtray$Found")) [] T125 := aSa (s_new (T := TX5) (ty0 := tyX5) tyX5_ok rfl (by decide) in_X5 q1103 q1104 q135 (by decide) rfl dX1_best_0) (
  aSa (s_dup rfl dX1_best_3) (
  aSa (s_callIN rfl q1105 q1106 q135 q1107 (by decide +kernel) (by decide) rfl aHS0 rfl dX1_best_4) (
  aSa (s_astore (by decide) rfl dX1_best_7) (
  aSa (s_new (T := TJ38) (ty0 := tyJ38) tyJ38_ok rfl (by decide) in_J38 q1752 q1435 q151 (by decide) rfl dX1_best_9) (
  aSa (s_dup rfl dX1_best_12) (
  aSa (s_callI rfl q1753 q1437 q151 q1438 (by decide +kernel) (by decide) rfl aHS0 rfl dX1_best_13) (
  aSa (s_astore (by decide) rfl dX1_best_16) (
  aSa (s_new (T := TJ28) (ty0 := tyJ28) tyJ28_ok rfl (by decide) in_J28 q1754 q1755 q139 (by decide) rfl dX1_best_18) (
  aSa (s_dup rfl dX1_best_21) (
  aSa (s_callI rfl q1756 q1757 q139 q1758 (by decide +kernel) (by decide) rfl aHS0 rfl dX1_best_22) (
  aSa (s_astore (by decide) rfl dX1_best_25) (
  aSa (s_new (T := TX9) (ty0 := tyX9) tyX9_ok rfl (by decide) in_X9 q1788 q1475 q152 (by decide) rfl dX1_best_27) (
  aSa (s_dup rfl dX1_best_30) (
  aSa (s_aload_n rfl rfl dX1_best_31) (
  aSa (s_aload_n rfl rfl dX1_best_32) (
  aSa (s_aload_n rfl rfl dX1_best_33) (
  aSa (s_iload_n rfl rfl dX1_best_34) (
  aSa (s_callV (List.forall_mem_cons.mpr ⟨d_V rfl rfl q1264 q1266 qs17 q102 q1267 rfl (by decide +kernel) (by decide) rfl dX1_best_35, fun _ h => absurd h List.not_mem_nil⟩) aHS0) (
  aSa (s_iconst (v0 := 0) (by decide) rfl dX1_best_38) (
  aSa (s_null rfl dX1_best_39) (
  aSa (s_iconst (v0 := (-1)) (by decide) rfl dX1_best_40) (
  aSa (s_callI rfl q1789 q1477 q152 q1478 (by decide +kernel) (by decide) rfl aHS0 rfl dX1_best_41) (
  aSa (s_astore (by decide) rfl dX1_best_44) (
  aSa (s_aload rfl dX1_best_46) (
  aSa (s_aload rfl dX1_best_48) (
  aSa (s_getfN (T := TX9) rfl (by decide) (by decide) in_X9 q1488 rfl rfl dX1_best_50) (
  aSa (s_callS rfl q1790 q1791 q129 q1792 (by decide +kernel) (by decide) aHS0 rfl dX1_best_53) (
  aSa (s_aload rfl dX1_best_56) (
  aSa (s_callV (List.forall_mem_cons.mpr ⟨d_V rfl rfl q1806 q1807 q1808 q139 q1809 rfl (by decide +kernel) (by decide) rfl dX1_best_58, fun _ h => absurd h List.not_mem_nil⟩) aHS0) (
  aSa (s_pop rfl dX1_best_61) (
  aSa (s_aload rfl dX1_best_62) (
  aSa (s_aload rfl dX1_best_64) (
  aSa (s_callV (List.forall_mem_cons.mpr ⟨d_V rfl rfl q1891 q1510 q1511 q151 q1512 rfl (by decide +kernel) (by decide) rfl dX1_best_66, fun _ h => absurd h List.not_mem_nil⟩) aHS0) (
  aSa (s_pop rfl dX1_best_69) (
  aSa (s_aload rfl dX1_best_70) (
  aSa (s_callV (List.forall_mem_cons.mpr ⟨d_U (x := ⟨"java/util/PriorityQueue", "isEmpty", "()Z"⟩) (ow := "java/util/AbstractCollection") rfl rfl (aL1 q1892 (aL1 q1671 (aL1 q1673 (aL1 q1674 (aL1 q104 aL0))))) q1675 rfl (by decide +kernel) (by decide) rfl dX1_best_72, fun _ h => absurd h List.not_mem_nil⟩) aHS0) (
  aSa (s_ifne (by decide) rfl dX1_best_75) (
  aSa (s_aload rfl dX1_best_78) (
  aSa (s_callV (List.forall_mem_cons.mpr ⟨d_V rfl rfl q1893 q1706 q1707 q151 q1708 rfl (by decide +kernel) (by decide) rfl dX1_best_80, fun _ h => absurd h List.not_mem_nil⟩) aHS0) (
  aSa (s_cast q1788 (List.forall_mem_cons.mpr ⟨⟨_, rfl, (Or.inl rfl)⟩, fun _ h => absurd h List.not_mem_nil⟩) (fun t h => absurd h List.not_mem_nil) rfl dX1_best_83) (
  aSa (s_astore (by decide) rfl dX1_best_86) (
  aSa (s_aload rfl dX1_best_88) (
  aSa (s_aload rfl dX1_best_90) (
  aSa (s_getfN (T := TX9) rfl (by decide) (by decide) in_X9 q1488 rfl rfl dX1_best_92) (
  aSa (s_callS rfl q1790 q1791 q129 q1792 (by decide +kernel) (by decide) aHS0 rfl dX1_best_95) (
  aSa (s_callV (List.forall_mem_cons.mpr ⟨d_V rfl rfl q1894 q1895 q1896 q139 q1897 rfl (by decide +kernel) (by decide) rfl dX1_best_98, fun _ h => absurd h List.not_mem_nil⟩) aHS0) (
  aSa (s_aload rfl dX1_best_101) (
  aSa (s_aceq (by decide) rfl dX1_best_103) (
  aSa (s_goto (n := 0) (by decide) dX1_best_106) (
  aSa (s_aload rfl dX1_best_109) (
  aSa (s_getfN (T := TX5) rfl (by decide) (by decide) in_X5 q1115 rfl rfl dX1_best_111) (
  aSa (s_iload_n rfl rfl dX1_best_114) (
  aSa (s_cne (by decide) rfl dX1_best_115) (
  aSa (s_new (T := TX10) (ty0 := tyX10) tyX10_ok rfl (by decide) in_X10 q1747 q1906 q155 (by decide) rfl dX1_best_118) (
  aSa (s_dup rfl dX1_best_121) (
  aSa (s_callI rfl q1914 q1915 q155 q1916 (by decide +kernel) (by decide) rfl aHS0 rfl dX1_best_122) (
  aSa (s_athrow (n := 0) rfl (by decide) rfl (by decide +kernel) dX1_best_125) (
  aSa (s_aload rfl dX1_best_126) (
  aSa (s_dup rfl dX1_best_128) (
  aSa (s_getfN (T := TX5) rfl (by decide) (by decide) in_X5 q1115 rfl rfl dX1_best_129) (
  aSa (s_iconst (v0 := 1) (by decide) rfl dX1_best_132) (
  aSa (s_iadd rfl dX1_best_133) (
  aSa (s_putfN (T := TX5) (ty0 := tyX5) tyX5_ok nmX5 rfl (by decide) (by decide) in_X5 q1115 rfl rfl rfl rfl dX1_best_134) (
  aSa (s_aload_n rfl rfl dX1_best_137) (
  aSa (s_getf (T := TX1) rfl (by decide) (by decide) in_X1 q1135 (Or.inl rfl) rfl dX1_best_138) (
  aSa (s_aload rfl dX1_best_141) (
  aSa (s_getfN (T := TX9) rfl (by decide) (by decide) in_X9 q1483 rfl rfl dX1_best_143) (
  aSa (s_callV (List.forall_mem_cons.mpr ⟨d_V rfl rfl q1925 q1471 q1472 q134 q1473 rfl (by decide +kernel) (by decide) rfl dX1_best_146, fun _ h => absurd h List.not_mem_nil⟩) aHS0) (
  aSa (s_ifeq (by decide) rfl dX1_best_149) (
  aSa (s_aload rfl dX1_best_152) (
  aSa (s_aload rfl dX1_best_154) (
  aSa (s_getfN (T := TX9) rfl (by decide) (by decide) in_X9 q1491 rfl rfl dX1_best_156) (
  aSa (s_putfN (T := TX5) (ty0 := tyX5) tyX5_ok nmX5 rfl (by decide) (by decide) in_X5 q1113 rfl rfl rfl rfl dX1_best_159) (
  aSa (s_aload rfl dX1_best_162) (
  aSa (s_astore (by decide) rfl dX1_best_164) (
  aSa (s_aload rfl dX1_best_166) (
  aSa (s_getfN (T := TX9) rfl (by decide) (by decide) in_X9 q1493 rfl rfl dX1_best_168) (
  aSa (s_ifnull (by decide) rfl dX1_best_171) (
  aSa (s_aload rfl dX1_best_174) (
  aSa (s_getfN (T := TX5) rfl (by decide) (by decide) in_X5 q1120 rfl rfl dX1_best_176) (
  aSa (s_iconst (v0 := 0) (by decide) rfl dX1_best_179) (
  aSa (s_aload rfl dX1_best_180) (
  aSa (s_getfN (T := TX9) rfl (by decide) (by decide) in_X9 q1495 rfl rfl dX1_best_182) (
  aSa (s_callS rfl q1926 q229 q109 q230 (by decide +kernel) (by decide) aHS0 rfl dX1_best_185) (
  aSa (s_callV (List.forall_mem_cons.mpr ⟨d_F (x := ⟨"java/util/List", "add", "(ILjava/lang/Object;)V"⟩) rfl rfl (aL1 q1928 (aL1 q1931 (aL1 q1933 (aL1 q106 aL0)))) q1935 q1930 q1929 q1934 q1932 q252 (by decide +kernel) (by decide) rfl dX1_best_188, fun _ h => absurd h List.not_mem_nil⟩) aHS0) (
  aSa (s_aload rfl dX1_best_193) (
  aSa (s_getfN (T := TX9) rfl (by decide) (by decide) in_X9 q1493 rfl rfl dX1_best_195) (
  aSa (s_astore (by decide) rfl dX1_best_198) (
  aSa (s_goto (n := 0) (by decide) dX1_best_200) (
  aSa (s_aload rfl dX1_best_203) (
  aSa (s_aret (n := 0) rfl (Or.inl ⟨_, rfl⟩) dX1_best_205) (
  aSa (s_iconst (v0 := 0) (by decide) rfl dX1_best_206) (
  aSa (s_istore (by decide) rfl dX1_best_207) (
  aSa (s_iload rfl dX1_best_209) (
  aSa (s_iconst (v0 := 3) (by decide) rfl dX1_best_211) (
  aSa (s_cgt (by decide) rfl dX1_best_212) (
  aSa (s_aload rfl dX1_best_215) (
  aSa (s_getfN (T := TX9) rfl (by decide) (by decide) in_X9 q1483 rfl rfl dX1_best_217) (
  aSa (s_iload rfl dX1_best_220) (
  aSa (s_callV (List.forall_mem_cons.mpr ⟨d_V rfl rfl q1252 q1253 q1254 q133 q1255 rfl (by decide +kernel) (by decide) rfl dX1_best_222, fun _ h => absurd h List.not_mem_nil⟩) aHS0) (
  aSa (s_istore (by decide) rfl dX1_best_225) (
  aSa (s_iload rfl dX1_best_227) (
  aSa (s_ifle (by decide) rfl dX1_best_229) (
  aSa (s_aload rfl dX1_best_232) (
  aSa (s_getfN (T := TX9) rfl (by decide) (by decide) in_X9 q1483 rfl rfl dX1_best_234) (
  aSa (s_iload rfl dX1_best_237) (
  aSa (s_callV (List.forall_mem_cons.mpr ⟨d_V rfl rfl q1256 q1257 q1258 q133 q1259 rfl (by decide +kernel) (by decide) rfl dX1_best_239, fun _ h => absurd h List.not_mem_nil⟩) aHS0) (
  aSa (s_astore (by decide) rfl dX1_best_242) (
  aSa (s_aload rfl dX1_best_244) (
  aSa (s_getfN (T := TX9) rfl (by decide) (by decide) in_X9 q1491 rfl rfl dX1_best_246) (
  aSa (s_aload_n rfl rfl dX1_best_249) (
  aSa (s_getf (T := TX1) rfl (by decide) (by decide) in_X1 q1135 (Or.inl rfl) rfl dX1_best_250) (
  aSa (s_getfN (T := TX4) rfl (by decide) (by decide) in_X4 q1087 rfl rfl dX1_best_253) (
  aSa (s_iload rfl dX1_best_256) (
  aSa (s_iald rfl dX1_best_258) (
  aSa (s_iadd rfl dX1_best_259) (
  aSa (s_istore (by decide) rfl dX1_best_260) (
  aSa (s_aload rfl dX1_best_262) (
  aSa (s_aload rfl dX1_best_264) (
  aSa (s_callV (List.forall_mem_cons.mpr ⟨d_V rfl rfl q1198 q1199 q1200 q133 q1201 rfl (by decide +kernel) (by decide) rfl dX1_best_266, fun _ h => absurd h List.not_mem_nil⟩) aHS0) (
  aSa (s_callS rfl q1790 q1791 q129 q1792 (by decide +kernel) (by decide) aHS0 rfl dX1_best_269) (
  aSa (s_callV (List.forall_mem_cons.mpr ⟨d_V rfl rfl q1894 q1895 q1896 q139 q1897 rfl (by decide +kernel) (by decide) rfl dX1_best_272, fun _ h => absurd h List.not_mem_nil⟩) aHS0) (
  aSa (s_cast q1788 (List.forall_mem_cons.mpr ⟨⟨_, rfl, (Or.inl rfl)⟩, fun _ h => absurd h List.not_mem_nil⟩) (fun t h => absurd h List.not_mem_nil) rfl dX1_best_275) (
  aSa (s_astore (by decide) rfl dX1_best_278) (
  aSa (s_aload rfl dX1_best_280) (
  aSa (s_ifnull (by decide) rfl dX1_best_282) (
  aSa (s_iload rfl dX1_best_285) (
  aSa (s_aload rfl dX1_best_287) (
  aSa (s_getfN (T := TX9) rfl (by decide) (by decide) in_X9 q1491 rfl rfl dX1_best_289) (
  aSa (s_cge (by decide) rfl dX1_best_292) (
  aSa (s_new (T := TX9) (ty0 := tyX9) tyX9_ok rfl (by decide) in_X9 q1788 q1475 q152 (by decide) rfl dX1_best_295) (
  aSa (s_dup rfl dX1_best_298) (
  aSa (s_aload rfl dX1_best_299) (
  aSa (s_aload rfl dX1_best_301) (
  aSa (s_ifnonnull (by decide) rfl dX1_best_303) (
  aSa (s_aload_n rfl rfl dX1_best_306) (
  aSa (s_aload rfl dX1_best_307) (
  aSa (s_iload_n rfl rfl dX1_best_309) (
  aSa (s_callV (List.forall_mem_cons.mpr ⟨d_V rfl rfl q1264 q1266 qs17 q102 q1267 rfl (by decide +kernel) (by decide) rfl dX1_best_310, fun _ h => absurd h List.not_mem_nil⟩) aHS0) (
  aSa (s_goto (n := 0) (by decide) dX1_best_313) (
  aSa (s_aload rfl dX1_best_316) (
  aSa (s_getfN (T := TX9) rfl (by decide) (by decide) in_X9 q1485 rfl rfl dX1_best_318) (
  aSa (s_iload rfl dX1_best_321) (
  aSa (s_aload rfl dX1_best_323) (
  aSa (s_iload rfl dX1_best_325) (
  aSa (s_callI rfl q1789 q1477 q152 q1478 (by decide +kernel) (by decide) rfl aHS0 rfl dX1_best_327) (
  aSa (s_astore (by decide) rfl dX1_best_330) (
  aSa (s_aload rfl dX1_best_332) (
  aSa (s_aload rfl dX1_best_334) (
  aSa (s_getfN (T := TX9) rfl (by decide) (by decide) in_X9 q1488 rfl rfl dX1_best_336) (
  aSa (s_callS rfl q1790 q1791 q129 q1792 (by decide +kernel) (by decide) aHS0 rfl dX1_best_339) (
  aSa (s_aload rfl dX1_best_342) (
  aSa (s_callV (List.forall_mem_cons.mpr ⟨d_V rfl rfl q1806 q1807 q1808 q139 q1809 rfl (by decide +kernel) (by decide) rfl dX1_best_344, fun _ h => absurd h List.not_mem_nil⟩) aHS0) (
  aSa (s_pop rfl dX1_best_347) (
  aSa (s_aload rfl dX1_best_348) (
  aSa (s_aload rfl dX1_best_350) (
  aSa (s_callV (List.forall_mem_cons.mpr ⟨d_V rfl rfl q1891 q1510 q1511 q151 q1512 rfl (by decide +kernel) (by decide) rfl dX1_best_352, fun _ h => absurd h List.not_mem_nil⟩) aHS0) (
  aSa (s_pop rfl dX1_best_355) (
  aSa (s_iinc (by decide) rfl dX1_best_356) (
  aSa (s_goto (n := 0) (by decide) dX1_best_359) (
  aSa (s_goto (n := 0) (by decide) dX1_best_362) (
  aSa (s_aload rfl dX1_best_365) (
  aSa (s_aret (n := 0) rfl (Or.inl ⟨_, rfl⟩) dX1_best_367) (
  aSn))))))))))))))))))))))))))))))))))))))))))))))))))))))))))))))))))))))))))))))))))))))))))))))))))))))))))))))))))))))))))))))))))))))))))))))))))))))))))))))))))))
theorem hs126_15 : aHS "Slidingtray" [((13 : Nat), (28 : Nat), (29 : Nat), (347 : Nat))] 15 [("Slidingtray$Beyond", some 29)] := by
  refine ⟨fun h => (by cases h), fun E r h => ?_⟩
  simp only [List.lookup_cons] at h
  split at h
  · next e =>
    cases h
    obtain rfl := eq_of_beq e
    exact ⟨29, rfl, (tableOf [((13 : Nat), (28 : Nat), (29 : Nat), (347 : Nat))]).take 0, (tableOf [((13 : Nat), (28 : Nat), (29 : Nat), (347 : Nat))])[0]'(by decide +kernel), (tableOf [((13 : Nat), (28 : Nat), (29 : Nat), (347 : Nat))]).drop 1, "Slidingtray$Beyond", by rfl, fun _ h => absurd h List.not_mem_nil, by decide +kernel, by decide +kernel, by decide +kernel, q1747, q1907⟩
  · cases h
theorem sn126 : SndL "Slidingtray" "both" cX1_both 2 (Option.some Jvm.ClassFile.FieldType.int) [((13 : Nat), (28 : Nat), (29 : Nat), (347 : Nat))] T126 := aSa (s_aload_n rfl rfl dX1_both_0) (
  aSa (s_getf (T := TX1) rfl (by decide) (by decide) in_X1 q1135 (Or.inl rfl) rfl dX1_both_1) (
  aSa (s_getfN (T := TX4) rfl (by decide) (by decide) in_X4 q1082 rfl rfl dX1_both_4) (
  aSa (s_callV (List.forall_mem_cons.mpr ⟨d_V rfl rfl q2467 q2468 q2469 q107 q2470 rfl (by decide +kernel) (by decide) rfl dX1_both_7, fun _ h => absurd h List.not_mem_nil⟩) ⟨fun _ => (by decide +kernel), fun E r h => (by cases h)⟩) (
  aSa (s_callS rfl q2121 q2122 q102 q2123 (by decide +kernel) (by decide) ⟨fun _ => (by decide +kernel), fun E r h => (by cases h)⟩ rfl dX1_both_10) (
  aSa (s_aload_n rfl rfl dX1_both_13) (
  aSa (s_aload_n rfl rfl dX1_both_14) (
  aSa (s_callV (List.forall_mem_cons.mpr ⟨d_V rfl rfl q2506 q2508 qs45 q102 q2509 rfl (by decide +kernel) (by decide) rfl dX1_both_15, fun _ h => absurd h List.not_mem_nil⟩) hs126_15) (
  aSa (s_putf (T := TX1) (ty0 := tyX1) tyX1_ok nmX1 rfl (by decide) (by decide) in_X1 q1144 (Or.inl rfl) rfl rfl rfl dX1_both_18) (
  aSa (s_aload_n rfl rfl dX1_both_21) (
  aSa (s_getf (T := TX1) rfl (by decide) (by decide) in_X1 q1144 (Or.inl rfl) rfl dX1_both_22) (
  aSa (s_getfN (T := TX5) rfl (by decide) (by decide) in_X5 q1113 rfl rfl dX1_both_25) (
  aSa (s_iret (n := 0) rfl dX1_both_28) (
  aSa (s_astore_n rfl (by decide) rfl dX1_both_29) (
  aSa (s_throw0 (n := 0) (names := ["java/lang/RuntimeException", "java/lang/Exception"]) (by decide +kernel) (by decide +kernel) (by decide) q2124 q131 thr0 thr0g (by decide +kernel) dX1_both_30 dX1_both_33 dX1_both_34 dX1_both_37) (
  aSn)))))))))))))))
theorem sn127 : SndL "Slidingtray" "checkArgument" cX1_checkArgument 1 (Option.none : Option Jvm.ClassFile.FieldType) [] T127 := aSa (s_iload_n rfl rfl dX1_checkArgument_0) (
  aSa (s_ifne (by decide) rfl dX1_checkArgument_1) (
  aSa (s_throw0 (n := 0) (names := ["java/lang/RuntimeException", "java/lang/Exception"]) (by decide +kernel) (by decide +kernel) (by decide) q2013 q125 thr1 thr1g (by decide +kernel) dX1_checkArgument_4 dX1_checkArgument_7 dX1_checkArgument_8 dX1_checkArgument_11) (
  aSa (s_ret (n := 0) rfl dX1_checkArgument_12) (
  aSn))))
theorem sn128 : SndL "Slidingtray" "checkEstimate" cX1_checkEstimate 1 (Option.none : Option Jvm.ClassFile.FieldType) [] T128 := aSa (s_iload_n rfl rfl dX1_checkEstimate_0) (
  aSa (s_iflt (by decide) rfl dX1_checkEstimate_1) (
  aSa (s_iload_n rfl rfl dX1_checkEstimate_4) (
  aSa (s_iconst (v0 := 4) (by decide) rfl dX1_checkEstimate_5) (
  aSa (s_cgt (by decide) rfl dX1_checkEstimate_6) (
  aSa (s_iconst (v0 := 1) (by decide) rfl dX1_checkEstimate_9) (
  aSa (s_goto (n := 0) (by decide) dX1_checkEstimate_10) (
  aSa (s_iconst (v0 := 0) (by decide) rfl dX1_checkEstimate_13) (
  aSa (s_callS rfl q2010 q2011 q102 q2012 (by decide +kernel) (by decide) aHS0 rfl dX1_checkEstimate_14) (
  aSa (s_ret (n := 0) rfl dX1_checkEstimate_17) (
  aSn))))))))))
theorem sn129 : SndL "Slidingtray" "checkIndex" cX1_checkIndex 1 (Option.none : Option Jvm.ClassFile.FieldType) [] T129 := aSa (s_iload_n rfl rfl dX1_checkIndex_0) (
  aSa (s_ifne (by decide) rfl dX1_checkIndex_1) (
  aSa (s_throw0 (n := 0) (names := ["java/lang/RuntimeException", "java/lang/Exception"]) (by decide +kernel) (by decide +kernel) (by decide) q2086 q118 thr2 thr2g (by decide +kernel) dX1_checkIndex_4 dX1_checkIndex_7 dX1_checkIndex_8 dX1_checkIndex_11) (
  aSa (s_ret (n := 0) rfl dX1_checkIndex_12) (
  aSn))))
theorem sn130 : SndL "Slidingtray" "checkState" cX1_checkState 1 (Option.none : Option Jvm.ClassFile.FieldType) [] T130 := aSa (s_iload_n rfl rfl dX1_checkState_0) (
  aSa (s_ifne (by decide) rfl dX1_checkState_1) (
  aSa (s_throw0 (n := 0) (names := ["java/lang/RuntimeException", "java/lang/Exception"]) (by decide +kernel) (by decide +kernel) (by decide) q2124 q131 thr0 thr0g (by decide +kernel) dX1_checkState_4 dX1_checkState_7 dX1_checkState_8 dX1_checkState_11) (
  aSa (s_ret (n := 0) rfl dX1_checkState_12) (
  aSn))))
theorem hs131_11 : aHS "Slidingtray" [((4 : Nat), (24 : Nat), (25 : Nat), (347 : Nat))] 11 [("Slidingtray$Beyond", some 25)] := by
  refine ⟨fun h => (by cases h), fun E r h => ?_⟩
  simp only [List.lookup_cons] at h
  split at h
  · next e =>
    cases h
    obtain rfl := eq_of_beq e
    exact ⟨25, rfl, (tableOf [((4 : Nat), (24 : Nat), (25 : Nat), (347 : Nat))]).take 0, (tableOf [((4 : Nat), (24 : Nat), (25 : Nat), (347 : Nat))])[0]'(by decide +kernel), (tableOf [((4 : Nat), (24 : Nat), (25 : Nat), (347 : Nat))]).drop 1, "Slidingtray$Beyond", by rfl, fun _ h => absurd h List.not_mem_nil, by decide +kernel, by decide +kernel, by decide +kernel, q1747, q1907⟩
  · cases h
theorem hs131_18 : aHS "Slidingtray" [((4 : Nat), (24 : Nat), (25 : Nat), (347 : Nat))] 18 [("Slidingtray$Beyond", some 25)] := by
  refine ⟨fun h => (by cases h), fun E r h => ?_⟩
  simp only [List.lookup_cons] at h
  split at h
  · next e =>
    cases h
    obtain rfl := eq_of_beq e
    exact ⟨25, rfl, (tableOf [((4 : Nat), (24 : Nat), (25 : Nat), (347 : Nat))]).take 0, (tableOf [((4 : Nat), (24 : Nat), (25 : Nat), (347 : Nat))])[0]'(by decide +kernel), (tableOf [((4 : Nat), (24 : Nat), (25 : Nat), (347 : Nat))]).drop 1, "Slidingtray$Beyond", by rfl, fun _ h => absurd h List.not_mem_nil, by decide +kernel, by decide +kernel, by decide +kernel, q1747, q1907⟩
  · cases h
theorem hs131_21 : aHS "Slidingtray" [((4 : Nat), (24 : Nat), (25 : Nat), (347 : Nat))] 21 [("Slidingtray$Beyond", some 25)] := by
  refine ⟨fun h => (by cases h), fun E r h => ?_⟩
  simp only [List.lookup_cons] at h
  split at h
  · next e =>
    cases h
    obtain rfl := eq_of_beq e
    exact ⟨25, rfl, (tableOf [((4 : Nat), (24 : Nat), (25 : Nat), (347 : Nat))]).take 0, (tableOf [((4 : Nat), (24 : Nat), (25 : Nat), (347 : Nat))])[0]'(by decide +kernel), (tableOf [((4 : Nat), (24 : Nat), (25 : Nat), (347 : Nat))]).drop 1, "Slidingtray$Beyond", by rfl, fun _ h => absurd h List.not_mem_nil, by decide +kernel, by decide +kernel, by decide +kernel, q1747, q1907⟩
  · cases h
theorem sn131 : SndL "Slidingtray" "deepen" cX1_deepen 3 (Option.some Jvm.ClassFile.FieldType.int) [((4 : Nat), (24 : Nat), (25 : Nat), (347 : Nat))] T131 := aSa (s_iload_n rfl rfl dX1_deepen_0) (
  aSa (s_callS rfl q2478 q2479 q102 q2480 (by decide +kernel) (by decide) ⟨fun _ => (by decide +kernel), fun E r h => (by cases h)⟩ rfl dX1_deepen_1) (
  aSa (s_aload_n rfl rfl dX1_deepen_4) (
  aSa (s_new (T := TX11) (ty0 := tyX11) tyX11_ok rfl (by decide) in_X11 q1953 q1954 q156 (by decide) rfl dX1_deepen_5) (
  aSa (s_dup rfl dX1_deepen_8) (
  aSa (s_aload_n rfl rfl dX1_deepen_9) (
  aSa (s_iload_n rfl rfl dX1_deepen_10) (
  aSa (s_callI rfl q1955 q1956 q156 q1957 (by decide +kernel) (by decide) rfl hs131_11 rfl dX1_deepen_11) (
  aSa (s_aload_n rfl rfl dX1_deepen_14) (
  aSa (s_getf (T := TX1) rfl (by decide) (by decide) in_X1 q1134 (Or.inl rfl) rfl dX1_deepen_15) (
  aSa (s_callV (List.forall_mem_cons.mpr ⟨d_V rfl rfl q1977 q1978 q1979 q156 q1980 rfl (by decide +kernel) (by decide) rfl dX1_deepen_18, fun _ h => absurd h List.not_mem_nil⟩) hs131_18) (
  aSa (s_callV (List.forall_mem_cons.mpr ⟨d_V rfl rfl q2488 q2490 qs44 q102 q2491 rfl (by decide +kernel) (by decide) rfl dX1_deepen_21, fun _ h => absurd h List.not_mem_nil⟩) hs131_21) (
  aSa (s_iret (n := 0) rfl dX1_deepen_24) (
  aSa (s_astore_n rfl (by decide) rfl dX1_deepen_25) (
  aSa (s_throw0 (n := 0) (names := ["java/lang/RuntimeException", "java/lang/Exception"]) (by decide +kernel) (by decide +kernel) (by decide) q2124 q131 thr0 thr0g (by decide +kernel) dX1_deepen_26 dX1_deepen_29 dX1_deepen_30 dX1_deepen_33) (
  aSn)))))))))))))))
theorem sn132 : SndL "Slidingtray" "displaced" cX1_displaced 5 (Option.some Jvm.ClassFile.FieldType.int) [] T132 := aSa (s_iconst (v0 := 0) (by decide) rfl dX1_displaced_0) (
  aSa (s_istore_n rfl (by decide) rfl dX1_displaced_1) (
  aSa (s_iconst (v0 := 0) (by decide) rfl dX1_displaced_2) (
  aSa (s_istore_n rfl (by decide) rfl dX1_displaced_3) (
  aSa (s_iload_n rfl rfl dX1_displaced_4) (
  aSa (s_aload_n rfl rfl dX1_displaced_5) (
  aSa (s_getfN (T := TX3) rfl (by decide) (by decide) in_X3 q1056 rfl rfl dX1_displaced_6) (
  aSa (s_alen rfl dX1_displaced_9) (
  aSa (s_cge (by decide) rfl dX1_displaced_10) (
  aSa (s_aload_n rfl rfl dX1_displaced_13) (
  aSa (s_getfN (T := TX3) rfl (by decide) (by decide) in_X3 q1056 rfl rfl dX1_displaced_14) (
  aSa (s_iload_n rfl rfl dX1_displaced_17) (
  aSa (s_iald rfl dX1_displaced_18) (
  aSa (s_istore (by decide) rfl dX1_displaced_19) (
  aSa (s_iload_n rfl rfl dX1_displaced_21) (
  aSa (s_aload_n rfl rfl dX1_displaced_22) (
  aSa (s_getf (T := TX1) rfl (by decide) (by decide) in_X1 q1135 (Or.inl rfl) rfl dX1_displaced_23) (
  aSa (s_iload rfl dX1_displaced_26) (
  aSa (s_callV (List.forall_mem_cons.mpr ⟨d_V rfl rfl q1231 q1232 q1233 q134 q1234 rfl (by decide +kernel) (by decide) rfl dX1_displaced_28, fun _ h => absurd h List.not_mem_nil⟩) aHS0) (
  aSa (s_ifeq (by decide) rfl dX1_displaced_31) (
  aSa (s_aload_n rfl rfl dX1_displaced_34) (
  aSa (s_getf (T := TX1) rfl (by decide) (by decide) in_X1 q1135 (Or.inl rfl) rfl dX1_displaced_35) (
  aSa (s_getfN (T := TX4) rfl (by decide) (by decide) in_X4 q1080 rfl rfl dX1_displaced_38) (
  aSa (s_iload rfl dX1_displaced_41) (
  aSa (s_iald rfl dX1_displaced_43) (
  aSa (s_iload_n rfl rfl dX1_displaced_44) (
  aSa (s_ceq (by decide) rfl dX1_displaced_45) (
  aSa (s_aload_n rfl rfl dX1_displaced_48) (
  aSa (s_getf (T := TX1) rfl (by decide) (by decide) in_X1 q1135 (Or.inl rfl) rfl dX1_displaced_49) (
  aSa (s_getfN (T := TX4) rfl (by decide) (by decide) in_X4 q1087 rfl rfl dX1_displaced_52) (
  aSa (s_iload rfl dX1_displaced_55) (
  aSa (s_iald rfl dX1_displaced_57) (
  aSa (s_goto (n := 0) (by decide) dX1_displaced_58) (
  aSa (s_iconst (v0 := 0) (by decide) rfl dX1_displaced_61) (
  aSa (s_iadd rfl dX1_displaced_62) (
  aSa (s_istore_n rfl (by decide) rfl dX1_displaced_63) (
  aSa (s_iinc (by decide) rfl dX1_displaced_64) (
  aSa (s_goto (n := 0) (by decide) dX1_displaced_67) (
  aSa (s_iload_n rfl rfl dX1_displaced_70) (
  aSa (s_iret (n := 0) rfl dX1_displaced_71) (
  aSn))))))))))))))))))))))))))))))))))))))))
theorem sn133 : SndL "Slidingtray" "errors" cX1_errors 3 (Option.some Jvm.ClassFile.FieldType.int) [] T133 := aSa (s_aload_n rfl rfl dX1_errors_0) (
  aSa (s_callV (List.forall_mem_cons.mpr ⟨d_V rfl rfl q1243 q1245 qs14 q102 q1246 rfl (by decide +kernel) (by decide) rfl dX1_errors_1, fun _ h => absurd h List.not_mem_nil⟩) aHS0) (
  aSa (s_ifeq (by decide) rfl dX1_errors_4) (
  aSa (s_iconst (v0 := 0) (by decide) rfl dX1_errors_7) (
  aSa (s_goto (n := 0) (by decide) dX1_errors_8) (
  aSa (s_iconst (v0 := 1) (by decide) rfl dX1_errors_11) (
  aSa (s_aload_n rfl rfl dX1_errors_12) (
  aSa (s_callV (List.forall_mem_cons.mpr ⟨d_V rfl rfl q1248 q1250 qs15 q102 q1251 rfl (by decide +kernel) (by decide) rfl dX1_errors_13, fun _ h => absurd h List.not_mem_nil⟩) aHS0) (
  aSa (s_ifeq (by decide) rfl dX1_errors_16) (
  aSa (s_iconst (v0 := 0) (by decide) rfl dX1_errors_19) (
  aSa (s_goto (n := 0) (by decide) dX1_errors_20) (
  aSa (s_iconst (v0 := 1) (by decide) rfl dX1_errors_23) (
  aSa (s_iadd rfl dX1_errors_24) (
  aSa (s_istore_n rfl (by decide) rfl dX1_errors_25) (
  aSa (s_iconst (v0 := 0) (by decide) rfl dX1_errors_26) (
  aSa (s_istore_n rfl (by decide) rfl dX1_errors_27) (
  aSa (s_iload_n rfl rfl dX1_errors_28) (
  aSa (s_iconst (v0 := 4) (by decide) rfl dX1_errors_29) (
  aSa (s_cgt (by decide) rfl dX1_errors_30) (
  aSa (s_iload_n rfl rfl dX1_errors_33) (
  aSa (s_aload_n rfl rfl dX1_errors_34) (
  aSa (s_aload_n rfl rfl dX1_errors_35) (
  aSa (s_getf (T := TX1) rfl (by decide) (by decide) in_X1 q1134 (Or.inl rfl) rfl dX1_errors_36) (
  aSa (s_iload_n rfl rfl dX1_errors_39) (
  aSa (s_callV (List.forall_mem_cons.mpr ⟨d_V rfl rfl q1260 q1262 qs16 q102 q1263 rfl (by decide +kernel) (by decide) rfl dX1_errors_40, fun _ h => absurd h List.not_mem_nil⟩) aHS0) (
  aSa (s_ifeq (by decide) rfl dX1_errors_43) (
  aSa (s_iconst (v0 := 0) (by decide) rfl dX1_errors_46) (
  aSa (s_goto (n := 0) (by decide) dX1_errors_47) (
  aSa (s_iconst (v0 := 1) (by decide) rfl dX1_errors_50) (
  aSa (s_iadd rfl dX1_errors_51) (
  aSa (s_istore_n rfl (by decide) rfl dX1_errors_52) (
  aSa (s_iinc (by decide) rfl dX1_errors_53) (
  aSa (s_goto (n := 0) (by decide) dX1_errors_56) (
  aSa (s_aload_n rfl rfl dX1_errors_59) (
  aSa (s_getf (T := TX1) rfl (by decide) (by decide) in_X1 q1132 (Or.inl rfl) rfl dX1_errors_60) (
  aSa (s_callV (List.forall_mem_cons.mpr ⟨d_V rfl rfl q1226 q1023 q1024 q103 q1025 rfl (by decide +kernel) (by decide) rfl dX1_errors_63, fun _ h => absurd h List.not_mem_nil⟩) aHS0) (
  aSa (s_bipush (v0 := 6) (by decide) rfl dX1_errors_66) (
  aSa (s_cgt (by decide) rfl dX1_errors_68) (
  aSa (s_iconst (v0 := 1) (by decide) rfl dX1_errors_71) (
  aSa (s_goto (n := 0) (by decide) dX1_errors_72) (
  aSa (s_iconst (v0 := 0) (by decide) rfl dX1_errors_75) (
  aSa (s_istore_n rfl (by decide) rfl dX1_errors_76) (
  aSa (s_iload_n rfl rfl dX1_errors_77) (
  aSa (s_iload_n rfl rfl dX1_errors_78) (
  aSa (s_ifeq (by decide) rfl dX1_errors_79) (
  aSa (s_aload_n rfl rfl dX1_errors_82) (
  aSa (s_new (T := TX13) (ty0 := tyX13) tyX13_ok rfl (by decide) in_X13 q1422 q1423 q159 (by decide) rfl dX1_errors_83) (
  aSa (s_dup rfl dX1_errors_86) (
  aSa (s_aload_n rfl rfl dX1_errors_87) (
  aSa (s_callI rfl q1424 q1425 q159 q1426 (by decide +kernel) (by decide) rfl aHS0 rfl dX1_errors_88) (
  aSa (s_getfN (T := TX13) rfl (by decide) (by decide) in_X13 q1730 rfl rfl dX1_errors_91) (
  aSa (s_aload_n rfl rfl dX1_errors_94) (
  aSa (s_getf (T := TX1) rfl (by decide) (by decide) in_X1 q1134 (Or.inl rfl) rfl dX1_errors_95) (
  aSa (s_callV (List.forall_mem_cons.mpr ⟨d_V rfl rfl q1198 q1199 q1200 q133 q1201 rfl (by decide +kernel) (by decide) rfl dX1_errors_98, fun _ h => absurd h List.not_mem_nil⟩) aHS0) (
  aSa (s_l2i rfl dX1_errors_101) (
  aSa (s_iald rfl dX1_errors_102) (
  aSa (s_callV (List.forall_mem_cons.mpr ⟨d_VX rfl rfl (by decide) q1743 q1745 qs28 q102 q1746 rfl (by decide +kernel) (by decide) rfl dX1_errors_103, fun _ h => absurd h List.not_mem_nil⟩) aHS0) (
  aSa (s_ifeq (by decide) rfl dX1_errors_106) (
  aSa (s_iconst (v0 := 0) (by decide) rfl dX1_errors_109) (
  aSa (s_goto (n := 0) (by decide) dX1_errors_110) (
  aSa (s_iconst (v0 := 1) (by decide) rfl dX1_errors_113) (
  aSa (s_iadd rfl dX1_errors_114) (
  aSa (s_iret (n := 0) rfl dX1_errors_115) (
  aSn)))))))))))))))))))))))))))))))))))))))))))))))))))))))))))))))
theorem sn134 : SndL "Slidingtray" "estimate" cX1_estimate 2 (Option.some Jvm.ClassFile.FieldType.int) [] T134 := aSa (s_iload_n rfl rfl dX1_estimate_0) (
  aSa (s_callS rfl q2478 q2479 q102 q2480 (by decide +kernel) (by decide) aHS0 rfl dX1_estimate_1) (
  aSa (s_aload_n rfl rfl dX1_estimate_4) (
  aSa (s_aload_n rfl rfl dX1_estimate_5) (
  aSa (s_getf (T := TX1) rfl (by decide) (by decide) in_X1 q1134 (Or.inl rfl) rfl dX1_estimate_6) (
  aSa (s_iload_n rfl rfl dX1_estimate_9) (
  aSa (s_callV (List.forall_mem_cons.mpr ⟨d_V rfl rfl q1264 q1266 qs17 q102 q1267 rfl (by decide +kernel) (by decide) rfl dX1_estimate_10, fun _ h => absurd h List.not_mem_nil⟩) aHS0) (
  aSa (s_iret (n := 0) rfl dX1_estimate_13) (
  aSn))))))))
theorem sn135 : SndL "Slidingtray" "estimateOf" cX1_estimateOf 6 (Option.some Jvm.ClassFile.FieldType.int) [] T135 := aSa (s_iconst (v0 := 0) (by decide) rfl dX1_estimateOf_0) (
  aSa (s_istore_n rfl (by decide) rfl dX1_estimateOf_1) (
  aSa (s_aload_n rfl rfl dX1_estimateOf_2) (
  aSa (s_getf (T := TX1) rfl (by decide) (by decide) in_X1 q1138 (Or.inl rfl) rfl dX1_estimateOf_3) (
  aSa (s_callV (List.forall_mem_cons.mpr ⟨d_F (x := ⟨"java/util/List", "iterator", "()Ljava/util/Iterator;"⟩) rfl rfl (aL1 q1269 (aL1 q1272 (aL1 q1274 (aL1 q106 aL0)))) q1276 q1271 q1270 q1275 q1273 q252 (by decide +kernel) (by decide) rfl dX1_estimateOf_6, fun _ h => absurd h List.not_mem_nil⟩) aHS0) (
  aSa (s_astore (by decide) rfl dX1_estimateOf_11) (
  aSa (s_aload rfl dX1_estimateOf_13) (
  aSa (s_callV (List.forall_mem_cons.mpr ⟨d_F (x := ⟨"java/util/Iterator", "hasNext", "()Z"⟩) rfl rfl (aL1 q1297 (aL1 q1307 (aL1 q1309 (aL1 q137 aL0)))) q1311 q1299 q1298 q1310 q1308 q1306 (by decide +kernel) (by decide) rfl dX1_estimateOf_15, fun _ h => absurd h List.not_mem_nil⟩) aHS0) (
  aSa (s_ifeq (by decide) rfl dX1_estimateOf_20) (
  aSa (s_aload rfl dX1_estimateOf_23) (
  aSa (s_callV (List.forall_mem_cons.mpr ⟨d_F (x := ⟨"java/util/Iterator", "next", "()Ljava/lang/Object;"⟩) rfl rfl (aL1 q1326 (aL1 q1340 (aL1 q1342 (aL1 q137 aL0)))) q1344 q1328 q1327 q1343 q1341 q1306 (by decide +kernel) (by decide) rfl dX1_estimateOf_25, fun _ h => absurd h List.not_mem_nil⟩) aHS0) (
  aSa (s_cast q1378 (List.forall_mem_cons.mpr ⟨⟨_, rfl, (Or.inl rfl)⟩, fun _ h => absurd h List.not_mem_nil⟩) (fun t h => absurd h List.not_mem_nil) rfl dX1_estimateOf_30) (
  aSa (s_astore (by decide) rfl dX1_estimateOf_33) (
  aSa (s_iload_n rfl rfl dX1_estimateOf_35) (
  aSa (s_iload_n rfl rfl dX1_estimateOf_36) (
  aSa (s_iconst (v0 := 4) (by decide) rfl dX1_estimateOf_37) (
  aSa (s_cne (by decide) rfl dX1_estimateOf_38) (
  aSa (s_aload rfl dX1_estimateOf_41) (
  aSa (s_aload_n rfl rfl dX1_estimateOf_43) (
  aSa (s_callV (List.forall_mem_cons.mpr ⟨d_V rfl rfl q1379 q1380 q1381 q149 q1382 rfl (by decide +kernel) (by decide) rfl dX1_estimateOf_44, fun _ h => absurd h List.not_mem_nil⟩) aHS0) (
  aSa (s_goto (n := 0) (by decide) dX1_estimateOf_47) (
  aSa (s_iconst (v0 := 0) (by decide) rfl dX1_estimateOf_50) (
  aSa (s_iadd rfl dX1_estimateOf_51) (
  aSa (s_istore_n rfl (by decide) rfl dX1_estimateOf_52) (
  aSa (s_goto (n := 0) (by decide) dX1_estimateOf_53) (
  aSa (s_iload_n rfl rfl dX1_estimateOf_56) (
  aSa (s_tsw (n := 0) dX1_estimateOf_57 (by decide) (by decide)) (
  aSa (s_iconst (v0 := 0) (by decide) rfl dX1_estimateOf_88) (
  aSa (s_goto (n := 0) (by decide) dX1_estimateOf_89) (
  aSa (s_aload_n rfl rfl dX1_estimateOf_92) (
  aSa (s_aload_n rfl rfl dX1_estimateOf_93) (
  aSa (s_callV (List.forall_mem_cons.mpr ⟨d_V rfl rfl q1397 q1399 qs18 q102 q1400 rfl (by decide +kernel) (by decide) rfl dX1_estimateOf_94, fun _ h => absurd h List.not_mem_nil⟩) aHS0) (
  aSa (s_goto (n := 0) (by decide) dX1_estimateOf_97) (
  aSa (s_aload_n rfl rfl dX1_estimateOf_100) (
  aSa (s_aload_n rfl rfl dX1_estimateOf_101) (
  aSa (s_callV (List.forall_mem_cons.mpr ⟨d_V rfl rfl q1401 q1403 qs19 q102 q1404 rfl (by decide +kernel) (by decide) rfl dX1_estimateOf_102, fun _ h => absurd h List.not_mem_nil⟩) aHS0) (
  aSa (s_goto (n := 0) (by decide) dX1_estimateOf_105) (
  aSa (s_aload_n rfl rfl dX1_estimateOf_108) (
  aSa (s_aload_n rfl rfl dX1_estimateOf_109) (
  aSa (s_callV (List.forall_mem_cons.mpr ⟨d_V rfl rfl q1405 q1407 qs20 q102 q1408 rfl (by decide +kernel) (by decide) rfl dX1_estimateOf_110, fun _ h => absurd h List.not_mem_nil⟩) aHS0) (
  aSa (s_goto (n := 0) (by decide) dX1_estimateOf_113) (
  aSa (s_iload_n rfl rfl dX1_estimateOf_116) (
  aSa (s_iret (n := 0) rfl dX1_estimateOf_117) (
  aSn)))))))))))))))))))))))))))))))))))))))))))
theorem sn136 : SndL "Slidingtray" "fallsFair" cX1_fallsFair 7 (Option.some Jvm.ClassFile.FieldType.boolean) [] T136 := aSa (s_aload_n rfl rfl dX1_fallsFair_0) (
  aSa (s_aload_n rfl rfl dX1_fallsFair_1) (
  aSa (s_iload_n rfl rfl dX1_fallsFair_2) (
  aSa (s_callV (List.forall_mem_cons.mpr ⟨d_V rfl rfl q1264 q1266 qs17 q102 q1267 rfl (by decide +kernel) (by decide) rfl dX1_fallsFair_3, fun _ h => absurd h List.not_mem_nil⟩) aHS0) (
  aSa (s_istore_n rfl (by decide) rfl dX1_fallsFair_6) (
  aSa (s_iconst (v0 := 1) (by decide) rfl dX1_fallsFair_7) (
  aSa (s_istore (by decide) rfl dX1_fallsFair_8) (
  aSa (s_iconst (v0 := 0) (by decide) rfl dX1_fallsFair_10) (
  aSa (s_istore (by decide) rfl dX1_fallsFair_11) (
  aSa (s_iload rfl dX1_fallsFair_13) (
  aSa (s_iconst (v0 := 3) (by decide) rfl dX1_fallsFair_15) (
  aSa (s_cgt (by decide) rfl dX1_fallsFair_16) (
  aSa (s_aload_n rfl rfl dX1_fallsFair_19) (
  aSa (s_iload rfl dX1_fallsFair_20) (
  aSa (s_callV (List.forall_mem_cons.mpr ⟨d_V rfl rfl q1252 q1253 q1254 q133 q1255 rfl (by decide +kernel) (by decide) rfl dX1_fallsFair_22, fun _ h => absurd h List.not_mem_nil⟩) aHS0) (
  aSa (s_istore (by decide) rfl dX1_fallsFair_25) (
  aSa (s_iload rfl dX1_fallsFair_27) (
  aSa (s_ifeq (by decide) rfl dX1_fallsFair_29) (
  aSa (s_iload rfl dX1_fallsFair_32) (
  aSa (s_ifeq (by decide) rfl dX1_fallsFair_34) (
  aSa (s_iload_n rfl rfl dX1_fallsFair_37) (
  aSa (s_aload_n rfl rfl dX1_fallsFair_38) (
  aSa (s_getf (T := TX1) rfl (by decide) (by decide) in_X1 q1135 (Or.inl rfl) rfl dX1_fallsFair_39) (
  aSa (s_getfN (T := TX4) rfl (by decide) (by decide) in_X4 q1087 rfl rfl dX1_fallsFair_42) (
  aSa (s_iload rfl dX1_fallsFair_45) (
  aSa (s_iald rfl dX1_fallsFair_47) (
  aSa (s_aload_n rfl rfl dX1_fallsFair_48) (
  aSa (s_aload_n rfl rfl dX1_fallsFair_49) (
  aSa (s_iload rfl dX1_fallsFair_50) (
  aSa (s_callV (List.forall_mem_cons.mpr ⟨d_V rfl rfl q1256 q1257 q1258 q133 q1259 rfl (by decide +kernel) (by decide) rfl dX1_fallsFair_52, fun _ h => absurd h List.not_mem_nil⟩) aHS0) (
  aSa (s_iload_n rfl rfl dX1_fallsFair_55) (
  aSa (s_callV (List.forall_mem_cons.mpr ⟨d_V rfl rfl q1264 q1266 qs17 q102 q1267 rfl (by decide +kernel) (by decide) rfl dX1_fallsFair_56, fun _ h => absurd h List.not_mem_nil⟩) aHS0) (
  aSa (s_iadd rfl dX1_fallsFair_59) (
  aSa (s_cgt (by decide) rfl dX1_fallsFair_60) (
  aSa (s_iconst (v0 := 1) (by decide) rfl dX1_fallsFair_63) (
  aSa (s_goto (n := 0) (by decide) dX1_fallsFair_64) (
  aSa (s_iconst (v0 := 0) (by decide) rfl dX1_fallsFair_67) (
  aSa (s_istore (by decide) rfl dX1_fallsFair_68) (
  aSa (s_iinc (by decide) rfl dX1_fallsFair_70) (
  aSa (s_goto (n := 0) (by decide) dX1_fallsFair_73) (
  aSa (s_iload rfl dX1_fallsFair_76) (
  aSa (s_iret (n := 0) rfl dX1_fallsFair_78) (
  aSn))))))))))))))))))))))))))))))))))))))))))
theorem sn137 : SndL "Slidingtray" "far" cX1_far 4 (Option.some Jvm.ClassFile.FieldType.int) [] T137 := aSa (s_iload_n rfl rfl dX1_far_0) (
  aSa (s_iflt (by decide) rfl dX1_far_1) (
  aSa (s_iload_n rfl rfl dX1_far_4) (
  aSa (s_iconst (v0 := 5) (by decide) rfl dX1_far_5) (
  aSa (s_cgt (by decide) rfl dX1_far_6) (
  aSa (s_iconst (v0 := 1) (by decide) rfl dX1_far_9) (
  aSa (s_goto (n := 0) (by decide) dX1_far_10) (
  aSa (s_iconst (v0 := 0) (by decide) rfl dX1_far_13) (
  aSa (s_callS rfl q2010 q2011 q102 q2012 (by decide +kernel) (by decide) aHS0 rfl dX1_far_14) (
  aSa (s_aload_n rfl rfl dX1_far_17) (
  aSa (s_getf (T := TX1) rfl (by decide) (by decide) in_X1 q1132 (Or.inl rfl) rfl dX1_far_18) (
  aSa (s_callV (List.forall_mem_cons.mpr ⟨d_V rfl rfl q1226 q1023 q1024 q103 q1025 rfl (by decide +kernel) (by decide) rfl dX1_far_21, fun _ h => absurd h List.not_mem_nil⟩) aHS0) (
  aSa (s_bipush (v0 := 6) (by decide) rfl dX1_far_24) (
  aSa (s_cgt (by decide) rfl dX1_far_26) (
  aSa (s_iconst (v0 := 1) (by decide) rfl dX1_far_29) (
  aSa (s_goto (n := 0) (by decide) dX1_far_30) (
  aSa (s_iconst (v0 := 0) (by decide) rfl dX1_far_33) (
  aSa (s_callS rfl q2121 q2122 q102 q2123 (by decide +kernel) (by decide) aHS0 rfl dX1_far_34) (
  aSa (s_new (T := TX13) (ty0 := tyX13) tyX13_ok rfl (by decide) in_X13 q1422 q1423 q159 (by decide) rfl dX1_far_37) (
  aSa (s_dup rfl dX1_far_40) (
  aSa (s_aload_n rfl rfl dX1_far_41) (
  aSa (s_callI rfl q1424 q1425 q159 q1426 (by decide +kernel) (by decide) rfl aHS0 rfl dX1_far_42) (
  aSa (s_astore_n rfl (by decide) rfl dX1_far_45) (
  aSa (s_aload_n rfl rfl dX1_far_46) (
  aSa (s_getf (T := TX1) rfl (by decide) (by decide) in_X1 q1134 (Or.inl rfl) rfl dX1_far_47) (
  aSa (s_callV (List.forall_mem_cons.mpr ⟨d_V rfl rfl q1198 q1199 q1200 q133 q1201 rfl (by decide +kernel) (by decide) rfl dX1_far_50, fun _ h => absurd h List.not_mem_nil⟩) aHS0) (
  aSa (s_l2i rfl dX1_far_53) (
  aSa (s_istore_n rfl (by decide) rfl dX1_far_54) (
  aSa (s_iload_n rfl rfl dX1_far_55) (
  aSa (s_tsw (n := 0) dX1_far_56 (by decide) (by decide)) (
  aSa (s_aload_n rfl rfl dX1_far_92) (
  aSa (s_iconst (v0 := 0) (by decide) rfl dX1_far_93) (
  aSa (s_ldcw q2621 rfl dX1_far_94) (
  aSa (s_callV (List.forall_mem_cons.mpr ⟨d_V rfl rfl q2622 q2623 q2624 q159 q2625 rfl (by decide +kernel) (by decide) rfl dX1_far_97, fun _ h => absurd h List.not_mem_nil⟩) aHS0) (
  aSa (s_goto (n := 0) (by decide) dX1_far_100) (
  aSa (s_aload_n rfl rfl dX1_far_103) (
  aSa (s_callV (List.forall_mem_cons.mpr ⟨d_V rfl rfl q2626 q2627 q2628 q159 q2629 rfl (by decide +kernel) (by decide) rfl dX1_far_104, fun _ h => absurd h List.not_mem_nil⟩) aHS0) (
  aSa (s_goto (n := 0) (by decide) dX1_far_107) (
  aSa (s_aload_n rfl rfl dX1_far_110) (
  aSa (s_aload_n rfl rfl dX1_far_111) (
  aSa (s_callV (List.forall_mem_cons.mpr ⟨d_V rfl rfl q2626 q2627 q2628 q159 q2629 rfl (by decide +kernel) (by decide) rfl dX1_far_112, fun _ h => absurd h List.not_mem_nil⟩) aHS0) (
  aSa (s_ldcw q2621 rfl dX1_far_115) (
  aSa (s_callV (List.forall_mem_cons.mpr ⟨d_V rfl rfl q2622 q2623 q2624 q159 q2625 rfl (by decide +kernel) (by decide) rfl dX1_far_118, fun _ h => absurd h List.not_mem_nil⟩) aHS0) (
  aSa (s_goto (n := 0) (by decide) dX1_far_121) (
  aSa (s_aload_n rfl rfl dX1_far_124) (
  aSa (s_aload_n rfl rfl dX1_far_125) (
  aSa (s_callV (List.forall_mem_cons.mpr ⟨d_V rfl rfl q2626 q2627 q2628 q159 q2629 rfl (by decide +kernel) (by decide) rfl dX1_far_126, fun _ h => absurd h List.not_mem_nil⟩) aHS0) (
  aSa (s_iconst (v0 := 0) (by decide) rfl dX1_far_129) (
  aSa (s_callV (List.forall_mem_cons.mpr ⟨d_V rfl rfl q2631 q2632 q2633 q159 q2634 rfl (by decide +kernel) (by decide) rfl dX1_far_130, fun _ h => absurd h List.not_mem_nil⟩) aHS0) (
  aSa (s_goto (n := 0) (by decide) dX1_far_133) (
  aSa (s_aload_n rfl rfl dX1_far_136) (
  aSa (s_getfN (T := TX13) rfl (by decide) (by decide) in_X13 q1730 rfl rfl dX1_far_137) (
  aSa (s_iload_n rfl rfl dX1_far_140) (
  aSa (s_iald rfl dX1_far_141) (
  aSa (s_goto (n := 0) (by decide) dX1_far_142) (
  aSa (s_aload_n rfl rfl dX1_far_145) (
  aSa (s_getfN (T := TX13) rfl (by decide) (by decide) in_X13 q1732 rfl rfl dX1_far_146) (
  aSa (s_iload_n rfl rfl dX1_far_149) (
  aSa (s_iald rfl dX1_far_150) (
  aSa (s_iret (n := 0) rfl dX1_far_151) (
  aSn))))))))))))))))))))))))))))))))))))))))))))))))))))))))))))
theorem sn138 : SndL "Slidingtray" "finds" cX1_finds 2 (Option.some Jvm.ClassFile.FieldType.int) [] T138 := aSa (s_aload_n rfl rfl dX1_finds_0) (
  aSa (s_aload_n rfl rfl dX1_finds_1) (
  aSa (s_putf (T := TX1) (ty0 := tyX1) tyX1_ok nmX1 rfl (by decide) (by decide) in_X1 q1144 (Or.inl rfl) rfl rfl rfl dX1_finds_2) (
  aSa (s_aload_n rfl rfl dX1_finds_5) (
  aSa (s_aload_n rfl rfl dX1_finds_6) (
  aSa (s_getfN (T := TX5) rfl (by decide) (by decide) in_X5 q1120 rfl rfl dX1_finds_7) (
  aSa (s_putf (T := TX1) (ty0 := tyX1) tyX1_ok nmX1 rfl (by decide) (by decide) in_X1 q1145 (Or.inl rfl) rfl rfl rfl dX1_finds_10) (
  aSa (s_aload_n rfl rfl dX1_finds_13) (
  aSa (s_getfN (T := TX5) rfl (by decide) (by decide) in_X5 q1113 rfl rfl dX1_finds_14) (
  aSa (s_iret (n := 0) rfl dX1_finds_17) (
  aSn))))))))))
theorem sn139 : SndL "Slidingtray" "firstMove" cX1_firstMove 5 (Option.some Jvm.ClassFile.FieldType.int) [] T139 := aSa (s_aload_n rfl rfl dX1_firstMove_0) (
  aSa (s_aload_n rfl rfl dX1_firstMove_1) (
  aSa (s_getf (T := TX1) rfl (by decide) (by decide) in_X1 q1134 (Or.inl rfl) rfl dX1_firstMove_2) (
  aSa (s_iconst (v0 := 3) (by decide) rfl dX1_firstMove_5) (
  aSa (s_bipush (v0 := 100) (by decide) rfl dX1_firstMove_6) (
  aSa (s_callV (List.forall_mem_cons.mpr ⟨d_V rfl rfl q1748 q1750 qs29 q102 q1751 rfl (by decide +kernel) (by decide) rfl dX1_firstMove_8, fun _ h => absurd h List.not_mem_nil⟩) aHS0) (
  aSa (s_getfN (T := TX5) rfl (by decide) (by decide) in_X5 q1113 rfl rfl dX1_firstMove_11) (
  aSa (s_istore_n rfl (by decide) rfl dX1_firstMove_14) (
  aSa (s_iconst (v0 := 0) (by decide) rfl dX1_firstMove_15) (
  aSa (s_istore_n rfl (by decide) rfl dX1_firstMove_16) (
  aSa (s_iload_n rfl rfl dX1_firstMove_17) (
  aSa (s_iconst (v0 := 3) (by decide) rfl dX1_firstMove_18) (
  aSa (s_cgt (by decide) rfl dX1_firstMove_19) (
  aSa (s_iload_n rfl rfl dX1_firstMove_22) (
  aSa (s_ifle (by decide) rfl dX1_firstMove_23) (
  aSa (s_aload_n rfl rfl dX1_firstMove_26) (
  aSa (s_getf (T := TX1) rfl (by decide) (by decide) in_X1 q1134 (Or.inl rfl) rfl dX1_firstMove_27) (
  aSa (s_iload_n rfl rfl dX1_firstMove_30) (
  aSa (s_callV (List.forall_mem_cons.mpr ⟨d_V rfl rfl q1252 q1253 q1254 q133 q1255 rfl (by decide +kernel) (by decide) rfl dX1_firstMove_31, fun _ h => absurd h List.not_mem_nil⟩) aHS0) (
  aSa (s_istore_n rfl (by decide) rfl dX1_firstMove_34) (
  aSa (s_iload_n rfl rfl dX1_firstMove_35) (
  aSa (s_ifle (by decide) rfl dX1_firstMove_36) (
  aSa (s_aload_n rfl rfl dX1_firstMove_39) (
  aSa (s_aload_n rfl rfl dX1_firstMove_40) (
  aSa (s_getf (T := TX1) rfl (by decide) (by decide) in_X1 q1134 (Or.inl rfl) rfl dX1_firstMove_41) (
  aSa (s_iload_n rfl rfl dX1_firstMove_44) (
  aSa (s_callV (List.forall_mem_cons.mpr ⟨d_V rfl rfl q1256 q1257 q1258 q133 q1259 rfl (by decide +kernel) (by decide) rfl dX1_firstMove_45, fun _ h => absurd h List.not_mem_nil⟩) aHS0) (
  aSa (s_iconst (v0 := 3) (by decide) rfl dX1_firstMove_48) (
  aSa (s_bipush (v0 := 100) (by decide) rfl dX1_firstMove_49) (
  aSa (s_callV (List.forall_mem_cons.mpr ⟨d_V rfl rfl q1748 q1750 qs29 q102 q1751 rfl (by decide +kernel) (by decide) rfl dX1_firstMove_51, fun _ h => absurd h List.not_mem_nil⟩) aHS0) (
  aSa (s_getfN (T := TX5) rfl (by decide) (by decide) in_X5 q1113 rfl rfl dX1_firstMove_54) (
  aSa (s_istore (by decide) rfl dX1_firstMove_57) (
  aSa (s_iload rfl dX1_firstMove_59) (
  aSa (s_iconst (v0 := (-1)) (by decide) rfl dX1_firstMove_61) (
  aSa (s_ceq (by decide) rfl dX1_firstMove_62) (
  aSa (s_iload rfl dX1_firstMove_65) (
  aSa (s_aload_n rfl rfl dX1_firstMove_67) (
  aSa (s_getf (T := TX1) rfl (by decide) (by decide) in_X1 q1135 (Or.inl rfl) rfl dX1_firstMove_68) (
  aSa (s_getfN (T := TX4) rfl (by decide) (by decide) in_X4 q1087 rfl rfl dX1_firstMove_71) (
  aSa (s_iload_n rfl rfl dX1_firstMove_74) (
  aSa (s_iald rfl dX1_firstMove_75) (
  aSa (s_iadd rfl dX1_firstMove_76) (
  aSa (s_iload_n rfl rfl dX1_firstMove_77) (
  aSa (s_cne (by decide) rfl dX1_firstMove_78) (
  aSa (s_iload_n rfl rfl dX1_firstMove_81) (
  aSa (s_iret (n := 0) rfl dX1_firstMove_82) (
  aSa (s_iinc (by decide) rfl dX1_firstMove_83) (
  aSa (s_goto (n := 0) (by decide) dX1_firstMove_86) (
  aSa (s_iconst (v0 := (-1)) (by decide) rfl dX1_firstMove_89) (
  aSa (s_iret (n := 0) rfl dX1_firstMove_90) (
  aSn))))))))))))))))))))))))))))))))))))))))))))))))))
theorem sn140 : SndL "Slidingtray" "fromBoth" cX1_fromBoth 8 (Option.some (Jvm.ClassFile.FieldType.object "Slidingtray$Found")) [] T140 := aSa (s_new (T := TX5) (ty0 := tyX5) tyX5_ok rfl (by decide) in_X5 q1103 q1104 q135 (by decide) rfl dX1_fromBoth_0) (
  aSa (s_dup rfl dX1_fromBoth_3) (
  aSa (s_callIN rfl q1105 q1106 q135 q1107 (by decide +kernel) (by decide) rfl aHS0 rfl dX1_fromBoth_4) (
  aSa (s_astore_n rfl (by decide) rfl dX1_fromBoth_7) (
  aSa (s_new (T := TX12) (ty0 := tyX12) tyX12_ok rfl (by decide) in_X12 q2510 q2511 q157 (by decide) rfl dX1_fromBoth_8) (
  aSa (s_dup rfl dX1_fromBoth_11) (
  aSa (s_aload_n rfl rfl dX1_fromBoth_12) (
  aSa (s_getf (T := TX1) rfl (by decide) (by decide) in_X1 q1134 (Or.inl rfl) rfl dX1_fromBoth_13) (
  aSa (s_callI rfl q2512 q2513 q157 q2514 (by decide +kernel) (by decide) rfl aHS0 rfl dX1_fromBoth_16) (
  aSa (s_astore_n rfl (by decide) rfl dX1_fromBoth_19) (
  aSa (s_new (T := TX12) (ty0 := tyX12) tyX12_ok rfl (by decide) in_X12 q2510 q2511 q157 (by decide) rfl dX1_fromBoth_20) (
  aSa (s_dup rfl dX1_fromBoth_23) (
  aSa (s_aload_n rfl rfl dX1_fromBoth_24) (
  aSa (s_getf (T := TX1) rfl (by decide) (by decide) in_X1 q1135 (Or.inl rfl) rfl dX1_fromBoth_25) (
  aSa (s_getfN (T := TX4) rfl (by decide) (by decide) in_X4 q1077 rfl rfl dX1_fromBoth_28) (
  aSa (s_callI rfl q2512 q2513 q157 q2514 (by decide +kernel) (by decide) rfl aHS0 rfl dX1_fromBoth_31) (
  aSa (s_astore_n rfl (by decide) rfl dX1_fromBoth_34) (
  aSa (s_aload_n rfl rfl dX1_fromBoth_35) (
  aSa (s_iconst (v0 := 2) (by decide) rfl dX1_fromBoth_36) (
  aSa (s_putfN (T := TX5) (ty0 := tyX5) tyX5_ok nmX5 rfl (by decide) (by decide) in_X5 q1115 rfl rfl rfl rfl dX1_fromBoth_37) (
  aSa (s_aload_n rfl rfl dX1_fromBoth_40) (
  aSa (s_getf (T := TX1) rfl (by decide) (by decide) in_X1 q1142 (Or.inl rfl) rfl dX1_fromBoth_41) (
  aSa (s_iconst (v0 := 2) (by decide) rfl dX1_fromBoth_44) (
  aSa (s_cge (by decide) rfl dX1_fromBoth_45) (
  aSa (s_new (T := TX10) (ty0 := tyX10) tyX10_ok rfl (by decide) in_X10 q1747 q1906 q155 (by decide) rfl dX1_fromBoth_48) (
  aSa (s_dup rfl dX1_fromBoth_51) (
  aSa (s_callI rfl q1914 q1915 q155 q1916 (by decide +kernel) (by decide) rfl aHS0 rfl dX1_fromBoth_52) (
  aSa (s_athrow (n := 0) rfl (by decide) rfl (by decide +kernel) dX1_fromBoth_55) (
  aSa (s_aload_n rfl rfl dX1_fromBoth_56) (
  aSa (s_aload_n rfl rfl dX1_fromBoth_57) (
  aSa (s_callV (List.forall_mem_cons.mpr ⟨d_V rfl rfl q2556 q2557 q2558 q157 q2559 rfl (by decide +kernel) (by decide) rfl dX1_fromBoth_58, fun _ h => absurd h List.not_mem_nil⟩) aHS0) (
  aSa (s_istore (by decide) rfl dX1_fromBoth_61) (
  aSa (s_iconst (v0 := 1) (by decide) rfl dX1_fromBoth_63) (
  aSa (s_istore (by decide) rfl dX1_fromBoth_64) (
  aSa (s_iload rfl dX1_fromBoth_66) (
  aSa (s_ifne (by decide) rfl dX1_fromBoth_68) (
  aSa (s_iload rfl dX1_fromBoth_71) (
  aSa (s_ifeq (by decide) rfl dX1_fromBoth_73) (
  aSa (s_aload_n rfl rfl dX1_fromBoth_76) (
  aSa (s_getfN (T := TX5) rfl (by decide) (by decide) in_X5 q1117 rfl rfl dX1_fromBoth_77) (
  aSa (s_iconst (v0 := 2) (by decide) rfl dX1_fromBoth_80) (
  aSa (s_irem rfl dX1_fromBoth_81) (
  aSa (s_ifne (by decide) rfl dX1_fromBoth_82) (
  aSa (s_aload_n rfl rfl dX1_fromBoth_85) (
  aSa (s_goto (n := 0) (by decide) dX1_fromBoth_86) (
  aSa (s_aload_n rfl rfl dX1_fromBoth_89) (
  aSa (s_astore (by decide) rfl dX1_fromBoth_90) (
  aSa (s_aload rfl dX1_fromBoth_92) (
  aSa (s_aload_n rfl rfl dX1_fromBoth_94) (
  aSa (s_getf (T := TX1) rfl (by decide) (by decide) in_X1 q1142 (Or.inl rfl) rfl dX1_fromBoth_95) (
  aSa (s_aload_n rfl rfl dX1_fromBoth_98) (
  aSa (s_getfN (T := TX5) rfl (by decide) (by decide) in_X5 q1115 rfl rfl dX1_fromBoth_99) (
  aSa (s_isub rfl dX1_fromBoth_102) (
  aSa (s_callV (List.forall_mem_cons.mpr ⟨d_V rfl rfl q2579 q2580 q2581 q157 q2582 rfl (by decide +kernel) (by decide) rfl dX1_fromBoth_103, fun _ h => absurd h List.not_mem_nil⟩) aHS0) (
  aSa (s_istore (by decide) rfl dX1_fromBoth_106) (
  aSa (s_aload_n rfl rfl dX1_fromBoth_108) (
  aSa (s_dup rfl dX1_fromBoth_109) (
  aSa (s_getfN (T := TX5) rfl (by decide) (by decide) in_X5 q1115 rfl rfl dX1_fromBoth_110) (
  aSa (s_iload rfl dX1_fromBoth_113) (
  aSa (s_iadd rfl dX1_fromBoth_115) (
  aSa (s_putfN (T := TX5) (ty0 := tyX5) tyX5_ok nmX5 rfl (by decide) (by decide) in_X5 q1115 rfl rfl rfl rfl dX1_fromBoth_116) (
  aSa (s_iload rfl dX1_fromBoth_119) (
  aSa (s_ifle (by decide) rfl dX1_fromBoth_121) (
  aSa (s_iconst (v0 := 1) (by decide) rfl dX1_fromBoth_124) (
  aSa (s_goto (n := 0) (by decide) dX1_fromBoth_125) (
  aSa (s_iconst (v0 := 0) (by decide) rfl dX1_fromBoth_128) (
  aSa (s_istore (by decide) rfl dX1_fromBoth_129) (
  aSa (s_aload_n rfl rfl dX1_fromBoth_131) (
  aSa (s_dup rfl dX1_fromBoth_132) (
  aSa (s_getfN (T := TX5) rfl (by decide) (by decide) in_X5 q1117 rfl rfl dX1_fromBoth_133) (
  aSa (s_iload rfl dX1_fromBoth_136) (
  aSa (s_ifeq (by decide) rfl dX1_fromBoth_138) (
  aSa (s_iconst (v0 := 1) (by decide) rfl dX1_fromBoth_141) (
  aSa (s_goto (n := 0) (by decide) dX1_fromBoth_142) (
  aSa (s_iconst (v0 := 0) (by decide) rfl dX1_fromBoth_145) (
  aSa (s_iadd rfl dX1_fromBoth_146) (
  aSa (s_putfN (T := TX5) (ty0 := tyX5) tyX5_ok nmX5 rfl (by decide) (by decide) in_X5 q1117 rfl rfl rfl rfl dX1_fromBoth_147) (
  aSa (s_iload rfl dX1_fromBoth_150) (
  aSa (s_ifeq (by decide) rfl dX1_fromBoth_152) (
  aSa (s_aload rfl dX1_fromBoth_155) (
  aSa (s_aload rfl dX1_fromBoth_157) (
  aSa (s_aload_n rfl rfl dX1_fromBoth_159) (
  aSa (s_acne (by decide) rfl dX1_fromBoth_160) (
  aSa (s_aload_n rfl rfl dX1_fromBoth_163) (
  aSa (s_goto (n := 0) (by decide) dX1_fromBoth_164) (
  aSa (s_aload_n rfl rfl dX1_fromBoth_167) (
  aSa (s_callV (List.forall_mem_cons.mpr ⟨d_V rfl rfl q2556 q2557 q2558 q157 q2559 rfl (by decide +kernel) (by decide) rfl dX1_fromBoth_168, fun _ h => absurd h List.not_mem_nil⟩) aHS0) (
  aSa (s_ifeq (by decide) rfl dX1_fromBoth_171) (
  aSa (s_iconst (v0 := 1) (by decide) rfl dX1_fromBoth_174) (
  aSa (s_goto (n := 0) (by decide) dX1_fromBoth_175) (
  aSa (s_iconst (v0 := 0) (by decide) rfl dX1_fromBoth_178) (
  aSa (s_istore (by decide) rfl dX1_fromBoth_179) (
  aSa (s_goto (n := 0) (by decide) dX1_fromBoth_181) (
  aSa (s_aload_n rfl rfl dX1_fromBoth_184) (
  aSa (s_iload rfl dX1_fromBoth_185) (
  aSa (s_ifeq (by decide) rfl dX1_fromBoth_187) (
  aSa (s_aload_n rfl rfl dX1_fromBoth_190) (
  aSa (s_getfN (T := TX5) rfl (by decide) (by decide) in_X5 q1117 rfl rfl dX1_fromBoth_191) (
  aSa (s_goto (n := 0) (by decide) dX1_fromBoth_194) (
  aSa (s_iconst (v0 := (-1)) (by decide) rfl dX1_fromBoth_197) (
  aSa (s_putfN (T := TX5) (ty0 := tyX5) tyX5_ok nmX5 rfl (by decide) (by decide) in_X5 q1113 rfl rfl rfl rfl dX1_fromBoth_198) (
  aSa (s_aload_n rfl rfl dX1_fromBoth_201) (
  aSa (s_aret (n := 0) rfl (Or.inl ⟨_, rfl⟩) dX1_fromBoth_202) (
  aSn)))))))))))))))))))))))))))))))))))))))))))))))))))))))))))))))))))))))))))))))))))))))))))))))))))))))
theorem hs141_1 : aHS "Slidingtray" [((0 : Nat), (4 : Nat), (5 : Nat), (347 : Nat))] 1 [("Slidingtray$Beyond", some 5)] := by
  refine ⟨fun h => (by cases h), fun E r h => ?_⟩
  simp only [List.lookup_cons] at h
  split at h
  · next e =>
    cases h
    obtain rfl := eq_of_beq e
    exact ⟨5, rfl, (tableOf [((0 : Nat), (4 : Nat), (5 : Nat), (347 : Nat))]).take 0, (tableOf [((0 : Nat), (4 : Nat), (5 : Nat), (347 : Nat))])[0]'(by decide +kernel), (tableOf [((0 : Nat), (4 : Nat), (5 : Nat), (347 : Nat))]).drop 1, "Slidingtray$Beyond", by rfl, fun _ h => absurd h List.not_mem_nil, by decide +kernel, by decide +kernel, by decide +kernel, q1747, q1907⟩
  · cases h
theorem sn141 : SndL "Slidingtray" "hint" cX1_hint 2 (Option.some Jvm.ClassFile.FieldType.int) [((0 : Nat), (4 : Nat), (5 : Nat), (347 : Nat))] T141 := aSa (s_aload_n rfl rfl dX1_hint_0) (
  aSa (s_callV (List.forall_mem_cons.mpr ⟨d_V rfl rfl q2610 q2612 qs46 q102 q2613 rfl (by decide +kernel) (by decide) rfl dX1_hint_1, fun _ h => absurd h List.not_mem_nil⟩) hs141_1) (
  aSa (s_iret (n := 0) rfl dX1_hint_4) (
  aSa (s_astore_n rfl (by decide) rfl dX1_hint_5) (
  aSa (s_throw0 (n := 0) (names := ["java/lang/RuntimeException", "java/lang/Exception"]) (by decide +kernel) (by decide +kernel) (by decide) q2124 q131 thr0 thr0g (by decide +kernel) dX1_hint_6 dX1_hint_9 dX1_hint_10 dX1_hint_13) (
  aSn)))))
theorem sn142 : SndL "Slidingtray" "inversions" cX1_inversions 1 (Option.some Jvm.ClassFile.FieldType.int) [] T142 := aSa (s_aload_n rfl rfl dX1_inversions_0) (
  aSa (s_getf (T := TX1) rfl (by decide) (by decide) in_X1 q1134 (Or.inl rfl) rfl dX1_inversions_1) (
  aSa (s_callV (List.forall_mem_cons.mpr ⟨d_V rfl rfl q1218 q1219 q1220 q133 q1221 rfl (by decide +kernel) (by decide) rfl dX1_inversions_4, fun _ h => absurd h List.not_mem_nil⟩) aHS0) (
  aSa (s_iret (n := 0) rfl dX1_inversions_7) (
  aSn))))
theorem sn143 : SndL "Slidingtray" "isByRank" cX1_isByRank 1 (Option.some Jvm.ClassFile.FieldType.boolean) [] T143 := aSa (s_aload_n rfl rfl dX1_isByRank_0) (
  aSa (s_getf (T := TX1) rfl (by decide) (by decide) in_X1 q1132 (Or.inl rfl) rfl dX1_isByRank_1) (
  aSa (s_aload_n rfl rfl dX1_isByRank_4) (
  aSa (s_getf (T := TX1) rfl (by decide) (by decide) in_X1 q1134 (Or.inl rfl) rfl dX1_isByRank_5) (
  aSa (s_callV (List.forall_mem_cons.mpr ⟨d_V rfl rfl q1198 q1199 q1200 q133 q1201 rfl (by decide +kernel) (by decide) rfl dX1_isByRank_8, fun _ h => absurd h List.not_mem_nil⟩) aHS0) (
  aSa (s_callS rfl q1017 q1018 q133 q1019 (by decide +kernel) (by decide) aHS0 rfl dX1_isByRank_11) (
  aSa (s_aload_n rfl rfl dX1_isByRank_14) (
  aSa (s_getf (T := TX1) rfl (by decide) (by decide) in_X1 q1134 (Or.inl rfl) rfl dX1_isByRank_15) (
  aSa (s_callV (List.forall_mem_cons.mpr ⟨d_V rfl rfl q1247 q749 q3289 q133 q750 rfl (by decide +kernel) (by decide) rfl dX1_isByRank_18, fun _ h => absurd h List.not_mem_nil⟩) aHS0) (
  aSa (s_iret (n := 0) rfl dX1_isByRank_21) (
  aSn))))))))))
theorem sn144 : SndL "Slidingtray" "isFair" cX1_isFair 2 (Option.some Jvm.ClassFile.FieldType.boolean) [] T144 := aSa (s_iload_n rfl rfl dX1_isFair_0) (
  aSa (s_callS rfl q2478 q2479 q102 q2480 (by decide +kernel) (by decide) aHS0 rfl dX1_isFair_1) (
  aSa (s_aload_n rfl rfl dX1_isFair_4) (
  aSa (s_getf (T := TX1) rfl (by decide) (by decide) in_X1 q1132 (Or.inl rfl) rfl dX1_isFair_5) (
  aSa (s_callV (List.forall_mem_cons.mpr ⟨d_V rfl rfl q1226 q1023 q1024 q103 q1025 rfl (by decide +kernel) (by decide) rfl dX1_isFair_8, fun _ h => absurd h List.not_mem_nil⟩) aHS0) (
  aSa (s_bipush (v0 := 6) (by decide) rfl dX1_isFair_11) (
  aSa (s_cgt (by decide) rfl dX1_isFair_13) (
  aSa (s_iconst (v0 := 1) (by decide) rfl dX1_isFair_16) (
  aSa (s_goto (n := 0) (by decide) dX1_isFair_17) (
  aSa (s_iconst (v0 := 0) (by decide) rfl dX1_isFair_20) (
  aSa (s_callS rfl q2121 q2122 q102 q2123 (by decide +kernel) (by decide) aHS0 rfl dX1_isFair_21) (
  aSa (s_new (T := TX13) (ty0 := tyX13) tyX13_ok rfl (by decide) in_X13 q1422 q1423 q159 (by decide) rfl dX1_isFair_24) (
  aSa (s_dup rfl dX1_isFair_27) (
  aSa (s_aload_n rfl rfl dX1_isFair_28) (
  aSa (s_callI rfl q1424 q1425 q159 q1426 (by decide +kernel) (by decide) rfl aHS0 rfl dX1_isFair_29) (
  aSa (s_iload_n rfl rfl dX1_isFair_32) (
  aSa (s_callV (List.forall_mem_cons.mpr ⟨d_V rfl rfl q2649 q2650 q2651 q159 q2652 rfl (by decide +kernel) (by decide) rfl dX1_isFair_33, fun _ h => absurd h List.not_mem_nil⟩) aHS0) (
  aSa (s_iret (n := 0) rfl dX1_isFair_36) (
  aSn))))))))))))))))))
theorem sn145 : SndL "Slidingtray" "keep" cX1_keep 2 (Option.some Jvm.ClassFile.FieldType.long) [] T145 := aSa (s_iload_n rfl rfl dX1_keep_0) (
  aSa (s_iflt (by decide) rfl dX1_keep_1) (
  aSa (s_iload_n rfl rfl dX1_keep_4) (
  aSa (s_iconst (v0 := 2) (by decide) rfl dX1_keep_5) (
  aSa (s_cge (by decide) rfl dX1_keep_6) (
  aSa (s_iconst (v0 := 1) (by decide) rfl dX1_keep_9) (
  aSa (s_goto (n := 0) (by decide) dX1_keep_10) (
  aSa (s_iconst (v0 := 0) (by decide) rfl dX1_keep_13) (
  aSa (s_callS rfl q2083 q2084 q102 q2085 (by decide +kernel) (by decide) aHS0 rfl dX1_keep_14) (
  aSa (s_aload_n rfl rfl dX1_keep_17) (
  aSa (s_getf (T := TX1) rfl (by decide) (by decide) in_X1 q1141 (Or.inl rfl) rfl dX1_keep_18) (
  aSa (s_iload_n rfl rfl dX1_keep_21) (
  aSa (s_new (T := TX7) (ty0 := tyX7) tyX7_ok rfl (by decide) in_X7 q1101 q2430 q148 (by decide) rfl dX1_keep_22) (
  aSa (s_dup rfl dX1_keep_25) (
  aSa (s_aload_n rfl rfl dX1_keep_26) (
  aSa (s_getf (T := TX1) rfl (by decide) (by decide) in_X1 q1134 (Or.inl rfl) rfl dX1_keep_27) (
  aSa (s_aload_n rfl rfl dX1_keep_30) (
  aSa (s_getf (T := TX1) rfl (by decide) (by decide) in_X1 q1135 (Or.inl rfl) rfl dX1_keep_31) (
  aSa (s_aload_n rfl rfl dX1_keep_34) (
  aSa (s_getf (T := TX1) rfl (by decide) (by decide) in_X1 q1135 (Or.inl rfl) rfl dX1_keep_35) (
  aSa (s_getfN (T := TX4) rfl (by decide) (by decide) in_X4 q1077 rfl rfl dX1_keep_38) (
  aSa (s_callV (List.forall_mem_cons.mpr ⟨d_V rfl rfl q1177 q1178 q1179 q134 q1180 rfl (by decide +kernel) (by decide) rfl dX1_keep_41, fun _ h => absurd h List.not_mem_nil⟩) aHS0) (
  aSa (s_callI rfl q2431 q2432 q148 q2433 (by decide +kernel) (by decide) rfl aHS0 rfl dX1_keep_44) (
  aSa (s_aast rfl dX1_keep_47) (
  aSa (s_aload_n rfl rfl dX1_keep_48) (
  aSa (s_getf (T := TX1) rfl (by decide) (by decide) in_X1 q1134 (Or.inl rfl) rfl dX1_keep_49) (
  aSa (s_callV (List.forall_mem_cons.mpr ⟨d_V rfl rfl q1198 q1199 q1200 q133 q1201 rfl (by decide +kernel) (by decide) rfl dX1_keep_52, fun _ h => absurd h List.not_mem_nil⟩) aHS0) (
  aSa (s_lret (n := 0) rfl dX1_keep_55) (
  aSn))))))))))))))))))))))))))))
theorem sn146 : SndL "Slidingtray" "lay" cX1_lay 3 (Option.some Jvm.ClassFile.FieldType.int) [] T146 := aSa (s_lload_n rfl rfl dX1_lay_0) (
  aSa (s_lconst (by decide) rfl dX1_lay_1) (
  aSa (s_lcmp rfl dX1_lay_2) (
  aSa (s_iflt (by decide) rfl dX1_lay_3) (
  aSa (s_lload_n rfl rfl dX1_lay_6) (
  aSa (s_aload_n rfl rfl dX1_lay_7) (
  aSa (s_callV (List.forall_mem_cons.mpr ⟨d_V rfl rfl q2041 q1430 qs23 q102 q1431 rfl (by decide +kernel) (by decide) rfl dX1_lay_8, fun _ h => absurd h List.not_mem_nil⟩) aHS0) (
  aSa (s_lcmp rfl dX1_lay_11) (
  aSa (s_ifge (by decide) rfl dX1_lay_12) (
  aSa (s_iconst (v0 := 1) (by decide) rfl dX1_lay_15) (
  aSa (s_goto (n := 0) (by decide) dX1_lay_16) (
  aSa (s_iconst (v0 := 0) (by decide) rfl dX1_lay_19) (
  aSa (s_callS rfl q2010 q2011 q102 q2012 (by decide +kernel) (by decide) aHS0 rfl dX1_lay_20) (
  aSa (s_aload_n rfl rfl dX1_lay_23) (
  aSa (s_aload_n rfl rfl dX1_lay_24) (
  aSa (s_getf (T := TX1) rfl (by decide) (by decide) in_X1 q1132 (Or.inl rfl) rfl dX1_lay_25) (
  aSa (s_lload_n rfl rfl dX1_lay_28) (
  aSa (s_callS rfl q1017 q1018 q133 q1019 (by decide +kernel) (by decide) aHS0 rfl dX1_lay_29) (
  aSa (s_callV (List.forall_mem_cons.mpr ⟨d_V rfl rfl q2042 q2044 qs39 q102 q2045 rfl (by decide +kernel) (by decide) rfl dX1_lay_32, fun _ h => absurd h List.not_mem_nil⟩) aHS0) (
  aSa (s_iret (n := 0) rfl dX1_lay_35) (
  aSn))))))))))))))))))))
theorem sn147 : SndL "Slidingtray" "leastOut" cX1_leastOut 8 (Option.some Jvm.ClassFile.FieldType.int) [] T147 := aSa (s_ldcw q1420 rfl dX1_leastOut_0) (
  aSa (s_istore_n rfl (by decide) rfl dX1_leastOut_3) (
  aSa (s_iconst (v0 := 0) (by decide) rfl dX1_leastOut_4) (
  aSa (s_istore_n rfl (by decide) rfl dX1_leastOut_5) (
  aSa (s_iload_n rfl rfl dX1_leastOut_6) (
  aSa (s_iconst (v0 := 1) (by decide) rfl dX1_leastOut_7) (
  aSa (s_iload_n rfl rfl dX1_leastOut_8) (
  aSa (s_ishl rfl dX1_leastOut_9) (
  aSa (s_cge (by decide) rfl dX1_leastOut_10) (
  aSa (s_iconst (v0 := 0) (by decide) rfl dX1_leastOut_13) (
  aSa (s_istore (by decide) rfl dX1_leastOut_14) (
  aSa (s_iconst (v0 := (-1)) (by decide) rfl dX1_leastOut_16) (
  aSa (s_istore (by decide) rfl dX1_leastOut_17) (
  aSa (s_iconst (v0 := 1) (by decide) rfl dX1_leastOut_19) (
  aSa (s_istore (by decide) rfl dX1_leastOut_20) (
  aSa (s_iconst (v0 := 0) (by decide) rfl dX1_leastOut_22) (
  aSa (s_istore (by decide) rfl dX1_leastOut_23) (
  aSa (s_iload rfl dX1_leastOut_25) (
  aSa (s_iload_n rfl rfl dX1_leastOut_27) (
  aSa (s_cge (by decide) rfl dX1_leastOut_28) (
  aSa (s_iload_n rfl rfl dX1_leastOut_31) (
  aSa (s_iload rfl dX1_leastOut_32) (
  aSa (s_ishr rfl dX1_leastOut_34) (
  aSa (s_iconst (v0 := 1) (by decide) rfl dX1_leastOut_35) (
  aSa (s_iand rfl dX1_leastOut_36) (
  aSa (s_iconst (v0 := 1) (by decide) rfl dX1_leastOut_37) (
  aSa (s_cne (by decide) rfl dX1_leastOut_38) (
  aSa (s_iload rfl dX1_leastOut_41) (
  aSa (s_aload_n rfl rfl dX1_leastOut_43) (
  aSa (s_getf (T := TX1) rfl (by decide) (by decide) in_X1 q1147 (Or.inl rfl) rfl dX1_leastOut_44) (
  aSa (s_iload rfl dX1_leastOut_47) (
  aSa (s_iald rfl dX1_leastOut_49) (
  aSa (s_iadd rfl dX1_leastOut_50) (
  aSa (s_istore (by decide) rfl dX1_leastOut_51) (
  aSa (s_goto (n := 0) (by decide) dX1_leastOut_53) (
  aSa (s_iload rfl dX1_leastOut_56) (
  aSa (s_ifeq (by decide) rfl dX1_leastOut_58) (
  aSa (s_aload_n rfl rfl dX1_leastOut_61) (
  aSa (s_getf (T := TX1) rfl (by decide) (by decide) in_X1 q1146 (Or.inl rfl) rfl dX1_leastOut_62) (
  aSa (s_iload rfl dX1_leastOut_65) (
  aSa (s_iald rfl dX1_leastOut_67) (
  aSa (s_iload rfl dX1_leastOut_68) (
  aSa (s_cle (by decide) rfl dX1_leastOut_70) (
  aSa (s_iconst (v0 := 1) (by decide) rfl dX1_leastOut_73) (
  aSa (s_goto (n := 0) (by decide) dX1_leastOut_74) (
  aSa (s_iconst (v0 := 0) (by decide) rfl dX1_leastOut_77) (
  aSa (s_istore (by decide) rfl dX1_leastOut_78) (
  aSa (s_aload_n rfl rfl dX1_leastOut_80) (
  aSa (s_getf (T := TX1) rfl (by decide) (by decide) in_X1 q1146 (Or.inl rfl) rfl dX1_leastOut_81) (
  aSa (s_iload rfl dX1_leastOut_84) (
  aSa (s_iald rfl dX1_leastOut_86) (
  aSa (s_istore (by decide) rfl dX1_leastOut_87) (
  aSa (s_iinc (by decide) rfl dX1_leastOut_89) (
  aSa (s_goto (n := 0) (by decide) dX1_leastOut_92) (
  aSa (s_iload rfl dX1_leastOut_95) (
  aSa (s_ifeq (by decide) rfl dX1_leastOut_97) (
  aSa (s_iload_n rfl rfl dX1_leastOut_100) (
  aSa (s_iload rfl dX1_leastOut_101) (
  aSa (s_mmin q1421 q330 q112 q331 rfl dX1_leastOut_103) (
  aSa (s_goto (n := 0) (by decide) dX1_leastOut_106) (
  aSa (s_iload_n rfl rfl dX1_leastOut_109) (
  aSa (s_istore_n rfl (by decide) rfl dX1_leastOut_110) (
  aSa (s_iinc (by decide) rfl dX1_leastOut_111) (
  aSa (s_goto (n := 0) (by decide) dX1_leastOut_114) (
  aSa (s_iload_n rfl rfl dX1_leastOut_117) (
  aSa (s_iret (n := 0) rfl dX1_leastOut_118) (
  aSn))))))))))))))))))))))))))))))))))))))))))))))))))))))))))))))))))
theorem sn148 : SndL "Slidingtray" "lies" cX1_lies 2 (Option.some Jvm.ClassFile.FieldType.int) [] T148 := aSa (s_aload_n rfl rfl dX1_lies_0) (
  aSa (s_aload_n rfl rfl dX1_lies_1) (
  aSa (s_putf (T := TX1) (ty0 := tyX1) tyX1_ok nmX1 rfl (by decide) (by decide) in_X1 q1134 (Or.inl rfl) rfl rfl rfl dX1_lies_2) (
  aSa (s_aload_n rfl rfl dX1_lies_5) (
  aSa (s_getf (T := TX1) rfl (by decide) (by decide) in_X1 q1139 (Or.inl rfl) rfl dX1_lies_6) (
  aSa (s_callV (List.forall_mem_cons.mpr ⟨d_V rfl rfl q2026 q2027 q2028 q130 q2029 rfl (by decide +kernel) (by decide) rfl dX1_lies_9, fun _ h => absurd h List.not_mem_nil⟩) aHS0) (
  aSa (s_aload_n rfl rfl dX1_lies_12) (
  aSa (s_getf (T := TX1) rfl (by decide) (by decide) in_X1 q1132 (Or.inl rfl) rfl dX1_lies_13) (
  aSa (s_getfN (T := TX2) rfl (by decide) (by decide) in_X2 q992 rfl rfl dX1_lies_16) (
  aSa (s_aload_n rfl rfl dX1_lies_19) (
  aSa (s_getf (T := TX1) rfl (by decide) (by decide) in_X1 q1134 (Or.inl rfl) rfl dX1_lies_20) (
  aSa (s_getfN (T := TX3) rfl (by decide) (by decide) in_X3 q1059 rfl rfl dX1_lies_23) (
  aSa (s_callV (List.forall_mem_cons.mpr ⟨d_F (x := ⟨"java/util/List", "get", "(I)Ljava/lang/Object;"⟩) rfl rfl (aL1 q2047 (aL1 q696 (aL1 q698 (aL1 q106 aL0)))) q700 q695 q694 q699 q697 q252 (by decide +kernel) (by decide) rfl dX1_lies_26, fun _ h => absurd h List.not_mem_nil⟩) aHS0) (
  aSa (s_cast q2048 (List.forall_mem_cons.mpr ⟨⟨_, rfl, (Or.inl rfl)⟩, List.forall_mem_cons.mpr ⟨⟨_, rfl, (Or.inl rfl)⟩, fun _ h => absurd h List.not_mem_nil⟩⟩) (fun t h => absurd h List.not_mem_nil) rfl dX1_lies_31) (
  aSa (s_callV (List.forall_mem_cons.mpr ⟨d_V rfl rfl q2049 q713 q714 q109 q715 rfl (by decide +kernel) (by decide) rfl dX1_lies_34, List.forall_mem_cons.mpr ⟨d_V rfl rfl q2049 q713 q714 q109 q715 rfl (by decide +kernel) (by decide) rfl dX1_lies_34, fun _ h => absurd h List.not_mem_nil⟩⟩) aHS0) (
  aSa (s_iret (n := 0) rfl dX1_lies_37) (
  aSn))))))))))))))))
theorem sn149 : SndL "Slidingtray" "lineAdds" cX1_lineAdds 9 (Option.some Jvm.ClassFile.FieldType.int) [] T149 := aSa (s_iconst (v0 := 0) (by decide) rfl dX1_lineAdds_0) (
  aSa (s_istore (by decide) rfl dX1_lineAdds_1) (
  aSa (s_iconst (v0 := 0) (by decide) rfl dX1_lineAdds_3) (
  aSa (s_istore (by decide) rfl dX1_lineAdds_4) (
  aSa (s_iload rfl dX1_lineAdds_6) (
  aSa (s_aload_n rfl rfl dX1_lineAdds_8) (
  aSa (s_getfN (T := TX3) rfl (by decide) (by decide) in_X3 q1056 rfl rfl dX1_lineAdds_9) (
  aSa (s_alen rfl dX1_lineAdds_12) (
  aSa (s_cge (by decide) rfl dX1_lineAdds_13) (
  aSa (s_aload_n rfl rfl dX1_lineAdds_16) (
  aSa (s_getfN (T := TX3) rfl (by decide) (by decide) in_X3 q1056 rfl rfl dX1_lineAdds_17) (
  aSa (s_iload rfl dX1_lineAdds_20) (
  aSa (s_iald rfl dX1_lineAdds_22) (
  aSa (s_istore (by decide) rfl dX1_lineAdds_23) (
  aSa (s_iload_n rfl rfl dX1_lineAdds_25) (
  aSa (s_ifeq (by decide) rfl dX1_lineAdds_26) (
  aSa (s_aload_n rfl rfl dX1_lineAdds_29) (
  aSa (s_getf (T := TX1) rfl (by decide) (by decide) in_X1 q1132 (Or.inl rfl) rfl dX1_lineAdds_30) (
  aSa (s_iload rfl dX1_lineAdds_33) (
  aSa (s_callV (List.forall_mem_cons.mpr ⟨d_V rfl rfl q1414 q689 q690 q103 q691 rfl (by decide +kernel) (by decide) rfl dX1_lineAdds_35, fun _ h => absurd h List.not_mem_nil⟩) aHS0) (
  aSa (s_goto (n := 0) (by decide) dX1_lineAdds_38) (
  aSa (s_aload_n rfl rfl dX1_lineAdds_41) (
  aSa (s_getf (T := TX1) rfl (by decide) (by decide) in_X1 q1132 (Or.inl rfl) rfl dX1_lineAdds_42) (
  aSa (s_iload rfl dX1_lineAdds_45) (
  aSa (s_callV (List.forall_mem_cons.mpr ⟨d_V rfl rfl q1415 q717 q718 q103 q719 rfl (by decide +kernel) (by decide) rfl dX1_lineAdds_47, fun _ h => absurd h List.not_mem_nil⟩) aHS0) (
  aSa (s_istore (by decide) rfl dX1_lineAdds_50) (
  aSa (s_iload rfl dX1_lineAdds_52) (
  aSa (s_iload_n rfl rfl dX1_lineAdds_54) (
  aSa (s_cne (by decide) rfl dX1_lineAdds_55) (
  aSa (s_aload_n rfl rfl dX1_lineAdds_58) (
  aSa (s_getf (T := TX1) rfl (by decide) (by decide) in_X1 q1135 (Or.inl rfl) rfl dX1_lineAdds_59) (
  aSa (s_iload rfl dX1_lineAdds_62) (
  aSa (s_callV (List.forall_mem_cons.mpr ⟨d_V rfl rfl q1231 q1232 q1233 q134 q1234 rfl (by decide +kernel) (by decide) rfl dX1_lineAdds_64, fun _ h => absurd h List.not_mem_nil⟩) aHS0) (
  aSa (s_ifeq (by decide) rfl dX1_lineAdds_67) (
  aSa (s_aload_n rfl rfl dX1_lineAdds_70) (
  aSa (s_getf (T := TX1) rfl (by decide) (by decide) in_X1 q1135 (Or.inl rfl) rfl dX1_lineAdds_71) (
  aSa (s_getfN (T := TX4) rfl (by decide) (by decide) in_X4 q1080 rfl rfl dX1_lineAdds_74) (
  aSa (s_iload rfl dX1_lineAdds_77) (
  aSa (s_iald rfl dX1_lineAdds_79) (
  aSa (s_istore (by decide) rfl dX1_lineAdds_80) (
  aSa (s_iload_n rfl rfl dX1_lineAdds_82) (
  aSa (s_ifeq (by decide) rfl dX1_lineAdds_83) (
  aSa (s_aload_n rfl rfl dX1_lineAdds_86) (
  aSa (s_getf (T := TX1) rfl (by decide) (by decide) in_X1 q1132 (Or.inl rfl) rfl dX1_lineAdds_87) (
  aSa (s_iload rfl dX1_lineAdds_90) (
  aSa (s_callV (List.forall_mem_cons.mpr ⟨d_V rfl rfl q1414 q689 q690 q103 q691 rfl (by decide +kernel) (by decide) rfl dX1_lineAdds_92, fun _ h => absurd h List.not_mem_nil⟩) aHS0) (
  aSa (s_goto (n := 0) (by decide) dX1_lineAdds_95) (
  aSa (s_aload_n rfl rfl dX1_lineAdds_98) (
  aSa (s_getf (T := TX1) rfl (by decide) (by decide) in_X1 q1132 (Or.inl rfl) rfl dX1_lineAdds_99) (
  aSa (s_iload rfl dX1_lineAdds_102) (
  aSa (s_callV (List.forall_mem_cons.mpr ⟨d_V rfl rfl q1415 q717 q718 q103 q719 rfl (by decide +kernel) (by decide) rfl dX1_lineAdds_104, fun _ h => absurd h List.not_mem_nil⟩) aHS0) (
  aSa (s_iload_n rfl rfl dX1_lineAdds_107) (
  aSa (s_cne (by decide) rfl dX1_lineAdds_108) (
  aSa (s_aload_n rfl rfl dX1_lineAdds_111) (
  aSa (s_getf (T := TX1) rfl (by decide) (by decide) in_X1 q1146 (Or.inl rfl) rfl dX1_lineAdds_112) (
  aSa (s_iload rfl dX1_lineAdds_115) (
  aSa (s_iload_n rfl rfl dX1_lineAdds_117) (
  aSa (s_ifeq (by decide) rfl dX1_lineAdds_118) (
  aSa (s_aload_n rfl rfl dX1_lineAdds_121) (
  aSa (s_getf (T := TX1) rfl (by decide) (by decide) in_X1 q1132 (Or.inl rfl) rfl dX1_lineAdds_122) (
  aSa (s_iload rfl dX1_lineAdds_125) (
  aSa (s_callV (List.forall_mem_cons.mpr ⟨d_V rfl rfl q1415 q717 q718 q103 q719 rfl (by decide +kernel) (by decide) rfl dX1_lineAdds_127, fun _ h => absurd h List.not_mem_nil⟩) aHS0) (
  aSa (s_goto (n := 0) (by decide) dX1_lineAdds_130) (
  aSa (s_aload_n rfl rfl dX1_lineAdds_133) (
  aSa (s_getf (T := TX1) rfl (by decide) (by decide) in_X1 q1132 (Or.inl rfl) rfl dX1_lineAdds_134) (
  aSa (s_iload rfl dX1_lineAdds_137) (
  aSa (s_callV (List.forall_mem_cons.mpr ⟨d_V rfl rfl q1414 q689 q690 q103 q691 rfl (by decide +kernel) (by decide) rfl dX1_lineAdds_139, fun _ h => absurd h List.not_mem_nil⟩) aHS0) (
  aSa (s_iast rfl dX1_lineAdds_142) (
  aSa (s_aload_n rfl rfl dX1_lineAdds_143) (
  aSa (s_getf (T := TX1) rfl (by decide) (by decide) in_X1 q1147 (Or.inl rfl) rfl dX1_lineAdds_144) (
  aSa (s_iload rfl dX1_lineAdds_147) (
  aSa (s_aload_n rfl rfl dX1_lineAdds_149) (
  aSa (s_getf (T := TX1) rfl (by decide) (by decide) in_X1 q1135 (Or.inl rfl) rfl dX1_lineAdds_150) (
  aSa (s_getfN (T := TX4) rfl (by decide) (by decide) in_X4 q1087 rfl rfl dX1_lineAdds_153) (
  aSa (s_iload rfl dX1_lineAdds_156) (
  aSa (s_iald rfl dX1_lineAdds_158) (
  aSa (s_iast rfl dX1_lineAdds_159) (
  aSa (s_iinc (by decide) rfl dX1_lineAdds_160) (
  aSa (s_iinc (by decide) rfl dX1_lineAdds_163) (
  aSa (s_goto (n := 0) (by decide) dX1_lineAdds_166) (
  aSa (s_aload_n rfl rfl dX1_lineAdds_169) (
  aSa (s_iload rfl dX1_lineAdds_170) (
  aSa (s_callV (List.forall_mem_cons.mpr ⟨d_V rfl rfl q1416 q1418 qs22 q102 q1419 rfl (by decide +kernel) (by decide) rfl dX1_lineAdds_172, fun _ h => absurd h List.not_mem_nil⟩) aHS0) (
  aSa (s_iret (n := 0) rfl dX1_lineAdds_175) (
  aSn))))))))))))))))))))))))))))))))))))))))))))))))))))))))))))))))))))))))))))))))))))
theorem sn150 : SndL "Slidingtray" "macroAt" cX1_macroAt 2 (Option.some (Jvm.ClassFile.FieldType.object "java/util/List")) [] T150 := aSa (s_iload_n rfl rfl dX1_macroAt_0) (
  aSa (s_iflt (by decide) rfl dX1_macroAt_1) (
  aSa (s_iload_n rfl rfl dX1_macroAt_4) (
  aSa (s_iconst (v0 := 4) (by decide) rfl dX1_macroAt_5) (
  aSa (s_cge (by decide) rfl dX1_macroAt_6) (
  aSa (s_iconst (v0 := 1) (by decide) rfl dX1_macroAt_9) (
  aSa (s_goto (n := 0) (by decide) dX1_macroAt_10) (
  aSa (s_iconst (v0 := 0) (by decide) rfl dX1_macroAt_13) (
  aSa (s_callS rfl q2083 q2084 q102 q2085 (by decide +kernel) (by decide) aHS0 rfl dX1_macroAt_14) (
  aSa (s_aload_n rfl rfl dX1_macroAt_17) (
  aSa (s_getf (T := TX1) rfl (by decide) (by decide) in_X1 q1140 (Or.inl rfl) rfl dX1_macroAt_18) (
  aSa (s_iload_n rfl rfl dX1_macroAt_21) (
  aSa (s_callV (List.forall_mem_cons.mpr ⟨d_F (x := ⟨"java/util/List", "get", "(I)Ljava/lang/Object;"⟩) rfl rfl (aL1 q2047 (aL1 q696 (aL1 q698 (aL1 q106 aL0)))) q700 q695 q694 q699 q697 q252 (by decide +kernel) (by decide) rfl dX1_macroAt_22, fun _ h => absurd h List.not_mem_nil⟩) aHS0) (
  aSa (s_cast q2033 (List.forall_mem_cons.mpr ⟨⟨_, rfl, (Or.inr q252)⟩, fun _ h => absurd h List.not_mem_nil⟩) (fun t h => absurd h List.not_mem_nil) rfl dX1_macroAt_27) (
  aSa (s_aret (n := 0) rfl (Or.inl ⟨_, rfl⟩) dX1_macroAt_30) (
  aSn)))))))))))))))
theorem sn151 : SndL "Slidingtray" "makes" cX1_makes 3 (Option.none : Option Jvm.ClassFile.FieldType) [] T151 := aSa (s_aload_n rfl rfl dX1_makes_0) (
  aSa (s_aload_n rfl rfl dX1_makes_1) (
  aSa (s_getf (T := TX1) rfl (by decide) (by decide) in_X1 q1134 (Or.inl rfl) rfl dX1_makes_2) (
  aSa (s_iload_n rfl rfl dX1_makes_5) (
  aSa (s_callV (List.forall_mem_cons.mpr ⟨d_V rfl rfl q1256 q1257 q1258 q133 q1259 rfl (by decide +kernel) (by decide) rfl dX1_makes_6, fun _ h => absurd h List.not_mem_nil⟩) aHS0) (
  aSa (s_putf (T := TX1) (ty0 := tyX1) tyX1_ok nmX1 rfl (by decide) (by decide) in_X1 q1134 (Or.inl rfl) rfl rfl rfl dX1_makes_9) (
  aSa (s_aload_n rfl rfl dX1_makes_12) (
  aSa (s_getf (T := TX1) rfl (by decide) (by decide) in_X1 q1139 (Or.inl rfl) rfl dX1_makes_13) (
  aSa (s_iload_n rfl rfl dX1_makes_16) (
  aSa (s_callS rfl q1926 q229 q109 q230 (by decide +kernel) (by decide) aHS0 rfl dX1_makes_17) (
  aSa (s_callV (List.forall_mem_cons.mpr ⟨d_V rfl rfl q2133 q917 q918 q130 q919 rfl (by decide +kernel) (by decide) rfl dX1_makes_20, fun _ h => absurd h List.not_mem_nil⟩) aHS0) (
  aSa (s_aload_n rfl rfl dX1_makes_23) (
  aSa (s_getf (T := TX1) rfl (by decide) (by decide) in_X1 q1139 (Or.inl rfl) rfl dX1_makes_24) (
  aSa (s_callV (List.forall_mem_cons.mpr ⟨d_V rfl rfl q2134 q1680 q3291 q130 q1681 rfl (by decide +kernel) (by decide) rfl dX1_makes_27, fun _ h => absurd h List.not_mem_nil⟩) aHS0) (
  aSa (s_sipush (v0 := 200) (by decide) rfl dX1_makes_30) (
  aSa (s_cle (by decide) rfl dX1_makes_33) (
  aSa (s_aload_n rfl rfl dX1_makes_36) (
  aSa (s_getf (T := TX1) rfl (by decide) (by decide) in_X1 q1139 (Or.inl rfl) rfl dX1_makes_37) (
  aSa (s_callV (List.forall_mem_cons.mpr ⟨d_V rfl rfl q2135 q956 q957 q130 q958 rfl (by decide +kernel) (by decide) rfl dX1_makes_40, fun _ h => absurd h List.not_mem_nil⟩) aHS0) (
  aSa (s_cast q2048 (List.forall_mem_cons.mpr ⟨⟨_, rfl, (Or.inl rfl)⟩, List.forall_mem_cons.mpr ⟨⟨_, rfl, (Or.inl rfl)⟩, fun _ h => absurd h List.not_mem_nil⟩⟩) (fun t h => absurd h List.not_mem_nil) rfl dX1_makes_43) (
  aSa (s_callV (List.forall_mem_cons.mpr ⟨d_V rfl rfl q2049 q713 q714 q109 q715 rfl (by decide +kernel) (by decide) rfl dX1_makes_46, List.forall_mem_cons.mpr ⟨d_V rfl rfl q2049 q713 q714 q109 q715 rfl (by decide +kernel) (by decide) rfl dX1_makes_46, fun _ h => absurd h List.not_mem_nil⟩⟩) aHS0) (
  aSa (s_istore_n rfl (by decide) rfl dX1_makes_49) (
  aSa (s_ret (n := 0) rfl dX1_makes_50) (
  aSn)))))))))))))))))))))))
theorem sn152 : SndL "Slidingtray" "meanWeight" cX1_meanWeight 3 (Option.some Jvm.ClassFile.FieldType.double) [] T152 := aSa (s_iconst (v0 := 0) (by decide) rfl dX1_meanWeight_0) (
  aSa (s_istore_n rfl (by decide) rfl dX1_meanWeight_1) (
  aSa (s_iconst (v0 := 1) (by decide) rfl dX1_meanWeight_2) (
  aSa (s_istore_n rfl (by decide) rfl dX1_meanWeight_3) (
  aSa (s_iload_n rfl rfl dX1_meanWeight_4) (
  aSa (s_aload_n rfl rfl dX1_meanWeight_5) (
  aSa (s_getf (T := TX1) rfl (by decide) (by decide) in_X1 q1132 (Or.inl rfl) rfl dX1_meanWeight_6) (
  aSa (s_callV (List.forall_mem_cons.mpr ⟨d_V rfl rfl q1226 q1023 q1024 q103 q1025 rfl (by decide +kernel) (by decide) rfl dX1_meanWeight_9, fun _ h => absurd h List.not_mem_nil⟩) aHS0) (
  aSa (s_cge (by decide) rfl dX1_meanWeight_12) (
  aSa (s_iload_n rfl rfl dX1_meanWeight_15) (
  aSa (s_aload_n rfl rfl dX1_meanWeight_16) (
  aSa (s_getf (T := TX1) rfl (by decide) (by decide) in_X1 q1135 (Or.inl rfl) rfl dX1_meanWeight_17) (
  aSa (s_getfN (T := TX4) rfl (by decide) (by decide) in_X4 q1087 rfl rfl dX1_meanWeight_20) (
  aSa (s_iload_n rfl rfl dX1_meanWeight_23) (
  aSa (s_iald rfl dX1_meanWeight_24) (
  aSa (s_iadd rfl dX1_meanWeight_25) (
  aSa (s_istore_n rfl (by decide) rfl dX1_meanWeight_26) (
  aSa (s_iinc (by decide) rfl dX1_meanWeight_27) (
  aSa (s_goto (n := 0) (by decide) dX1_meanWeight_30) (
  aSa (s_iload_n rfl rfl dX1_meanWeight_33) (
  aSa (s_i2d rfl dX1_meanWeight_34) (
  aSa (s_aload_n rfl rfl dX1_meanWeight_35) (
  aSa (s_getf (T := TX1) rfl (by decide) (by decide) in_X1 q1132 (Or.inl rfl) rfl dX1_meanWeight_36) (
  aSa (s_callV (List.forall_mem_cons.mpr ⟨d_V rfl rfl q1226 q1023 q1024 q103 q1025 rfl (by decide +kernel) (by decide) rfl dX1_meanWeight_39, fun _ h => absurd h List.not_mem_nil⟩) aHS0) (
  aSa (s_iconst (v0 := 1) (by decide) rfl dX1_meanWeight_42) (
  aSa (s_isub rfl dX1_meanWeight_43) (
  aSa (s_i2d rfl dX1_meanWeight_44) (
  aSa (s_ddiv rfl dX1_meanWeight_45) (
  aSa (s_dret (n := 0) rfl dX1_meanWeight_46) (
  aSn)))))))))))))))))))))))))))))
theorem sn153 : SndL "Slidingtray" "mix" cX1_mix 8 (Option.some Jvm.ClassFile.FieldType.int) [] T153 := aSa (s_iload_n rfl rfl dX1_mix_0) (
  aSa (s_iflt (by decide) rfl dX1_mix_1) (
  aSa (s_iload_n rfl rfl dX1_mix_4) (
  aSa (s_sipush (v0 := 200) (by decide) rfl dX1_mix_5) (
  aSa (s_cgt (by decide) rfl dX1_mix_8) (
  aSa (s_iconst (v0 := 1) (by decide) rfl dX1_mix_11) (
  aSa (s_goto (n := 0) (by decide) dX1_mix_12) (
  aSa (s_iconst (v0 := 0) (by decide) rfl dX1_mix_15) (
  aSa (s_callS rfl q2010 q2011 q102 q2012 (by decide +kernel) (by decide) aHS0 rfl dX1_mix_16) (
  aSa (s_aload_n rfl rfl dX1_mix_19) (
  aSa (s_getf (T := TX1) rfl (by decide) (by decide) in_X1 q1134 (Or.inl rfl) rfl dX1_mix_20) (
  aSa (s_astore_n rfl (by decide) rfl dX1_mix_23) (
  aSa (s_iload_n rfl rfl dX1_mix_24) (
  aSa (s_istore (by decide) rfl dX1_mix_25) (
  aSa (s_iconst (v0 := 0) (by decide) rfl dX1_mix_27) (
  aSa (s_istore (by decide) rfl dX1_mix_28) (
  aSa (s_iload rfl dX1_mix_30) (
  aSa (s_iload_n rfl rfl dX1_mix_32) (
  aSa (s_cge (by decide) rfl dX1_mix_33) (
  aSa (s_new (T := TJ2) (ty0 := tyJ2) tyJ2_ok rfl (by decide) in_J2 q1097 q176 q106 (by decide) rfl dX1_mix_36) (
  aSa (s_dup rfl dX1_mix_39) (
  aSa (s_callI rfl q1098 q178 q106 q179 (by decide +kernel) (by decide) rfl aHS0 rfl dX1_mix_40) (
  aSa (s_astore (by decide) rfl dX1_mix_43) (
  aSa (s_iconst (v0 := 0) (by decide) rfl dX1_mix_45) (
  aSa (s_istore (by decide) rfl dX1_mix_46) (
  aSa (s_iload rfl dX1_mix_48) (
  aSa (s_iconst (v0 := 3) (by decide) rfl dX1_mix_50) (
  aSa (s_cgt (by decide) rfl dX1_mix_51) (
  aSa (s_aload_n rfl rfl dX1_mix_54) (
  aSa (s_iload rfl dX1_mix_55) (
  aSa (s_callV (List.forall_mem_cons.mpr ⟨d_V rfl rfl q1252 q1253 q1254 q133 q1255 rfl (by decide +kernel) (by decide) rfl dX1_mix_57, fun _ h => absurd h List.not_mem_nil⟩) aHS0) (
  aSa (s_ifle (by decide) rfl dX1_mix_60) (
  aSa (s_aload rfl dX1_mix_63) (
  aSa (s_iload rfl dX1_mix_65) (
  aSa (s_callS rfl q1926 q229 q109 q230 (by decide +kernel) (by decide) aHS0 rfl dX1_mix_67) (
  aSa (s_callV (List.forall_mem_cons.mpr ⟨d_F (x := ⟨"java/util/List", "add", "(Ljava/lang/Object;)Z"⟩) rfl rfl (aL1 q1131 (aL1 q253 (aL1 q255 (aL1 q106 aL0)))) q257 q251 q250 q256 q254 q252 (by decide +kernel) (by decide) rfl dX1_mix_70, fun _ h => absurd h List.not_mem_nil⟩) aHS0) (
  aSa (s_pop rfl dX1_mix_75) (
  aSa (s_iinc (by decide) rfl dX1_mix_76) (
  aSa (s_goto (n := 0) (by decide) dX1_mix_79) (
  aSa (s_iload rfl dX1_mix_82) (
  aSa (s_ldc q2057 rfl dX1_mix_84) (
  aSa (s_imul rfl dX1_mix_86) (
  aSa (s_sipush (v0 := 12345) (by decide) rfl dX1_mix_87) (
  aSa (s_iadd rfl dX1_mix_90) (
  aSa (s_istore (by decide) rfl dX1_mix_91) (
  aSa (s_aload_n rfl rfl dX1_mix_93) (
  aSa (s_aload rfl dX1_mix_94) (
  aSa (s_iload rfl dX1_mix_96) (
  aSa (s_bipush (v0 := 16) (by decide) rfl dX1_mix_98) (
  aSa (s_iushr rfl dX1_mix_100) (
  aSa (s_aload rfl dX1_mix_101) (
  aSa (s_callV (List.forall_mem_cons.mpr ⟨d_F (x := ⟨"java/util/List", "size", "()I"⟩) rfl rfl (aL1 q2059 (aL1 q681 (aL1 q683 (aL1 q106 aL0)))) q685 q680 q679 q684 q682 q252 (by decide +kernel) (by decide) rfl dX1_mix_103, fun _ h => absurd h List.not_mem_nil⟩) aHS0) (
  aSa (s_irem rfl dX1_mix_108) (
  aSa (s_callV (List.forall_mem_cons.mpr ⟨d_F (x := ⟨"java/util/List", "get", "(I)Ljava/lang/Object;"⟩) rfl rfl (aL1 q2047 (aL1 q696 (aL1 q698 (aL1 q106 aL0)))) q700 q695 q694 q699 q697 q252 (by decide +kernel) (by decide) rfl dX1_mix_109, fun _ h => absurd h List.not_mem_nil⟩) aHS0) (
  aSa (s_cast q2048 (List.forall_mem_cons.mpr ⟨⟨_, rfl, (Or.inl rfl)⟩, List.forall_mem_cons.mpr ⟨⟨_, rfl, (Or.inl rfl)⟩, fun _ h => absurd h List.not_mem_nil⟩⟩) (fun t h => absurd h List.not_mem_nil) rfl dX1_mix_114) (
  aSa (s_callV (List.forall_mem_cons.mpr ⟨d_V rfl rfl q2049 q713 q714 q109 q715 rfl (by decide +kernel) (by decide) rfl dX1_mix_117, List.forall_mem_cons.mpr ⟨d_V rfl rfl q2049 q713 q714 q109 q715 rfl (by decide +kernel) (by decide) rfl dX1_mix_117, fun _ h => absurd h List.not_mem_nil⟩⟩) aHS0) (
  aSa (s_callV (List.forall_mem_cons.mpr ⟨d_V rfl rfl q1256 q1257 q1258 q133 q1259 rfl (by decide +kernel) (by decide) rfl dX1_mix_120, fun _ h => absurd h List.not_mem_nil⟩) aHS0) (
  aSa (s_astore_n rfl (by decide) rfl dX1_mix_123) (
  aSa (s_iinc (by decide) rfl dX1_mix_124) (
  aSa (s_goto (n := 0) (by decide) dX1_mix_127) (
  aSa (s_aload_n rfl rfl dX1_mix_130) (
  aSa (s_aload_n rfl rfl dX1_mix_131) (
  aSa (s_callV (List.forall_mem_cons.mpr ⟨d_V rfl rfl q2042 q2044 qs39 q102 q2045 rfl (by decide +kernel) (by decide) rfl dX1_mix_132, fun _ h => absurd h List.not_mem_nil⟩) aHS0) (
  aSa (s_iret (n := 0) rfl dX1_mix_135) (
  aSn))))))))))))))))))))))))))))))))))))))))))))))))))))))))))))))))
theorem sn154 : SndL "Slidingtray" "move" cX1_move 6 (Option.some Jvm.ClassFile.FieldType.int) [] T154 := aSa (s_iload_n rfl rfl dX1_move_0) (
  aSa (s_iflt (by decide) rfl dX1_move_1) (
  aSa (s_iload_n rfl rfl dX1_move_4) (
  aSa (s_iconst (v0 := 3) (by decide) rfl dX1_move_5) (
  aSa (s_cgt (by decide) rfl dX1_move_6) (
  aSa (s_iload_n rfl rfl dX1_move_9) (
  aSa (s_iconst (v0 := 1) (by decide) rfl dX1_move_10) (
  aSa (s_clt (by decide) rfl dX1_move_11) (
  aSa (s_iload_n rfl rfl dX1_move_14) (
  aSa (s_iconst (v0 := 3) (by decide) rfl dX1_move_15) (
  aSa (s_cgt (by decide) rfl dX1_move_16) (
  aSa (s_iconst (v0 := 1) (by decide) rfl dX1_move_19) (
  aSa (s_goto (n := 0) (by decide) dX1_move_20) (
  aSa (s_iconst (v0 := 0) (by decide) rfl dX1_move_23) (
  aSa (s_callS rfl q2010 q2011 q102 q2012 (by decide +kernel) (by decide) aHS0 rfl dX1_move_24) (
  aSa (s_aload_n rfl rfl dX1_move_27) (
  aSa (s_getf (T := TX1) rfl (by decide) (by decide) in_X1 q1134 (Or.inl rfl) rfl dX1_move_28) (
  aSa (s_astore_n rfl (by decide) rfl dX1_move_31) (
  aSa (s_iconst (v0 := 0) (by decide) rfl dX1_move_32) (
  aSa (s_istore (by decide) rfl dX1_move_33) (
  aSa (s_iconst (v0 := 0) (by decide) rfl dX1_move_35) (
  aSa (s_istore (by decide) rfl dX1_move_36) (
  aSa (s_iload rfl dX1_move_38) (
  aSa (s_iload_n rfl rfl dX1_move_40) (
  aSa (s_cge (by decide) rfl dX1_move_41) (
  aSa (s_aload_n rfl rfl dX1_move_44) (
  aSa (s_iload_n rfl rfl dX1_move_45) (
  aSa (s_callV (List.forall_mem_cons.mpr ⟨d_V rfl rfl q1252 q1253 q1254 q133 q1255 rfl (by decide +kernel) (by decide) rfl dX1_move_46, fun _ h => absurd h List.not_mem_nil⟩) aHS0) (
  aSa (s_ifle (by decide) rfl dX1_move_49) (
  aSa (s_iconst (v0 := 1) (by decide) rfl dX1_move_52) (
  aSa (s_goto (n := 0) (by decide) dX1_move_53) (
  aSa (s_iconst (v0 := 0) (by decide) rfl dX1_move_56) (
  aSa (s_callS rfl q2121 q2122 q102 q2123 (by decide +kernel) (by decide) aHS0 rfl dX1_move_57) (
  aSa (s_iload rfl dX1_move_60) (
  aSa (s_aload_n rfl rfl dX1_move_62) (
  aSa (s_getf (T := TX1) rfl (by decide) (by decide) in_X1 q1135 (Or.inl rfl) rfl dX1_move_63) (
  aSa (s_getfN (T := TX4) rfl (by decide) (by decide) in_X4 q1087 rfl rfl dX1_move_66) (
  aSa (s_aload_n rfl rfl dX1_move_69) (
  aSa (s_iload_n rfl rfl dX1_move_70) (
  aSa (s_callV (List.forall_mem_cons.mpr ⟨d_V rfl rfl q1252 q1253 q1254 q133 q1255 rfl (by decide +kernel) (by decide) rfl dX1_move_71, fun _ h => absurd h List.not_mem_nil⟩) aHS0) (
  aSa (s_iald rfl dX1_move_74) (
  aSa (s_iadd rfl dX1_move_75) (
  aSa (s_istore (by decide) rfl dX1_move_76) (
  aSa (s_aload_n rfl rfl dX1_move_78) (
  aSa (s_iload_n rfl rfl dX1_move_79) (
  aSa (s_callV (List.forall_mem_cons.mpr ⟨d_V rfl rfl q1256 q1257 q1258 q133 q1259 rfl (by decide +kernel) (by decide) rfl dX1_move_80, fun _ h => absurd h List.not_mem_nil⟩) aHS0) (
  aSa (s_astore_n rfl (by decide) rfl dX1_move_83) (
  aSa (s_iinc (by decide) rfl dX1_move_84) (
  aSa (s_goto (n := 0) (by decide) dX1_move_87) (
  aSa (s_iconst (v0 := 0) (by decide) rfl dX1_move_90) (
  aSa (s_istore (by decide) rfl dX1_move_91) (
  aSa (s_iload rfl dX1_move_93) (
  aSa (s_iload_n rfl rfl dX1_move_95) (
  aSa (s_cge (by decide) rfl dX1_move_96) (
  aSa (s_aload_n rfl rfl dX1_move_99) (
  aSa (s_iload_n rfl rfl dX1_move_100) (
  aSa (s_callV (List.forall_mem_cons.mpr ⟨d_V rfl rfl q2129 q2131 qs41 q102 q2132 rfl (by decide +kernel) (by decide) rfl dX1_move_101, fun _ h => absurd h List.not_mem_nil⟩) aHS0) (
  aSa (s_iinc (by decide) rfl dX1_move_104) (
  aSa (s_goto (n := 0) (by decide) dX1_move_107) (
  aSa (s_iload rfl dX1_move_110) (
  aSa (s_iret (n := 0) rfl dX1_move_112) (
  aSn)))))))))))))))))))))))))))))))))))))))))))))))))))))))))))))
theorem sn155 : SndL "Slidingtray" "movesBack" cX1_movesBack 3 (Option.some Jvm.ClassFile.FieldType.boolean) [] T155 := aSa (s_iconst (v0 := 1) (by decide) rfl dX1_movesBack_0) (
  aSa (s_istore_n rfl (by decide) rfl dX1_movesBack_1) (
  aSa (s_iconst (v0 := 0) (by decide) rfl dX1_movesBack_2) (
  aSa (s_istore_n rfl (by decide) rfl dX1_movesBack_3) (
  aSa (s_iload_n rfl rfl dX1_movesBack_4) (
  aSa (s_iconst (v0 := 3) (by decide) rfl dX1_movesBack_5) (
  aSa (s_cgt (by decide) rfl dX1_movesBack_6) (
  aSa (s_iload_n rfl rfl dX1_movesBack_9) (
  aSa (s_ifeq (by decide) rfl dX1_movesBack_10) (
  aSa (s_aload_n rfl rfl dX1_movesBack_13) (
  aSa (s_getf (T := TX1) rfl (by decide) (by decide) in_X1 q1134 (Or.inl rfl) rfl dX1_movesBack_14) (
  aSa (s_iload_n rfl rfl dX1_movesBack_17) (
  aSa (s_callV (List.forall_mem_cons.mpr ⟨d_V rfl rfl q1252 q1253 q1254 q133 q1255 rfl (by decide +kernel) (by decide) rfl dX1_movesBack_18, fun _ h => absurd h List.not_mem_nil⟩) aHS0) (
  aSa (s_ifeq (by decide) rfl dX1_movesBack_21) (
  aSa (s_aload_n rfl rfl dX1_movesBack_24) (
  aSa (s_getf (T := TX1) rfl (by decide) (by decide) in_X1 q1134 (Or.inl rfl) rfl dX1_movesBack_25) (
  aSa (s_iload_n rfl rfl dX1_movesBack_28) (
  aSa (s_callV (List.forall_mem_cons.mpr ⟨d_V rfl rfl q1256 q1257 q1258 q133 q1259 rfl (by decide +kernel) (by decide) rfl dX1_movesBack_29, fun _ h => absurd h List.not_mem_nil⟩) aHS0) (
  aSa (s_iconst (v0 := 3) (by decide) rfl dX1_movesBack_32) (
  aSa (s_iload_n rfl rfl dX1_movesBack_33) (
  aSa (s_isub rfl dX1_movesBack_34) (
  aSa (s_callV (List.forall_mem_cons.mpr ⟨d_V rfl rfl q1256 q1257 q1258 q133 q1259 rfl (by decide +kernel) (by decide) rfl dX1_movesBack_35, fun _ h => absurd h List.not_mem_nil⟩) aHS0) (
  aSa (s_aload_n rfl rfl dX1_movesBack_38) (
  aSa (s_getf (T := TX1) rfl (by decide) (by decide) in_X1 q1134 (Or.inl rfl) rfl dX1_movesBack_39) (
  aSa (s_callV (List.forall_mem_cons.mpr ⟨d_V rfl rfl q1247 q749 q3289 q133 q750 rfl (by decide +kernel) (by decide) rfl dX1_movesBack_42, fun _ h => absurd h List.not_mem_nil⟩) aHS0) (
  aSa (s_ifeq (by decide) rfl dX1_movesBack_45) (
  aSa (s_iconst (v0 := 1) (by decide) rfl dX1_movesBack_48) (
  aSa (s_goto (n := 0) (by decide) dX1_movesBack_49) (
  aSa (s_iconst (v0 := 0) (by decide) rfl dX1_movesBack_52) (
  aSa (s_istore_n rfl (by decide) rfl dX1_movesBack_53) (
  aSa (s_iinc (by decide) rfl dX1_movesBack_54) (
  aSa (s_goto (n := 0) (by decide) dX1_movesBack_57) (
  aSa (s_iload_n rfl rfl dX1_movesBack_60) (
  aSa (s_iret (n := 0) rfl dX1_movesBack_61) (
  aSn))))))))))))))))))))))))))))))))))
theorem sn156 : SndL "Slidingtray" "onlyWay" cX1_onlyWay 2 (Option.some Jvm.ClassFile.FieldType.int) [] T156 := aSa (s_iload_n rfl rfl dX1_onlyWay_0) (
  aSa (s_iflt (by decide) rfl dX1_onlyWay_1) (
  aSa (s_iconst (v0 := 1) (by decide) rfl dX1_onlyWay_4) (
  aSa (s_goto (n := 0) (by decide) dX1_onlyWay_5) (
  aSa (s_iconst (v0 := 0) (by decide) rfl dX1_onlyWay_8) (
  aSa (s_callS rfl q2010 q2011 q102 q2012 (by decide +kernel) (by decide) aHS0 rfl dX1_onlyWay_9) (
  aSa (s_aload_n rfl rfl dX1_onlyWay_12) (
  aSa (s_getf (T := TX1) rfl (by decide) (by decide) in_X1 q1132 (Or.inl rfl) rfl dX1_onlyWay_13) (
  aSa (s_callV (List.forall_mem_cons.mpr ⟨d_V rfl rfl q1226 q1023 q1024 q103 q1025 rfl (by decide +kernel) (by decide) rfl dX1_onlyWay_16, fun _ h => absurd h List.not_mem_nil⟩) aHS0) (
  aSa (s_bipush (v0 := 6) (by decide) rfl dX1_onlyWay_19) (
  aSa (s_cgt (by decide) rfl dX1_onlyWay_21) (
  aSa (s_iconst (v0 := 1) (by decide) rfl dX1_onlyWay_24) (
  aSa (s_goto (n := 0) (by decide) dX1_onlyWay_25) (
  aSa (s_iconst (v0 := 0) (by decide) rfl dX1_onlyWay_28) (
  aSa (s_callS rfl q2121 q2122 q102 q2123 (by decide +kernel) (by decide) aHS0 rfl dX1_onlyWay_29) (
  aSa (s_new (T := TX13) (ty0 := tyX13) tyX13_ok rfl (by decide) in_X13 q1422 q1423 q159 (by decide) rfl dX1_onlyWay_32) (
  aSa (s_dup rfl dX1_onlyWay_35) (
  aSa (s_aload_n rfl rfl dX1_onlyWay_36) (
  aSa (s_callI rfl q1424 q1425 q159 q1426 (by decide +kernel) (by decide) rfl aHS0 rfl dX1_onlyWay_37) (
  aSa (s_iload_n rfl rfl dX1_onlyWay_40) (
  aSa (s_iconst (v0 := 1) (by decide) rfl dX1_onlyWay_41) (
  aSa (s_callV (List.forall_mem_cons.mpr ⟨d_V rfl rfl q2631 q2632 q2633 q159 q2634 rfl (by decide +kernel) (by decide) rfl dX1_onlyWay_42, fun _ h => absurd h List.not_mem_nil⟩) aHS0) (
  aSa (s_iret (n := 0) rfl dX1_onlyWay_45) (
  aSn)))))))))))))))))))))))
theorem sn157 : SndL "Slidingtray" "pairs" cX1_pairs 4 (Option.some Jvm.ClassFile.FieldType.int) [] T157 := aSa (s_aload_n rfl rfl dX1_pairs_0) (
  aSa (s_aload_n rfl rfl dX1_pairs_1) (
  aSa (s_callV (List.forall_mem_cons.mpr ⟨d_V rfl rfl q1401 q1403 qs19 q102 q1404 rfl (by decide +kernel) (by decide) rfl dX1_pairs_2, fun _ h => absurd h List.not_mem_nil⟩) aHS0) (
  aSa (s_istore_n rfl (by decide) rfl dX1_pairs_5) (
  aSa (s_iconst (v0 := 0) (by decide) rfl dX1_pairs_6) (
  aSa (s_istore_n rfl (by decide) rfl dX1_pairs_7) (
  aSa (s_iload_n rfl rfl dX1_pairs_8) (
  aSa (s_aload_n rfl rfl dX1_pairs_9) (
  aSa (s_getf (T := TX1) rfl (by decide) (by decide) in_X1 q1132 (Or.inl rfl) rfl dX1_pairs_10) (
  aSa (s_getfN (T := TX2) rfl (by decide) (by decide) in_X2 q988 rfl rfl dX1_pairs_13) (
  aSa (s_cge (by decide) rfl dX1_pairs_16) (
  aSa (s_iload_n rfl rfl dX1_pairs_19) (
  aSa (s_aload_n rfl rfl dX1_pairs_20) (
  aSa (s_getf (T := TX1) rfl (by decide) (by decide) in_X1 q1132 (Or.inl rfl) rfl dX1_pairs_21) (
  aSa (s_getfN (T := TX2) rfl (by decide) (by decide) in_X2 q999 rfl rfl dX1_pairs_24) (
  aSa (s_iload_n rfl rfl dX1_pairs_27) (
  aSa (s_callV (List.forall_mem_cons.mpr ⟨d_V rfl rfl q1409 q1236 q1237 q107 q1238 rfl (by decide +kernel) (by decide) rfl dX1_pairs_28, fun _ h => absurd h List.not_mem_nil⟩) aHS0) (
  aSa (s_ifeq (by decide) rfl dX1_pairs_31) (
  aSa (s_iconst (v0 := 0) (by decide) rfl dX1_pairs_34) (
  aSa (s_goto (n := 0) (by decide) dX1_pairs_35) (
  aSa (s_iconst (v0 := 2) (by decide) rfl dX1_pairs_38) (
  aSa (s_aload_n rfl rfl dX1_pairs_39) (
  aSa (s_aload_n rfl rfl dX1_pairs_40) (
  aSa (s_iload_n rfl rfl dX1_pairs_41) (
  aSa (s_iconst (v0 := 1) (by decide) rfl dX1_pairs_42) (
  aSa (s_callV (List.forall_mem_cons.mpr ⟨d_V rfl rfl q1410 q1412 qs21 q102 q1413 rfl (by decide +kernel) (by decide) rfl dX1_pairs_43, fun _ h => absurd h List.not_mem_nil⟩) aHS0) (
  aSa (s_imul rfl dX1_pairs_46) (
  aSa (s_iadd rfl dX1_pairs_47) (
  aSa (s_istore_n rfl (by decide) rfl dX1_pairs_48) (
  aSa (s_iinc (by decide) rfl dX1_pairs_49) (
  aSa (s_goto (n := 0) (by decide) dX1_pairs_52) (
  aSa (s_iconst (v0 := 0) (by decide) rfl dX1_pairs_55) (
  aSa (s_istore_n rfl (by decide) rfl dX1_pairs_56) (
  aSa (s_iload_n rfl rfl dX1_pairs_57) (
  aSa (s_aload_n rfl rfl dX1_pairs_58) (
  aSa (s_getf (T := TX1) rfl (by decide) (by decide) in_X1 q1132 (Or.inl rfl) rfl dX1_pairs_59) (
  aSa (s_getfN (T := TX2) rfl (by decide) (by decide) in_X2 q990 rfl rfl dX1_pairs_62) (
  aSa (s_cge (by decide) rfl dX1_pairs_65) (
  aSa (s_iload_n rfl rfl dX1_pairs_68) (
  aSa (s_aload_n rfl rfl dX1_pairs_69) (
  aSa (s_getf (T := TX1) rfl (by decide) (by decide) in_X1 q1132 (Or.inl rfl) rfl dX1_pairs_70) (
  aSa (s_getfN (T := TX2) rfl (by decide) (by decide) in_X2 q1001 rfl rfl dX1_pairs_73) (
  aSa (s_iload_n rfl rfl dX1_pairs_76) (
  aSa (s_callV (List.forall_mem_cons.mpr ⟨d_V rfl rfl q1409 q1236 q1237 q107 q1238 rfl (by decide +kernel) (by decide) rfl dX1_pairs_77, fun _ h => absurd h List.not_mem_nil⟩) aHS0) (
  aSa (s_ifeq (by decide) rfl dX1_pairs_80) (
  aSa (s_iconst (v0 := 0) (by decide) rfl dX1_pairs_83) (
  aSa (s_goto (n := 0) (by decide) dX1_pairs_84) (
  aSa (s_iconst (v0 := 2) (by decide) rfl dX1_pairs_87) (
  aSa (s_aload_n rfl rfl dX1_pairs_88) (
  aSa (s_aload_n rfl rfl dX1_pairs_89) (
  aSa (s_iload_n rfl rfl dX1_pairs_90) (
  aSa (s_iconst (v0 := 0) (by decide) rfl dX1_pairs_91) (
  aSa (s_callV (List.forall_mem_cons.mpr ⟨d_V rfl rfl q1410 q1412 qs21 q102 q1413 rfl (by decide +kernel) (by decide) rfl dX1_pairs_92, fun _ h => absurd h List.not_mem_nil⟩) aHS0) (
  aSa (s_imul rfl dX1_pairs_95) (
  aSa (s_iadd rfl dX1_pairs_96) (
  aSa (s_istore_n rfl (by decide) rfl dX1_pairs_97) (
  aSa (s_iinc (by decide) rfl dX1_pairs_98) (
  aSa (s_goto (n := 0) (by decide) dX1_pairs_101) (
  aSa (s_iload_n rfl rfl dX1_pairs_104) (
  aSa (s_iret (n := 0) rfl dX1_pairs_105) (
  aSn))))))))))))))))))))))))))))))))))))))))))))))))))))))))))))
theorem sn158 : SndL "Slidingtray" "part" cX1_part 5 (Option.some Jvm.ClassFile.FieldType.int) [] T158 := aSa (s_iload_n rfl rfl dX1_part_0) (
  aSa (s_ifle (by decide) rfl dX1_part_1) (
  aSa (s_iload_n rfl rfl dX1_part_4) (
  aSa (s_iconst (v0 := 1) (by decide) rfl dX1_part_5) (
  aSa (s_aload_n rfl rfl dX1_part_6) (
  aSa (s_getf (T := TX1) rfl (by decide) (by decide) in_X1 q1132 (Or.inl rfl) rfl dX1_part_7) (
  aSa (s_callV (List.forall_mem_cons.mpr ⟨d_V rfl rfl q1226 q1023 q1024 q103 q1025 rfl (by decide +kernel) (by decide) rfl dX1_part_10, fun _ h => absurd h List.not_mem_nil⟩) aHS0) (
  aSa (s_ishl rfl dX1_part_13) (
  aSa (s_cge (by decide) rfl dX1_part_14) (
  aSa (s_iload_n rfl rfl dX1_part_17) (
  aSa (s_callS rfl q2015 q2016 q109 q2017 (by decide +kernel) (by decide) aHS0 rfl dX1_part_18) (
  aSa (s_iconst (v0 := 3) (by decide) rfl dX1_part_21) (
  aSa (s_cgt (by decide) rfl dX1_part_22) (
  aSa (s_iconst (v0 := 1) (by decide) rfl dX1_part_25) (
  aSa (s_goto (n := 0) (by decide) dX1_part_26) (
  aSa (s_iconst (v0 := 0) (by decide) rfl dX1_part_29) (
  aSa (s_istore_n rfl (by decide) rfl dX1_part_30) (
  aSa (s_iconst (v0 := 0) (by decide) rfl dX1_part_31) (
  aSa (s_istore_n rfl (by decide) rfl dX1_part_32) (
  aSa (s_iload_n rfl rfl dX1_part_33) (
  aSa (s_aload_n rfl rfl dX1_part_34) (
  aSa (s_getf (T := TX1) rfl (by decide) (by decide) in_X1 q1132 (Or.inl rfl) rfl dX1_part_35) (
  aSa (s_callV (List.forall_mem_cons.mpr ⟨d_V rfl rfl q1226 q1023 q1024 q103 q1025 rfl (by decide +kernel) (by decide) rfl dX1_part_38, fun _ h => absurd h List.not_mem_nil⟩) aHS0) (
  aSa (s_cge (by decide) rfl dX1_part_41) (
  aSa (s_iload_n rfl rfl dX1_part_44) (
  aSa (s_ifeq (by decide) rfl dX1_part_45) (
  aSa (s_iload_n rfl rfl dX1_part_48) (
  aSa (s_iload_n rfl rfl dX1_part_49) (
  aSa (s_ishr rfl dX1_part_50) (
  aSa (s_iconst (v0 := 1) (by decide) rfl dX1_part_51) (
  aSa (s_iand rfl dX1_part_52) (
  aSa (s_ifeq (by decide) rfl dX1_part_53) (
  aSa (s_aload_n rfl rfl dX1_part_56) (
  aSa (s_getf (T := TX1) rfl (by decide) (by decide) in_X1 q1135 (Or.inl rfl) rfl dX1_part_57) (
  aSa (s_iload_n rfl rfl dX1_part_60) (
  aSa (s_callV (List.forall_mem_cons.mpr ⟨d_V rfl rfl q1231 q1232 q1233 q134 q1234 rfl (by decide +kernel) (by decide) rfl dX1_part_61, fun _ h => absurd h List.not_mem_nil⟩) aHS0) (
  aSa (s_ifeq (by decide) rfl dX1_part_64) (
  aSa (s_iconst (v0 := 1) (by decide) rfl dX1_part_67) (
  aSa (s_goto (n := 0) (by decide) dX1_part_68) (
  aSa (s_iconst (v0 := 0) (by decide) rfl dX1_part_71) (
  aSa (s_istore_n rfl (by decide) rfl dX1_part_72) (
  aSa (s_iinc (by decide) rfl dX1_part_73) (
  aSa (s_goto (n := 0) (by decide) dX1_part_76) (
  aSa (s_iload_n rfl rfl dX1_part_79) (
  aSa (s_callS rfl q2010 q2011 q102 q2012 (by decide +kernel) (by decide) aHS0 rfl dX1_part_80) (
  aSa (s_aload_n rfl rfl dX1_part_83) (
  aSa (s_getf (T := TX1) rfl (by decide) (by decide) in_X1 q1138 (Or.inl rfl) rfl dX1_part_84) (
  aSa (s_callV (List.forall_mem_cons.mpr ⟨d_F (x := ⟨"java/util/List", "size", "()I"⟩) rfl rfl (aL1 q2059 (aL1 q681 (aL1 q683 (aL1 q106 aL0)))) q685 q680 q679 q684 q682 q252 (by decide +kernel) (by decide) rfl dX1_part_87, fun _ h => absurd h List.not_mem_nil⟩) aHS0) (
  aSa (s_iconst (v0 := 2) (by decide) rfl dX1_part_92) (
  aSa (s_cge (by decide) rfl dX1_part_93) (
  aSa (s_aload_n rfl rfl dX1_part_96) (
  aSa (s_getf (T := TX1) rfl (by decide) (by decide) in_X1 q1132 (Or.inl rfl) rfl dX1_part_97) (
  aSa (s_callV (List.forall_mem_cons.mpr ⟨d_V rfl rfl q1226 q1023 q1024 q103 q1025 rfl (by decide +kernel) (by decide) rfl dX1_part_100, fun _ h => absurd h List.not_mem_nil⟩) aHS0) (
  aSa (s_bipush (v0 := 9) (by decide) rfl dX1_part_103) (
  aSa (s_cgt (by decide) rfl dX1_part_105) (
  aSa (s_iconst (v0 := 1) (by decide) rfl dX1_part_108) (
  aSa (s_goto (n := 0) (by decide) dX1_part_109) (
  aSa (s_iconst (v0 := 0) (by decide) rfl dX1_part_112) (
  aSa (s_callS rfl q2121 q2122 q102 q2123 (by decide +kernel) (by decide) aHS0 rfl dX1_part_113) (
  aSa (s_aload_n rfl rfl dX1_part_116) (
  aSa (s_getf (T := TX1) rfl (by decide) (by decide) in_X1 q1138 (Or.inl rfl) rfl dX1_part_117) (
  aSa (s_callV (List.forall_mem_cons.mpr ⟨d_F (x := ⟨"java/util/List", "iterator", "()Ljava/util/Iterator;"⟩) rfl rfl (aL1 q1269 (aL1 q1272 (aL1 q1274 (aL1 q106 aL0)))) q1276 q1271 q1270 q1275 q1273 q252 (by decide +kernel) (by decide) rfl dX1_part_120, fun _ h => absurd h List.not_mem_nil⟩) aHS0) (
  aSa (s_astore_n rfl (by decide) rfl dX1_part_125) (
  aSa (s_aload_n rfl rfl dX1_part_126) (
  aSa (s_callV (List.forall_mem_cons.mpr ⟨d_F (x := ⟨"java/util/Iterator", "hasNext", "()Z"⟩) rfl rfl (aL1 q1297 (aL1 q1307 (aL1 q1309 (aL1 q137 aL0)))) q1311 q1299 q1298 q1310 q1308 q1306 (by decide +kernel) (by decide) rfl dX1_part_127, fun _ h => absurd h List.not_mem_nil⟩) aHS0) (
  aSa (s_ifeq (by decide) rfl dX1_part_132) (
  aSa (s_aload_n rfl rfl dX1_part_135) (
  aSa (s_callV (List.forall_mem_cons.mpr ⟨d_F (x := ⟨"java/util/Iterator", "next", "()Ljava/lang/Object;"⟩) rfl rfl (aL1 q1326 (aL1 q1340 (aL1 q1342 (aL1 q137 aL0)))) q1344 q1328 q1327 q1343 q1341 q1306 (by decide +kernel) (by decide) rfl dX1_part_136, fun _ h => absurd h List.not_mem_nil⟩) aHS0) (
  aSa (s_cast q1378 (List.forall_mem_cons.mpr ⟨⟨_, rfl, (Or.inl rfl)⟩, fun _ h => absurd h List.not_mem_nil⟩) (fun t h => absurd h List.not_mem_nil) rfl dX1_part_141) (
  aSa (s_astore (by decide) rfl dX1_part_144) (
  aSa (s_aload rfl dX1_part_146) (
  aSa (s_getfN (T := TX8) rfl (by decide) (by decide) in_X8 q2709 rfl rfl dX1_part_148) (
  aSa (s_iload_n rfl rfl dX1_part_151) (
  aSa (s_iand rfl dX1_part_152) (
  aSa (s_ifne (by decide) rfl dX1_part_153) (
  aSa (s_iconst (v0 := 1) (by decide) rfl dX1_part_156) (
  aSa (s_goto (n := 0) (by decide) dX1_part_157) (
  aSa (s_iconst (v0 := 0) (by decide) rfl dX1_part_160) (
  aSa (s_callS rfl q2121 q2122 q102 q2123 (by decide +kernel) (by decide) aHS0 rfl dX1_part_161) (
  aSa (s_goto (n := 0) (by decide) dX1_part_164) (
  aSa (s_new (T := TX8) (ty0 := tyX8) tyX8_ok rfl (by decide) in_X8 q1378 q2662 q149 (by decide) rfl dX1_part_167) (
  aSa (s_dup rfl dX1_part_170) (
  aSa (s_aload_n rfl rfl dX1_part_171) (
  aSa (s_getf (T := TX1) rfl (by decide) (by decide) in_X1 q1135 (Or.inl rfl) rfl dX1_part_172) (
  aSa (s_iload_n rfl rfl dX1_part_175) (
  aSa (s_callI rfl q2663 q2664 q149 q2665 (by decide +kernel) (by decide) rfl aHS0 rfl dX1_part_176) (
  aSa (s_astore_n rfl (by decide) rfl dX1_part_179) (
  aSa (s_aload_n rfl rfl dX1_part_180) (
  aSa (s_getf (T := TX1) rfl (by decide) (by decide) in_X1 q1138 (Or.inl rfl) rfl dX1_part_181) (
  aSa (s_aload_n rfl rfl dX1_part_184) (
  aSa (s_callV (List.forall_mem_cons.mpr ⟨d_F (x := ⟨"java/util/List", "add", "(Ljava/lang/Object;)Z"⟩) rfl rfl (aL1 q1131 (aL1 q253 (aL1 q255 (aL1 q106 aL0)))) q257 q251 q250 q256 q254 q252 (by decide +kernel) (by decide) rfl dX1_part_185, fun _ h => absurd h List.not_mem_nil⟩) aHS0) (
  aSa (s_pop rfl dX1_part_190) (
  aSa (s_aload_n rfl rfl dX1_part_191) (
  aSa (s_getfN (T := TX8) rfl (by decide) (by decide) in_X8 q2713 rfl rfl dX1_part_192) (
  aSa (s_iret (n := 0) rfl dX1_part_195) (
  aSn)))))))))))))))))))))))))))))))))))))))))))))))))))))))))))))))))))))))))))))))))))))))))))))))
theorem sn159 : SndL "Slidingtray" "play" cX1_play 5 (Option.some Jvm.ClassFile.FieldType.int) [] T159 := aSa (s_aload_n rfl rfl dX1_play_0) (
  aSa (s_iload_n rfl rfl dX1_play_1) (
  aSa (s_callV (List.forall_mem_cons.mpr ⟨d_V rfl rfl q2162 q2164 qs42 q102 q2165 rfl (by decide +kernel) (by decide) rfl dX1_play_2, fun _ h => absurd h List.not_mem_nil⟩) aHS0) (
  aSa (s_astore_n rfl (by decide) rfl dX1_play_5) (
  aSa (s_iload_n rfl rfl dX1_play_6) (
  aSa (s_iconst (v0 := 1) (by decide) rfl dX1_play_7) (
  aSa (s_clt (by decide) rfl dX1_play_8) (
  aSa (s_iload_n rfl rfl dX1_play_11) (
  aSa (s_bipush (v0 := 20) (by decide) rfl dX1_play_12) (
  aSa (s_cgt (by decide) rfl dX1_play_14) (
  aSa (s_iconst (v0 := 1) (by decide) rfl dX1_play_17) (
  aSa (s_goto (n := 0) (by decide) dX1_play_18) (
  aSa (s_iconst (v0 := 0) (by decide) rfl dX1_play_21) (
  aSa (s_callS rfl q2010 q2011 q102 q2012 (by decide +kernel) (by decide) aHS0 rfl dX1_play_22) (
  aSa (s_aload_n rfl rfl dX1_play_25) (
  aSa (s_callV (List.forall_mem_cons.mpr ⟨d_F (x := ⟨"java/util/List", "isEmpty", "()Z"⟩) rfl rfl (aL1 q2413 (aL1 q2416 (aL1 q2418 (aL1 q106 aL0)))) q2420 q2415 q2414 q2419 q2417 q252 (by decide +kernel) (by decide) rfl dX1_play_26, fun _ h => absurd h List.not_mem_nil⟩) aHS0) (
  aSa (s_ifeq (by decide) rfl dX1_play_31) (
  aSa (s_throw0 (n := 0) (names := ["java/lang/RuntimeException", "java/lang/Exception"]) (by decide +kernel) (by decide +kernel) (by decide) q2421 q132 thr3 thr3g (by decide +kernel) dX1_play_34 dX1_play_37 dX1_play_38 dX1_play_41) (
  aSa (s_iconst (v0 := 0) (by decide) rfl dX1_play_42) (
  aSa (s_istore (by decide) rfl dX1_play_43) (
  aSa (s_iload rfl dX1_play_45) (
  aSa (s_iload_n rfl rfl dX1_play_47) (
  aSa (s_aload_n rfl rfl dX1_play_48) (
  aSa (s_callV (List.forall_mem_cons.mpr ⟨d_F (x := ⟨"java/util/List", "size", "()I"⟩) rfl rfl (aL1 q2059 (aL1 q681 (aL1 q683 (aL1 q106 aL0)))) q685 q680 q679 q684 q682 q252 (by decide +kernel) (by decide) rfl dX1_play_49, fun _ h => absurd h List.not_mem_nil⟩) aHS0) (
  aSa (s_imul rfl dX1_play_54) (
  aSa (s_cge (by decide) rfl dX1_play_55) (
  aSa (s_aload_n rfl rfl dX1_play_58) (
  aSa (s_getf (T := TX1) rfl (by decide) (by decide) in_X1 q1134 (Or.inl rfl) rfl dX1_play_59) (
  aSa (s_aload_n rfl rfl dX1_play_62) (
  aSa (s_iload rfl dX1_play_63) (
  aSa (s_aload_n rfl rfl dX1_play_65) (
  aSa (s_callV (List.forall_mem_cons.mpr ⟨d_F (x := ⟨"java/util/List", "size", "()I"⟩) rfl rfl (aL1 q2059 (aL1 q681 (aL1 q683 (aL1 q106 aL0)))) q685 q680 q679 q684 q682 q252 (by decide +kernel) (by decide) rfl dX1_play_66, fun _ h => absurd h List.not_mem_nil⟩) aHS0) (
  aSa (s_irem rfl dX1_play_71) (
  aSa (s_callV (List.forall_mem_cons.mpr ⟨d_F (x := ⟨"java/util/List", "get", "(I)Ljava/lang/Object;"⟩) rfl rfl (aL1 q2047 (aL1 q696 (aL1 q698 (aL1 q106 aL0)))) q700 q695 q694 q699 q697 q252 (by decide +kernel) (by decide) rfl dX1_play_72, fun _ h => absurd h List.not_mem_nil⟩) aHS0) (
  aSa (s_cast q2048 (List.forall_mem_cons.mpr ⟨⟨_, rfl, (Or.inl rfl)⟩, List.forall_mem_cons.mpr ⟨⟨_, rfl, (Or.inl rfl)⟩, fun _ h => absurd h List.not_mem_nil⟩⟩) (fun t h => absurd h List.not_mem_nil) rfl dX1_play_77) (
  aSa (s_callV (List.forall_mem_cons.mpr ⟨d_V rfl rfl q2049 q713 q714 q109 q715 rfl (by decide +kernel) (by decide) rfl dX1_play_80, List.forall_mem_cons.mpr ⟨d_V rfl rfl q2049 q713 q714 q109 q715 rfl (by decide +kernel) (by decide) rfl dX1_play_80, fun _ h => absurd h List.not_mem_nil⟩⟩) aHS0) (
  aSa (s_callV (List.forall_mem_cons.mpr ⟨d_V rfl rfl q1252 q1253 q1254 q133 q1255 rfl (by decide +kernel) (by decide) rfl dX1_play_83, fun _ h => absurd h List.not_mem_nil⟩) aHS0) (
  aSa (s_ifle (by decide) rfl dX1_play_86) (
  aSa (s_aload_n rfl rfl dX1_play_89) (
  aSa (s_aload_n rfl rfl dX1_play_90) (
  aSa (s_iload rfl dX1_play_91) (
  aSa (s_aload_n rfl rfl dX1_play_93) (
  aSa (s_callV (List.forall_mem_cons.mpr ⟨d_F (x := ⟨"java/util/List", "size", "()I"⟩) rfl rfl (aL1 q2059 (aL1 q681 (aL1 q683 (aL1 q106 aL0)))) q685 q680 q679 q684 q682 q252 (by decide +kernel) (by decide) rfl dX1_play_94, fun _ h => absurd h List.not_mem_nil⟩) aHS0) (
  aSa (s_irem rfl dX1_play_99) (
  aSa (s_callV (List.forall_mem_cons.mpr ⟨d_F (x := ⟨"java/util/List", "get", "(I)Ljava/lang/Object;"⟩) rfl rfl (aL1 q2047 (aL1 q696 (aL1 q698 (aL1 q106 aL0)))) q700 q695 q694 q699 q697 q252 (by decide +kernel) (by decide) rfl dX1_play_100, fun _ h => absurd h List.not_mem_nil⟩) aHS0) (
  aSa (s_cast q2048 (List.forall_mem_cons.mpr ⟨⟨_, rfl, (Or.inl rfl)⟩, List.forall_mem_cons.mpr ⟨⟨_, rfl, (Or.inl rfl)⟩, fun _ h => absurd h List.not_mem_nil⟩⟩) (fun t h => absurd h List.not_mem_nil) rfl dX1_play_105) (
  aSa (s_callV (List.forall_mem_cons.mpr ⟨d_V rfl rfl q2049 q713 q714 q109 q715 rfl (by decide +kernel) (by decide) rfl dX1_play_108, List.forall_mem_cons.mpr ⟨d_V rfl rfl q2049 q713 q714 q109 q715 rfl (by decide +kernel) (by decide) rfl dX1_play_108, fun _ h => absurd h List.not_mem_nil⟩⟩) aHS0) (
  aSa (s_callV (List.forall_mem_cons.mpr ⟨d_V rfl rfl q2129 q2131 qs41 q102 q2132 rfl (by decide +kernel) (by decide) rfl dX1_play_111, fun _ h => absurd h List.not_mem_nil⟩) aHS0) (
  aSa (s_iinc (by decide) rfl dX1_play_114) (
  aSa (s_goto (n := 0) (by decide) dX1_play_117) (
  aSa (s_iload rfl dX1_play_120) (
  aSa (s_iret (n := 0) rfl dX1_play_122) (
  aSn))))))))))))))))))))))))))))))))))))))))))))))))))))
theorem sn160 : SndL "Slidingtray" "rank" cX1_rank 1 (Option.some Jvm.ClassFile.FieldType.long) [] T160 := aSa (s_aload_n rfl rfl dX1_rank_0) (
  aSa (s_getf (T := TX1) rfl (by decide) (by decide) in_X1 q1134 (Or.inl rfl) rfl dX1_rank_1) (
  aSa (s_callV (List.forall_mem_cons.mpr ⟨d_V rfl rfl q1198 q1199 q1200 q133 q1201 rfl (by decide +kernel) (by decide) rfl dX1_rank_4, fun _ h => absurd h List.not_mem_nil⟩) aHS0) (
  aSa (s_lret (n := 0) rfl dX1_rank_7) (
  aSn))))
theorem sn161 : SndL "Slidingtray" "reaches" cX1_reaches 1 (Option.some Jvm.ClassFile.FieldType.boolean) [] T161 := aSa (s_aload_n rfl rfl dX1_reaches_0) (
  aSa (s_getf (T := TX1) rfl (by decide) (by decide) in_X1 q1132 (Or.inl rfl) rfl dX1_reaches_1) (
  aSa (s_callV (List.forall_mem_cons.mpr ⟨d_V rfl rfl q1226 q1023 q1024 q103 q1025 rfl (by decide +kernel) (by decide) rfl dX1_reaches_4, fun _ h => absurd h List.not_mem_nil⟩) aHS0) (
  aSa (s_aload_n rfl rfl dX1_reaches_7) (
  aSa (s_getf (T := TX1) rfl (by decide) (by decide) in_X1 q1132 (Or.inl rfl) rfl dX1_reaches_8) (
  aSa (s_getfN (T := TX2) rfl (by decide) (by decide) in_X2 q988 rfl rfl dX1_reaches_11) (
  aSa (s_aload_n rfl rfl dX1_reaches_14) (
  aSa (s_getf (T := TX1) rfl (by decide) (by decide) in_X1 q1132 (Or.inl rfl) rfl dX1_reaches_15) (
  aSa (s_getfN (T := TX2) rfl (by decide) (by decide) in_X2 q990 rfl rfl dX1_reaches_18) (
  aSa (s_imul rfl dX1_reaches_21) (
  aSa (s_cne (by decide) rfl dX1_reaches_22) (
  aSa (s_aload_n rfl rfl dX1_reaches_25) (
  aSa (s_getf (T := TX1) rfl (by decide) (by decide) in_X1 q1135 (Or.inl rfl) rfl dX1_reaches_26) (
  aSa (s_getfN (T := TX4) rfl (by decide) (by decide) in_X4 q1082 rfl rfl dX1_reaches_29) (
  aSa (s_callV (List.forall_mem_cons.mpr ⟨d_V rfl rfl q2467 q2468 q2469 q107 q2470 rfl (by decide +kernel) (by decide) rfl dX1_reaches_32, fun _ h => absurd h List.not_mem_nil⟩) aHS0) (
  aSa (s_ifeq (by decide) rfl dX1_reaches_35) (
  aSa (s_iconst (v0 := 1) (by decide) rfl dX1_reaches_38) (
  aSa (s_goto (n := 0) (by decide) dX1_reaches_39) (
  aSa (s_iconst (v0 := 0) (by decide) rfl dX1_reaches_42) (
  aSa (s_callS rfl q2121 q2122 q102 q2123 (by decide +kernel) (by decide) aHS0 rfl dX1_reaches_43) (
  aSa (s_aload_n rfl rfl dX1_reaches_46) (
  aSa (s_getf (T := TX1) rfl (by decide) (by decide) in_X1 q1134 (Or.inl rfl) rfl dX1_reaches_47) (
  aSa (s_callV (List.forall_mem_cons.mpr ⟨d_V rfl rfl q1218 q1219 q1220 q133 q1221 rfl (by decide +kernel) (by decide) rfl dX1_reaches_50, fun _ h => absurd h List.not_mem_nil⟩) aHS0) (
  aSa (s_aload_n rfl rfl dX1_reaches_53) (
  aSa (s_getf (T := TX1) rfl (by decide) (by decide) in_X1 q1135 (Or.inl rfl) rfl dX1_reaches_54) (
  aSa (s_getfN (T := TX4) rfl (by decide) (by decide) in_X4 q1077 rfl rfl dX1_reaches_57) (
  aSa (s_callV (List.forall_mem_cons.mpr ⟨d_V rfl rfl q1218 q1219 q1220 q133 q1221 rfl (by decide +kernel) (by decide) rfl dX1_reaches_60, fun _ h => absurd h List.not_mem_nil⟩) aHS0) (
  aSa (s_iadd rfl dX1_reaches_63) (
  aSa (s_aload_n rfl rfl dX1_reaches_64) (
  aSa (s_getf (T := TX1) rfl (by decide) (by decide) in_X1 q1132 (Or.inl rfl) rfl dX1_reaches_65) (
  aSa (s_getfN (T := TX2) rfl (by decide) (by decide) in_X2 q997 rfl rfl dX1_reaches_68) (
  aSa (s_aload_n rfl rfl dX1_reaches_71) (
  aSa (s_getf (T := TX1) rfl (by decide) (by decide) in_X1 q1134 (Or.inl rfl) rfl dX1_reaches_72) (
  aSa (s_getfN (T := TX3) rfl (by decide) (by decide) in_X3 q1059 rfl rfl dX1_reaches_75) (
  aSa (s_aald rfl dX1_reaches_78) (
  aSa (s_aload_n rfl rfl dX1_reaches_79) (
  aSa (s_getf (T := TX1) rfl (by decide) (by decide) in_X1 q1135 (Or.inl rfl) rfl dX1_reaches_80) (
  aSa (s_getfN (T := TX4) rfl (by decide) (by decide) in_X4 q1077 rfl rfl dX1_reaches_83) (
  aSa (s_getfN (T := TX3) rfl (by decide) (by decide) in_X3 q1059 rfl rfl dX1_reaches_86) (
  aSa (s_iald rfl dX1_reaches_89) (
  aSa (s_iadd rfl dX1_reaches_90) (
  aSa (s_iconst (v0 := 2) (by decide) rfl dX1_reaches_91) (
  aSa (s_irem rfl dX1_reaches_92) (
  aSa (s_ifne (by decide) rfl dX1_reaches_93) (
  aSa (s_iconst (v0 := 1) (by decide) rfl dX1_reaches_96) (
  aSa (s_goto (n := 0) (by decide) dX1_reaches_97) (
  aSa (s_iconst (v0 := 0) (by decide) rfl dX1_reaches_100) (
  aSa (s_iret (n := 0) rfl dX1_reaches_101) (
  aSn))))))))))))))))))))))))))))))))))))))))))))))))
theorem sn162 : SndL "Slidingtray" "restore" cX1_restore 2 (Option.some Jvm.ClassFile.FieldType.int) [] T162 := aSa (s_iload_n rfl rfl dX1_restore_0) (
  aSa (s_iflt (by decide) rfl dX1_restore_1) (
  aSa (s_iload_n rfl rfl dX1_restore_4) (
  aSa (s_iconst (v0 := 2) (by decide) rfl dX1_restore_5) (
  aSa (s_cge (by decide) rfl dX1_restore_6) (
  aSa (s_iconst (v0 := 1) (by decide) rfl dX1_restore_9) (
  aSa (s_goto (n := 0) (by decide) dX1_restore_10) (
  aSa (s_iconst (v0 := 0) (by decide) rfl dX1_restore_13) (
  aSa (s_callS rfl q2083 q2084 q102 q2085 (by decide +kernel) (by decide) aHS0 rfl dX1_restore_14) (
  aSa (s_aload_n rfl rfl dX1_restore_17) (
  aSa (s_getf (T := TX1) rfl (by decide) (by decide) in_X1 q1141 (Or.inl rfl) rfl dX1_restore_18) (
  aSa (s_iload_n rfl rfl dX1_restore_21) (
  aSa (s_aald rfl dX1_restore_22) (
  aSa (s_ifnull (by decide) rfl dX1_restore_23) (
  aSa (s_iconst (v0 := 1) (by decide) rfl dX1_restore_26) (
  aSa (s_goto (n := 0) (by decide) dX1_restore_27) (
  aSa (s_iconst (v0 := 0) (by decide) rfl dX1_restore_30) (
  aSa (s_callS rfl q2121 q2122 q102 q2123 (by decide +kernel) (by decide) aHS0 rfl dX1_restore_31) (
  aSa (s_aload_n rfl rfl dX1_restore_34) (
  aSa (s_aload_n rfl rfl dX1_restore_35) (
  aSa (s_getf (T := TX1) rfl (by decide) (by decide) in_X1 q1141 (Or.inl rfl) rfl dX1_restore_36) (
  aSa (s_iload_n rfl rfl dX1_restore_39) (
  aSa (s_aald rfl dX1_restore_40) (
  aSa (s_getfN (T := TX7) rfl (by decide) (by decide) in_X7 q2438 rfl rfl dX1_restore_41) (
  aSa (s_aload_n rfl rfl dX1_restore_44) (
  aSa (s_getf (T := TX1) rfl (by decide) (by decide) in_X1 q1141 (Or.inl rfl) rfl dX1_restore_45) (
  aSa (s_iload_n rfl rfl dX1_restore_48) (
  aSa (s_aald rfl dX1_restore_49) (
  aSa (s_getfN (T := TX7) rfl (by decide) (by decide) in_X7 q2438 rfl rfl dX1_restore_50) (
  aSa (s_getfN (T := TX4) rfl (by decide) (by decide) in_X4 q1077 rfl rfl dX1_restore_53) (
  aSa (s_callV (List.forall_mem_cons.mpr ⟨d_V rfl rfl q1177 q1178 q1179 q134 q1180 rfl (by decide +kernel) (by decide) rfl dX1_restore_56, fun _ h => absurd h List.not_mem_nil⟩) aHS0) (
  aSa (s_putf (T := TX1) (ty0 := tyX1) tyX1_ok nmX1 rfl (by decide) (by decide) in_X1 q1135 (Or.inl rfl) rfl rfl rfl dX1_restore_59) (
  aSa (s_aload_n rfl rfl dX1_restore_62) (
  aSa (s_getf (T := TX1) rfl (by decide) (by decide) in_X1 q1138 (Or.inl rfl) rfl dX1_restore_63) (
  aSa (s_callV (List.forall_mem_cons.mpr ⟨d_F (x := ⟨"java/util/List", "clear", "()V"⟩) rfl rfl (aL1 q1190 (aL1 q1193 (aL1 q1195 (aL1 q106 aL0)))) q1197 q1192 q1191 q1196 q1194 q252 (by decide +kernel) (by decide) rfl dX1_restore_66, fun _ h => absurd h List.not_mem_nil⟩) aHS0) (
  aSa (s_aload_n rfl rfl dX1_restore_71) (
  aSa (s_aload_n rfl rfl dX1_restore_72) (
  aSa (s_getf (T := TX1) rfl (by decide) (by decide) in_X1 q1141 (Or.inl rfl) rfl dX1_restore_73) (
  aSa (s_iload_n rfl rfl dX1_restore_76) (
  aSa (s_aald rfl dX1_restore_77) (
  aSa (s_getfN (T := TX7) rfl (by decide) (by decide) in_X7 q2436 rfl rfl dX1_restore_78) (
  aSa (s_callV (List.forall_mem_cons.mpr ⟨d_V rfl rfl q2042 q2044 qs39 q102 q2045 rfl (by decide +kernel) (by decide) rfl dX1_restore_81, fun _ h => absurd h List.not_mem_nil⟩) aHS0) (
  aSa (s_iret (n := 0) rfl dX1_restore_84) (
  aSn)))))))))))))))))))))))))))))))))))))))))))
theorem sn163 : SndL "Slidingtray" "searched" cX1_searched 2 (Option.some Jvm.ClassFile.FieldType.int) [] T163 := aSa (s_iload_n rfl rfl dX1_searched_0) (
  aSa (s_iflt (by decide) rfl dX1_searched_1) (
  aSa (s_iload_n rfl rfl dX1_searched_4) (
  aSa (s_iconst (v0 := 2) (by decide) rfl dX1_searched_5) (
  aSa (s_cgt (by decide) rfl dX1_searched_6) (
  aSa (s_iconst (v0 := 1) (by decide) rfl dX1_searched_9) (
  aSa (s_goto (n := 0) (by decide) dX1_searched_10) (
  aSa (s_iconst (v0 := 0) (by decide) rfl dX1_searched_13) (
  aSa (s_callS rfl q2010 q2011 q102 q2012 (by decide +kernel) (by decide) aHS0 rfl dX1_searched_14) (
  aSa (s_iload_n rfl rfl dX1_searched_17) (
  aSa (s_ifne (by decide) rfl dX1_searched_18) (
  aSa (s_aload_n rfl rfl dX1_searched_21) (
  aSa (s_getf (T := TX1) rfl (by decide) (by decide) in_X1 q1144 (Or.inl rfl) rfl dX1_searched_22) (
  aSa (s_getfN (T := TX5) rfl (by decide) (by decide) in_X5 q1115 rfl rfl dX1_searched_25) (
  aSa (s_goto (n := 0) (by decide) dX1_searched_28) (
  aSa (s_iload_n rfl rfl dX1_searched_31) (
  aSa (s_iconst (v0 := 1) (by decide) rfl dX1_searched_32) (
  aSa (s_cne (by decide) rfl dX1_searched_33) (
  aSa (s_aload_n rfl rfl dX1_searched_36) (
  aSa (s_getf (T := TX1) rfl (by decide) (by decide) in_X1 q1144 (Or.inl rfl) rfl dX1_searched_37) (
  aSa (s_getfN (T := TX5) rfl (by decide) (by decide) in_X5 q1117 rfl rfl dX1_searched_40) (
  aSa (s_goto (n := 0) (by decide) dX1_searched_43) (
  aSa (s_aload_n rfl rfl dX1_searched_46) (
  aSa (s_getf (T := TX1) rfl (by decide) (by decide) in_X1 q1144 (Or.inl rfl) rfl dX1_searched_47) (
  aSa (s_getfN (T := TX5) rfl (by decide) (by decide) in_X5 q1120 rfl rfl dX1_searched_50) (
  aSa (s_callV (List.forall_mem_cons.mpr ⟨d_F (x := ⟨"java/util/List", "size", "()I"⟩) rfl rfl (aL1 q2059 (aL1 q681 (aL1 q683 (aL1 q106 aL0)))) q685 q680 q679 q684 q682 q252 (by decide +kernel) (by decide) rfl dX1_searched_53, fun _ h => absurd h List.not_mem_nil⟩) aHS0) (
  aSa (s_iret (n := 0) rfl dX1_searched_58) (
  aSn)))))))))))))))))))))))))))
theorem sn164 : SndL "Slidingtray" "setFree" cX1_setFree 4 (Option.some Jvm.ClassFile.FieldType.boolean) [] T164 := aSa (s_iload_n rfl rfl dX1_setFree_0) (
  aSa (s_iflt (by decide) rfl dX1_setFree_1) (
  aSa (s_iload_n rfl rfl dX1_setFree_4) (
  aSa (s_aload_n rfl rfl dX1_setFree_5) (
  aSa (s_getf (T := TX1) rfl (by decide) (by decide) in_X1 q1132 (Or.inl rfl) rfl dX1_setFree_6) (
  aSa (s_callV (List.forall_mem_cons.mpr ⟨d_V rfl rfl q1226 q1023 q1024 q103 q1025 rfl (by decide +kernel) (by decide) rfl dX1_setFree_9, fun _ h => absurd h List.not_mem_nil⟩) aHS0) (
  aSa (s_cge (by decide) rfl dX1_setFree_12) (
  aSa (s_iconst (v0 := 1) (by decide) rfl dX1_setFree_15) (
  aSa (s_goto (n := 0) (by decide) dX1_setFree_16) (
  aSa (s_iconst (v0 := 0) (by decide) rfl dX1_setFree_19) (
  aSa (s_callS rfl q2083 q2084 q102 q2085 (by decide +kernel) (by decide) aHS0 rfl dX1_setFree_20) (
  aSa (s_aload_n rfl rfl dX1_setFree_23) (
  aSa (s_getf (T := TX1) rfl (by decide) (by decide) in_X1 q1135 (Or.inl rfl) rfl dX1_setFree_24) (
  aSa (s_getfN (T := TX4) rfl (by decide) (by decide) in_X4 q1082 rfl rfl dX1_setFree_27) (
  aSa (s_iload_n rfl rfl dX1_setFree_30) (
  aSa (s_callV (List.forall_mem_cons.mpr ⟨d_V rfl rfl q1409 q1236 q1237 q107 q1238 rfl (by decide +kernel) (by decide) rfl dX1_setFree_31, fun _ h => absurd h List.not_mem_nil⟩) aHS0) (
  aSa (s_istore_n rfl (by decide) rfl dX1_setFree_34) (
  aSa (s_iload_n rfl rfl dX1_setFree_35) (
  aSa (s_iload_n rfl rfl dX1_setFree_36) (
  aSa (s_ceq (by decide) rfl dX1_setFree_37) (
  aSa (s_aload_n rfl rfl dX1_setFree_40) (
  aSa (s_getf (T := TX1) rfl (by decide) (by decide) in_X1 q1135 (Or.inl rfl) rfl dX1_setFree_41) (
  aSa (s_getfN (T := TX4) rfl (by decide) (by decide) in_X4 q1082 rfl rfl dX1_setFree_44) (
  aSa (s_iload_n rfl rfl dX1_setFree_47) (
  aSa (s_callV (List.forall_mem_cons.mpr ⟨d_V rfl rfl q2091 q2092 q2093 q107 q2094 rfl (by decide +kernel) (by decide) rfl dX1_setFree_48, fun _ h => absurd h List.not_mem_nil⟩) aHS0) (
  aSa (s_aload_n rfl rfl dX1_setFree_51) (
  aSa (s_getf (T := TX1) rfl (by decide) (by decide) in_X1 q1138 (Or.inl rfl) rfl dX1_setFree_52) (
  aSa (s_callV (List.forall_mem_cons.mpr ⟨d_F (x := ⟨"java/util/List", "clear", "()V"⟩) rfl rfl (aL1 q1190 (aL1 q1193 (aL1 q1195 (aL1 q106 aL0)))) q1197 q1192 q1191 q1196 q1194 q252 (by decide +kernel) (by decide) rfl dX1_setFree_55, fun _ h => absurd h List.not_mem_nil⟩) aHS0) (
  aSa (s_iload_n rfl rfl dX1_setFree_60) (
  aSa (s_iret (n := 0) rfl dX1_setFree_61) (
  aSn))))))))))))))))))))))))))))))
theorem sn165 : SndL "Slidingtray" "setGoal" cX1_setGoal 1 (Option.some Jvm.ClassFile.FieldType.long) [] T165 := aSa (s_aload_n rfl rfl dX1_setGoal_0) (
  aSa (s_aload_n rfl rfl dX1_setGoal_1) (
  aSa (s_getf (T := TX1) rfl (by decide) (by decide) in_X1 q1135 (Or.inl rfl) rfl dX1_setGoal_2) (
  aSa (s_aload_n rfl rfl dX1_setGoal_5) (
  aSa (s_getf (T := TX1) rfl (by decide) (by decide) in_X1 q1134 (Or.inl rfl) rfl dX1_setGoal_6) (
  aSa (s_callV (List.forall_mem_cons.mpr ⟨d_V rfl rfl q1177 q1178 q1179 q134 q1180 rfl (by decide +kernel) (by decide) rfl dX1_setGoal_9, fun _ h => absurd h List.not_mem_nil⟩) aHS0) (
  aSa (s_putf (T := TX1) (ty0 := tyX1) tyX1_ok nmX1 rfl (by decide) (by decide) in_X1 q1135 (Or.inl rfl) rfl rfl rfl dX1_setGoal_12) (
  aSa (s_aload_n rfl rfl dX1_setGoal_15) (
  aSa (s_getf (T := TX1) rfl (by decide) (by decide) in_X1 q1138 (Or.inl rfl) rfl dX1_setGoal_16) (
  aSa (s_callV (List.forall_mem_cons.mpr ⟨d_F (x := ⟨"java/util/List", "clear", "()V"⟩) rfl rfl (aL1 q1190 (aL1 q1193 (aL1 q1195 (aL1 q106 aL0)))) q1197 q1192 q1191 q1196 q1194 q252 (by decide +kernel) (by decide) rfl dX1_setGoal_19, fun _ h => absurd h List.not_mem_nil⟩) aHS0) (
  aSa (s_aload_n rfl rfl dX1_setGoal_24) (
  aSa (s_getf (T := TX1) rfl (by decide) (by decide) in_X1 q1134 (Or.inl rfl) rfl dX1_setGoal_25) (
  aSa (s_callV (List.forall_mem_cons.mpr ⟨d_V rfl rfl q1198 q1199 q1200 q133 q1201 rfl (by decide +kernel) (by decide) rfl dX1_setGoal_28, fun _ h => absurd h List.not_mem_nil⟩) aHS0) (
  aSa (s_lret (n := 0) rfl dX1_setGoal_31) (
  aSn))))))))))))))
theorem sn166 : SndL "Slidingtray" "setLimit" cX1_setLimit 3 (Option.some Jvm.ClassFile.FieldType.int) [] T166 := aSa (s_iload_n rfl rfl dX1_setLimit_0) (
  aSa (s_iconst (v0 := 1) (by decide) rfl dX1_setLimit_1) (
  aSa (s_clt (by decide) rfl dX1_setLimit_2) (
  aSa (s_iload_n rfl rfl dX1_setLimit_5) (
  aSa (s_sipush (v0 := 1000) (by decide) rfl dX1_setLimit_6) (
  aSa (s_cgt (by decide) rfl dX1_setLimit_9) (
  aSa (s_iconst (v0 := 1) (by decide) rfl dX1_setLimit_12) (
  aSa (s_goto (n := 0) (by decide) dX1_setLimit_13) (
  aSa (s_iconst (v0 := 0) (by decide) rfl dX1_setLimit_16) (
  aSa (s_callS rfl q2010 q2011 q102 q2012 (by decide +kernel) (by decide) aHS0 rfl dX1_setLimit_17) (
  aSa (s_aload_n rfl rfl dX1_setLimit_20) (
  aSa (s_getf (T := TX1) rfl (by decide) (by decide) in_X1 q1142 (Or.inl rfl) rfl dX1_setLimit_21) (
  aSa (s_istore_n rfl (by decide) rfl dX1_setLimit_24) (
  aSa (s_aload_n rfl rfl dX1_setLimit_25) (
  aSa (s_iload_n rfl rfl dX1_setLimit_26) (
  aSa (s_putf (T := TX1) (ty0 := tyX1) tyX1_ok nmX1 rfl (by decide) (by decide) in_X1 q1142 (Or.inl rfl) rfl rfl rfl dX1_setLimit_27) (
  aSa (s_iload_n rfl rfl dX1_setLimit_30) (
  aSa (s_iret (n := 0) rfl dX1_setLimit_31) (
  aSn))))))))))))))))))
theorem sn167 : SndL "Slidingtray" "setMacro" cX1_setMacro 9 (Option.some Jvm.ClassFile.FieldType.int) [] T167 := aSa (s_aload_n rfl rfl dX1_setMacro_0) (
  aSa (s_iload_n rfl rfl dX1_setMacro_1) (
  aSa (s_callV (List.forall_mem_cons.mpr ⟨d_V rfl rfl q2162 q2164 qs42 q102 q2165 rfl (by decide +kernel) (by decide) rfl dX1_setMacro_2, fun _ h => absurd h List.not_mem_nil⟩) aHS0) (
  aSa (s_astore (by decide) rfl dX1_setMacro_5) (
  aSa (s_new (T := TJ2) (ty0 := tyJ2) tyJ2_ok rfl (by decide) in_J2 q1097 q176 q106 (by decide) rfl dX1_setMacro_7) (
  aSa (s_dup rfl dX1_setMacro_10) (
  aSa (s_callI rfl q1098 q178 q106 q179 (by decide +kernel) (by decide) rfl aHS0 rfl dX1_setMacro_11) (
  aSa (s_astore (by decide) rfl dX1_setMacro_14) (
  aSa (s_bipush (v0 := 56) (by decide) rfl dX1_setMacro_16) (
  aSa (s_istore (by decide) rfl dX1_setMacro_18) (
  aSa (s_iload rfl dX1_setMacro_20) (
  aSa (s_iflt (by decide) rfl dX1_setMacro_22) (
  aSa (s_lload_n rfl rfl dX1_setMacro_25) (
  aSa (s_iload rfl dX1_setMacro_26) (
  aSa (s_lushr rfl dX1_setMacro_28) (
  aSa (s_ldc2 q2166 rfl dX1_setMacro_29) (
  aSa (s_land rfl dX1_setMacro_32) (
  aSa (s_l2i rfl dX1_setMacro_33) (
  aSa (s_istore (by decide) rfl dX1_setMacro_34) (
  aSa (s_iload rfl dX1_setMacro_36) (
  aSa (s_ifne (by decide) rfl dX1_setMacro_38) (
  aSa (s_iconst (v0 := (-1)) (by decide) rfl dX1_setMacro_41) (
  aSa (s_goto (n := 0) (by decide) dX1_setMacro_42) (
  aSa (s_ldcS (j := 80) (tx := "ulrd") (List.mem_singleton.mpr rfl) rfl dX1_setMacro_45) (
  aSa (s_iload rfl dX1_setMacro_47) (
  aSa (s_i2c rfl dX1_setMacro_49) (
  aSa (s_callV (List.forall_mem_cons.mpr ⟨d_V rfl rfl q2168 q2169 q2170 q121 q2171 rfl (by decide +kernel) (by decide) rfl dX1_setMacro_50, List.forall_mem_cons.mpr ⟨d_V rfl rfl q2168 q2169 q2170 q121 q2171 rfl (by decide +kernel) (by decide) rfl dX1_setMacro_50, fun _ h => absurd h List.not_mem_nil⟩⟩) aHS0) (
  aSa (s_istore (by decide) rfl dX1_setMacro_53) (
  aSa (s_iload rfl dX1_setMacro_55) (
  aSa (s_ifeq (by decide) rfl dX1_setMacro_57) (
  aSa (s_iload rfl dX1_setMacro_60) (
  aSa (s_iconst (v0 := (-1)) (by decide) rfl dX1_setMacro_62) (
  aSa (s_ceq (by decide) rfl dX1_setMacro_63) (
  aSa (s_iconst (v0 := 1) (by decide) rfl dX1_setMacro_66) (
  aSa (s_goto (n := 0) (by decide) dX1_setMacro_67) (
  aSa (s_iconst (v0 := 0) (by decide) rfl dX1_setMacro_70) (
  aSa (s_callS rfl q2010 q2011 q102 q2012 (by decide +kernel) (by decide) aHS0 rfl dX1_setMacro_71) (
  aSa (s_iload rfl dX1_setMacro_74) (
  aSa (s_ifeq (by decide) rfl dX1_setMacro_76) (
  aSa (s_aload rfl dX1_setMacro_79) (
  aSa (s_iload rfl dX1_setMacro_81) (
  aSa (s_callS rfl q1926 q229 q109 q230 (by decide +kernel) (by decide) aHS0 rfl dX1_setMacro_83) (
  aSa (s_callV (List.forall_mem_cons.mpr ⟨d_F (x := ⟨"java/util/List", "add", "(Ljava/lang/Object;)Z"⟩) rfl rfl (aL1 q1131 (aL1 q253 (aL1 q255 (aL1 q106 aL0)))) q257 q251 q250 q256 q254 q252 (by decide +kernel) (by decide) rfl dX1_setMacro_86, fun _ h => absurd h List.not_mem_nil⟩) aHS0) (
  aSa (s_pop rfl dX1_setMacro_91) (
  aSa (s_iinc (by decide) rfl dX1_setMacro_92) (
  aSa (s_goto (n := 0) (by decide) dX1_setMacro_95) (
  aSa (s_aload rfl dX1_setMacro_98) (
  aSa (s_callV (List.forall_mem_cons.mpr ⟨d_F (x := ⟨"java/util/List", "clear", "()V"⟩) rfl rfl (aL1 q1190 (aL1 q1193 (aL1 q1195 (aL1 q106 aL0)))) q1197 q1192 q1191 q1196 q1194 q252 (by decide +kernel) (by decide) rfl dX1_setMacro_100, fun _ h => absurd h List.not_mem_nil⟩) aHS0) (
  aSa (s_aload rfl dX1_setMacro_105) (
  aSa (s_aload rfl dX1_setMacro_107) (
  aSa (s_callV (List.forall_mem_cons.mpr ⟨d_F (x := ⟨"java/util/List", "addAll", "(Ljava/util/Collection;)Z"⟩) rfl rfl (aL1 q2217 (aL1 q2220 (aL1 q2222 (aL1 q106 aL0)))) q2224 q2219 q2218 q2223 q2221 q252 (by decide +kernel) (by decide) rfl dX1_setMacro_109, fun _ h => absurd h List.not_mem_nil⟩) aHS0) (
  aSa (s_pop rfl dX1_setMacro_114) (
  aSa (s_aload rfl dX1_setMacro_115) (
  aSa (s_callV (List.forall_mem_cons.mpr ⟨d_F (x := ⟨"java/util/List", "size", "()I"⟩) rfl rfl (aL1 q2059 (aL1 q681 (aL1 q683 (aL1 q106 aL0)))) q685 q680 q679 q684 q682 q252 (by decide +kernel) (by decide) rfl dX1_setMacro_117, fun _ h => absurd h List.not_mem_nil⟩) aHS0) (
  aSa (s_iret (n := 0) rfl dX1_setMacro_122) (
  aSn)))))))))))))))))))))))))))))))))))))))))))))))))))))))
theorem sn168 : SndL "Slidingtray" "setWeight" cX1_setWeight 4 (Option.some Jvm.ClassFile.FieldType.int) [] T168 := aSa (s_iload_n rfl rfl dX1_setWeight_0) (
  aSa (s_iconst (v0 := 1) (by decide) rfl dX1_setWeight_1) (
  aSa (s_clt (by decide) rfl dX1_setWeight_2) (
  aSa (s_iload_n rfl rfl dX1_setWeight_5) (
  aSa (s_aload_n rfl rfl dX1_setWeight_6) (
  aSa (s_getf (T := TX1) rfl (by decide) (by decide) in_X1 q1132 (Or.inl rfl) rfl dX1_setWeight_7) (
  aSa (s_callV (List.forall_mem_cons.mpr ⟨d_V rfl rfl q1226 q1023 q1024 q103 q1025 rfl (by decide +kernel) (by decide) rfl dX1_setWeight_10, fun _ h => absurd h List.not_mem_nil⟩) aHS0) (
  aSa (s_cge (by decide) rfl dX1_setWeight_13) (
  aSa (s_iconst (v0 := 1) (by decide) rfl dX1_setWeight_16) (
  aSa (s_goto (n := 0) (by decide) dX1_setWeight_17) (
  aSa (s_iconst (v0 := 0) (by decide) rfl dX1_setWeight_20) (
  aSa (s_callS rfl q2083 q2084 q102 q2085 (by decide +kernel) (by decide) aHS0 rfl dX1_setWeight_21) (
  aSa (s_iload_n rfl rfl dX1_setWeight_24) (
  aSa (s_iconst (v0 := 1) (by decide) rfl dX1_setWeight_25) (
  aSa (s_clt (by decide) rfl dX1_setWeight_26) (
  aSa (s_iload_n rfl rfl dX1_setWeight_29) (
  aSa (s_bipush (v0 := 9) (by decide) rfl dX1_setWeight_30) (
  aSa (s_cgt (by decide) rfl dX1_setWeight_32) (
  aSa (s_iconst (v0 := 1) (by decide) rfl dX1_setWeight_35) (
  aSa (s_goto (n := 0) (by decide) dX1_setWeight_36) (
  aSa (s_iconst (v0 := 0) (by decide) rfl dX1_setWeight_39) (
  aSa (s_callS rfl q2010 q2011 q102 q2012 (by decide +kernel) (by decide) aHS0 rfl dX1_setWeight_40) (
  aSa (s_aload_n rfl rfl dX1_setWeight_43) (
  aSa (s_getf (T := TX1) rfl (by decide) (by decide) in_X1 q1135 (Or.inl rfl) rfl dX1_setWeight_44) (
  aSa (s_getfN (T := TX4) rfl (by decide) (by decide) in_X4 q1087 rfl rfl dX1_setWeight_47) (
  aSa (s_iload_n rfl rfl dX1_setWeight_50) (
  aSa (s_iald rfl dX1_setWeight_51) (
  aSa (s_istore_n rfl (by decide) rfl dX1_setWeight_52) (
  aSa (s_aload_n rfl rfl dX1_setWeight_53) (
  aSa (s_getf (T := TX1) rfl (by decide) (by decide) in_X1 q1135 (Or.inl rfl) rfl dX1_setWeight_54) (
  aSa (s_getfN (T := TX4) rfl (by decide) (by decide) in_X4 q1087 rfl rfl dX1_setWeight_57) (
  aSa (s_iload_n rfl rfl dX1_setWeight_60) (
  aSa (s_iload_n rfl rfl dX1_setWeight_61) (
  aSa (s_iast rfl dX1_setWeight_62) (
  aSa (s_aload_n rfl rfl dX1_setWeight_63) (
  aSa (s_getf (T := TX1) rfl (by decide) (by decide) in_X1 q1138 (Or.inl rfl) rfl dX1_setWeight_64) (
  aSa (s_callV (List.forall_mem_cons.mpr ⟨d_F (x := ⟨"java/util/List", "clear", "()V"⟩) rfl rfl (aL1 q1190 (aL1 q1193 (aL1 q1195 (aL1 q106 aL0)))) q1197 q1192 q1191 q1196 q1194 q252 (by decide +kernel) (by decide) rfl dX1_setWeight_67, fun _ h => absurd h List.not_mem_nil⟩) aHS0) (
  aSa (s_iload_n rfl rfl dX1_setWeight_72) (
  aSa (s_iret (n := 0) rfl dX1_setWeight_73) (
  aSn)))))))))))))))))))))))))))))))))))))))
theorem sn169 : SndL "Slidingtray" "settled" cX1_settled 5 (Option.some Jvm.ClassFile.FieldType.float) [] T169 := aSa (s_iconst (v0 := 0) (by decide) rfl dX1_settled_0) (
  aSa (s_istore_n rfl (by decide) rfl dX1_settled_1) (
  aSa (s_iconst (v0 := 0) (by decide) rfl dX1_settled_2) (
  aSa (s_istore_n rfl (by decide) rfl dX1_settled_3) (
  aSa (s_iconst (v0 := 0) (by decide) rfl dX1_settled_4) (
  aSa (s_istore_n rfl (by decide) rfl dX1_settled_5) (
  aSa (s_iload_n rfl rfl dX1_settled_6) (
  aSa (s_aload_n rfl rfl dX1_settled_7) (
  aSa (s_getf (T := TX1) rfl (by decide) (by decide) in_X1 q1132 (Or.inl rfl) rfl dX1_settled_8) (
  aSa (s_callV (List.forall_mem_cons.mpr ⟨d_V rfl rfl q1226 q1023 q1024 q103 q1025 rfl (by decide +kernel) (by decide) rfl dX1_settled_11, fun _ h => absurd h List.not_mem_nil⟩) aHS0) (
  aSa (s_cge (by decide) rfl dX1_settled_14) (
  aSa (s_aload_n rfl rfl dX1_settled_17) (
  aSa (s_getf (T := TX1) rfl (by decide) (by decide) in_X1 q1134 (Or.inl rfl) rfl dX1_settled_18) (
  aSa (s_getfN (T := TX3) rfl (by decide) (by decide) in_X3 q1056 rfl rfl dX1_settled_21) (
  aSa (s_iload_n rfl rfl dX1_settled_24) (
  aSa (s_iald rfl dX1_settled_25) (
  aSa (s_istore (by decide) rfl dX1_settled_26) (
  aSa (s_iload_n rfl rfl dX1_settled_28) (
  aSa (s_aload_n rfl rfl dX1_settled_29) (
  aSa (s_getf (T := TX1) rfl (by decide) (by decide) in_X1 q1135 (Or.inl rfl) rfl dX1_settled_30) (
  aSa (s_iload rfl dX1_settled_33) (
  aSa (s_callV (List.forall_mem_cons.mpr ⟨d_V rfl rfl q1231 q1232 q1233 q134 q1234 rfl (by decide +kernel) (by decide) rfl dX1_settled_35, fun _ h => absurd h List.not_mem_nil⟩) aHS0) (
  aSa (s_ifeq (by decide) rfl dX1_settled_38) (
  aSa (s_iconst (v0 := 1) (by decide) rfl dX1_settled_41) (
  aSa (s_goto (n := 0) (by decide) dX1_settled_42) (
  aSa (s_iconst (v0 := 0) (by decide) rfl dX1_settled_45) (
  aSa (s_iadd rfl dX1_settled_46) (
  aSa (s_istore_n rfl (by decide) rfl dX1_settled_47) (
  aSa (s_iload_n rfl rfl dX1_settled_48) (
  aSa (s_aload_n rfl rfl dX1_settled_49) (
  aSa (s_getf (T := TX1) rfl (by decide) (by decide) in_X1 q1135 (Or.inl rfl) rfl dX1_settled_50) (
  aSa (s_iload rfl dX1_settled_53) (
  aSa (s_callV (List.forall_mem_cons.mpr ⟨d_V rfl rfl q1231 q1232 q1233 q134 q1234 rfl (by decide +kernel) (by decide) rfl dX1_settled_55, fun _ h => absurd h List.not_mem_nil⟩) aHS0) (
  aSa (s_ifeq (by decide) rfl dX1_settled_58) (
  aSa (s_aload_n rfl rfl dX1_settled_61) (
  aSa (s_getf (T := TX1) rfl (by decide) (by decide) in_X1 q1135 (Or.inl rfl) rfl dX1_settled_62) (
  aSa (s_getfN (T := TX4) rfl (by decide) (by decide) in_X4 q1080 rfl rfl dX1_settled_65) (
  aSa (s_iload rfl dX1_settled_68) (
  aSa (s_iald rfl dX1_settled_70) (
  aSa (s_iload_n rfl rfl dX1_settled_71) (
  aSa (s_cne (by decide) rfl dX1_settled_72) (
  aSa (s_iconst (v0 := 1) (by decide) rfl dX1_settled_75) (
  aSa (s_goto (n := 0) (by decide) dX1_settled_76) (
  aSa (s_iconst (v0 := 0) (by decide) rfl dX1_settled_79) (
  aSa (s_iadd rfl dX1_settled_80) (
  aSa (s_istore_n rfl (by decide) rfl dX1_settled_81) (
  aSa (s_iinc (by decide) rfl dX1_settled_82) (
  aSa (s_goto (n := 0) (by decide) dX1_settled_85) (
  aSa (s_iload_n rfl rfl dX1_settled_88) (
  aSa (s_ifne (by decide) rfl dX1_settled_89) (
  aSa (s_fconst0 rfl dX1_settled_92) (
  aSa (s_goto (n := 0) (by decide) dX1_settled_93) (
  aSa (s_iload_n rfl rfl dX1_settled_96) (
  aSa (s_i2f rfl dX1_settled_97) (
  aSa (s_iload_n rfl rfl dX1_settled_98) (
  aSa (s_i2f rfl dX1_settled_99) (
  aSa (s_fdiv rfl dX1_settled_100) (
  aSa (s_fret (n := 0) rfl dX1_settled_101) (
  aSn))))))))))))))))))))))))))))))))))))))))))))))))))))))))))
theorem hs170_15 : aHS "Slidingtray" [((4 : Nat), (21 : Nat), (22 : Nat), (347 : Nat))] 15 [("Slidingtray$Beyond", some 22)] := by
  refine ⟨fun h => (by cases h), fun E r h => ?_⟩
  simp only [List.lookup_cons] at h
  split at h
  · next e =>
    cases h
    obtain rfl := eq_of_beq e
    exact ⟨22, rfl, (tableOf [((4 : Nat), (21 : Nat), (22 : Nat), (347 : Nat))]).take 0, (tableOf [((4 : Nat), (21 : Nat), (22 : Nat), (347 : Nat))])[0]'(by decide +kernel), (tableOf [((4 : Nat), (21 : Nat), (22 : Nat), (347 : Nat))]).drop 1, "Slidingtray$Beyond", by rfl, fun _ h => absurd h List.not_mem_nil, by decide +kernel, by decide +kernel, by decide +kernel, q1747, q1907⟩
  · cases h
theorem hs170_18 : aHS "Slidingtray" [((4 : Nat), (21 : Nat), (22 : Nat), (347 : Nat))] 18 [("Slidingtray$Beyond", some 22)] := by
  refine ⟨fun h => (by cases h), fun E r h => ?_⟩
  simp only [List.lookup_cons] at h
  split at h
  · next e =>
    cases h
    obtain rfl := eq_of_beq e
    exact ⟨22, rfl, (tableOf [((4 : Nat), (21 : Nat), (22 : Nat), (347 : Nat))]).take 0, (tableOf [((4 : Nat), (21 : Nat), (22 : Nat), (347 : Nat))])[0]'(by decide +kernel), (tableOf [((4 : Nat), (21 : Nat), (22 : Nat), (347 : Nat))]).drop 1, "Slidingtray$Beyond", by rfl, fun _ h => absurd h List.not_mem_nil, by decide +kernel, by decide +kernel, by decide +kernel, q1747, q1907⟩
  · cases h
theorem sn170 : SndL "Slidingtray" "solve" cX1_solve 3 (Option.some Jvm.ClassFile.FieldType.int) [((4 : Nat), (21 : Nat), (22 : Nat), (347 : Nat))] T170 := aSa (s_iload_n rfl rfl dX1_solve_0) (
  aSa (s_callS rfl q2478 q2479 q102 q2480 (by decide +kernel) (by decide) ⟨fun _ => (by decide +kernel), fun E r h => (by cases h)⟩ rfl dX1_solve_1) (
  aSa (s_aload_n rfl rfl dX1_solve_4) (
  aSa (s_aload_n rfl rfl dX1_solve_5) (
  aSa (s_aload_n rfl rfl dX1_solve_6) (
  aSa (s_getf (T := TX1) rfl (by decide) (by decide) in_X1 q1134 (Or.inl rfl) rfl dX1_solve_7) (
  aSa (s_iload_n rfl rfl dX1_solve_10) (
  aSa (s_aload_n rfl rfl dX1_solve_11) (
  aSa (s_getf (T := TX1) rfl (by decide) (by decide) in_X1 q1142 (Or.inl rfl) rfl dX1_solve_12) (
  aSa (s_callV (List.forall_mem_cons.mpr ⟨d_V rfl rfl q1748 q1750 qs29 q102 q1751 rfl (by decide +kernel) (by decide) rfl dX1_solve_15, fun _ h => absurd h List.not_mem_nil⟩) hs170_15) (
  aSa (s_callV (List.forall_mem_cons.mpr ⟨d_V rfl rfl q2488 q2490 qs44 q102 q2491 rfl (by decide +kernel) (by decide) rfl dX1_solve_18, fun _ h => absurd h List.not_mem_nil⟩) hs170_18) (
  aSa (s_iret (n := 0) rfl dX1_solve_21) (
  aSa (s_astore_n rfl (by decide) rfl dX1_solve_22) (
  aSa (s_throw0 (n := 0) (names := ["java/lang/RuntimeException", "java/lang/Exception"]) (by decide +kernel) (by decide +kernel) (by decide) q2124 q131 thr0 thr0g (by decide +kernel) dX1_solve_23 dX1_solve_26 dX1_solve_27 dX1_solve_30) (
  aSn))))))))))))))
theorem hs171_12 : aHS "Slidingtray" [((2 : Nat), (61 : Nat), (64 : Nat), (347 : Nat))] 12 [("Slidingtray$Beyond", some 64)] := by
  refine ⟨fun h => (by cases h), fun E r h => ?_⟩
  simp only [List.lookup_cons] at h
  split at h
  · next e =>
    cases h
    obtain rfl := eq_of_beq e
    exact ⟨64, rfl, (tableOf [((2 : Nat), (61 : Nat), (64 : Nat), (347 : Nat))]).take 0, (tableOf [((2 : Nat), (61 : Nat), (64 : Nat), (347 : Nat))])[0]'(by decide +kernel), (tableOf [((2 : Nat), (61 : Nat), (64 : Nat), (347 : Nat))]).drop 1, "Slidingtray$Beyond", by rfl, fun _ h => absurd h List.not_mem_nil, by decide +kernel, by decide +kernel, by decide +kernel, q1747, q1907⟩
  · cases h
theorem hs171_34 : aHS "Slidingtray" [((2 : Nat), (61 : Nat), (64 : Nat), (347 : Nat))] 34 [("Slidingtray$Beyond", some 64)] := by
  refine ⟨fun h => (by cases h), fun E r h => ?_⟩
  simp only [List.lookup_cons] at h
  split at h
  · next e =>
    cases h
    obtain rfl := eq_of_beq e
    exact ⟨64, rfl, (tableOf [((2 : Nat), (61 : Nat), (64 : Nat), (347 : Nat))]).take 0, (tableOf [((2 : Nat), (61 : Nat), (64 : Nat), (347 : Nat))])[0]'(by decide +kernel), (tableOf [((2 : Nat), (61 : Nat), (64 : Nat), (347 : Nat))]).drop 1, "Slidingtray$Beyond", by rfl, fun _ h => absurd h List.not_mem_nil, by decide +kernel, by decide +kernel, by decide +kernel, q1747, q1907⟩
  · cases h
theorem hs171_41 : aHS "Slidingtray" [((2 : Nat), (61 : Nat), (64 : Nat), (347 : Nat))] 41 [("Slidingtray$Beyond", some 64)] := by
  refine ⟨fun h => (by cases h), fun E r h => ?_⟩
  simp only [List.lookup_cons] at h
  split at h
  · next e =>
    cases h
    obtain rfl := eq_of_beq e
    exact ⟨64, rfl, (tableOf [((2 : Nat), (61 : Nat), (64 : Nat), (347 : Nat))]).take 0, (tableOf [((2 : Nat), (61 : Nat), (64 : Nat), (347 : Nat))])[0]'(by decide +kernel), (tableOf [((2 : Nat), (61 : Nat), (64 : Nat), (347 : Nat))]).drop 1, "Slidingtray$Beyond", by rfl, fun _ h => absurd h List.not_mem_nil, by decide +kernel, by decide +kernel, by decide +kernel, q1747, q1907⟩
  · cases h
theorem sn171 : SndL "Slidingtray" "tell" cX1_tell 4 (Option.some Jvm.ClassFile.FieldType.boolean) [((2 : Nat), (61 : Nat), (64 : Nat), (347 : Nat))] T171 := aSa (s_iconst (v0 := 1) (by decide) rfl dX1_tell_0) (
  aSa (s_istore_n rfl (by decide) rfl dX1_tell_1) (
  aSa (s_aload_n rfl rfl dX1_tell_2) (
  aSa (s_aload_n rfl rfl dX1_tell_3) (
  aSa (s_getf (T := TX1) rfl (by decide) (by decide) in_X1 q1134 (Or.inl rfl) rfl dX1_tell_4) (
  aSa (s_iconst (v0 := 3) (by decide) rfl dX1_tell_7) (
  aSa (s_aload_n rfl rfl dX1_tell_8) (
  aSa (s_getf (T := TX1) rfl (by decide) (by decide) in_X1 q1142 (Or.inl rfl) rfl dX1_tell_9) (
  aSa (s_callV (List.forall_mem_cons.mpr ⟨d_V rfl rfl q1748 q1750 qs29 q102 q1751 rfl (by decide +kernel) (by decide) rfl dX1_tell_12, fun _ h => absurd h List.not_mem_nil⟩) hs171_12) (
  aSa (s_getfN (T := TX5) rfl (by decide) (by decide) in_X5 q1113 rfl rfl dX1_tell_15) (
  aSa (s_iload_n rfl rfl dX1_tell_18) (
  aSa (s_cne (by decide) rfl dX1_tell_19) (
  aSa (s_iconst (v0 := 1) (by decide) rfl dX1_tell_22) (
  aSa (s_goto (n := 0) (by decide) dX1_tell_23) (
  aSa (s_iconst (v0 := 0) (by decide) rfl dX1_tell_26) (
  aSa (s_istore_n rfl (by decide) rfl dX1_tell_27) (
  aSa (s_new (T := TX11) (ty0 := tyX11) tyX11_ok rfl (by decide) in_X11 q1953 q1954 q156 (by decide) rfl dX1_tell_28) (
  aSa (s_dup rfl dX1_tell_31) (
  aSa (s_aload_n rfl rfl dX1_tell_32) (
  aSa (s_iconst (v0 := 3) (by decide) rfl dX1_tell_33) (
  aSa (s_callI rfl q1955 q1956 q156 q1957 (by decide +kernel) (by decide) rfl hs171_34 rfl dX1_tell_34) (
  aSa (s_aload_n rfl rfl dX1_tell_37) (
  aSa (s_getf (T := TX1) rfl (by decide) (by decide) in_X1 q1134 (Or.inl rfl) rfl dX1_tell_38) (
  aSa (s_callV (List.forall_mem_cons.mpr ⟨d_V rfl rfl q1977 q1978 q1979 q156 q1980 rfl (by decide +kernel) (by decide) rfl dX1_tell_41, fun _ h => absurd h List.not_mem_nil⟩) hs171_41) (
  aSa (s_getfN (T := TX5) rfl (by decide) (by decide) in_X5 q1113 rfl rfl dX1_tell_44) (
  aSa (s_iload_n rfl rfl dX1_tell_47) (
  aSa (s_cne (by decide) rfl dX1_tell_48) (
  aSa (s_iload_n rfl rfl dX1_tell_51) (
  aSa (s_ifeq (by decide) rfl dX1_tell_52) (
  aSa (s_iconst (v0 := 1) (by decide) rfl dX1_tell_55) (
  aSa (s_goto (n := 0) (by decide) dX1_tell_56) (
  aSa (s_iconst (v0 := 0) (by decide) rfl dX1_tell_59) (
  aSa (s_istore_n rfl (by decide) rfl dX1_tell_60) (
  aSa (s_goto (n := 0) (by decide) dX1_tell_61) (
  aSa (s_astore_n rfl (by decide) rfl dX1_tell_64) (
  aSa (s_iload_n rfl rfl dX1_tell_65) (
  aSa (s_iret (n := 0) rfl dX1_tell_66) (
  aSa (s_iload_n rfl rfl dX1_tell_67) (
  aSa (s_iret (n := 0) rfl dX1_tell_68) (
  aSn)))))))))))))))))))))))))))))))))))))))
theorem sn172 : SndL "Slidingtray" "tileAt" cX1_tileAt 3 (Option.some Jvm.ClassFile.FieldType.int) [] T172 := aSa (s_iload_n rfl rfl dX1_tileAt_0) (
  aSa (s_iflt (by decide) rfl dX1_tileAt_1) (
  aSa (s_iload_n rfl rfl dX1_tileAt_4) (
  aSa (s_aload_n rfl rfl dX1_tileAt_5) (
  aSa (s_getf (T := TX1) rfl (by decide) (by decide) in_X1 q1132 (Or.inl rfl) rfl dX1_tileAt_6) (
  aSa (s_getfN (T := TX2) rfl (by decide) (by decide) in_X2 q988 rfl rfl dX1_tileAt_9) (
  aSa (s_aload_n rfl rfl dX1_tileAt_12) (
  aSa (s_getf (T := TX1) rfl (by decide) (by decide) in_X1 q1132 (Or.inl rfl) rfl dX1_tileAt_13) (
  aSa (s_getfN (T := TX2) rfl (by decide) (by decide) in_X2 q990 rfl rfl dX1_tileAt_16) (
  aSa (s_imul rfl dX1_tileAt_19) (
  aSa (s_cge (by decide) rfl dX1_tileAt_20) (
  aSa (s_iconst (v0 := 1) (by decide) rfl dX1_tileAt_23) (
  aSa (s_goto (n := 0) (by decide) dX1_tileAt_24) (
  aSa (s_iconst (v0 := 0) (by decide) rfl dX1_tileAt_27) (
  aSa (s_callS rfl q2083 q2084 q102 q2085 (by decide +kernel) (by decide) aHS0 rfl dX1_tileAt_28) (
  aSa (s_aload_n rfl rfl dX1_tileAt_31) (
  aSa (s_getf (T := TX1) rfl (by decide) (by decide) in_X1 q1132 (Or.inl rfl) rfl dX1_tileAt_32) (
  aSa (s_getfN (T := TX2) rfl (by decide) (by decide) in_X2 q992 rfl rfl dX1_tileAt_35) (
  aSa (s_iload_n rfl rfl dX1_tileAt_38) (
  aSa (s_callS rfl q1926 q229 q109 q230 (by decide +kernel) (by decide) aHS0 rfl dX1_tileAt_39) (
  aSa (s_callV (List.forall_mem_cons.mpr ⟨d_F (x := ⟨"java/util/List", "indexOf", "(Ljava/lang/Object;)I"⟩) rfl rfl (aL1 q2459 (aL1 q728 (aL1 q730 (aL1 q106 aL0)))) q732 q727 q726 q731 q729 q252 (by decide +kernel) (by decide) rfl dX1_tileAt_42, fun _ h => absurd h List.not_mem_nil⟩) aHS0) (
  aSa (s_istore_n rfl (by decide) rfl dX1_tileAt_47) (
  aSa (s_iload_n rfl rfl dX1_tileAt_48) (
  aSa (s_iconst (v0 := (-1)) (by decide) rfl dX1_tileAt_49) (
  aSa (s_cne (by decide) rfl dX1_tileAt_50) (
  aSa (s_iconst (v0 := (-1)) (by decide) rfl dX1_tileAt_53) (
  aSa (s_goto (n := 0) (by decide) dX1_tileAt_54) (
  aSa (s_aload_n rfl rfl dX1_tileAt_57) (
  aSa (s_getf (T := TX1) rfl (by decide) (by decide) in_X1 q1134 (Or.inl rfl) rfl dX1_tileAt_58) (
  aSa (s_getfN (T := TX3) rfl (by decide) (by decide) in_X3 q1056 rfl rfl dX1_tileAt_61) (
  aSa (s_iload_n rfl rfl dX1_tileAt_64) (
  aSa (s_iald rfl dX1_tileAt_65) (
  aSa (s_iret (n := 0) rfl dX1_tileAt_66) (
  aSn)))))))))))))))))))))))))))))))))
theorem sn173 : SndL "Slidingtray" "tray" cX1_tray 7 (Option.some Jvm.ClassFile.FieldType.int) [] T173 := aSa (s_iload_n rfl rfl dX1_tray_0) (
  aSa (s_iconst (v0 := 2) (by decide) rfl dX1_tray_1) (
  aSa (s_clt (by decide) rfl dX1_tray_2) (
  aSa (s_iload_n rfl rfl dX1_tray_5) (
  aSa (s_iconst (v0 := 4) (by decide) rfl dX1_tray_6) (
  aSa (s_cgt (by decide) rfl dX1_tray_7) (
  aSa (s_iload_n rfl rfl dX1_tray_10) (
  aSa (s_iconst (v0 := 2) (by decide) rfl dX1_tray_11) (
  aSa (s_clt (by decide) rfl dX1_tray_12) (
  aSa (s_iload_n rfl rfl dX1_tray_15) (
  aSa (s_iconst (v0 := 4) (by decide) rfl dX1_tray_16) (
  aSa (s_cgt (by decide) rfl dX1_tray_17) (
  aSa (s_iconst (v0 := 1) (by decide) rfl dX1_tray_20) (
  aSa (s_goto (n := 0) (by decide) dX1_tray_21) (
  aSa (s_iconst (v0 := 0) (by decide) rfl dX1_tray_24) (
  aSa (s_callS rfl q2010 q2011 q102 q2012 (by decide +kernel) (by decide) aHS0 rfl dX1_tray_25) (
  aSa (s_iload_n rfl rfl dX1_tray_28) (
  aSa (s_iflt (by decide) rfl dX1_tray_29) (
  aSa (s_iload_n rfl rfl dX1_tray_32) (
  aSa (s_iconst (v0 := 1) (by decide) rfl dX1_tray_33) (
  aSa (s_iload_n rfl rfl dX1_tray_34) (
  aSa (s_iload_n rfl rfl dX1_tray_35) (
  aSa (s_imul rfl dX1_tray_36) (
  aSa (s_ishl rfl dX1_tray_37) (
  aSa (s_cge (by decide) rfl dX1_tray_38) (
  aSa (s_iload_n rfl rfl dX1_tray_41) (
  aSa (s_iload_n rfl rfl dX1_tray_42) (
  aSa (s_imul rfl dX1_tray_43) (
  aSa (s_iload_n rfl rfl dX1_tray_44) (
  aSa (s_callS rfl q2015 q2016 q109 q2017 (by decide +kernel) (by decide) aHS0 rfl dX1_tray_45) (
  aSa (s_isub rfl dX1_tray_48) (
  aSa (s_iconst (v0 := 3) (by decide) rfl dX1_tray_49) (
  aSa (s_clt (by decide) rfl dX1_tray_50) (
  aSa (s_iconst (v0 := 1) (by decide) rfl dX1_tray_53) (
  aSa (s_goto (n := 0) (by decide) dX1_tray_54) (
  aSa (s_iconst (v0 := 0) (by decide) rfl dX1_tray_57) (
  aSa (s_callS rfl q2010 q2011 q102 q2012 (by decide +kernel) (by decide) aHS0 rfl dX1_tray_58) (
  aSa (s_new (T := TX2) (ty0 := tyX2) tyX2_ok rfl (by decide) in_X2 q169 q170 q103 (by decide) rfl dX1_tray_61) (
  aSa (s_dup rfl dX1_tray_64) (
  aSa (s_iload_n rfl rfl dX1_tray_65) (
  aSa (s_iload_n rfl rfl dX1_tray_66) (
  aSa (s_iload_n rfl rfl dX1_tray_67) (
  aSa (s_callI rfl q171 q172 q103 q173 (by decide +kernel) (by decide) rfl aHS0 rfl dX1_tray_68) (
  aSa (s_astore (by decide) rfl dX1_tray_71) (
  aSa (s_aload rfl dX1_tray_73) (
  aSa (s_callV (List.forall_mem_cons.mpr ⟨d_V rfl rfl q2021 q2022 q2023 q103 q2024 rfl (by decide +kernel) (by decide) rfl dX1_tray_75, fun _ h => absurd h List.not_mem_nil⟩) aHS0) (
  aSa (s_callS rfl q2010 q2011 q102 q2012 (by decide +kernel) (by decide) aHS0 rfl dX1_tray_78) (
  aSa (s_aload_n rfl rfl dX1_tray_81) (
  aSa (s_aload rfl dX1_tray_82) (
  aSa (s_putf (T := TX1) (ty0 := tyX1) tyX1_ok nmX1 rfl (by decide) (by decide) in_X1 q1132 (Or.inl rfl) rfl rfl rfl dX1_tray_84) (
  aSa (s_aload_n rfl rfl dX1_tray_87) (
  aSa (s_aload_n rfl rfl dX1_tray_88) (
  aSa (s_getf (T := TX1) rfl (by decide) (by decide) in_X1 q1132 (Or.inl rfl) rfl dX1_tray_89) (
  aSa (s_lconst (by decide) rfl dX1_tray_92) (
  aSa (s_callS rfl q1017 q1018 q133 q1019 (by decide +kernel) (by decide) aHS0 rfl dX1_tray_93) (
  aSa (s_putf (T := TX1) (ty0 := tyX1) tyX1_ok nmX1 rfl (by decide) (by decide) in_X1 q1134 (Or.inl rfl) rfl rfl rfl dX1_tray_96) (
  aSa (s_aload_n rfl rfl dX1_tray_99) (
  aSa (s_new (T := TX4) (ty0 := tyX4) tyX4_ok rfl (by decide) in_X4 q1067 q1068 q134 (by decide) rfl dX1_tray_100) (
  aSa (s_dup rfl dX1_tray_103) (
  aSa (s_aload_n rfl rfl dX1_tray_104) (
  aSa (s_getf (T := TX1) rfl (by decide) (by decide) in_X1 q1134 (Or.inl rfl) rfl dX1_tray_105) (
  aSa (s_callI rfl q1069 q1070 q134 q1071 (by decide +kernel) (by decide) rfl aHS0 rfl dX1_tray_108) (
  aSa (s_putf (T := TX1) (ty0 := tyX1) tyX1_ok nmX1 rfl (by decide) (by decide) in_X1 q1135 (Or.inl rfl) rfl rfl rfl dX1_tray_111) (
  aSa (s_aload_n rfl rfl dX1_tray_114) (
  aSa (s_getf (T := TX1) rfl (by decide) (by decide) in_X1 q1138 (Or.inl rfl) rfl dX1_tray_115) (
  aSa (s_callV (List.forall_mem_cons.mpr ⟨d_F (x := ⟨"java/util/List", "clear", "()V"⟩) rfl rfl (aL1 q1190 (aL1 q1193 (aL1 q1195 (aL1 q106 aL0)))) q1197 q1192 q1191 q1196 q1194 q252 (by decide +kernel) (by decide) rfl dX1_tray_118, fun _ h => absurd h List.not_mem_nil⟩) aHS0) (
  aSa (s_aload_n rfl rfl dX1_tray_123) (
  aSa (s_getf (T := TX1) rfl (by decide) (by decide) in_X1 q1139 (Or.inl rfl) rfl dX1_tray_124) (
  aSa (s_callV (List.forall_mem_cons.mpr ⟨d_V rfl rfl q2026 q2027 q2028 q130 q2029 rfl (by decide +kernel) (by decide) rfl dX1_tray_127, fun _ h => absurd h List.not_mem_nil⟩) aHS0) (
  aSa (s_aload_n rfl rfl dX1_tray_130) (
  aSa (s_getf (T := TX1) rfl (by decide) (by decide) in_X1 q1140 (Or.inl rfl) rfl dX1_tray_131) (
  aSa (s_callV (List.forall_mem_cons.mpr ⟨d_F (x := ⟨"java/util/List", "iterator", "()Ljava/util/Iterator;"⟩) rfl rfl (aL1 q1269 (aL1 q1272 (aL1 q1274 (aL1 q106 aL0)))) q1276 q1271 q1270 q1275 q1273 q252 (by decide +kernel) (by decide) rfl dX1_tray_134, fun _ h => absurd h List.not_mem_nil⟩) aHS0) (
  aSa (s_astore (by decide) rfl dX1_tray_139) (
  aSa (s_aload rfl dX1_tray_141) (
  aSa (s_callV (List.forall_mem_cons.mpr ⟨d_F (x := ⟨"java/util/Iterator", "hasNext", "()Z"⟩) rfl rfl (aL1 q1297 (aL1 q1307 (aL1 q1309 (aL1 q137 aL0)))) q1311 q1299 q1298 q1310 q1308 q1306 (by decide +kernel) (by decide) rfl dX1_tray_143, fun _ h => absurd h List.not_mem_nil⟩) aHS0) (
  aSa (s_ifeq (by decide) rfl dX1_tray_148) (
  aSa (s_aload rfl dX1_tray_151) (
  aSa (s_callV (List.forall_mem_cons.mpr ⟨d_F (x := ⟨"java/util/Iterator", "next", "()Ljava/lang/Object;"⟩) rfl rfl (aL1 q1326 (aL1 q1340 (aL1 q1342 (aL1 q137 aL0)))) q1344 q1328 q1327 q1343 q1341 q1306 (by decide +kernel) (by decide) rfl dX1_tray_153, fun _ h => absurd h List.not_mem_nil⟩) aHS0) (
  aSa (s_cast q2033 (List.forall_mem_cons.mpr ⟨⟨_, rfl, (Or.inr q252)⟩, fun _ h => absurd h List.not_mem_nil⟩) (fun t h => absurd h List.not_mem_nil) rfl dX1_tray_158) (
  aSa (s_astore (by decide) rfl dX1_tray_161) (
  aSa (s_aload rfl dX1_tray_163) (
  aSa (s_callV (List.forall_mem_cons.mpr ⟨d_F (x := ⟨"java/util/List", "clear", "()V"⟩) rfl rfl (aL1 q1190 (aL1 q1193 (aL1 q1195 (aL1 q106 aL0)))) q1197 q1192 q1191 q1196 q1194 q252 (by decide +kernel) (by decide) rfl dX1_tray_165, fun _ h => absurd h List.not_mem_nil⟩) aHS0) (
  aSa (s_goto (n := 0) (by decide) dX1_tray_170) (
  aSa (s_iconst (v0 := 0) (by decide) rfl dX1_tray_173) (
  aSa (s_istore (by decide) rfl dX1_tray_174) (
  aSa (s_iload rfl dX1_tray_176) (
  aSa (s_iconst (v0 := 2) (by decide) rfl dX1_tray_178) (
  aSa (s_cge (by decide) rfl dX1_tray_179) (
  aSa (s_aload_n rfl rfl dX1_tray_182) (
  aSa (s_getf (T := TX1) rfl (by decide) (by decide) in_X1 q1141 (Or.inl rfl) rfl dX1_tray_183) (
  aSa (s_iload rfl dX1_tray_186) (
  aSa (s_null rfl dX1_tray_188) (
  aSa (s_aast rfl dX1_tray_189) (
  aSa (s_iinc (by decide) rfl dX1_tray_190) (
  aSa (s_goto (n := 0) (by decide) dX1_tray_193) (
  aSa (s_aload_n rfl rfl dX1_tray_196) (
  aSa (s_new (T := TX5) (ty0 := tyX5) tyX5_ok rfl (by decide) in_X5 q1103 q1104 q135 (by decide) rfl dX1_tray_197) (
  aSa (s_dup rfl dX1_tray_200) (
  aSa (s_callIN rfl q1105 q1106 q135 q1107 (by decide +kernel) (by decide) rfl aHS0 rfl dX1_tray_201) (
  aSa (s_putf (T := TX1) (ty0 := tyX1) tyX1_ok nmX1 rfl (by decide) (by decide) in_X1 q1144 (Or.inl rfl) rfl rfl rfl dX1_tray_204) (
  aSa (s_aload_n rfl rfl dX1_tray_207) (
  aSa (s_new (T := TJ2) (ty0 := tyJ2) tyJ2_ok rfl (by decide) in_J2 q1097 q176 q106 (by decide) rfl dX1_tray_208) (
  aSa (s_dup rfl dX1_tray_211) (
  aSa (s_callI rfl q1098 q178 q106 q179 (by decide +kernel) (by decide) rfl aHS0 rfl dX1_tray_212) (
  aSa (s_putf (T := TX1) (ty0 := tyX1) tyX1_ok nmX1 rfl (by decide) (by decide) in_X1 q1145 (Or.inl rfl) rfl rfl rfl dX1_tray_215) (
  aSa (s_aload_n rfl rfl dX1_tray_218) (
  aSa (s_getf (T := TX1) rfl (by decide) (by decide) in_X1 q1132 (Or.inl rfl) rfl dX1_tray_219) (
  aSa (s_callV (List.forall_mem_cons.mpr ⟨d_V rfl rfl q1226 q1023 q1024 q103 q1025 rfl (by decide +kernel) (by decide) rfl dX1_tray_222, fun _ h => absurd h List.not_mem_nil⟩) aHS0) (
  aSa (s_iconst (v0 := 1) (by decide) rfl dX1_tray_225) (
  aSa (s_isub rfl dX1_tray_226) (
  aSa (s_iret (n := 0) rfl dX1_tray_227) (
  aSn)))))))))))))))))))))))))))))))))))))))))))))))))))))))))))))))))))))))))))))))))))))))))))))))))))))))))))))))
theorem sn174 : SndL "Slidingtray" "undo" cX1_undo 3 (Option.some Jvm.ClassFile.FieldType.int) [] T174 := aSa (s_iload_n rfl rfl dX1_undo_0) (
  aSa (s_iconst (v0 := 1) (by decide) rfl dX1_undo_1) (
  aSa (s_clt (by decide) rfl dX1_undo_2) (
  aSa (s_iload_n rfl rfl dX1_undo_5) (
  aSa (s_sipush (v0 := 200) (by decide) rfl dX1_undo_6) (
  aSa (s_cgt (by decide) rfl dX1_undo_9) (
  aSa (s_iconst (v0 := 1) (by decide) rfl dX1_undo_12) (
  aSa (s_goto (n := 0) (by decide) dX1_undo_13) (
  aSa (s_iconst (v0 := 0) (by decide) rfl dX1_undo_16) (
  aSa (s_callS rfl q2010 q2011 q102 q2012 (by decide +kernel) (by decide) aHS0 rfl dX1_undo_17) (
  aSa (s_iconst (v0 := 0) (by decide) rfl dX1_undo_20) (
  aSa (s_istore_n rfl (by decide) rfl dX1_undo_21) (
  aSa (s_iload_n rfl rfl dX1_undo_22) (
  aSa (s_iload_n rfl rfl dX1_undo_23) (
  aSa (s_cge (by decide) rfl dX1_undo_24) (
  aSa (s_aload_n rfl rfl dX1_undo_27) (
  aSa (s_getf (T := TX1) rfl (by decide) (by decide) in_X1 q1139 (Or.inl rfl) rfl dX1_undo_28) (
  aSa (s_callV (List.forall_mem_cons.mpr ⟨d_V rfl rfl q2143 q952 q953 q130 q954 rfl (by decide +kernel) (by decide) rfl dX1_undo_31, fun _ h => absurd h List.not_mem_nil⟩) aHS0) (
  aSa (s_ifne (by decide) rfl dX1_undo_34) (
  aSa (s_aload_n rfl rfl dX1_undo_37) (
  aSa (s_aload_n rfl rfl dX1_undo_38) (
  aSa (s_getf (T := TX1) rfl (by decide) (by decide) in_X1 q1134 (Or.inl rfl) rfl dX1_undo_39) (
  aSa (s_iconst (v0 := 3) (by decide) rfl dX1_undo_42) (
  aSa (s_aload_n rfl rfl dX1_undo_43) (
  aSa (s_getf (T := TX1) rfl (by decide) (by decide) in_X1 q1139 (Or.inl rfl) rfl dX1_undo_44) (
  aSa (s_callV (List.forall_mem_cons.mpr ⟨d_V rfl rfl q2144 q2145 q2146 q130 q2147 rfl (by decide +kernel) (by decide) rfl dX1_undo_47, fun _ h => absurd h List.not_mem_nil⟩) aHS0) (
  aSa (s_cast q2048 (List.forall_mem_cons.mpr ⟨⟨_, rfl, (Or.inl rfl)⟩, List.forall_mem_cons.mpr ⟨⟨_, rfl, (Or.inl rfl)⟩, fun _ h => absurd h List.not_mem_nil⟩⟩) (fun t h => absurd h List.not_mem_nil) rfl dX1_undo_50) (
  aSa (s_callV (List.forall_mem_cons.mpr ⟨d_V rfl rfl q2049 q713 q714 q109 q715 rfl (by decide +kernel) (by decide) rfl dX1_undo_53, List.forall_mem_cons.mpr ⟨d_V rfl rfl q2049 q713 q714 q109 q715 rfl (by decide +kernel) (by decide) rfl dX1_undo_53, fun _ h => absurd h List.not_mem_nil⟩⟩) aHS0) (
  aSa (s_isub rfl dX1_undo_56) (
  aSa (s_callV (List.forall_mem_cons.mpr ⟨d_V rfl rfl q1256 q1257 q1258 q133 q1259 rfl (by decide +kernel) (by decide) rfl dX1_undo_57, fun _ h => absurd h List.not_mem_nil⟩) aHS0) (
  aSa (s_putf (T := TX1) (ty0 := tyX1) tyX1_ok nmX1 rfl (by decide) (by decide) in_X1 q1134 (Or.inl rfl) rfl rfl rfl dX1_undo_60) (
  aSa (s_iinc (by decide) rfl dX1_undo_63) (
  aSa (s_goto (n := 0) (by decide) dX1_undo_66) (
  aSa (s_iload_n rfl rfl dX1_undo_69) (
  aSa (s_iret (n := 0) rfl dX1_undo_70) (
  aSn)))))))))))))))))))))))))))))))))))
theorem sn175 : SndL "Slidingtray" "wayAt" cX1_wayAt 2 (Option.some Jvm.ClassFile.FieldType.int) [] T175 := aSa (s_iload_n rfl rfl dX1_wayAt_0) (
  aSa (s_iflt (by decide) rfl dX1_wayAt_1) (
  aSa (s_iload_n rfl rfl dX1_wayAt_4) (
  aSa (s_aload_n rfl rfl dX1_wayAt_5) (
  aSa (s_getf (T := TX1) rfl (by decide) (by decide) in_X1 q1145 (Or.inl rfl) rfl dX1_wayAt_6) (
  aSa (s_callV (List.forall_mem_cons.mpr ⟨d_F (x := ⟨"java/util/List", "size", "()I"⟩) rfl rfl (aL1 q2059 (aL1 q681 (aL1 q683 (aL1 q106 aL0)))) q685 q680 q679 q684 q682 q252 (by decide +kernel) (by decide) rfl dX1_wayAt_9, fun _ h => absurd h List.not_mem_nil⟩) aHS0) (
  aSa (s_clt (by decide) rfl dX1_wayAt_14) (
  aSa (s_throw0 (n := 0) (names := ["java/lang/RuntimeException", "java/lang/Exception"]) (by decide +kernel) (by decide +kernel) (by decide) q2421 q132 thr3 thr3g (by decide +kernel) dX1_wayAt_17 dX1_wayAt_20 dX1_wayAt_21 dX1_wayAt_24) (
  aSa (s_aload_n rfl rfl dX1_wayAt_25) (
  aSa (s_getf (T := TX1) rfl (by decide) (by decide) in_X1 q1145 (Or.inl rfl) rfl dX1_wayAt_26) (
  aSa (s_iload_n rfl rfl dX1_wayAt_29) (
  aSa (s_callV (List.forall_mem_cons.mpr ⟨d_F (x := ⟨"java/util/List", "get", "(I)Ljava/lang/Object;"⟩) rfl rfl (aL1 q2047 (aL1 q696 (aL1 q698 (aL1 q106 aL0)))) q700 q695 q694 q699 q697 q252 (by decide +kernel) (by decide) rfl dX1_wayAt_30, fun _ h => absurd h List.not_mem_nil⟩) aHS0) (
  aSa (s_cast q2048 (List.forall_mem_cons.mpr ⟨⟨_, rfl, (Or.inl rfl)⟩, List.forall_mem_cons.mpr ⟨⟨_, rfl, (Or.inl rfl)⟩, fun _ h => absurd h List.not_mem_nil⟩⟩) (fun t h => absurd h List.not_mem_nil) rfl dX1_wayAt_35) (
  aSa (s_callV (List.forall_mem_cons.mpr ⟨d_V rfl rfl q2049 q713 q714 q109 q715 rfl (by decide +kernel) (by decide) rfl dX1_wayAt_38, List.forall_mem_cons.mpr ⟨d_V rfl rfl q2049 q713 q714 q109 q715 rfl (by decide +kernel) (by decide) rfl dX1_wayAt_38, fun _ h => absurd h List.not_mem_nil⟩⟩) aHS0) (
  aSa (s_iret (n := 0) rfl dX1_wayAt_41) (
  aSn)))))))))))))))
theorem sn176 : SndL "Slidingtray" "ways" cX1_ways 5 (Option.some Jvm.ClassFile.FieldType.int) [] T176 := aSa (s_iconst (v0 := 0) (by decide) rfl dX1_ways_0) (
  aSa (s_istore_n rfl (by decide) rfl dX1_ways_1) (
  aSa (s_iconst (v0 := 0) (by decide) rfl dX1_ways_2) (
  aSa (s_istore_n rfl (by decide) rfl dX1_ways_3) (
  aSa (s_iload_n rfl rfl dX1_ways_4) (
  aSa (s_aload_n rfl rfl dX1_ways_5) (
  aSa (s_getfN (T := TX3) rfl (by decide) (by decide) in_X3 q1056 rfl rfl dX1_ways_6) (
  aSa (s_alen rfl dX1_ways_9) (
  aSa (s_cge (by decide) rfl dX1_ways_10) (
  aSa (s_aload_n rfl rfl dX1_ways_13) (
  aSa (s_getfN (T := TX3) rfl (by decide) (by decide) in_X3 q1056 rfl rfl dX1_ways_14) (
  aSa (s_iload_n rfl rfl dX1_ways_17) (
  aSa (s_iald rfl dX1_ways_18) (
  aSa (s_istore (by decide) rfl dX1_ways_19) (
  aSa (s_iload_n rfl rfl dX1_ways_21) (
  aSa (s_aload_n rfl rfl dX1_ways_22) (
  aSa (s_getf (T := TX1) rfl (by decide) (by decide) in_X1 q1135 (Or.inl rfl) rfl dX1_ways_23) (
  aSa (s_iload rfl dX1_ways_26) (
  aSa (s_callV (List.forall_mem_cons.mpr ⟨d_V rfl rfl q1231 q1232 q1233 q134 q1234 rfl (by decide +kernel) (by decide) rfl dX1_ways_28, fun _ h => absurd h List.not_mem_nil⟩) aHS0) (
  aSa (s_ifeq (by decide) rfl dX1_ways_31) (
  aSa (s_aload_n rfl rfl dX1_ways_34) (
  aSa (s_getf (T := TX1) rfl (by decide) (by decide) in_X1 q1135 (Or.inl rfl) rfl dX1_ways_35) (
  aSa (s_getfN (T := TX4) rfl (by decide) (by decide) in_X4 q1087 rfl rfl dX1_ways_38) (
  aSa (s_iload rfl dX1_ways_41) (
  aSa (s_iald rfl dX1_ways_43) (
  aSa (s_aload_n rfl rfl dX1_ways_44) (
  aSa (s_getf (T := TX1) rfl (by decide) (by decide) in_X1 q1132 (Or.inl rfl) rfl dX1_ways_45) (
  aSa (s_getfN (T := TX2) rfl (by decide) (by decide) in_X2 q997 rfl rfl dX1_ways_48) (
  aSa (s_iload_n rfl rfl dX1_ways_51) (
  aSa (s_aald rfl dX1_ways_52) (
  aSa (s_aload_n rfl rfl dX1_ways_53) (
  aSa (s_getf (T := TX1) rfl (by decide) (by decide) in_X1 q1135 (Or.inl rfl) rfl dX1_ways_54) (
  aSa (s_getfN (T := TX4) rfl (by decide) (by decide) in_X4 q1080 rfl rfl dX1_ways_57) (
  aSa (s_iload rfl dX1_ways_60) (
  aSa (s_iald rfl dX1_ways_62) (
  aSa (s_iald rfl dX1_ways_63) (
  aSa (s_imul rfl dX1_ways_64) (
  aSa (s_goto (n := 0) (by decide) dX1_ways_65) (
  aSa (s_iconst (v0 := 0) (by decide) rfl dX1_ways_68) (
  aSa (s_iadd rfl dX1_ways_69) (
  aSa (s_istore_n rfl (by decide) rfl dX1_ways_70) (
  aSa (s_iinc (by decide) rfl dX1_ways_71) (
  aSa (s_goto (n := 0) (by decide) dX1_ways_74) (
  aSa (s_iload_n rfl rfl dX1_ways_77) (
  aSa (s_iret (n := 0) rfl dX1_ways_78) (
  aSn)))))))))))))))))))))))))))))))))))))))))))))
theorem sn177 : SndL "Slidingtray$Aim" "<init>" cX4_init 3 (Option.none : Option Jvm.ClassFile.FieldType) [] T177 := aSa (s_aload_n rfl rfl dX4_init_0) (
  aSa (s_oinit q1072 q167 q168 rfl dX4_init_1) (
  aSa (s_aload_n rfl rfl dX4_init_4) (
  aSa (s_new (T := TJ3) (ty0 := tyJ3) tyJ3_ok rfl (by decide) in_J3 q1073 q205 q107 (by decide) rfl dX4_init_5) (
  aSa (s_dup rfl dX4_init_8) (
  aSa (s_callI rfl q1074 q207 q107 q208 (by decide +kernel) (by decide) rfl aHS0 rfl dX4_init_9) (
  aSa (s_putfF (T := TX4) (ty0 := tyX4) tyX4_ok nmX4 rfl (by decide) (by decide) in_X4 q1081 (Or.inl rfl) rfl rfl rfl rfl rfl dX4_init_12) (
  aSa (s_aload_n rfl rfl dX4_init_15) (
  aSa (s_aload_n rfl rfl dX4_init_16) (
  aSa (s_putfF (T := TX4) (ty0 := tyX4) tyX4_ok nmX4 rfl (by decide) (by decide) in_X4 q1075 (Or.inl rfl) rfl rfl rfl rfl rfl dX4_init_17) (
  aSa (s_aload_n rfl rfl dX4_init_20) (
  aSa (s_aload_n rfl rfl dX4_init_21) (
  aSa (s_getfN (T := TX3) rfl (by decide) (by decide) in_X3 q1054 rfl rfl dX4_init_22) (
  aSa (s_alen rfl dX4_init_25) (
  aSa (s_newa_int q915 rfl dX4_init_26) (
  aSa (s_putfF (T := TX4) (ty0 := tyX4) tyX4_ok nmX4 rfl (by decide) (by decide) in_X4 q1079 (Or.inl rfl) rfl rfl rfl rfl rfl dX4_init_28) (
  aSa (s_aload_n rfl rfl dX4_init_31) (
  aSa (s_aload_n rfl rfl dX4_init_32) (
  aSa (s_getfN (T := TX3) rfl (by decide) (by decide) in_X3 q1054 rfl rfl dX4_init_33) (
  aSa (s_alen rfl dX4_init_36) (
  aSa (s_newa_int q915 rfl dX4_init_37) (
  aSa (s_putfF (T := TX4) (ty0 := tyX4) tyX4_ok nmX4 rfl (by decide) (by decide) in_X4 q1083 (Or.inl rfl) rfl rfl rfl rfl rfl dX4_init_39) (
  aSa (s_iconst (v0 := 0) (by decide) rfl dX4_init_42) (
  aSa (s_istore_n rfl (by decide) rfl dX4_init_43) (
  aSa (s_iload_n rfl rfl dX4_init_44) (
  aSa (s_aload_n rfl rfl dX4_init_45) (
  aSa (s_getf (T := TX4) rfl (by decide) (by decide) in_X4 q1079 (Or.inl rfl) rfl dX4_init_46) (
  aSa (s_alen rfl dX4_init_49) (
  aSa (s_cge (by decide) rfl dX4_init_50) (
  aSa (s_aload_n rfl rfl dX4_init_53) (
  aSa (s_getf (T := TX4) rfl (by decide) (by decide) in_X4 q1079 (Or.inl rfl) rfl dX4_init_54) (
  aSa (s_aload_n rfl rfl dX4_init_57) (
  aSa (s_getfN (T := TX3) rfl (by decide) (by decide) in_X3 q1054 rfl rfl dX4_init_58) (
  aSa (s_iload_n rfl rfl dX4_init_61) (
  aSa (s_iald rfl dX4_init_62) (
  aSa (s_iload_n rfl rfl dX4_init_63) (
  aSa (s_iast rfl dX4_init_64) (
  aSa (s_aload_n rfl rfl dX4_init_65) (
  aSa (s_getf (T := TX4) rfl (by decide) (by decide) in_X4 q1083 (Or.inl rfl) rfl dX4_init_66) (
  aSa (s_iload_n rfl rfl dX4_init_69) (
  aSa (s_iconst (v0 := 1) (by decide) rfl dX4_init_70) (
  aSa (s_iast rfl dX4_init_71) (
  aSa (s_iinc (by decide) rfl dX4_init_72) (
  aSa (s_goto (n := 0) (by decide) dX4_init_75) (
  aSa (s_ret (n := 0) rfl dX4_init_78) (
  aSn)))))))))))))))))))))))))))))))))))))))))))))
theorem sn178 : SndL "Slidingtray$Aim" "at" cX4_at 4 (Option.some (Jvm.ClassFile.FieldType.object "Slidingtray$Aim")) [] T178 := aSa (s_new (T := TX4) (ty0 := tyX4) tyX4_ok rfl (by decide) in_X4 q1181 q1068 q134 (by decide) rfl dX4_at_0) (
  aSa (s_dup rfl dX4_at_3) (
  aSa (s_aload_n rfl rfl dX4_at_4) (
  aSa (s_callI rfl q1182 q1070 q134 q1071 (by decide +kernel) (by decide) rfl aHS0 rfl dX4_at_5) (
  aSa (s_astore_n rfl (by decide) rfl dX4_at_8) (
  aSa (s_aload_n rfl rfl dX4_at_9) (
  aSa (s_getf (T := TX4) rfl (by decide) (by decide) in_X4 q1081 (Or.inl rfl) rfl dX4_at_10) (
  aSa (s_aload_n rfl rfl dX4_at_13) (
  aSa (s_getf (T := TX4) rfl (by decide) (by decide) in_X4 q1081 (Or.inl rfl) rfl dX4_at_14) (
  aSa (s_callV (List.forall_mem_cons.mpr ⟨d_V rfl rfl q1183 q1184 q1185 q107 q1186 rfl (by decide +kernel) (by decide) rfl dX4_at_17, fun _ h => absurd h List.not_mem_nil⟩) aHS0) (
  aSa (s_iconst (v0 := 0) (by decide) rfl dX4_at_20) (
  aSa (s_istore_n rfl (by decide) rfl dX4_at_21) (
  aSa (s_iload_n rfl rfl dX4_at_22) (
  aSa (s_aload_n rfl rfl dX4_at_23) (
  aSa (s_getf (T := TX4) rfl (by decide) (by decide) in_X4 q1083 (Or.inl rfl) rfl dX4_at_24) (
  aSa (s_alen rfl dX4_at_27) (
  aSa (s_cge (by decide) rfl dX4_at_28) (
  aSa (s_aload_n rfl rfl dX4_at_31) (
  aSa (s_getf (T := TX4) rfl (by decide) (by decide) in_X4 q1083 (Or.inl rfl) rfl dX4_at_32) (
  aSa (s_iload_n rfl rfl dX4_at_35) (
  aSa (s_aload_n rfl rfl dX4_at_36) (
  aSa (s_getf (T := TX4) rfl (by decide) (by decide) in_X4 q1083 (Or.inl rfl) rfl dX4_at_37) (
  aSa (s_iload_n rfl rfl dX4_at_40) (
  aSa (s_iald rfl dX4_at_41) (
  aSa (s_iast rfl dX4_at_42) (
  aSa (s_iinc (by decide) rfl dX4_at_43) (
  aSa (s_goto (n := 0) (by decide) dX4_at_46) (
  aSa (s_aload_n rfl rfl dX4_at_49) (
  aSa (s_aret (n := 0) rfl (Or.inl ⟨_, rfl⟩) dX4_at_50) (
  aSn)))))))))))))))))))))))))))))
theorem sn179 : SndL "Slidingtray$Aim" "counts" cX4_counts 2 (Option.some Jvm.ClassFile.FieldType.boolean) [] T179 := aSa (s_iload_n rfl rfl dX4_counts_0) (
  aSa (s_ifle (by decide) rfl dX4_counts_1) (
  aSa (s_aload_n rfl rfl dX4_counts_4) (
  aSa (s_getf (T := TX4) rfl (by decide) (by decide) in_X4 q1081 (Or.inl rfl) rfl dX4_counts_5) (
  aSa (s_iload_n rfl rfl dX4_counts_8) (
  aSa (s_callV (List.forall_mem_cons.mpr ⟨d_V rfl rfl q1235 q1236 q1237 q107 q1238 rfl (by decide +kernel) (by decide) rfl dX4_counts_9, fun _ h => absurd h List.not_mem_nil⟩) aHS0) (
  aSa (s_ifne (by decide) rfl dX4_counts_12) (
  aSa (s_iconst (v0 := 1) (by decide) rfl dX4_counts_15) (
  aSa (s_goto (n := 0) (by decide) dX4_counts_16) (
  aSa (s_iconst (v0 := 0) (by decide) rfl dX4_counts_19) (
  aSa (s_iret (n := 0) rfl dX4_counts_20) (
  aSn)))))))))))
theorem sn180 : SndL "Slidingtray$Aim" "isGoal" cX4_isGoal 4 (Option.some Jvm.ClassFile.FieldType.boolean) [] T180 := aSa (s_iconst (v0 := 1) (by decide) rfl dX4_isGoal_0) (
  aSa (s_istore_n rfl (by decide) rfl dX4_isGoal_1) (
  aSa (s_iconst (v0 := 0) (by decide) rfl dX4_isGoal_2) (
  aSa (s_istore_n rfl (by decide) rfl dX4_isGoal_3) (
  aSa (s_iload_n rfl rfl dX4_isGoal_4) (
  aSa (s_aload_n rfl rfl dX4_isGoal_5) (
  aSa (s_getfN (T := TX3) rfl (by decide) (by decide) in_X3 q1054 rfl rfl dX4_isGoal_6) (
  aSa (s_alen rfl dX4_isGoal_9) (
  aSa (s_cge (by decide) rfl dX4_isGoal_10) (
  aSa (s_iload_n rfl rfl dX4_isGoal_13) (
  aSa (s_ifeq (by decide) rfl dX4_isGoal_14) (
  aSa (s_aload_n rfl rfl dX4_isGoal_17) (
  aSa (s_getf (T := TX4) rfl (by decide) (by decide) in_X4 q1081 (Or.inl rfl) rfl dX4_isGoal_18) (
  aSa (s_aload_n rfl rfl dX4_isGoal_21) (
  aSa (s_getfN (T := TX3) rfl (by decide) (by decide) in_X3 q1054 rfl rfl dX4_isGoal_22) (
  aSa (s_iload_n rfl rfl dX4_isGoal_25) (
  aSa (s_iald rfl dX4_isGoal_26) (
  aSa (s_callV (List.forall_mem_cons.mpr ⟨d_V rfl rfl q1235 q1236 q1237 q107 q1238 rfl (by decide +kernel) (by decide) rfl dX4_isGoal_27, fun _ h => absurd h List.not_mem_nil⟩) aHS0) (
  aSa (s_ifne (by decide) rfl dX4_isGoal_30) (
  aSa (s_aload_n rfl rfl dX4_isGoal_33) (
  aSa (s_getf (T := TX4) rfl (by decide) (by decide) in_X4 q1079 (Or.inl rfl) rfl dX4_isGoal_34) (
  aSa (s_aload_n rfl rfl dX4_isGoal_37) (
  aSa (s_getfN (T := TX3) rfl (by decide) (by decide) in_X3 q1054 rfl rfl dX4_isGoal_38) (
  aSa (s_iload_n rfl rfl dX4_isGoal_41) (
  aSa (s_iald rfl dX4_isGoal_42) (
  aSa (s_iald rfl dX4_isGoal_43) (
  aSa (s_iload_n rfl rfl dX4_isGoal_44) (
  aSa (s_cne (by decide) rfl dX4_isGoal_45) (
  aSa (s_iconst (v0 := 1) (by decide) rfl dX4_isGoal_48) (
  aSa (s_goto (n := 0) (by decide) dX4_isGoal_49) (
  aSa (s_iconst (v0 := 0) (by decide) rfl dX4_isGoal_52) (
  aSa (s_istore_n rfl (by decide) rfl dX4_isGoal_53) (
  aSa (s_iinc (by decide) rfl dX4_isGoal_54) (
  aSa (s_goto (n := 0) (by decide) dX4_isGoal_57) (
  aSa (s_iload_n rfl rfl dX4_isGoal_60) (
  aSa (s_iret (n := 0) rfl dX4_isGoal_61) (
  aSn))))))))))))))))))))))))))))))))))))
theorem sn181 : SndL "Slidingtray$All" "<init>" cX13_init 5 (Option.none : Option Jvm.ClassFile.FieldType) [] T181 := aSa (s_aload_n rfl rfl dX13_init_0) (
  aSa (s_aload_n rfl rfl dX13_init_1) (
  aSa (s_putfF (T := TX13) (ty0 := tyX13) tyX13_ok nmX13 rfl (by decide) (by decide) in_X13 q1733 (Or.inl rfl) rfl rfl rfl rfl rfl dX13_init_2) (
  aSa (s_aload_n rfl rfl dX13_init_5) (
  aSa (s_oinit q1427 q167 q168 rfl dX13_init_6) (
  aSa (s_aload_n rfl rfl dX13_init_9) (
  aSa (s_aload_n rfl rfl dX13_init_10) (
  aSa (s_getf (T := TX13) rfl (by decide) (by decide) in_X13 q1733 (Or.inl rfl) rfl dX13_init_11) (
  aSa (s_callV (List.forall_mem_cons.mpr ⟨d_VN rfl rfl q1428 q1430 qs23 q102 q1431 (by decide +kernel) (by decide) rfl dX13_init_14, fun _ h => absurd h List.not_mem_nil⟩) aHS0) (
  aSa (s_l2i rfl dX13_init_17) (
  aSa (s_newq (kd := 6) q1432 q1433 (fun _ => rfl) rfl (by decide) rfl dX13_init_18) (
  aSa (s_putfF (T := TX13) (ty0 := tyX13) tyX13_ok nmX13 rfl (by decide) (by decide) in_X13 q1728 (Or.inl rfl) rfl rfl rfl rfl rfl dX13_init_21) (
  aSa (s_aload_n rfl rfl dX13_init_24) (
  aSa (s_aload_n rfl rfl dX13_init_25) (
  aSa (s_getf (T := TX13) rfl (by decide) (by decide) in_X13 q1728 (Or.inl rfl) rfl dX13_init_26) (
  aSa (s_alen rfl dX13_init_29) (
  aSa (s_newa_int q915 rfl dX13_init_30) (
  aSa (s_putfF (T := TX13) (ty0 := tyX13) tyX13_ok nmX13 rfl (by decide) (by decide) in_X13 q1729 (Or.inl rfl) rfl rfl rfl rfl rfl dX13_init_32) (
  aSa (s_aload_n rfl rfl dX13_init_35) (
  aSa (s_aload_n rfl rfl dX13_init_36) (
  aSa (s_getf (T := TX13) rfl (by decide) (by decide) in_X13 q1728 (Or.inl rfl) rfl dX13_init_37) (
  aSa (s_alen rfl dX13_init_40) (
  aSa (s_newa_int q915 rfl dX13_init_41) (
  aSa (s_putfF (T := TX13) (ty0 := tyX13) tyX13_ok nmX13 rfl (by decide) (by decide) in_X13 q1731 (Or.inl rfl) rfl rfl rfl rfl rfl dX13_init_43) (
  aSa (s_new (T := TJ38) (ty0 := tyJ38) tyJ38_ok rfl (by decide) in_J38 q1434 q1435 q151 (by decide) rfl dX13_init_46) (
  aSa (s_dup rfl dX13_init_49) (
  aSa (s_callI rfl q1436 q1437 q151 q1438 (by decide +kernel) (by decide) rfl aHS0 rfl dX13_init_50) (
  aSa (s_astore_n rfl (by decide) rfl dX13_init_53) (
  aSa (s_aload_n rfl rfl dX13_init_54) (
  aSa (s_getf (T := TX13) rfl (by decide) (by decide) in_X13 q1729 (Or.inl rfl) rfl dX13_init_55) (
  aSa (s_iconst (v0 := (-1)) (by decide) rfl dX13_init_58) (
  aSa (s_callS rfl q1468 q894 q113 q895 (by decide +kernel) (by decide) aHS0 rfl dX13_init_59) (
  aSa (s_iconst (v0 := 0) (by decide) rfl dX13_init_62) (
  aSa (s_istore_n rfl (by decide) rfl dX13_init_63) (
  aSa (s_iload_n rfl rfl dX13_init_64) (
  aSa (s_aload_n rfl rfl dX13_init_65) (
  aSa (s_getf (T := TX13) rfl (by decide) (by decide) in_X13 q1728 (Or.inl rfl) rfl dX13_init_66) (
  aSa (s_alen rfl dX13_init_69) (
  aSa (s_cge (by decide) rfl dX13_init_70) (
  aSa (s_aload_n rfl rfl dX13_init_73) (
  aSa (s_getf (T := TX13) rfl (by decide) (by decide) in_X13 q1728 (Or.inl rfl) rfl dX13_init_74) (
  aSa (s_iload_n rfl rfl dX13_init_77) (
  aSa (s_aload_n rfl rfl dX13_init_78) (
  aSa (s_getfN (T := TX1) rfl (by decide) (by decide) in_X1 q1133 rfl rfl dX13_init_79) (
  aSa (s_iload_n rfl rfl dX13_init_82) (
  aSa (s_i2l rfl dX13_init_83) (
  aSa (s_callS rfl q1469 q1018 q133 q1019 (by decide +kernel) (by decide) aHS0 rfl dX13_init_84) (
  aSa (s_aast rfl dX13_init_87) (
  aSa (s_aload_n rfl rfl dX13_init_88) (
  aSa (s_getfN (T := TX1) rfl (by decide) (by decide) in_X1 q1136 rfl rfl dX13_init_89) (
  aSa (s_aload_n rfl rfl dX13_init_92) (
  aSa (s_getf (T := TX13) rfl (by decide) (by decide) in_X13 q1728 (Or.inl rfl) rfl dX13_init_93) (
  aSa (s_iload_n rfl rfl dX13_init_96) (
  aSa (s_aald rfl dX13_init_97) (
  aSa (s_callV (List.forall_mem_cons.mpr ⟨d_V rfl rfl q1470 q1471 q1472 q134 q1473 rfl (by decide +kernel) (by decide) rfl dX13_init_98, fun _ h => absurd h List.not_mem_nil⟩) aHS0) (
  aSa (s_ifeq (by decide) rfl dX13_init_101) (
  aSa (s_aload_n rfl rfl dX13_init_104) (
  aSa (s_new (T := TX9) (ty0 := tyX9) tyX9_ok rfl (by decide) in_X9 q1474 q1475 q152 (by decide) rfl dX13_init_105) (
  aSa (s_dup rfl dX13_init_108) (
  aSa (s_aload_n rfl rfl dX13_init_109) (
  aSa (s_getf (T := TX13) rfl (by decide) (by decide) in_X13 q1728 (Or.inl rfl) rfl dX13_init_110) (
  aSa (s_iload_n rfl rfl dX13_init_113) (
  aSa (s_aald rfl dX13_init_114) (
  aSa (s_iconst (v0 := 0) (by decide) rfl dX13_init_115) (
  aSa (s_iconst (v0 := 0) (by decide) rfl dX13_init_116) (
  aSa (s_null rfl dX13_init_117) (
  aSa (s_iconst (v0 := (-1)) (by decide) rfl dX13_init_118) (
  aSa (s_callI rfl q1476 q1477 q152 q1478 (by decide +kernel) (by decide) rfl aHS0 rfl dX13_init_119) (
  aSa (s_callV (List.forall_mem_cons.mpr ⟨d_V rfl rfl q1509 q1510 q1511 q151 q1512 rfl (by decide +kernel) (by decide) rfl dX13_init_122, fun _ h => absurd h List.not_mem_nil⟩) aHS0) (
  aSa (s_pop rfl dX13_init_125) (
  aSa (s_iinc (by decide) rfl dX13_init_126) (
  aSa (s_goto (n := 0) (by decide) dX13_init_129) (
  aSa (s_aload_n rfl rfl dX13_init_132) (
  aSa (s_callV (List.forall_mem_cons.mpr ⟨d_U (x := ⟨"java/util/PriorityQueue", "isEmpty", "()Z"⟩) (ow := "java/util/AbstractCollection") rfl rfl (aL1 q1670 (aL1 q1671 (aL1 q1673 (aL1 q1674 (aL1 q104 aL0))))) q1675 rfl (by decide +kernel) (by decide) rfl dX13_init_133, fun _ h => absurd h List.not_mem_nil⟩) aHS0) (
  aSa (s_ifne (by decide) rfl dX13_init_136) (
  aSa (s_aload_n rfl rfl dX13_init_139) (
  aSa (s_callV (List.forall_mem_cons.mpr ⟨d_V rfl rfl q1705 q1706 q1707 q151 q1708 rfl (by decide +kernel) (by decide) rfl dX13_init_140, fun _ h => absurd h List.not_mem_nil⟩) aHS0) (
  aSa (s_cast q1474 (List.forall_mem_cons.mpr ⟨⟨_, rfl, (Or.inl rfl)⟩, fun _ h => absurd h List.not_mem_nil⟩) (fun t h => absurd h List.not_mem_nil) rfl dX13_init_143) (
  aSa (s_astore_n rfl (by decide) rfl dX13_init_146) (
  aSa (s_aload_n rfl rfl dX13_init_147) (
  aSa (s_getfN (T := TX9) rfl (by decide) (by decide) in_X9 q1487 rfl rfl dX13_init_148) (
  aSa (s_l2i rfl dX13_init_151) (
  aSa (s_istore (by decide) rfl dX13_init_152) (
  aSa (s_aload_n rfl rfl dX13_init_154) (
  aSa (s_getf (T := TX13) rfl (by decide) (by decide) in_X13 q1729 (Or.inl rfl) rfl dX13_init_155) (
  aSa (s_iload rfl dX13_init_158) (
  aSa (s_iald rfl dX13_init_160) (
  aSa (s_iconst (v0 := (-1)) (by decide) rfl dX13_init_161) (
  aSa (s_cne (by decide) rfl dX13_init_162) (
  aSa (s_aload_n rfl rfl dX13_init_165) (
  aSa (s_getf (T := TX13) rfl (by decide) (by decide) in_X13 q1729 (Or.inl rfl) rfl dX13_init_166) (
  aSa (s_iload rfl dX13_init_169) (
  aSa (s_aload_n rfl rfl dX13_init_171) (
  aSa (s_getfN (T := TX9) rfl (by decide) (by decide) in_X9 q1490 rfl rfl dX13_init_172) (
  aSa (s_iast rfl dX13_init_175) (
  aSa (s_aload_n rfl rfl dX13_init_176) (
  aSa (s_aload_n rfl rfl dX13_init_177) (
  aSa (s_aload_n rfl rfl dX13_init_178) (
  aSa (s_callV (List.forall_mem_cons.mpr ⟨d_V rfl rfl q1715 q1717 qs26 q159 q1718 rfl (by decide +kernel) (by decide) rfl dX13_init_179, fun _ h => absurd h List.not_mem_nil⟩) aHS0) (
  aSa (s_aload_n rfl rfl dX13_init_182) (
  aSa (s_getf (T := TX13) rfl (by decide) (by decide) in_X13 q1731 (Or.inl rfl) rfl dX13_init_183) (
  aSa (s_iload rfl dX13_init_186) (
  aSa (s_aload_n rfl rfl dX13_init_188) (
  aSa (s_aload_n rfl rfl dX13_init_189) (
  aSa (s_getf (T := TX13) rfl (by decide) (by decide) in_X13 q1728 (Or.inl rfl) rfl dX13_init_190) (
  aSa (s_iload rfl dX13_init_193) (
  aSa (s_aald rfl dX13_init_195) (
  aSa (s_aload_n rfl rfl dX13_init_196) (
  aSa (s_getfN (T := TX9) rfl (by decide) (by decide) in_X9 q1490 rfl rfl dX13_init_197) (
  aSa (s_callV (List.forall_mem_cons.mpr ⟨d_V rfl rfl q1722 q1724 qs27 q159 q1725 rfl (by decide +kernel) (by decide) rfl dX13_init_200, fun _ h => absurd h List.not_mem_nil⟩) aHS0) (
  aSa (s_iast rfl dX13_init_203) (
  aSa (s_goto (n := 0) (by decide) dX13_init_204) (
  aSa (s_ret (n := 0) rfl dX13_init_207) (
  aSn)))))))))))))))))))))))))))))))))))))))))))))))))))))))))))))))))))))))))))))))))))))))))))))))))))))))))))))))))
theorem sn182 : SndL "Slidingtray$All" "count" cX13_count 8 (Option.some Jvm.ClassFile.FieldType.int) [] T182 := aSa (s_iconst (v0 := 0) (by decide) rfl dX13_count_0) (
  aSa (s_istore_n rfl (by decide) rfl dX13_count_1) (
  aSa (s_aload_n rfl rfl dX13_count_2) (
  aSa (s_getf (T := TX13) rfl (by decide) (by decide) in_X13 q1729 (Or.inl rfl) rfl dX13_count_3) (
  aSa (s_astore (by decide) rfl dX13_count_6) (
  aSa (s_aload rfl dX13_count_8) (
  aSa (s_alen rfl dX13_count_10) (
  aSa (s_istore (by decide) rfl dX13_count_11) (
  aSa (s_iconst (v0 := 0) (by decide) rfl dX13_count_13) (
  aSa (s_istore (by decide) rfl dX13_count_14) (
  aSa (s_iload rfl dX13_count_16) (
  aSa (s_iload rfl dX13_count_18) (
  aSa (s_cge (by decide) rfl dX13_count_20) (
  aSa (s_aload rfl dX13_count_23) (
  aSa (s_iload rfl dX13_count_25) (
  aSa (s_iald rfl dX13_count_27) (
  aSa (s_istore (by decide) rfl dX13_count_28) (
  aSa (s_iload_n rfl rfl dX13_count_30) (
  aSa (s_iload rfl dX13_count_31) (
  aSa (s_iload_n rfl rfl dX13_count_33) (
  aSa (s_clt (by decide) rfl dX13_count_34) (
  aSa (s_iload rfl dX13_count_37) (
  aSa (s_iload_n rfl rfl dX13_count_39) (
  aSa (s_cgt (by decide) rfl dX13_count_40) (
  aSa (s_iconst (v0 := 1) (by decide) rfl dX13_count_43) (
  aSa (s_goto (n := 0) (by decide) dX13_count_44) (
  aSa (s_iconst (v0 := 0) (by decide) rfl dX13_count_47) (
  aSa (s_iadd rfl dX13_count_48) (
  aSa (s_istore_n rfl (by decide) rfl dX13_count_49) (
  aSa (s_iinc (by decide) rfl dX13_count_50) (
  aSa (s_goto (n := 0) (by decide) dX13_count_53) (
  aSa (s_iload_n rfl rfl dX13_count_56) (
  aSa (s_iret (n := 0) rfl dX13_count_57) (
  aSn)))))))))))))))))))))))))))))))))
theorem sn183 : SndL "Slidingtray$All" "first" cX13_first 4 (Option.some Jvm.ClassFile.FieldType.int) [] T183 := aSa (s_iconst (v0 := 0) (by decide) rfl dX13_first_0) (
  aSa (s_istore_n rfl (by decide) rfl dX13_first_1) (
  aSa (s_iload_n rfl rfl dX13_first_2) (
  aSa (s_aload_n rfl rfl dX13_first_3) (
  aSa (s_getf (T := TX13) rfl (by decide) (by decide) in_X13 q1729 (Or.inl rfl) rfl dX13_first_4) (
  aSa (s_alen rfl dX13_first_7) (
  aSa (s_cge (by decide) rfl dX13_first_8) (
  aSa (s_aload_n rfl rfl dX13_first_11) (
  aSa (s_getf (T := TX13) rfl (by decide) (by decide) in_X13 q1729 (Or.inl rfl) rfl dX13_first_12) (
  aSa (s_iload_n rfl rfl dX13_first_15) (
  aSa (s_iald rfl dX13_first_16) (
  aSa (s_iload_n rfl rfl dX13_first_17) (
  aSa (s_cne (by decide) rfl dX13_first_18) (
  aSa (s_iload_n rfl rfl dX13_first_21) (
  aSa (s_ifeq (by decide) rfl dX13_first_22) (
  aSa (s_aload_n rfl rfl dX13_first_25) (
  aSa (s_getf (T := TX13) rfl (by decide) (by decide) in_X13 q1731 (Or.inl rfl) rfl dX13_first_26) (
  aSa (s_iload_n rfl rfl dX13_first_29) (
  aSa (s_iald rfl dX13_first_30) (
  aSa (s_iconst (v0 := 1) (by decide) rfl dX13_first_31) (
  aSa (s_cne (by decide) rfl dX13_first_32) (
  aSa (s_iload_n rfl rfl dX13_first_35) (
  aSa (s_iret (n := 0) rfl dX13_first_36) (
  aSa (s_iinc (by decide) rfl dX13_first_37) (
  aSa (s_goto (n := 0) (by decide) dX13_first_40) (
  aSa (s_iconst (v0 := (-1)) (by decide) rfl dX13_first_43) (
  aSa (s_iret (n := 0) rfl dX13_first_44) (
  aSn)))))))))))))))))))))))))))
theorem sn184 : SndL "Slidingtray$All" "greatest" cX13_greatest 6 (Option.some Jvm.ClassFile.FieldType.int) [] T184 := aSa (s_iconst (v0 := 0) (by decide) rfl dX13_greatest_0) (
  aSa (s_istore_n rfl (by decide) rfl dX13_greatest_1) (
  aSa (s_aload_n rfl rfl dX13_greatest_2) (
  aSa (s_getf (T := TX13) rfl (by decide) (by decide) in_X13 q1729 (Or.inl rfl) rfl dX13_greatest_3) (
  aSa (s_astore_n rfl (by decide) rfl dX13_greatest_6) (
  aSa (s_aload_n rfl rfl dX13_greatest_7) (
  aSa (s_alen rfl dX13_greatest_8) (
  aSa (s_istore_n rfl (by decide) rfl dX13_greatest_9) (
  aSa (s_iconst (v0 := 0) (by decide) rfl dX13_greatest_10) (
  aSa (s_istore (by decide) rfl dX13_greatest_11) (
  aSa (s_iload rfl dX13_greatest_13) (
  aSa (s_iload_n rfl rfl dX13_greatest_15) (
  aSa (s_cge (by decide) rfl dX13_greatest_16) (
  aSa (s_aload_n rfl rfl dX13_greatest_19) (
  aSa (s_iload rfl dX13_greatest_20) (
  aSa (s_iald rfl dX13_greatest_22) (
  aSa (s_istore (by decide) rfl dX13_greatest_23) (
  aSa (s_iload_n rfl rfl dX13_greatest_25) (
  aSa (s_iload rfl dX13_greatest_26) (
  aSa (s_mmax q2630 q274 q112 q275 rfl dX13_greatest_28) (
  aSa (s_istore_n rfl (by decide) rfl dX13_greatest_31) (
  aSa (s_iinc (by decide) rfl dX13_greatest_32) (
  aSa (s_goto (n := 0) (by decide) dX13_greatest_35) (
  aSa (s_iload_n rfl rfl dX13_greatest_38) (
  aSa (s_iret (n := 0) rfl dX13_greatest_39) (
  aSn)))))))))))))))))))))))))
theorem sn185 : SndL "Slidingtray$All" "isFair" cX13_isFair 4 (Option.some Jvm.ClassFile.FieldType.boolean) [] T185 := aSa (s_iconst (v0 := 1) (by decide) rfl dX13_isFair_0) (
  aSa (s_istore_n rfl (by decide) rfl dX13_isFair_1) (
  aSa (s_iconst (v0 := 0) (by decide) rfl dX13_isFair_2) (
  aSa (s_istore_n rfl (by decide) rfl dX13_isFair_3) (
  aSa (s_iload_n rfl rfl dX13_isFair_4) (
  aSa (s_aload_n rfl rfl dX13_isFair_5) (
  aSa (s_getf (T := TX13) rfl (by decide) (by decide) in_X13 q1729 (Or.inl rfl) rfl dX13_isFair_6) (
  aSa (s_alen rfl dX13_isFair_9) (
  aSa (s_cge (by decide) rfl dX13_isFair_10) (
  aSa (s_aload_n rfl rfl dX13_isFair_13) (
  aSa (s_getf (T := TX13) rfl (by decide) (by decide) in_X13 q1729 (Or.inl rfl) rfl dX13_isFair_14) (
  aSa (s_iload_n rfl rfl dX13_isFair_17) (
  aSa (s_iald rfl dX13_isFair_18) (
  aSa (s_iconst (v0 := (-1)) (by decide) rfl dX13_isFair_19) (
  aSa (s_ceq (by decide) rfl dX13_isFair_20) (
  aSa (s_iload_n rfl rfl dX13_isFair_23) (
  aSa (s_ifeq (by decide) rfl dX13_isFair_24) (
  aSa (s_aload_n rfl rfl dX13_isFair_27) (
  aSa (s_getf (T := TX13) rfl (by decide) (by decide) in_X13 q1733 (Or.inl rfl) rfl dX13_isFair_28) (
  aSa (s_aload_n rfl rfl dX13_isFair_31) (
  aSa (s_getf (T := TX13) rfl (by decide) (by decide) in_X13 q1728 (Or.inl rfl) rfl dX13_isFair_32) (
  aSa (s_iload_n rfl rfl dX13_isFair_35) (
  aSa (s_aald rfl dX13_isFair_36) (
  aSa (s_iload_n rfl rfl dX13_isFair_37) (
  aSa (s_callV (List.forall_mem_cons.mpr ⟨d_VN rfl rfl q2653 q1266 qs17 q102 q1267 (by decide +kernel) (by decide) rfl dX13_isFair_38, fun _ h => absurd h List.not_mem_nil⟩) aHS0) (
  aSa (s_aload_n rfl rfl dX13_isFair_41) (
  aSa (s_getf (T := TX13) rfl (by decide) (by decide) in_X13 q1729 (Or.inl rfl) rfl dX13_isFair_42) (
  aSa (s_iload_n rfl rfl dX13_isFair_45) (
  aSa (s_iald rfl dX13_isFair_46) (
  aSa (s_cgt (by decide) rfl dX13_isFair_47) (
  aSa (s_aload_n rfl rfl dX13_isFair_50) (
  aSa (s_getf (T := TX13) rfl (by decide) (by decide) in_X13 q1733 (Or.inl rfl) rfl dX13_isFair_51) (
  aSa (s_aload_n rfl rfl dX13_isFair_54) (
  aSa (s_getf (T := TX13) rfl (by decide) (by decide) in_X13 q1728 (Or.inl rfl) rfl dX13_isFair_55) (
  aSa (s_iload_n rfl rfl dX13_isFair_58) (
  aSa (s_aald rfl dX13_isFair_59) (
  aSa (s_iload_n rfl rfl dX13_isFair_60) (
  aSa (s_callV (List.forall_mem_cons.mpr ⟨d_VN rfl rfl q2654 q1262 qs16 q102 q1263 (by decide +kernel) (by decide) rfl dX13_isFair_61, fun _ h => absurd h List.not_mem_nil⟩) aHS0) (
  aSa (s_ifeq (by decide) rfl dX13_isFair_64) (
  aSa (s_iconst (v0 := 1) (by decide) rfl dX13_isFair_67) (
  aSa (s_goto (n := 0) (by decide) dX13_isFair_68) (
  aSa (s_iconst (v0 := 0) (by decide) rfl dX13_isFair_71) (
  aSa (s_istore_n rfl (by decide) rfl dX13_isFair_72) (
  aSa (s_iinc (by decide) rfl dX13_isFair_73) (
  aSa (s_goto (n := 0) (by decide) dX13_isFair_76) (
  aSa (s_iload_n rfl rfl dX13_isFair_79) (
  aSa (s_iret (n := 0) rfl dX13_isFair_80) (
  aSn)))))))))))))))))))))))))))))))))))))))))))))))
theorem sn186 : SndL "Slidingtray$All" "spread" cX13_spread 6 (Option.none : Option Jvm.ClassFile.FieldType) [] T186 := aSa (s_iconst (v0 := 0) (by decide) rfl dX13_spread_0) (
  aSa (s_istore_n rfl (by decide) rfl dX13_spread_1) (
  aSa (s_iload_n rfl rfl dX13_spread_2) (
  aSa (s_iconst (v0 := 3) (by decide) rfl dX13_spread_3) (
  aSa (s_cgt (by decide) rfl dX13_spread_4) (
  aSa (s_aload_n rfl rfl dX13_spread_7) (
  aSa (s_getfN (T := TX9) rfl (by decide) (by decide) in_X9 q1482 rfl rfl dX13_spread_8) (
  aSa (s_iload_n rfl rfl dX13_spread_11) (
  aSa (s_callV (List.forall_mem_cons.mpr ⟨d_V rfl rfl q1719 q1253 q1254 q133 q1255 rfl (by decide +kernel) (by decide) rfl dX13_spread_12, fun _ h => absurd h List.not_mem_nil⟩) aHS0) (
  aSa (s_istore (by decide) rfl dX13_spread_15) (
  aSa (s_iload rfl dX13_spread_17) (
  aSa (s_ifle (by decide) rfl dX13_spread_19) (
  aSa (s_aload_n rfl rfl dX13_spread_22) (
  aSa (s_getfN (T := TX9) rfl (by decide) (by decide) in_X9 q1482 rfl rfl dX13_spread_23) (
  aSa (s_iload_n rfl rfl dX13_spread_26) (
  aSa (s_callV (List.forall_mem_cons.mpr ⟨d_V rfl rfl q1720 q1257 q1258 q133 q1259 rfl (by decide +kernel) (by decide) rfl dX13_spread_27, fun _ h => absurd h List.not_mem_nil⟩) aHS0) (
  aSa (s_astore (by decide) rfl dX13_spread_30) (
  aSa (s_aload_n rfl rfl dX13_spread_32) (
  aSa (s_getf (T := TX13) rfl (by decide) (by decide) in_X13 q1729 (Or.inl rfl) rfl dX13_spread_33) (
  aSa (s_aload rfl dX13_spread_36) (
  aSa (s_callV (List.forall_mem_cons.mpr ⟨d_V rfl rfl q1721 q1199 q1200 q133 q1201 rfl (by decide +kernel) (by decide) rfl dX13_spread_38, fun _ h => absurd h List.not_mem_nil⟩) aHS0) (
  aSa (s_l2i rfl dX13_spread_41) (
  aSa (s_iald rfl dX13_spread_42) (
  aSa (s_iconst (v0 := (-1)) (by decide) rfl dX13_spread_43) (
  aSa (s_cne (by decide) rfl dX13_spread_44) (
  aSa (s_aload_n rfl rfl dX13_spread_47) (
  aSa (s_new (T := TX9) (ty0 := tyX9) tyX9_ok rfl (by decide) in_X9 q1474 q1475 q152 (by decide) rfl dX13_spread_48) (
  aSa (s_dup rfl dX13_spread_51) (
  aSa (s_aload rfl dX13_spread_52) (
  aSa (s_iconst (v0 := 0) (by decide) rfl dX13_spread_54) (
  aSa (s_aload_n rfl rfl dX13_spread_55) (
  aSa (s_getfN (T := TX9) rfl (by decide) (by decide) in_X9 q1490 rfl rfl dX13_spread_56) (
  aSa (s_aload_n rfl rfl dX13_spread_59) (
  aSa (s_getf (T := TX13) rfl (by decide) (by decide) in_X13 q1733 (Or.inl rfl) rfl dX13_spread_60) (
  aSa (s_getfN (T := TX1) rfl (by decide) (by decide) in_X1 q1136 rfl rfl dX13_spread_63) (
  aSa (s_getfN (T := TX4) rfl (by decide) (by decide) in_X4 q1084 rfl rfl dX13_spread_66) (
  aSa (s_iload rfl dX13_spread_69) (
  aSa (s_iald rfl dX13_spread_71) (
  aSa (s_iadd rfl dX13_spread_72) (
  aSa (s_aload_n rfl rfl dX13_spread_73) (
  aSa (s_iload_n rfl rfl dX13_spread_74) (
  aSa (s_callI rfl q1476 q1477 q152 q1478 (by decide +kernel) (by decide) rfl aHS0 rfl dX13_spread_75) (
  aSa (s_callV (List.forall_mem_cons.mpr ⟨d_V rfl rfl q1509 q1510 q1511 q151 q1512 rfl (by decide +kernel) (by decide) rfl dX13_spread_78, fun _ h => absurd h List.not_mem_nil⟩) aHS0) (
  aSa (s_pop rfl dX13_spread_81) (
  aSa (s_iinc (by decide) rfl dX13_spread_82) (
  aSa (s_goto (n := 0) (by decide) dX13_spread_85) (
  aSa (s_ret (n := 0) rfl dX13_spread_88) (
  aSn)))))))))))))))))))))))))))))))))))))))))))))))
theorem sn187 : SndL "Slidingtray$All" "waysFrom" cX13_waysFrom 7 (Option.some Jvm.ClassFile.FieldType.int) [] T187 := aSa (s_iload_n rfl rfl dX13_waysFrom_0) (
  aSa (s_ifne (by decide) rfl dX13_waysFrom_1) (
  aSa (s_iconst (v0 := 1) (by decide) rfl dX13_waysFrom_4) (
  aSa (s_goto (n := 0) (by decide) dX13_waysFrom_5) (
  aSa (s_iconst (v0 := 0) (by decide) rfl dX13_waysFrom_8) (
  aSa (s_istore_n rfl (by decide) rfl dX13_waysFrom_9) (
  aSa (s_iconst (v0 := 0) (by decide) rfl dX13_waysFrom_10) (
  aSa (s_istore (by decide) rfl dX13_waysFrom_11) (
  aSa (s_iload rfl dX13_waysFrom_13) (
  aSa (s_iconst (v0 := 3) (by decide) rfl dX13_waysFrom_15) (
  aSa (s_cgt (by decide) rfl dX13_waysFrom_16) (
  aSa (s_iload_n rfl rfl dX13_waysFrom_19) (
  aSa (s_ifle (by decide) rfl dX13_waysFrom_20) (
  aSa (s_aload_n rfl rfl dX13_waysFrom_23) (
  aSa (s_iload rfl dX13_waysFrom_24) (
  aSa (s_callV (List.forall_mem_cons.mpr ⟨d_V rfl rfl q1719 q1253 q1254 q133 q1255 rfl (by decide +kernel) (by decide) rfl dX13_waysFrom_26, fun _ h => absurd h List.not_mem_nil⟩) aHS0) (
  aSa (s_istore (by decide) rfl dX13_waysFrom_29) (
  aSa (s_iload rfl dX13_waysFrom_31) (
  aSa (s_ifle (by decide) rfl dX13_waysFrom_33) (
  aSa (s_aload_n rfl rfl dX13_waysFrom_36) (
  aSa (s_iload rfl dX13_waysFrom_37) (
  aSa (s_callV (List.forall_mem_cons.mpr ⟨d_V rfl rfl q1720 q1257 q1258 q133 q1259 rfl (by decide +kernel) (by decide) rfl dX13_waysFrom_39, fun _ h => absurd h List.not_mem_nil⟩) aHS0) (
  aSa (s_callV (List.forall_mem_cons.mpr ⟨d_V rfl rfl q1721 q1199 q1200 q133 q1201 rfl (by decide +kernel) (by decide) rfl dX13_waysFrom_42, fun _ h => absurd h List.not_mem_nil⟩) aHS0) (
  aSa (s_l2i rfl dX13_waysFrom_45) (
  aSa (s_istore (by decide) rfl dX13_waysFrom_46) (
  aSa (s_iload_n rfl rfl dX13_waysFrom_48) (
  aSa (s_aload_n rfl rfl dX13_waysFrom_49) (
  aSa (s_getf (T := TX13) rfl (by decide) (by decide) in_X13 q1729 (Or.inl rfl) rfl dX13_waysFrom_50) (
  aSa (s_iload rfl dX13_waysFrom_53) (
  aSa (s_iald rfl dX13_waysFrom_55) (
  aSa (s_iconst (v0 := (-1)) (by decide) rfl dX13_waysFrom_56) (
  aSa (s_ceq (by decide) rfl dX13_waysFrom_57) (
  aSa (s_aload_n rfl rfl dX13_waysFrom_60) (
  aSa (s_getf (T := TX13) rfl (by decide) (by decide) in_X13 q1729 (Or.inl rfl) rfl dX13_waysFrom_61) (
  aSa (s_iload rfl dX13_waysFrom_64) (
  aSa (s_iald rfl dX13_waysFrom_66) (
  aSa (s_aload_n rfl rfl dX13_waysFrom_67) (
  aSa (s_getf (T := TX13) rfl (by decide) (by decide) in_X13 q1733 (Or.inl rfl) rfl dX13_waysFrom_68) (
  aSa (s_getfN (T := TX1) rfl (by decide) (by decide) in_X1 q1136 rfl rfl dX13_waysFrom_71) (
  aSa (s_getfN (T := TX4) rfl (by decide) (by decide) in_X4 q1084 rfl rfl dX13_waysFrom_74) (
  aSa (s_iload rfl dX13_waysFrom_77) (
  aSa (s_iald rfl dX13_waysFrom_79) (
  aSa (s_iadd rfl dX13_waysFrom_80) (
  aSa (s_iload_n rfl rfl dX13_waysFrom_81) (
  aSa (s_cne (by decide) rfl dX13_waysFrom_82) (
  aSa (s_aload_n rfl rfl dX13_waysFrom_85) (
  aSa (s_getf (T := TX13) rfl (by decide) (by decide) in_X13 q1731 (Or.inl rfl) rfl dX13_waysFrom_86) (
  aSa (s_iload rfl dX13_waysFrom_89) (
  aSa (s_iald rfl dX13_waysFrom_91) (
  aSa (s_goto (n := 0) (by decide) dX13_waysFrom_92) (
  aSa (s_iconst (v0 := 0) (by decide) rfl dX13_waysFrom_95) (
  aSa (s_iadd rfl dX13_waysFrom_96) (
  aSa (s_istore_n rfl (by decide) rfl dX13_waysFrom_97) (
  aSa (s_iinc (by decide) rfl dX13_waysFrom_98) (
  aSa (s_goto (n := 0) (by decide) dX13_waysFrom_101) (
  aSa (s_ldc q1726 rfl dX13_waysFrom_104) (
  aSa (s_iload_n rfl rfl dX13_waysFrom_106) (
  aSa (s_mmin q1727 q330 q112 q331 rfl dX13_waysFrom_107) (
  aSa (s_iret (n := 0) rfl dX13_waysFrom_110) (
  aSn)))))))))))))))))))))))))))))))))))))))))))))))))))))))))))
theorem sn188 : SndL "Slidingtray$Beyond" "<init>" cX10_init 1 (Option.none : Option Jvm.ClassFile.FieldType) [] T188 := aSa (s_aload_n rfl rfl dX10_init_0) (
  aSa (s_null rfl dX10_init_1) (
  aSa (s_null rfl dX10_init_2) (
  aSa (s_iconst (v0 := 0) (by decide) rfl dX10_init_3) (
  aSa (s_iconst (v0 := 0) (by decide) rfl dX10_init_4) (
  aSa (s_callI rfl q1917 q1918 q116 q1919 (by decide +kernel) (by decide) rfl aHS0 rfl dX10_init_5) (
  aSa (s_ret (n := 0) rfl dX10_init_8) (
  aSn)))))))
theorem sn189 : SndL "Slidingtray$Depth" "<init>" cX11_init 3 (Option.none : Option Jvm.ClassFile.FieldType) [] T189 := aSa (s_aload_n rfl rfl dX11_init_0) (
  aSa (s_aload_n rfl rfl dX11_init_1) (
  aSa (s_putfF (T := TX11) (ty0 := tyX11) tyX11_ok nmX11 rfl (by decide) (by decide) in_X11 q1965 (Or.inl rfl) rfl rfl rfl rfl rfl dX11_init_2) (
  aSa (s_aload_n rfl rfl dX11_init_5) (
  aSa (s_oinit q1958 q167 q168 rfl dX11_init_6) (
  aSa (s_aload_n rfl rfl dX11_init_9) (
  aSa (s_new (T := TX5) (ty0 := tyX5) tyX5_ok rfl (by decide) in_X5 q1959 q1104 q135 (by decide) rfl dX11_init_10) (
  aSa (s_dup rfl dX11_init_13) (
  aSa (s_callIN rfl q1960 q1106 q135 q1107 (by decide +kernel) (by decide) rfl aHS0 rfl dX11_init_14) (
  aSa (s_putfF (T := TX11) (ty0 := tyX11) tyX11_ok nmX11 rfl (by decide) (by decide) in_X11 q1962 (Or.inl rfl) rfl rfl rfl rfl rfl dX11_init_17) (
  aSa (s_aload_n rfl rfl dX11_init_20) (
  aSa (s_iload_n rfl rfl dX11_init_21) (
  aSa (s_putfF (T := TX11) (ty0 := tyX11) tyX11_ok nmX11 rfl (by decide) (by decide) in_X11 q1961 (Or.inl rfl) rfl rfl rfl rfl rfl dX11_init_22) (
  aSa (s_ret (n := 0) rfl dX11_init_25) (
  aSn))))))))))))))
theorem sn190 : SndL "Slidingtray$Depth" "goes" cX11_goes 8 (Option.some Jvm.ClassFile.FieldType.boolean) [] T190 := aSa (s_aload_n rfl rfl dX11_goes_0) (
  aSa (s_getf (T := TX11) rfl (by decide) (by decide) in_X11 q1962 (Or.inl rfl) rfl dX11_goes_1) (
  aSa (s_getfN (T := TX5) rfl (by decide) (by decide) in_X5 q1114 rfl rfl dX11_goes_4) (
  aSa (s_aload_n rfl rfl dX11_goes_7) (
  aSa (s_getf (T := TX11) rfl (by decide) (by decide) in_X11 q1965 (Or.inl rfl) rfl dX11_goes_8) (
  aSa (s_getfN (T := TX1) rfl (by decide) (by decide) in_X1 q1143 rfl rfl dX11_goes_11) (
  aSa (s_cne (by decide) rfl dX11_goes_14) (
  aSa (s_new (T := TX10) (ty0 := tyX10) tyX10_ok rfl (by decide) in_X10 q1987 q1906 q155 (by decide) rfl dX11_goes_17) (
  aSa (s_dup rfl dX11_goes_20) (
  aSa (s_callI rfl q1988 q1915 q155 q1916 (by decide +kernel) (by decide) rfl aHS0 rfl dX11_goes_21) (
  aSa (s_athrow (n := 0) rfl (by decide) rfl (by decide +kernel) dX11_goes_24) (
  aSa (s_aload_n rfl rfl dX11_goes_25) (
  aSa (s_getf (T := TX11) rfl (by decide) (by decide) in_X11 q1962 (Or.inl rfl) rfl dX11_goes_26) (
  aSa (s_dup rfl dX11_goes_29) (
  aSa (s_getfN (T := TX5) rfl (by decide) (by decide) in_X5 q1114 rfl rfl dX11_goes_30) (
  aSa (s_iconst (v0 := 1) (by decide) rfl dX11_goes_33) (
  aSa (s_iadd rfl dX11_goes_34) (
  aSa (s_putfN (T := TX5) (ty0 := tyX5) tyX5_ok nmX5 rfl (by decide) (by decide) in_X5 q1114 rfl rfl rfl rfl dX11_goes_35) (
  aSa (s_iload_n rfl rfl dX11_goes_38) (
  aSa (s_aload_n rfl rfl dX11_goes_39) (
  aSa (s_getf (T := TX11) rfl (by decide) (by decide) in_X11 q1965 (Or.inl rfl) rfl dX11_goes_40) (
  aSa (s_aload_n rfl rfl dX11_goes_43) (
  aSa (s_aload_n rfl rfl dX11_goes_44) (
  aSa (s_getf (T := TX11) rfl (by decide) (by decide) in_X11 q1961 (Or.inl rfl) rfl dX11_goes_45) (
  aSa (s_callV (List.forall_mem_cons.mpr ⟨d_VN rfl rfl q1981 q1266 qs17 q102 q1267 (by decide +kernel) (by decide) rfl dX11_goes_48, fun _ h => absurd h List.not_mem_nil⟩) aHS0) (
  aSa (s_iadd rfl dX11_goes_51) (
  aSa (s_istore (by decide) rfl dX11_goes_52) (
  aSa (s_iload rfl dX11_goes_54) (
  aSa (s_aload_n rfl rfl dX11_goes_56) (
  aSa (s_getf (T := TX11) rfl (by decide) (by decide) in_X11 q1963 (Or.inl rfl) rfl dX11_goes_57) (
  aSa (s_cle (by decide) rfl dX11_goes_60) (
  aSa (s_aload_n rfl rfl dX11_goes_63) (
  aSa (s_aload_n rfl rfl dX11_goes_64) (
  aSa (s_getf (T := TX11) rfl (by decide) (by decide) in_X11 q1964 (Or.inl rfl) rfl dX11_goes_65) (
  aSa (s_iload rfl dX11_goes_68) (
  aSa (s_mmin q1989 q330 q112 q331 rfl dX11_goes_70) (
  aSa (s_putf (T := TX11) (ty0 := tyX11) tyX11_ok nmX11 rfl (by decide) (by decide) in_X11 q1964 (Or.inl rfl) rfl rfl rfl dX11_goes_73) (
  aSa (s_iconst (v0 := 0) (by decide) rfl dX11_goes_76) (
  aSa (s_iret (n := 0) rfl dX11_goes_77) (
  aSa (s_aload_n rfl rfl dX11_goes_78) (
  aSa (s_getf (T := TX11) rfl (by decide) (by decide) in_X11 q1965 (Or.inl rfl) rfl dX11_goes_79) (
  aSa (s_getfN (T := TX1) rfl (by decide) (by decide) in_X1 q1137 rfl rfl dX11_goes_82) (
  aSa (s_aload_n rfl rfl dX11_goes_85) (
  aSa (s_callV (List.forall_mem_cons.mpr ⟨d_V rfl rfl q1990 q1471 q1472 q134 q1473 rfl (by decide +kernel) (by decide) rfl dX11_goes_86, fun _ h => absurd h List.not_mem_nil⟩) aHS0) (
  aSa (s_ifeq (by decide) rfl dX11_goes_89) (
  aSa (s_aload_n rfl rfl dX11_goes_92) (
  aSa (s_getf (T := TX11) rfl (by decide) (by decide) in_X11 q1962 (Or.inl rfl) rfl dX11_goes_93) (
  aSa (s_iload_n rfl rfl dX11_goes_96) (
  aSa (s_putfN (T := TX5) (ty0 := tyX5) tyX5_ok nmX5 rfl (by decide) (by decide) in_X5 q1112 rfl rfl rfl rfl dX11_goes_97) (
  aSa (s_iconst (v0 := 1) (by decide) rfl dX11_goes_100) (
  aSa (s_iret (n := 0) rfl dX11_goes_101) (
  aSa (s_iconst (v0 := 0) (by decide) rfl dX11_goes_102) (
  aSa (s_istore (by decide) rfl dX11_goes_103) (
  aSa (s_iload rfl dX11_goes_105) (
  aSa (s_iconst (v0 := 3) (by decide) rfl dX11_goes_107) (
  aSa (s_cgt (by decide) rfl dX11_goes_108) (
  aSa (s_aload_n rfl rfl dX11_goes_111) (
  aSa (s_iload rfl dX11_goes_112) (
  aSa (s_callV (List.forall_mem_cons.mpr ⟨d_V rfl rfl q1991 q1253 q1254 q133 q1255 rfl (by decide +kernel) (by decide) rfl dX11_goes_114, fun _ h => absurd h List.not_mem_nil⟩) aHS0) (
  aSa (s_istore (by decide) rfl dX11_goes_117) (
  aSa (s_iload rfl dX11_goes_119) (
  aSa (s_ifle (by decide) rfl dX11_goes_121) (
  aSa (s_iload rfl dX11_goes_124) (
  aSa (s_iload_n rfl rfl dX11_goes_126) (
  aSa (s_ceq (by decide) rfl dX11_goes_127) (
  aSa (s_aload_n rfl rfl dX11_goes_130) (
  aSa (s_getf (T := TX11) rfl (by decide) (by decide) in_X11 q1962 (Or.inl rfl) rfl dX11_goes_131) (
  aSa (s_getfN (T := TX5) rfl (by decide) (by decide) in_X5 q1119 rfl rfl dX11_goes_134) (
  aSa (s_iload rfl dX11_goes_137) (
  aSa (s_callS rfl q1992 q229 q109 q230 (by decide +kernel) (by decide) aHS0 rfl dX11_goes_139) (
  aSa (s_callV (List.forall_mem_cons.mpr ⟨d_F (x := ⟨"java/util/List", "add", "(Ljava/lang/Object;)Z"⟩) rfl rfl (aL1 q1994 (aL1 q253 (aL1 q255 (aL1 q106 aL0)))) q257 q251 q250 q256 q254 q252 (by decide +kernel) (by decide) rfl dX11_goes_142, fun _ h => absurd h List.not_mem_nil⟩) aHS0) (
  aSa (s_pop rfl dX11_goes_147) (
  aSa (s_aload_n rfl rfl dX11_goes_148) (
  aSa (s_aload_n rfl rfl dX11_goes_149) (
  aSa (s_iload rfl dX11_goes_150) (
  aSa (s_callV (List.forall_mem_cons.mpr ⟨d_V rfl rfl q1995 q1257 q1258 q133 q1259 rfl (by decide +kernel) (by decide) rfl dX11_goes_152, fun _ h => absurd h List.not_mem_nil⟩) aHS0) (
  aSa (s_iload_n rfl rfl dX11_goes_155) (
  aSa (s_aload_n rfl rfl dX11_goes_156) (
  aSa (s_getf (T := TX11) rfl (by decide) (by decide) in_X11 q1965 (Or.inl rfl) rfl dX11_goes_157) (
  aSa (s_getfN (T := TX1) rfl (by decide) (by decide) in_X1 q1137 rfl rfl dX11_goes_160) (
  aSa (s_getfN (T := TX4) rfl (by decide) (by decide) in_X4 q1085 rfl rfl dX11_goes_163) (
  aSa (s_iload rfl dX11_goes_166) (
  aSa (s_iald rfl dX11_goes_168) (
  aSa (s_iadd rfl dX11_goes_169) (
  aSa (s_iconst (v0 := 3) (by decide) rfl dX11_goes_170) (
  aSa (s_iload rfl dX11_goes_171) (
  aSa (s_isub rfl dX11_goes_173) (
  aSa (s_callV (List.forall_mem_cons.mpr ⟨d_V rfl rfl q1983 q1985 qs38 q156 q1986 rfl (by decide +kernel) (by decide) rfl dX11_goes_174, fun _ h => absurd h List.not_mem_nil⟩) aHS0) (
  aSa (s_ifeq (by decide) rfl dX11_goes_177) (
  aSa (s_iconst (v0 := 1) (by decide) rfl dX11_goes_180) (
  aSa (s_iret (n := 0) rfl dX11_goes_181) (
  aSa (s_aload_n rfl rfl dX11_goes_182) (
  aSa (s_getf (T := TX11) rfl (by decide) (by decide) in_X11 q1962 (Or.inl rfl) rfl dX11_goes_183) (
  aSa (s_getfN (T := TX5) rfl (by decide) (by decide) in_X5 q1119 rfl rfl dX11_goes_186) (
  aSa (s_aload_n rfl rfl dX11_goes_189) (
  aSa (s_getf (T := TX11) rfl (by decide) (by decide) in_X11 q1962 (Or.inl rfl) rfl dX11_goes_190) (
  aSa (s_getfN (T := TX5) rfl (by decide) (by decide) in_X5 q1119 rfl rfl dX11_goes_193) (
  aSa (s_callV (List.forall_mem_cons.mpr ⟨d_F (x := ⟨"java/util/List", "size", "()I"⟩) rfl rfl (aL1 q1997 (aL1 q681 (aL1 q683 (aL1 q106 aL0)))) q685 q680 q679 q684 q682 q252 (by decide +kernel) (by decide) rfl dX11_goes_196, fun _ h => absurd h List.not_mem_nil⟩) aHS0) (
  aSa (s_iconst (v0 := 1) (by decide) rfl dX11_goes_201) (
  aSa (s_isub rfl dX11_goes_202) (
  aSa (s_callV (List.forall_mem_cons.mpr ⟨d_F (x := ⟨"java/util/List", "remove", "(I)Ljava/lang/Object;"⟩) rfl rfl (aL1 q1999 (aL1 q1033 (aL1 q1035 (aL1 q106 aL0)))) q1037 q1032 q1031 q1036 q1034 q252 (by decide +kernel) (by decide) rfl dX11_goes_203, fun _ h => absurd h List.not_mem_nil⟩) aHS0) (
  aSa (s_cast q2000 (List.forall_mem_cons.mpr ⟨⟨_, rfl, (Or.inl rfl)⟩, List.forall_mem_cons.mpr ⟨⟨_, rfl, (Or.inl rfl)⟩, fun _ h => absurd h List.not_mem_nil⟩⟩) (fun t h => absurd h List.not_mem_nil) rfl dX11_goes_208) (
  aSa (s_callV (List.forall_mem_cons.mpr ⟨d_V rfl rfl q2001 q713 q714 q109 q715 rfl (by decide +kernel) (by decide) rfl dX11_goes_211, List.forall_mem_cons.mpr ⟨d_V rfl rfl q2001 q713 q714 q109 q715 rfl (by decide +kernel) (by decide) rfl dX11_goes_211, fun _ h => absurd h List.not_mem_nil⟩⟩) aHS0) (
  aSa (s_istore (by decide) rfl dX11_goes_214) (
  aSa (s_iinc (by decide) rfl dX11_goes_216) (
  aSa (s_goto (n := 0) (by decide) dX11_goes_219) (
  aSa (s_iconst (v0 := 0) (by decide) rfl dX11_goes_222) (
  aSa (s_iret (n := 0) rfl dX11_goes_223) (
  aSn))))))))))))))))))))))))))))))))))))))))))))))))))))))))))))))))))))))))))))))))))))))))))))))))))))))))))))
theorem sn191 : SndL "Slidingtray$Depth" "search" cX11_search 3 (Option.some (Jvm.ClassFile.FieldType.object "Slidingtray$Found")) [] T191 := aSa (s_aload_n rfl rfl dX11_search_0) (
  aSa (s_aload_n rfl rfl dX11_search_1) (
  aSa (s_getf (T := TX11) rfl (by decide) (by decide) in_X11 q1965 (Or.inl rfl) rfl dX11_search_2) (
  aSa (s_aload_n rfl rfl dX11_search_5) (
  aSa (s_aload_n rfl rfl dX11_search_6) (
  aSa (s_getf (T := TX11) rfl (by decide) (by decide) in_X11 q1961 (Or.inl rfl) rfl dX11_search_7) (
  aSa (s_callV (List.forall_mem_cons.mpr ⟨d_VN rfl rfl q1981 q1266 qs17 q102 q1267 (by decide +kernel) (by decide) rfl dX11_search_10, fun _ h => absurd h List.not_mem_nil⟩) aHS0) (
  aSa (s_putf (T := TX11) (ty0 := tyX11) tyX11_ok nmX11 rfl (by decide) (by decide) in_X11 q1963 (Or.inl rfl) rfl rfl rfl dX11_search_13) (
  aSa (s_iconst (v0 := 0) (by decide) rfl dX11_search_16) (
  aSa (s_istore_n rfl (by decide) rfl dX11_search_17) (
  aSa (s_iload_n rfl rfl dX11_search_18) (
  aSa (s_ifne (by decide) rfl dX11_search_19) (
  aSa (s_aload_n rfl rfl dX11_search_22) (
  aSa (s_getf (T := TX11) rfl (by decide) (by decide) in_X11 q1962 (Or.inl rfl) rfl dX11_search_23) (
  aSa (s_dup rfl dX11_search_26) (
  aSa (s_getfN (T := TX5) rfl (by decide) (by decide) in_X5 q1116 rfl rfl dX11_search_27) (
  aSa (s_iconst (v0 := 1) (by decide) rfl dX11_search_30) (
  aSa (s_iadd rfl dX11_search_31) (
  aSa (s_putfN (T := TX5) (ty0 := tyX5) tyX5_ok nmX5 rfl (by decide) (by decide) in_X5 q1116 rfl rfl rfl rfl dX11_search_32) (
  aSa (s_aload_n rfl rfl dX11_search_35) (
  aSa (s_ldc q1982 rfl dX11_search_36) (
  aSa (s_putf (T := TX11) (ty0 := tyX11) tyX11_ok nmX11 rfl (by decide) (by decide) in_X11 q1964 (Or.inl rfl) rfl rfl rfl dX11_search_38) (
  aSa (s_aload_n rfl rfl dX11_search_41) (
  aSa (s_aload_n rfl rfl dX11_search_42) (
  aSa (s_iconst (v0 := 0) (by decide) rfl dX11_search_43) (
  aSa (s_iconst (v0 := (-1)) (by decide) rfl dX11_search_44) (
  aSa (s_callV (List.forall_mem_cons.mpr ⟨d_V rfl rfl q1983 q1985 qs38 q156 q1986 rfl (by decide +kernel) (by decide) rfl dX11_search_45, fun _ h => absurd h List.not_mem_nil⟩) aHS0) (
  aSa (s_ifne (by decide) rfl dX11_search_48) (
  aSa (s_aload_n rfl rfl dX11_search_51) (
  aSa (s_getf (T := TX11) rfl (by decide) (by decide) in_X11 q1964 (Or.inl rfl) rfl dX11_search_52) (
  aSa (s_ldc q1982 rfl dX11_search_55) (
  aSa (s_cne (by decide) rfl dX11_search_57) (
  aSa (s_iconst (v0 := 1) (by decide) rfl dX11_search_60) (
  aSa (s_goto (n := 0) (by decide) dX11_search_61) (
  aSa (s_iconst (v0 := 0) (by decide) rfl dX11_search_64) (
  aSa (s_istore_n rfl (by decide) rfl dX11_search_65) (
  aSa (s_aload_n rfl rfl dX11_search_66) (
  aSa (s_aload_n rfl rfl dX11_search_67) (
  aSa (s_getf (T := TX11) rfl (by decide) (by decide) in_X11 q1964 (Or.inl rfl) rfl dX11_search_68) (
  aSa (s_putf (T := TX11) (ty0 := tyX11) tyX11_ok nmX11 rfl (by decide) (by decide) in_X11 q1963 (Or.inl rfl) rfl rfl rfl dX11_search_71) (
  aSa (s_goto (n := 0) (by decide) dX11_search_74) (
  aSa (s_aload_n rfl rfl dX11_search_77) (
  aSa (s_getf (T := TX11) rfl (by decide) (by decide) in_X11 q1962 (Or.inl rfl) rfl dX11_search_78) (
  aSa (s_aret (n := 0) rfl (Or.inl ⟨_, rfl⟩) dX11_search_81) (
  aSn))))))))))))))))))))))))))))))))))))))))))))
theorem sn192 : SndL "Slidingtray$Found" "<init>" cX5_init 1 (Option.none : Option Jvm.ClassFile.FieldType) [] T192 := aSa (s_aload_n rfl rfl dX5_init_0) (
  aSa (s_oinit q1108 q167 q168 rfl dX5_init_1) (
  aSa (s_aload_n rfl rfl dX5_init_4) (
  aSa (s_iconst (v0 := (-1)) (by decide) rfl dX5_init_5) (
  aSa (s_putf (T := TX5) (ty0 := tyX5) tyX5_ok nmX5 rfl (by decide) (by decide) in_X5 q1111 (Or.inl rfl) rfl rfl rfl dX5_init_6) (
  aSa (s_aload_n rfl rfl dX5_init_9) (
  aSa (s_new (T := TJ2) (ty0 := tyJ2) tyJ2_ok rfl (by decide) in_J2 q1109 q176 q106 (by decide) rfl dX5_init_10) (
  aSa (s_dup rfl dX5_init_13) (
  aSa (s_callI rfl q1110 q178 q106 q179 (by decide +kernel) (by decide) rfl aHS0 rfl dX5_init_14) (
  aSa (s_putfF (T := TX5) (ty0 := tyX5) tyX5_ok nmX5 rfl (by decide) (by decide) in_X5 q1118 (Or.inl rfl) rfl rfl rfl rfl rfl dX5_init_17) (
  aSa (s_ret (n := 0) rfl dX5_init_20) (
  aSn)))))))))))
theorem sn193 : SndL "Slidingtray$Image" "<init>" cX7_init 3 (Option.none : Option Jvm.ClassFile.FieldType) [] T193 := aSa (s_aload_n rfl rfl dX7_init_0) (
  aSa (s_oinit q2434 q167 q168 rfl dX7_init_1) (
  aSa (s_aload_n rfl rfl dX7_init_4) (
  aSa (s_aload_n rfl rfl dX7_init_5) (
  aSa (s_putfF (T := TX7) (ty0 := tyX7) tyX7_ok nmX7 rfl (by decide) (by decide) in_X7 q2435 (Or.inl rfl) rfl rfl rfl rfl rfl dX7_init_6) (
  aSa (s_aload_n rfl rfl dX7_init_9) (
  aSa (s_aload_n rfl rfl dX7_init_10) (
  aSa (s_putfF (T := TX7) (ty0 := tyX7) tyX7_ok nmX7 rfl (by decide) (by decide) in_X7 q2437 (Or.inl rfl) rfl rfl rfl rfl rfl dX7_init_11) (
  aSa (s_ret (n := 0) rfl dX7_init_14) (
  aSn)))))))))
theorem sn194 : SndL "Slidingtray$Lie" "<init>" cX3_init 4 (Option.none : Option Jvm.ClassFile.FieldType) [] T194 := aSa (s_aload_n rfl rfl dX3_init_0) (
  aSa (s_oinit q1050 q167 q168 rfl dX3_init_1) (
  aSa (s_aload_n rfl rfl dX3_init_4) (
  aSa (s_aload_n rfl rfl dX3_init_5) (
  aSa (s_putfF (T := TX3) (ty0 := tyX3) tyX3_ok nmX3 rfl (by decide) (by decide) in_X3 q1051 (Or.inl rfl) rfl rfl rfl rfl rfl dX3_init_6) (
  aSa (s_aload_n rfl rfl dX3_init_9) (
  aSa (s_aload_n rfl rfl dX3_init_10) (
  aSa (s_putfF (T := TX3) (ty0 := tyX3) tyX3_ok nmX3 rfl (by decide) (by decide) in_X3 q1053 (Or.inl rfl) rfl rfl rfl rfl rfl dX3_init_11) (
  aSa (s_aload_n rfl rfl dX3_init_14) (
  aSa (s_iload_n rfl rfl dX3_init_15) (
  aSa (s_putfF (T := TX3) (ty0 := tyX3) tyX3_ok nmX3 rfl (by decide) (by decide) in_X3 q1057 (Or.inl rfl) rfl rfl rfl rfl rfl dX3_init_16) (
  aSa (s_ret (n := 0) rfl dX3_init_19) (
  aSn))))))))))))
theorem sn195 : SndL "Slidingtray$Lie" "equals" cX3_equals 3 (Option.some Jvm.ClassFile.FieldType.boolean) [] T195 := aSa (s_aload_n rfl rfl dX3_equals_0) (
  aSa (s_inst q751 (List.forall_mem_cons.mpr ⟨⟨_, rfl, (Or.inl rfl)⟩, fun _ h => absurd h List.not_mem_nil⟩) rfl dX3_equals_1) (
  aSa (s_ifeq (by decide) rfl dX3_equals_4) (
  aSa (s_aload_n rfl rfl dX3_equals_7) (
  aSa (s_cast q751 (List.forall_mem_cons.mpr ⟨⟨_, rfl, (Or.inl rfl)⟩, fun _ h => absurd h List.not_mem_nil⟩) (fun t h => absurd h List.not_mem_nil) rfl dX3_equals_8) (
  aSa (s_astore_n rfl (by decide) rfl dX3_equals_11) (
  aSa (s_aload_n rfl rfl dX3_equals_12) (
  aSa (s_getf (T := TX3) rfl (by decide) (by decide) in_X3 q1053 (Or.inl rfl) rfl dX3_equals_13) (
  aSa (s_aload_n rfl rfl dX3_equals_16) (
  aSa (s_getf (T := TX3) rfl (by decide) (by decide) in_X3 q1053 (Or.inl rfl) rfl dX3_equals_17) (
  aSa (s_callS rfl q752 q753 q113 q754 (by decide +kernel) (by decide) aHS0 rfl dX3_equals_20) (
  aSa (s_ifeq (by decide) rfl dX3_equals_23) (
  aSa (s_iconst (v0 := 1) (by decide) rfl dX3_equals_26) (
  aSa (s_goto (n := 0) (by decide) dX3_equals_27) (
  aSa (s_iconst (v0 := 0) (by decide) rfl dX3_equals_30) (
  aSa (s_iret (n := 0) rfl dX3_equals_31) (
  aSn))))))))))))))))
theorem sn196 : SndL "Slidingtray$Lie" "inversions" cX3_inversions 3 (Option.some Jvm.ClassFile.FieldType.int) [] T196 := aSa (s_iconst (v0 := 0) (by decide) rfl dX3_inversions_0) (
  aSa (s_istore_n rfl (by decide) rfl dX3_inversions_1) (
  aSa (s_iconst (v0 := 0) (by decide) rfl dX3_inversions_2) (
  aSa (s_istore_n rfl (by decide) rfl dX3_inversions_3) (
  aSa (s_iload_n rfl rfl dX3_inversions_4) (
  aSa (s_aload_n rfl rfl dX3_inversions_5) (
  aSa (s_getf (T := TX3) rfl (by decide) (by decide) in_X3 q1053 (Or.inl rfl) rfl dX3_inversions_6) (
  aSa (s_alen rfl dX3_inversions_9) (
  aSa (s_cge (by decide) rfl dX3_inversions_10) (
  aSa (s_iload_n rfl rfl dX3_inversions_13) (
  aSa (s_aload_n rfl rfl dX3_inversions_14) (
  aSa (s_iload_n rfl rfl dX3_inversions_15) (
  aSa (s_callV (List.forall_mem_cons.mpr ⟨d_V rfl rfl q1202 q1204 qs12 q133 q1205 rfl (by decide +kernel) (by decide) rfl dX3_inversions_16, fun _ h => absurd h List.not_mem_nil⟩) aHS0) (
  aSa (s_iadd rfl dX3_inversions_19) (
  aSa (s_istore_n rfl (by decide) rfl dX3_inversions_20) (
  aSa (s_iinc (by decide) rfl dX3_inversions_21) (
  aSa (s_goto (n := 0) (by decide) dX3_inversions_24) (
  aSa (s_iload_n rfl rfl dX3_inversions_27) (
  aSa (s_iret (n := 0) rfl dX3_inversions_28) (
  aSn)))))))))))))))))))
theorem sn197 : SndL "Slidingtray$Lie" "lessBehind" cX3_lessBehind 4 (Option.some Jvm.ClassFile.FieldType.int) [] T197 := aSa (s_iconst (v0 := 0) (by decide) rfl dX3_lessBehind_0) (
  aSa (s_istore_n rfl (by decide) rfl dX3_lessBehind_1) (
  aSa (s_iload_n rfl rfl dX3_lessBehind_2) (
  aSa (s_iconst (v0 := 1) (by decide) rfl dX3_lessBehind_3) (
  aSa (s_iadd rfl dX3_lessBehind_4) (
  aSa (s_istore_n rfl (by decide) rfl dX3_lessBehind_5) (
  aSa (s_iload_n rfl rfl dX3_lessBehind_6) (
  aSa (s_aload_n rfl rfl dX3_lessBehind_7) (
  aSa (s_getf (T := TX3) rfl (by decide) (by decide) in_X3 q1053 (Or.inl rfl) rfl dX3_lessBehind_8) (
  aSa (s_alen rfl dX3_lessBehind_11) (
  aSa (s_cge (by decide) rfl dX3_lessBehind_12) (
  aSa (s_iload_n rfl rfl dX3_lessBehind_15) (
  aSa (s_aload_n rfl rfl dX3_lessBehind_16) (
  aSa (s_iload_n rfl rfl dX3_lessBehind_17) (
  aSa (s_callV (List.forall_mem_cons.mpr ⟨d_V rfl rfl q1206 q1208 qs13 q133 q1209 rfl (by decide +kernel) (by decide) rfl dX3_lessBehind_18, fun _ h => absurd h List.not_mem_nil⟩) aHS0) (
  aSa (s_aload_n rfl rfl dX3_lessBehind_21) (
  aSa (s_iload_n rfl rfl dX3_lessBehind_22) (
  aSa (s_callV (List.forall_mem_cons.mpr ⟨d_V rfl rfl q1206 q1208 qs13 q133 q1209 rfl (by decide +kernel) (by decide) rfl dX3_lessBehind_23, fun _ h => absurd h List.not_mem_nil⟩) aHS0) (
  aSa (s_cge (by decide) rfl dX3_lessBehind_26) (
  aSa (s_iconst (v0 := 1) (by decide) rfl dX3_lessBehind_29) (
  aSa (s_goto (n := 0) (by decide) dX3_lessBehind_30) (
  aSa (s_iconst (v0 := 0) (by decide) rfl dX3_lessBehind_33) (
  aSa (s_iadd rfl dX3_lessBehind_34) (
  aSa (s_istore_n rfl (by decide) rfl dX3_lessBehind_35) (
  aSa (s_iinc (by decide) rfl dX3_lessBehind_36) (
  aSa (s_goto (n := 0) (by decide) dX3_lessBehind_39) (
  aSa (s_iload_n rfl rfl dX3_lessBehind_42) (
  aSa (s_iret (n := 0) rfl dX3_lessBehind_43) (
  aSn))))))))))))))))))))))))))))
theorem sn198 : SndL "Slidingtray$Lie" "moved" cX3_moved 5 (Option.some (Jvm.ClassFile.FieldType.object "Slidingtray$Lie")) [] T198 := aSa (s_aload_n rfl rfl dX3_moved_0) (
  aSa (s_getf (T := TX3) rfl (by decide) (by decide) in_X3 q1051 (Or.inl rfl) rfl dX3_moved_1) (
  aSa (s_getfN (T := TX2) rfl (by decide) (by decide) in_X2 q995 rfl rfl dX3_moved_4) (
  aSa (s_aload_n rfl rfl dX3_moved_7) (
  aSa (s_getf (T := TX3) rfl (by decide) (by decide) in_X3 q1057 (Or.inl rfl) rfl dX3_moved_8) (
  aSa (s_aald rfl dX3_moved_11) (
  aSa (s_iload_n rfl rfl dX3_moved_12) (
  aSa (s_iald rfl dX3_moved_13) (
  aSa (s_istore_n rfl (by decide) rfl dX3_moved_14) (
  aSa (s_aload_n rfl rfl dX3_moved_15) (
  aSa (s_getf (T := TX3) rfl (by decide) (by decide) in_X3 q1053 (Or.inl rfl) rfl dX3_moved_16) (
  aSa (s_alen rfl dX3_moved_19) (
  aSa (s_newa_int q915 rfl dX3_moved_20) (
  aSa (s_astore_n rfl (by decide) rfl dX3_moved_22) (
  aSa (s_iconst (v0 := 0) (by decide) rfl dX3_moved_23) (
  aSa (s_istore (by decide) rfl dX3_moved_24) (
  aSa (s_iload rfl dX3_moved_26) (
  aSa (s_aload_n rfl rfl dX3_moved_28) (
  aSa (s_alen rfl dX3_moved_29) (
  aSa (s_cge (by decide) rfl dX3_moved_30) (
  aSa (s_aload_n rfl rfl dX3_moved_33) (
  aSa (s_iload rfl dX3_moved_34) (
  aSa (s_iload rfl dX3_moved_36) (
  aSa (s_iload_n rfl rfl dX3_moved_38) (
  aSa (s_cne (by decide) rfl dX3_moved_39) (
  aSa (s_iconst (v0 := 0) (by decide) rfl dX3_moved_42) (
  aSa (s_goto (n := 0) (by decide) dX3_moved_43) (
  aSa (s_iload rfl dX3_moved_46) (
  aSa (s_aload_n rfl rfl dX3_moved_48) (
  aSa (s_getf (T := TX3) rfl (by decide) (by decide) in_X3 q1057 (Or.inl rfl) rfl dX3_moved_49) (
  aSa (s_cne (by decide) rfl dX3_moved_52) (
  aSa (s_aload_n rfl rfl dX3_moved_55) (
  aSa (s_getf (T := TX3) rfl (by decide) (by decide) in_X3 q1053 (Or.inl rfl) rfl dX3_moved_56) (
  aSa (s_iload_n rfl rfl dX3_moved_59) (
  aSa (s_iald rfl dX3_moved_60) (
  aSa (s_goto (n := 0) (by decide) dX3_moved_61) (
  aSa (s_aload_n rfl rfl dX3_moved_64) (
  aSa (s_getf (T := TX3) rfl (by decide) (by decide) in_X3 q1053 (Or.inl rfl) rfl dX3_moved_65) (
  aSa (s_iload rfl dX3_moved_68) (
  aSa (s_iald rfl dX3_moved_70) (
  aSa (s_iast rfl dX3_moved_71) (
  aSa (s_iinc (by decide) rfl dX3_moved_72) (
  aSa (s_goto (n := 0) (by decide) dX3_moved_75) (
  aSa (s_new (T := TX3) (ty0 := tyX3) tyX3_ok rfl (by decide) in_X3 q751 q1046 q133 (by decide) rfl dX3_moved_78) (
  aSa (s_dup rfl dX3_moved_81) (
  aSa (s_aload_n rfl rfl dX3_moved_82) (
  aSa (s_getf (T := TX3) rfl (by decide) (by decide) in_X3 q1051 (Or.inl rfl) rfl dX3_moved_83) (
  aSa (s_aload_n rfl rfl dX3_moved_86) (
  aSa (s_iload_n rfl rfl dX3_moved_87) (
  aSa (s_callI rfl q1047 q1048 q133 q1049 (by decide +kernel) (by decide) rfl aHS0 rfl dX3_moved_88) (
  aSa (s_aret (n := 0) rfl (Or.inl ⟨_, rfl⟩) dX3_moved_91) (
  aSn)))))))))))))))))))))))))))))))))))))))))))))))))))
theorem sn199 : SndL "Slidingtray$Lie" "moves" cX3_moves 3 (Option.some Jvm.ClassFile.FieldType.int) [] T199 := aSa (s_aload_n rfl rfl dX3_moves_0) (
  aSa (s_getf (T := TX3) rfl (by decide) (by decide) in_X3 q1051 (Or.inl rfl) rfl dX3_moves_1) (
  aSa (s_getfN (T := TX2) rfl (by decide) (by decide) in_X2 q995 rfl rfl dX3_moves_4) (
  aSa (s_aload_n rfl rfl dX3_moves_7) (
  aSa (s_getf (T := TX3) rfl (by decide) (by decide) in_X3 q1057 (Or.inl rfl) rfl dX3_moves_8) (
  aSa (s_aald rfl dX3_moves_11) (
  aSa (s_iload_n rfl rfl dX3_moves_12) (
  aSa (s_iald rfl dX3_moves_13) (
  aSa (s_istore_n rfl (by decide) rfl dX3_moves_14) (
  aSa (s_iload_n rfl rfl dX3_moves_15) (
  aSa (s_iconst (v0 := (-1)) (by decide) rfl dX3_moves_16) (
  aSa (s_cne (by decide) rfl dX3_moves_17) (
  aSa (s_iconst (v0 := 0) (by decide) rfl dX3_moves_20) (
  aSa (s_goto (n := 0) (by decide) dX3_moves_21) (
  aSa (s_aload_n rfl rfl dX3_moves_24) (
  aSa (s_getf (T := TX3) rfl (by decide) (by decide) in_X3 q1053 (Or.inl rfl) rfl dX3_moves_25) (
  aSa (s_iload_n rfl rfl dX3_moves_28) (
  aSa (s_iald rfl dX3_moves_29) (
  aSa (s_iret (n := 0) rfl dX3_moves_30) (
  aSn)))))))))))))))))))
theorem sn200 : SndL "Slidingtray$Lie" "of" cX3_of 11 (Option.some (Jvm.ClassFile.FieldType.object "Slidingtray$Lie")) [] T200 := aSa (s_new (T := TJ2) (ty0 := tyJ2) tyJ2_ok rfl (by decide) in_J2 q1020 q176 q106 (by decide) rfl dX3_of_0) (
  aSa (s_dup rfl dX3_of_3) (
  aSa (s_callI rfl q1021 q178 q106 q179 (by decide +kernel) (by decide) rfl aHS0 rfl dX3_of_4) (
  aSa (s_astore_n rfl (by decide) rfl dX3_of_7) (
  aSa (s_lconst (by decide) rfl dX3_of_8) (
  aSa (s_lstore (by decide) rfl dX3_of_9) (
  aSa (s_iconst (v0 := 1) (by decide) rfl dX3_of_11) (
  aSa (s_istore (by decide) rfl dX3_of_12) (
  aSa (s_iload rfl dX3_of_14) (
  aSa (s_aload_n rfl rfl dX3_of_16) (
  aSa (s_callV (List.forall_mem_cons.mpr ⟨d_V rfl rfl q1022 q1023 q1024 q103 q1025 rfl (by decide +kernel) (by decide) rfl dX3_of_17, fun _ h => absurd h List.not_mem_nil⟩) aHS0) (
  aSa (s_cge (by decide) rfl dX3_of_20) (
  aSa (s_aload_n rfl rfl dX3_of_23) (
  aSa (s_iload rfl dX3_of_24) (
  aSa (s_callS rfl q1026 q229 q109 q230 (by decide +kernel) (by decide) aHS0 rfl dX3_of_26) (
  aSa (s_callV (List.forall_mem_cons.mpr ⟨d_F (x := ⟨"java/util/List", "add", "(Ljava/lang/Object;)Z"⟩) rfl rfl (aL1 q1028 (aL1 q253 (aL1 q255 (aL1 q106 aL0)))) q257 q251 q250 q256 q254 q252 (by decide +kernel) (by decide) rfl dX3_of_29, fun _ h => absurd h List.not_mem_nil⟩) aHS0) (
  aSa (s_pop rfl dX3_of_34) (
  aSa (s_lload rfl dX3_of_35) (
  aSa (s_iload rfl dX3_of_37) (
  aSa (s_i2l rfl dX3_of_39) (
  aSa (s_lmul rfl dX3_of_40) (
  aSa (s_lstore (by decide) rfl dX3_of_41) (
  aSa (s_iinc (by decide) rfl dX3_of_43) (
  aSa (s_goto (n := 0) (by decide) dX3_of_46) (
  aSa (s_aload_n rfl rfl dX3_of_49) (
  aSa (s_iconst (v0 := 0) (by decide) rfl dX3_of_50) (
  aSa (s_callS rfl q1026 q229 q109 q230 (by decide +kernel) (by decide) aHS0 rfl dX3_of_51) (
  aSa (s_callV (List.forall_mem_cons.mpr ⟨d_F (x := ⟨"java/util/List", "add", "(Ljava/lang/Object;)Z"⟩) rfl rfl (aL1 q1028 (aL1 q253 (aL1 q255 (aL1 q106 aL0)))) q257 q251 q250 q256 q254 q252 (by decide +kernel) (by decide) rfl dX3_of_54, fun _ h => absurd h List.not_mem_nil⟩) aHS0) (
  aSa (s_pop rfl dX3_of_59) (
  aSa (s_aload_n rfl rfl dX3_of_60) (
  aSa (s_callV (List.forall_mem_cons.mpr ⟨d_V rfl rfl q1022 q1023 q1024 q103 q1025 rfl (by decide +kernel) (by decide) rfl dX3_of_61, fun _ h => absurd h List.not_mem_nil⟩) aHS0) (
  aSa (s_newa_int q915 rfl dX3_of_64) (
  aSa (s_astore (by decide) rfl dX3_of_66) (
  aSa (s_iconst (v0 := 0) (by decide) rfl dX3_of_68) (
  aSa (s_istore (by decide) rfl dX3_of_69) (
  aSa (s_lload_n rfl rfl dX3_of_71) (
  aSa (s_lstore (by decide) rfl dX3_of_72) (
  aSa (s_iconst (v0 := 0) (by decide) rfl dX3_of_74) (
  aSa (s_istore (by decide) rfl dX3_of_75) (
  aSa (s_iload rfl dX3_of_77) (
  aSa (s_aload rfl dX3_of_79) (
  aSa (s_alen rfl dX3_of_81) (
  aSa (s_cge (by decide) rfl dX3_of_82) (
  aSa (s_aload rfl dX3_of_85) (
  aSa (s_iload rfl dX3_of_87) (
  aSa (s_aload_n rfl rfl dX3_of_89) (
  aSa (s_lload rfl dX3_of_90) (
  aSa (s_lload rfl dX3_of_92) (
  aSa (s_ldiv rfl dX3_of_94) (
  aSa (s_l2i rfl dX3_of_95) (
  aSa (s_callV (List.forall_mem_cons.mpr ⟨d_F (x := ⟨"java/util/List", "remove", "(I)Ljava/lang/Object;"⟩) rfl rfl (aL1 q1030 (aL1 q1033 (aL1 q1035 (aL1 q106 aL0)))) q1037 q1032 q1031 q1036 q1034 q252 (by decide +kernel) (by decide) rfl dX3_of_96, fun _ h => absurd h List.not_mem_nil⟩) aHS0) (
  aSa (s_cast q1043 (List.forall_mem_cons.mpr ⟨⟨_, rfl, (Or.inl rfl)⟩, List.forall_mem_cons.mpr ⟨⟨_, rfl, (Or.inl rfl)⟩, fun _ h => absurd h List.not_mem_nil⟩⟩) (fun t h => absurd h List.not_mem_nil) rfl dX3_of_101) (
  aSa (s_callV (List.forall_mem_cons.mpr ⟨d_V rfl rfl q1044 q713 q714 q109 q715 rfl (by decide +kernel) (by decide) rfl dX3_of_104, List.forall_mem_cons.mpr ⟨d_V rfl rfl q1044 q713 q714 q109 q715 rfl (by decide +kernel) (by decide) rfl dX3_of_104, fun _ h => absurd h List.not_mem_nil⟩⟩) aHS0) (
  aSa (s_iast rfl dX3_of_107) (
  aSa (s_lload rfl dX3_of_108) (
  aSa (s_lload rfl dX3_of_110) (
  aSa (s_lrem rfl dX3_of_112) (
  aSa (s_lstore (by decide) rfl dX3_of_113) (
  aSa (s_lload rfl dX3_of_115) (
  aSa (s_iconst (v0 := 1) (by decide) rfl dX3_of_117) (
  aSa (s_aload rfl dX3_of_118) (
  aSa (s_alen rfl dX3_of_120) (
  aSa (s_iconst (v0 := 1) (by decide) rfl dX3_of_121) (
  aSa (s_isub rfl dX3_of_122) (
  aSa (s_iload rfl dX3_of_123) (
  aSa (s_isub rfl dX3_of_125) (
  aSa (s_mmax q1045 q274 q112 q275 rfl dX3_of_126) (
  aSa (s_i2l rfl dX3_of_129) (
  aSa (s_ldiv rfl dX3_of_130) (
  aSa (s_lstore (by decide) rfl dX3_of_131) (
  aSa (s_aload rfl dX3_of_133) (
  aSa (s_iload rfl dX3_of_135) (
  aSa (s_iald rfl dX3_of_137) (
  aSa (s_ifne (by decide) rfl dX3_of_138) (
  aSa (s_iload rfl dX3_of_141) (
  aSa (s_goto (n := 0) (by decide) dX3_of_143) (
  aSa (s_iload rfl dX3_of_146) (
  aSa (s_istore (by decide) rfl dX3_of_148) (
  aSa (s_iinc (by decide) rfl dX3_of_150) (
  aSa (s_goto (n := 0) (by decide) dX3_of_153) (
  aSa (s_new (T := TX3) (ty0 := tyX3) tyX3_ok rfl (by decide) in_X3 q751 q1046 q133 (by decide) rfl dX3_of_156) (
  aSa (s_dup rfl dX3_of_159) (
  aSa (s_aload_n rfl rfl dX3_of_160) (
  aSa (s_aload rfl dX3_of_161) (
  aSa (s_iload rfl dX3_of_163) (
  aSa (s_callI rfl q1047 q1048 q133 q1049 (by decide +kernel) (by decide) rfl aHS0 rfl dX3_of_165) (
  aSa (s_aret (n := 0) rfl (Or.inl ⟨_, rfl⟩) dX3_of_168) (
  aSn)))))))))))))))))))))))))))))))))))))))))))))))))))))))))))))))))))))))))))))))))))))))
theorem sn201 : SndL "Slidingtray$Lie" "openOf" cX3_openOf 3 (Option.some Jvm.ClassFile.FieldType.int) [] T201 := aSa (s_iconst (v0 := 0) (by decide) rfl dX3_openOf_0) (
  aSa (s_istore_n rfl (by decide) rfl dX3_openOf_1) (
  aSa (s_aload_n rfl rfl dX3_openOf_2) (
  aSa (s_getf (T := TX3) rfl (by decide) (by decide) in_X3 q1053 (Or.inl rfl) rfl dX3_openOf_3) (
  aSa (s_iload_n rfl rfl dX3_openOf_6) (
  aSa (s_iald rfl dX3_openOf_7) (
  aSa (s_iload_n rfl rfl dX3_openOf_8) (
  aSa (s_ceq (by decide) rfl dX3_openOf_9) (
  aSa (s_iinc (by decide) rfl dX3_openOf_12) (
  aSa (s_goto (n := 0) (by decide) dX3_openOf_15) (
  aSa (s_iload_n rfl rfl dX3_openOf_18) (
  aSa (s_iret (n := 0) rfl dX3_openOf_19) (
  aSn))))))))))))
theorem sn202 : SndL "Slidingtray$Lie" "rank" cX3_rank 4 (Option.some Jvm.ClassFile.FieldType.long) [] T202 := aSa (s_lconst (by decide) rfl dX3_rank_0) (
  aSa (s_lstore_n rfl (by decide) rfl dX3_rank_1) (
  aSa (s_iconst (v0 := 0) (by decide) rfl dX3_rank_2) (
  aSa (s_istore_n rfl (by decide) rfl dX3_rank_3) (
  aSa (s_iload_n rfl rfl dX3_rank_4) (
  aSa (s_aload_n rfl rfl dX3_rank_5) (
  aSa (s_getf (T := TX3) rfl (by decide) (by decide) in_X3 q1053 (Or.inl rfl) rfl dX3_rank_6) (
  aSa (s_alen rfl dX3_rank_9) (
  aSa (s_cge (by decide) rfl dX3_rank_10) (
  aSa (s_lload_n rfl rfl dX3_rank_13) (
  aSa (s_aload_n rfl rfl dX3_rank_14) (
  aSa (s_getf (T := TX3) rfl (by decide) (by decide) in_X3 q1053 (Or.inl rfl) rfl dX3_rank_15) (
  aSa (s_alen rfl dX3_rank_18) (
  aSa (s_iload_n rfl rfl dX3_rank_19) (
  aSa (s_isub rfl dX3_rank_20) (
  aSa (s_i2l rfl dX3_rank_21) (
  aSa (s_lmul rfl dX3_rank_22) (
  aSa (s_aload_n rfl rfl dX3_rank_23) (
  aSa (s_iload_n rfl rfl dX3_rank_24) (
  aSa (s_callV (List.forall_mem_cons.mpr ⟨d_V rfl rfl q1202 q1204 qs12 q133 q1205 rfl (by decide +kernel) (by decide) rfl dX3_rank_25, fun _ h => absurd h List.not_mem_nil⟩) aHS0) (
  aSa (s_i2l rfl dX3_rank_28) (
  aSa (s_ladd rfl dX3_rank_29) (
  aSa (s_lstore_n rfl (by decide) rfl dX3_rank_30) (
  aSa (s_iinc (by decide) rfl dX3_rank_31) (
  aSa (s_goto (n := 0) (by decide) dX3_rank_34) (
  aSa (s_lload_n rfl rfl dX3_rank_37) (
  aSa (s_lret (n := 0) rfl dX3_rank_38) (
  aSn)))))))))))))))))))))))))))
theorem sn203 : SndL "Slidingtray$Lie" "valueAt" cX3_valueAt 2 (Option.some Jvm.ClassFile.FieldType.int) [] T203 := aSa (s_aload_n rfl rfl dX3_valueAt_0) (
  aSa (s_getf (T := TX3) rfl (by decide) (by decide) in_X3 q1053 (Or.inl rfl) rfl dX3_valueAt_1) (
  aSa (s_iload_n rfl rfl dX3_valueAt_4) (
  aSa (s_iald rfl dX3_valueAt_5) (
  aSa (s_ifne (by decide) rfl dX3_valueAt_6) (
  aSa (s_aload_n rfl rfl dX3_valueAt_9) (
  aSa (s_getf (T := TX3) rfl (by decide) (by decide) in_X3 q1053 (Or.inl rfl) rfl dX3_valueAt_10) (
  aSa (s_alen rfl dX3_valueAt_13) (
  aSa (s_goto (n := 0) (by decide) dX3_valueAt_14) (
  aSa (s_aload_n rfl rfl dX3_valueAt_17) (
  aSa (s_getf (T := TX3) rfl (by decide) (by decide) in_X3 q1053 (Or.inl rfl) rfl dX3_valueAt_18) (
  aSa (s_iload_n rfl rfl dX3_valueAt_21) (
  aSa (s_iald rfl dX3_valueAt_22) (
  aSa (s_iret (n := 0) rfl dX3_valueAt_23) (
  aSn))))))))))))))
theorem sn204 : SndL "Slidingtray$Part" "<init>" cX8_init 6 (Option.none : Option Jvm.ClassFile.FieldType) [] T204 := aSa (s_aload_n rfl rfl dX8_init_0) (
  aSa (s_oinit q2666 q167 q168 rfl dX8_init_1) (
  aSa (s_aload_n rfl rfl dX8_init_4) (
  aSa (s_new (T := TJ2) (ty0 := tyJ2) tyJ2_ok rfl (by decide) in_J2 q2667 q176 q106 (by decide) rfl dX8_init_5) (
  aSa (s_dup rfl dX8_init_8) (
  aSa (s_callI rfl q2668 q178 q106 q179 (by decide +kernel) (by decide) rfl aHS0 rfl dX8_init_9) (
  aSa (s_putfF (T := TX8) (ty0 := tyX8) tyX8_ok nmX8 rfl (by decide) (by decide) in_X8 q2710 (Or.inl rfl) rfl rfl rfl rfl rfl dX8_init_12) (
  aSa (s_aload_n rfl rfl dX8_init_15) (
  aSa (s_iload_n rfl rfl dX8_init_16) (
  aSa (s_putfF (T := TX8) (ty0 := tyX8) tyX8_ok nmX8 rfl (by decide) (by decide) in_X8 q2708 (Or.inl rfl) rfl rfl rfl rfl rfl dX8_init_17) (
  aSa (s_aload_n rfl rfl dX8_init_20) (
  aSa (s_getfN (T := TX4) rfl (by decide) (by decide) in_X4 q1078 rfl rfl dX8_init_21) (
  aSa (s_alen rfl dX8_init_24) (
  aSa (s_istore_n rfl (by decide) rfl dX8_init_25) (
  aSa (s_iload_n rfl rfl dX8_init_26) (
  aSa (s_istore (by decide) rfl dX8_init_27) (
  aSa (s_iconst (v0 := 1) (by decide) rfl dX8_init_29) (
  aSa (s_istore (by decide) rfl dX8_init_30) (
  aSa (s_iload rfl dX8_init_32) (
  aSa (s_iload_n rfl rfl dX8_init_34) (
  aSa (s_cge (by decide) rfl dX8_init_35) (
  aSa (s_iload_n rfl rfl dX8_init_38) (
  aSa (s_iload rfl dX8_init_39) (
  aSa (s_ishr rfl dX8_init_41) (
  aSa (s_iconst (v0 := 1) (by decide) rfl dX8_init_42) (
  aSa (s_iand rfl dX8_init_43) (
  aSa (s_iconst (v0 := 1) (by decide) rfl dX8_init_44) (
  aSa (s_cne (by decide) rfl dX8_init_45) (
  aSa (s_aload_n rfl rfl dX8_init_48) (
  aSa (s_getf (T := TX8) rfl (by decide) (by decide) in_X8 q2710 (Or.inl rfl) rfl dX8_init_49) (
  aSa (s_iload rfl dX8_init_52) (
  aSa (s_callS rfl q2669 q229 q109 q230 (by decide +kernel) (by decide) aHS0 rfl dX8_init_54) (
  aSa (s_callV (List.forall_mem_cons.mpr ⟨d_F (x := ⟨"java/util/List", "add", "(Ljava/lang/Object;)Z"⟩) rfl rfl (aL1 q2671 (aL1 q253 (aL1 q255 (aL1 q106 aL0)))) q257 q251 q250 q256 q254 q252 (by decide +kernel) (by decide) rfl dX8_init_57, fun _ h => absurd h List.not_mem_nil⟩) aHS0) (
  aSa (s_pop rfl dX8_init_62) (
  aSa (s_iload rfl dX8_init_63) (
  aSa (s_iload_n rfl rfl dX8_init_65) (
  aSa (s_imul rfl dX8_init_66) (
  aSa (s_istore (by decide) rfl dX8_init_67) (
  aSa (s_iinc (by decide) rfl dX8_init_69) (
  aSa (s_goto (n := 0) (by decide) dX8_init_72) (
  aSa (s_aload_n rfl rfl dX8_init_75) (
  aSa (s_iload rfl dX8_init_76) (
  aSa (s_newa_int q915 rfl dX8_init_78) (
  aSa (s_putfF (T := TX8) (ty0 := tyX8) tyX8_ok nmX8 rfl (by decide) (by decide) in_X8 q2711 (Or.inl rfl) rfl rfl rfl rfl rfl dX8_init_80) (
  aSa (s_aload_n rfl rfl dX8_init_83) (
  aSa (s_getf (T := TX8) rfl (by decide) (by decide) in_X8 q2711 (Or.inl rfl) rfl dX8_init_84) (
  aSa (s_iconst (v0 := (-1)) (by decide) rfl dX8_init_87) (
  aSa (s_callS rfl q2672 q894 q113 q895 (by decide +kernel) (by decide) aHS0 rfl dX8_init_88) (
  aSa (s_aload_n rfl rfl dX8_init_91) (
  aSa (s_aload_n rfl rfl dX8_init_92) (
  aSa (s_callV (List.forall_mem_cons.mpr ⟨d_V rfl rfl q2673 q2675 qs47 q149 q2676 rfl (by decide +kernel) (by decide) rfl dX8_init_93, fun _ h => absurd h List.not_mem_nil⟩) aHS0) (
  aSa (s_ret (n := 0) rfl dX8_init_96) (
  aSn))))))))))))))))))))))))))))))))))))))))))))))))))))
theorem sn205 : SndL "Slidingtray$Part" "at" cX8_at 5 (Option.some Jvm.ClassFile.FieldType.int) [] T205 := aSa (s_iload_n rfl rfl dX8_at_0) (
  aSa (s_istore_n rfl (by decide) rfl dX8_at_1) (
  aSa (s_iconst (v0 := 0) (by decide) rfl dX8_at_2) (
  aSa (s_istore (by decide) rfl dX8_at_3) (
  aSa (s_iload rfl dX8_at_5) (
  aSa (s_iload_n rfl rfl dX8_at_7) (
  aSa (s_cge (by decide) rfl dX8_at_8) (
  aSa (s_iload_n rfl rfl dX8_at_11) (
  aSa (s_iload_n rfl rfl dX8_at_12) (
  aSa (s_idiv rfl dX8_at_13) (
  aSa (s_istore_n rfl (by decide) rfl dX8_at_14) (
  aSa (s_iinc (by decide) rfl dX8_at_15) (
  aSa (s_goto (n := 0) (by decide) dX8_at_18) (
  aSa (s_iload_n rfl rfl dX8_at_21) (
  aSa (s_iload_n rfl rfl dX8_at_22) (
  aSa (s_irem rfl dX8_at_23) (
  aSa (s_iret (n := 0) rfl dX8_at_24) (
  aSn)))))))))))))))))
theorem sn206 : SndL "Slidingtray$Part" "costOf" cX8_costOf 5 (Option.some Jvm.ClassFile.FieldType.int) [] T206 := aSa (s_aload_n rfl rfl dX8_costOf_0) (
  aSa (s_getfN (T := TX3) rfl (by decide) (by decide) in_X3 q1055 rfl rfl dX8_costOf_1) (
  aSa (s_alen rfl dX8_costOf_4) (
  aSa (s_istore_n rfl (by decide) rfl dX8_costOf_5) (
  aSa (s_aload_n rfl rfl dX8_costOf_6) (
  aSa (s_getfN (T := TX3) rfl (by decide) (by decide) in_X3 q1058 rfl rfl dX8_costOf_7) (
  aSa (s_iload_n rfl rfl dX8_costOf_10) (
  aSa (s_aload_n rfl rfl dX8_costOf_11) (
  aSa (s_getf (T := TX8) rfl (by decide) (by decide) in_X8 q2710 (Or.inl rfl) rfl dX8_costOf_12) (
  aSa (s_callV (List.forall_mem_cons.mpr ⟨d_F (x := ⟨"java/util/List", "size", "()I"⟩) rfl rfl (aL1 q1384 (aL1 q681 (aL1 q683 (aL1 q106 aL0)))) q685 q680 q679 q684 q682 q252 (by decide +kernel) (by decide) rfl dX8_costOf_15, fun _ h => absurd h List.not_mem_nil⟩) aHS0) (
  aSa (s_callS rfl q1385 q1386 q149 q1387 (by decide +kernel) (by decide) aHS0 rfl dX8_costOf_20) (
  aSa (s_imul rfl dX8_costOf_23) (
  aSa (s_istore_n rfl (by decide) rfl dX8_costOf_24) (
  aSa (s_iconst (v0 := 0) (by decide) rfl dX8_costOf_25) (
  aSa (s_istore (by decide) rfl dX8_costOf_26) (
  aSa (s_iload rfl dX8_costOf_28) (
  aSa (s_aload_n rfl rfl dX8_costOf_30) (
  aSa (s_getf (T := TX8) rfl (by decide) (by decide) in_X8 q2710 (Or.inl rfl) rfl dX8_costOf_31) (
  aSa (s_callV (List.forall_mem_cons.mpr ⟨d_F (x := ⟨"java/util/List", "size", "()I"⟩) rfl rfl (aL1 q1384 (aL1 q681 (aL1 q683 (aL1 q106 aL0)))) q685 q680 q679 q684 q682 q252 (by decide +kernel) (by decide) rfl dX8_costOf_34, fun _ h => absurd h List.not_mem_nil⟩) aHS0) (
  aSa (s_cge (by decide) rfl dX8_costOf_39) (
  aSa (s_iload_n rfl rfl dX8_costOf_42) (
  aSa (s_aload_n rfl rfl dX8_costOf_43) (
  aSa (s_aload_n rfl rfl dX8_costOf_44) (
  aSa (s_getf (T := TX8) rfl (by decide) (by decide) in_X8 q2710 (Or.inl rfl) rfl dX8_costOf_45) (
  aSa (s_iload rfl dX8_costOf_48) (
  aSa (s_callV (List.forall_mem_cons.mpr ⟨d_F (x := ⟨"java/util/List", "get", "(I)Ljava/lang/Object;"⟩) rfl rfl (aL1 q1389 (aL1 q696 (aL1 q698 (aL1 q106 aL0)))) q700 q695 q694 q699 q697 q252 (by decide +kernel) (by decide) rfl dX8_costOf_50, fun _ h => absurd h List.not_mem_nil⟩) aHS0) (
  aSa (s_cast q1390 (List.forall_mem_cons.mpr ⟨⟨_, rfl, (Or.inl rfl)⟩, List.forall_mem_cons.mpr ⟨⟨_, rfl, (Or.inl rfl)⟩, fun _ h => absurd h List.not_mem_nil⟩⟩) (fun t h => absurd h List.not_mem_nil) rfl dX8_costOf_55) (
  aSa (s_callV (List.forall_mem_cons.mpr ⟨d_V rfl rfl q1391 q713 q714 q109 q715 rfl (by decide +kernel) (by decide) rfl dX8_costOf_58, List.forall_mem_cons.mpr ⟨d_V rfl rfl q1391 q713 q714 q109 q715 rfl (by decide +kernel) (by decide) rfl dX8_costOf_58, fun _ h => absurd h List.not_mem_nil⟩⟩) aHS0) (
  aSa (s_callV (List.forall_mem_cons.mpr ⟨d_V rfl rfl q1392 q1393 q1394 q133 q1395 rfl (by decide +kernel) (by decide) rfl dX8_costOf_61, fun _ h => absurd h List.not_mem_nil⟩) aHS0) (
  aSa (s_iload_n rfl rfl dX8_costOf_64) (
  aSa (s_iload rfl dX8_costOf_65) (
  aSa (s_callS rfl q1385 q1386 q149 q1387 (by decide +kernel) (by decide) aHS0 rfl dX8_costOf_67) (
  aSa (s_imul rfl dX8_costOf_70) (
  aSa (s_iadd rfl dX8_costOf_71) (
  aSa (s_istore_n rfl (by decide) rfl dX8_costOf_72) (
  aSa (s_iinc (by decide) rfl dX8_costOf_73) (
  aSa (s_goto (n := 0) (by decide) dX8_costOf_76) (
  aSa (s_iconst (v0 := 0) (by decide) rfl dX8_costOf_79) (
  aSa (s_aload_n rfl rfl dX8_costOf_80) (
  aSa (s_getf (T := TX8) rfl (by decide) (by decide) in_X8 q2711 (Or.inl rfl) rfl dX8_costOf_81) (
  aSa (s_iload_n rfl rfl dX8_costOf_84) (
  aSa (s_iald rfl dX8_costOf_85) (
  aSa (s_mmax q1396 q274 q112 q275 rfl dX8_costOf_86) (
  aSa (s_iret (n := 0) rfl dX8_costOf_89) (
  aSn))))))))))))))))))))))))))))))))))))))))))))
theorem sn207 : SndL "Slidingtray$Part" "fill" cX8_fill 6 (Option.none : Option Jvm.ClassFile.FieldType) [] T207 := aSa (s_aload_n rfl rfl dX8_fill_0) (
  aSa (s_getfN (T := TX4) rfl (by decide) (by decide) in_X4 q1078 rfl rfl dX8_fill_1) (
  aSa (s_alen rfl dX8_fill_4) (
  aSa (s_istore_n rfl (by decide) rfl dX8_fill_5) (
  aSa (s_new (T := TJ38) (ty0 := tyJ38) tyJ38_ok rfl (by decide) in_J38 q2677 q1435 q151 (by decide) rfl dX8_fill_6) (
  aSa (s_dup rfl dX8_fill_9) (
  aSa (s_callI rfl q2678 q1437 q151 q1438 (by decide +kernel) (by decide) rfl aHS0 rfl dX8_fill_10) (
  aSa (s_astore_n rfl (by decide) rfl dX8_fill_13) (
  aSa (s_iconst (v0 := 0) (by decide) rfl dX8_fill_14) (
  aSa (s_istore (by decide) rfl dX8_fill_15) (
  aSa (s_iconst (v0 := 0) (by decide) rfl dX8_fill_17) (
  aSa (s_istore (by decide) rfl dX8_fill_18) (
  aSa (s_iload rfl dX8_fill_20) (
  aSa (s_aload_n rfl rfl dX8_fill_22) (
  aSa (s_getf (T := TX8) rfl (by decide) (by decide) in_X8 q2710 (Or.inl rfl) rfl dX8_fill_23) (
  aSa (s_callV (List.forall_mem_cons.mpr ⟨d_F (x := ⟨"java/util/List", "size", "()I"⟩) rfl rfl (aL1 q1384 (aL1 q681 (aL1 q683 (aL1 q106 aL0)))) q685 q680 q679 q684 q682 q252 (by decide +kernel) (by decide) rfl dX8_fill_26, fun _ h => absurd h List.not_mem_nil⟩) aHS0) (
  aSa (s_cge (by decide) rfl dX8_fill_31) (
  aSa (s_iload rfl dX8_fill_34) (
  aSa (s_aload_n rfl rfl dX8_fill_36) (
  aSa (s_getfN (T := TX4) rfl (by decide) (by decide) in_X4 q1078 rfl rfl dX8_fill_37) (
  aSa (s_aload_n rfl rfl dX8_fill_40) (
  aSa (s_getf (T := TX8) rfl (by decide) (by decide) in_X8 q2710 (Or.inl rfl) rfl dX8_fill_41) (
  aSa (s_iload rfl dX8_fill_44) (
  aSa (s_callV (List.forall_mem_cons.mpr ⟨d_F (x := ⟨"java/util/List", "get", "(I)Ljava/lang/Object;"⟩) rfl rfl (aL1 q1389 (aL1 q696 (aL1 q698 (aL1 q106 aL0)))) q700 q695 q694 q699 q697 q252 (by decide +kernel) (by decide) rfl dX8_fill_46, fun _ h => absurd h List.not_mem_nil⟩) aHS0) (
  aSa (s_cast q1390 (List.forall_mem_cons.mpr ⟨⟨_, rfl, (Or.inl rfl)⟩, List.forall_mem_cons.mpr ⟨⟨_, rfl, (Or.inl rfl)⟩, fun _ h => absurd h List.not_mem_nil⟩⟩) (fun t h => absurd h List.not_mem_nil) rfl dX8_fill_51) (
  aSa (s_callV (List.forall_mem_cons.mpr ⟨d_V rfl rfl q1391 q713 q714 q109 q715 rfl (by decide +kernel) (by decide) rfl dX8_fill_54, List.forall_mem_cons.mpr ⟨d_V rfl rfl q1391 q713 q714 q109 q715 rfl (by decide +kernel) (by decide) rfl dX8_fill_54, fun _ h => absurd h List.not_mem_nil⟩⟩) aHS0) (
  aSa (s_iald rfl dX8_fill_57) (
  aSa (s_iload_n rfl rfl dX8_fill_58) (
  aSa (s_iload rfl dX8_fill_59) (
  aSa (s_callS rfl q1385 q1386 q149 q1387 (by decide +kernel) (by decide) aHS0 rfl dX8_fill_61) (
  aSa (s_imul rfl dX8_fill_64) (
  aSa (s_iadd rfl dX8_fill_65) (
  aSa (s_istore (by decide) rfl dX8_fill_66) (
  aSa (s_iinc (by decide) rfl dX8_fill_68) (
  aSa (s_goto (n := 0) (by decide) dX8_fill_71) (
  aSa (s_iconst (v0 := 0) (by decide) rfl dX8_fill_74) (
  aSa (s_istore (by decide) rfl dX8_fill_75) (
  aSa (s_iload rfl dX8_fill_77) (
  aSa (s_iload_n rfl rfl dX8_fill_79) (
  aSa (s_cge (by decide) rfl dX8_fill_80) (
  aSa (s_aload_n rfl rfl dX8_fill_83) (
  aSa (s_iload rfl dX8_fill_84) (
  aSa (s_iload rfl dX8_fill_86) (
  aSa (s_iload_n rfl rfl dX8_fill_88) (
  aSa (s_aload_n rfl rfl dX8_fill_89) (
  aSa (s_getf (T := TX8) rfl (by decide) (by decide) in_X8 q2710 (Or.inl rfl) rfl dX8_fill_90) (
  aSa (s_callV (List.forall_mem_cons.mpr ⟨d_F (x := ⟨"java/util/List", "size", "()I"⟩) rfl rfl (aL1 q1384 (aL1 q681 (aL1 q683 (aL1 q106 aL0)))) q685 q680 q679 q684 q682 q252 (by decide +kernel) (by decide) rfl dX8_fill_93, fun _ h => absurd h List.not_mem_nil⟩) aHS0) (
  aSa (s_callS rfl q1385 q1386 q149 q1387 (by decide +kernel) (by decide) aHS0 rfl dX8_fill_98) (
  aSa (s_imul rfl dX8_fill_101) (
  aSa (s_iadd rfl dX8_fill_102) (
  aSa (s_iload rfl dX8_fill_103) (
  aSa (s_iload_n rfl rfl dX8_fill_105) (
  aSa (s_callV (List.forall_mem_cons.mpr ⟨d_V rfl rfl q2679 q2681 qs48 q149 q2682 rfl (by decide +kernel) (by decide) rfl dX8_fill_106, fun _ h => absurd h List.not_mem_nil⟩) aHS0) (
  aSa (s_aload_n rfl rfl dX8_fill_109) (
  aSa (s_getf (T := TX8) rfl (by decide) (by decide) in_X8 q2710 (Or.inl rfl) rfl dX8_fill_110) (
  aSa (s_callV (List.forall_mem_cons.mpr ⟨d_F (x := ⟨"java/util/List", "size", "()I"⟩) rfl rfl (aL1 q1384 (aL1 q681 (aL1 q683 (aL1 q106 aL0)))) q685 q680 q679 q684 q682 q252 (by decide +kernel) (by decide) rfl dX8_fill_113, fun _ h => absurd h List.not_mem_nil⟩) aHS0) (
  aSa (s_cne (by decide) rfl dX8_fill_118) (
  aSa (s_aload_n rfl rfl dX8_fill_121) (
  aSa (s_new (T := TX14) (ty0 := tyX14) tyX14_ok rfl (by decide) in_X14 q2686 q2687 q160 (by decide) rfl dX8_fill_122) (
  aSa (s_dup rfl dX8_fill_125) (
  aSa (s_iload rfl dX8_fill_126) (
  aSa (s_iload rfl dX8_fill_128) (
  aSa (s_iload_n rfl rfl dX8_fill_130) (
  aSa (s_aload_n rfl rfl dX8_fill_131) (
  aSa (s_getf (T := TX8) rfl (by decide) (by decide) in_X8 q2710 (Or.inl rfl) rfl dX8_fill_132) (
  aSa (s_callV (List.forall_mem_cons.mpr ⟨d_F (x := ⟨"java/util/List", "size", "()I"⟩) rfl rfl (aL1 q1384 (aL1 q681 (aL1 q683 (aL1 q106 aL0)))) q685 q680 q679 q684 q682 q252 (by decide +kernel) (by decide) rfl dX8_fill_135, fun _ h => absurd h List.not_mem_nil⟩) aHS0) (
  aSa (s_callS rfl q1385 q1386 q149 q1387 (by decide +kernel) (by decide) aHS0 rfl dX8_fill_140) (
  aSa (s_imul rfl dX8_fill_143) (
  aSa (s_iadd rfl dX8_fill_144) (
  aSa (s_iconst (v0 := 0) (by decide) rfl dX8_fill_145) (
  aSa (s_callI rfl q2688 q2689 q160 q2690 (by decide +kernel) (by decide) rfl aHS0 rfl dX8_fill_146) (
  aSa (s_callV (List.forall_mem_cons.mpr ⟨d_V rfl rfl q2701 q1510 q1511 q151 q1512 rfl (by decide +kernel) (by decide) rfl dX8_fill_149, fun _ h => absurd h List.not_mem_nil⟩) aHS0) (
  aSa (s_pop rfl dX8_fill_152) (
  aSa (s_iinc (by decide) rfl dX8_fill_153) (
  aSa (s_goto (n := 0) (by decide) dX8_fill_156) (
  aSa (s_aload_n rfl rfl dX8_fill_159) (
  aSa (s_callV (List.forall_mem_cons.mpr ⟨d_U (x := ⟨"java/util/PriorityQueue", "isEmpty", "()Z"⟩) (ow := "java/util/AbstractCollection") rfl rfl (aL1 q2702 (aL1 q1671 (aL1 q1673 (aL1 q1674 (aL1 q104 aL0))))) q1675 rfl (by decide +kernel) (by decide) rfl dX8_fill_160, fun _ h => absurd h List.not_mem_nil⟩) aHS0) (
  aSa (s_ifne (by decide) rfl dX8_fill_163) (
  aSa (s_aload_n rfl rfl dX8_fill_166) (
  aSa (s_callV (List.forall_mem_cons.mpr ⟨d_V rfl rfl q2703 q1706 q1707 q151 q1708 rfl (by decide +kernel) (by decide) rfl dX8_fill_167, fun _ h => absurd h List.not_mem_nil⟩) aHS0) (
  aSa (s_cast q2686 (List.forall_mem_cons.mpr ⟨⟨_, rfl, (Or.inl rfl)⟩, fun _ h => absurd h List.not_mem_nil⟩) (fun t h => absurd h List.not_mem_nil) rfl dX8_fill_170) (
  aSa (s_astore (by decide) rfl dX8_fill_173) (
  aSa (s_aload_n rfl rfl dX8_fill_175) (
  aSa (s_getf (T := TX8) rfl (by decide) (by decide) in_X8 q2711 (Or.inl rfl) rfl dX8_fill_176) (
  aSa (s_aload rfl dX8_fill_179) (
  aSa (s_getfN (T := TX14) rfl (by decide) (by decide) in_X14 q2693 rfl rfl dX8_fill_181) (
  aSa (s_iald rfl dX8_fill_184) (
  aSa (s_iconst (v0 := (-1)) (by decide) rfl dX8_fill_185) (
  aSa (s_cne (by decide) rfl dX8_fill_186) (
  aSa (s_aload_n rfl rfl dX8_fill_189) (
  aSa (s_getf (T := TX8) rfl (by decide) (by decide) in_X8 q2711 (Or.inl rfl) rfl dX8_fill_190) (
  aSa (s_aload rfl dX8_fill_193) (
  aSa (s_getfN (T := TX14) rfl (by decide) (by decide) in_X14 q2693 rfl rfl dX8_fill_195) (
  aSa (s_aload rfl dX8_fill_198) (
  aSa (s_getfN (T := TX14) rfl (by decide) (by decide) in_X14 q2695 rfl rfl dX8_fill_200) (
  aSa (s_iast rfl dX8_fill_203) (
  aSa (s_aload_n rfl rfl dX8_fill_204) (
  aSa (s_dup rfl dX8_fill_205) (
  aSa (s_getf (T := TX8) rfl (by decide) (by decide) in_X8 q2712 (Or.inl rfl) rfl dX8_fill_206) (
  aSa (s_iconst (v0 := 1) (by decide) rfl dX8_fill_209) (
  aSa (s_iadd rfl dX8_fill_210) (
  aSa (s_putf (T := TX8) (ty0 := tyX8) tyX8_ok nmX8 rfl (by decide) (by decide) in_X8 q2712 (Or.inl rfl) rfl rfl rfl dX8_fill_211) (
  aSa (s_aload_n rfl rfl dX8_fill_214) (
  aSa (s_aload_n rfl rfl dX8_fill_215) (
  aSa (s_aload rfl dX8_fill_216) (
  aSa (s_aload_n rfl rfl dX8_fill_218) (
  aSa (s_callV (List.forall_mem_cons.mpr ⟨d_V rfl rfl q2704 q2706 qs49 q149 q2707 rfl (by decide +kernel) (by decide) rfl dX8_fill_219, fun _ h => absurd h List.not_mem_nil⟩) aHS0) (
  aSa (s_goto (n := 0) (by decide) dX8_fill_222) (
  aSa (s_ret (n := 0) rfl dX8_fill_225) (
  aSn)))))))))))))))))))))))))))))))))))))))))))))))))))))))))))))))))))))))))))))))))))))))))))))))))))))))))))))
theorem sn208 : SndL "Slidingtray$Part" "indexAt" cX8_indexAt 5 (Option.some Jvm.ClassFile.FieldType.int) [] T208 := aSa (s_iconst (v0 := 0) (by decide) rfl dX8_indexAt_0) (
  aSa (s_istore (by decide) rfl dX8_indexAt_1) (
  aSa (s_iload rfl dX8_indexAt_3) (
  aSa (s_aload_n rfl rfl dX8_indexAt_5) (
  aSa (s_getf (T := TX8) rfl (by decide) (by decide) in_X8 q2710 (Or.inl rfl) rfl dX8_indexAt_6) (
  aSa (s_callV (List.forall_mem_cons.mpr ⟨d_F (x := ⟨"java/util/List", "size", "()I"⟩) rfl rfl (aL1 q1384 (aL1 q681 (aL1 q683 (aL1 q106 aL0)))) q685 q680 q679 q684 q682 q252 (by decide +kernel) (by decide) rfl dX8_indexAt_9, fun _ h => absurd h List.not_mem_nil⟩) aHS0) (
  aSa (s_cgt (by decide) rfl dX8_indexAt_14) (
  aSa (s_iload_n rfl rfl dX8_indexAt_17) (
  aSa (s_iload rfl dX8_indexAt_18) (
  aSa (s_iload_n rfl rfl dX8_indexAt_20) (
  aSa (s_callS rfl q2683 q2684 q149 q2685 (by decide +kernel) (by decide) aHS0 rfl dX8_indexAt_21) (
  aSa (s_iload_n rfl rfl dX8_indexAt_24) (
  aSa (s_cne (by decide) rfl dX8_indexAt_25) (
  aSa (s_iload rfl dX8_indexAt_28) (
  aSa (s_iret (n := 0) rfl dX8_indexAt_30) (
  aSa (s_iinc (by decide) rfl dX8_indexAt_31) (
  aSa (s_goto (n := 0) (by decide) dX8_indexAt_34) (
  aSa (s_aload_n rfl rfl dX8_indexAt_37) (
  aSa (s_getf (T := TX8) rfl (by decide) (by decide) in_X8 q2710 (Or.inl rfl) rfl dX8_indexAt_38) (
  aSa (s_callV (List.forall_mem_cons.mpr ⟨d_F (x := ⟨"java/util/List", "size", "()I"⟩) rfl rfl (aL1 q1384 (aL1 q681 (aL1 q683 (aL1 q106 aL0)))) q685 q680 q679 q684 q682 q252 (by decide +kernel) (by decide) rfl dX8_indexAt_41, fun _ h => absurd h List.not_mem_nil⟩) aHS0) (
  aSa (s_iconst (v0 := 1) (by decide) rfl dX8_indexAt_46) (
  aSa (s_iadd rfl dX8_indexAt_47) (
  aSa (s_iret (n := 0) rfl dX8_indexAt_48) (
  aSn)))))))))))))))))))))))
theorem sn209 : SndL "Slidingtray$Part" "power" cX8_power 4 (Option.some Jvm.ClassFile.FieldType.int) [] T209 := aSa (s_iconst (v0 := 1) (by decide) rfl dX8_power_0) (
  aSa (s_istore_n rfl (by decide) rfl dX8_power_1) (
  aSa (s_iconst (v0 := 0) (by decide) rfl dX8_power_2) (
  aSa (s_istore_n rfl (by decide) rfl dX8_power_3) (
  aSa (s_iload_n rfl rfl dX8_power_4) (
  aSa (s_iload_n rfl rfl dX8_power_5) (
  aSa (s_cge (by decide) rfl dX8_power_6) (
  aSa (s_iload_n rfl rfl dX8_power_9) (
  aSa (s_iload_n rfl rfl dX8_power_10) (
  aSa (s_imul rfl dX8_power_11) (
  aSa (s_istore_n rfl (by decide) rfl dX8_power_12) (
  aSa (s_iinc (by decide) rfl dX8_power_13) (
  aSa (s_goto (n := 0) (by decide) dX8_power_16) (
  aSa (s_iload_n rfl rfl dX8_power_19) (
  aSa (s_iret (n := 0) rfl dX8_power_20) (
  aSn)))))))))))))))
theorem sn210 : SndL "Slidingtray$Part" "spread" cX8_spread 13 (Option.none : Option Jvm.ClassFile.FieldType) [] T210 := aSa (s_aload_n rfl rfl dX8_spread_0) (
  aSa (s_getfN (T := TX4) rfl (by decide) (by decide) in_X4 q1078 rfl rfl dX8_spread_1) (
  aSa (s_alen rfl dX8_spread_4) (
  aSa (s_istore (by decide) rfl dX8_spread_5) (
  aSa (s_aload_n rfl rfl dX8_spread_7) (
  aSa (s_getfN (T := TX14) rfl (by decide) (by decide) in_X14 q2693 rfl rfl dX8_spread_8) (
  aSa (s_aload_n rfl rfl dX8_spread_11) (
  aSa (s_getf (T := TX8) rfl (by decide) (by decide) in_X8 q2710 (Or.inl rfl) rfl dX8_spread_12) (
  aSa (s_callV (List.forall_mem_cons.mpr ⟨d_F (x := ⟨"java/util/List", "size", "()I"⟩) rfl rfl (aL1 q1384 (aL1 q681 (aL1 q683 (aL1 q106 aL0)))) q685 q680 q679 q684 q682 q252 (by decide +kernel) (by decide) rfl dX8_spread_15, fun _ h => absurd h List.not_mem_nil⟩) aHS0) (
  aSa (s_iload rfl dX8_spread_20) (
  aSa (s_callS rfl q2683 q2684 q149 q2685 (by decide +kernel) (by decide) aHS0 rfl dX8_spread_22) (
  aSa (s_istore (by decide) rfl dX8_spread_25) (
  aSa (s_aload_n rfl rfl dX8_spread_27) (
  aSa (s_getfN (T := TX4) rfl (by decide) (by decide) in_X4 q1076 rfl rfl dX8_spread_28) (
  aSa (s_getfN (T := TX3) rfl (by decide) (by decide) in_X3 q1052 rfl rfl dX8_spread_31) (
  aSa (s_getfN (T := TX2) rfl (by decide) (by decide) in_X2 q994 rfl rfl dX8_spread_34) (
  aSa (s_iload rfl dX8_spread_37) (
  aSa (s_aald rfl dX8_spread_39) (
  aSa (s_astore (by decide) rfl dX8_spread_40) (
  aSa (s_aload rfl dX8_spread_42) (
  aSa (s_alen rfl dX8_spread_44) (
  aSa (s_istore (by decide) rfl dX8_spread_45) (
  aSa (s_iconst (v0 := 0) (by decide) rfl dX8_spread_47) (
  aSa (s_istore (by decide) rfl dX8_spread_48) (
  aSa (s_iload rfl dX8_spread_50) (
  aSa (s_iload rfl dX8_spread_52) (
  aSa (s_cge (by decide) rfl dX8_spread_54) (
  aSa (s_aload rfl dX8_spread_57) (
  aSa (s_iload rfl dX8_spread_59) (
  aSa (s_iald rfl dX8_spread_61) (
  aSa (s_istore (by decide) rfl dX8_spread_62) (
  aSa (s_iload rfl dX8_spread_64) (
  aSa (s_iconst (v0 := (-1)) (by decide) rfl dX8_spread_66) (
  aSa (s_ceq (by decide) rfl dX8_spread_67) (
  aSa (s_aload_n rfl rfl dX8_spread_70) (
  aSa (s_aload_n rfl rfl dX8_spread_71) (
  aSa (s_getfN (T := TX14) rfl (by decide) (by decide) in_X14 q2693 rfl rfl dX8_spread_72) (
  aSa (s_iload rfl dX8_spread_75) (
  aSa (s_iload rfl dX8_spread_77) (
  aSa (s_callV (List.forall_mem_cons.mpr ⟨d_V rfl rfl q2679 q2681 qs48 q149 q2682 rfl (by decide +kernel) (by decide) rfl dX8_spread_79, fun _ h => absurd h List.not_mem_nil⟩) aHS0) (
  aSa (s_istore (by decide) rfl dX8_spread_82) (
  aSa (s_aload_n rfl rfl dX8_spread_84) (
  aSa (s_getfN (T := TX14) rfl (by decide) (by decide) in_X14 q2693 rfl rfl dX8_spread_85) (
  aSa (s_iload rfl dX8_spread_88) (
  aSa (s_iload rfl dX8_spread_90) (
  aSa (s_isub rfl dX8_spread_92) (
  aSa (s_iload rfl dX8_spread_93) (
  aSa (s_aload_n rfl rfl dX8_spread_95) (
  aSa (s_getf (T := TX8) rfl (by decide) (by decide) in_X8 q2710 (Or.inl rfl) rfl dX8_spread_96) (
  aSa (s_callV (List.forall_mem_cons.mpr ⟨d_F (x := ⟨"java/util/List", "size", "()I"⟩) rfl rfl (aL1 q1384 (aL1 q681 (aL1 q683 (aL1 q106 aL0)))) q685 q680 q679 q684 q682 q252 (by decide +kernel) (by decide) rfl dX8_spread_99, fun _ h => absurd h List.not_mem_nil⟩) aHS0) (
  aSa (s_callS rfl q1385 q1386 q149 q1387 (by decide +kernel) (by decide) aHS0 rfl dX8_spread_104) (
  aSa (s_imul rfl dX8_spread_107) (
  aSa (s_iadd rfl dX8_spread_108) (
  aSa (s_istore (by decide) rfl dX8_spread_109) (
  aSa (s_aload_n rfl rfl dX8_spread_111) (
  aSa (s_getfN (T := TX14) rfl (by decide) (by decide) in_X14 q2695 rfl rfl dX8_spread_112) (
  aSa (s_istore (by decide) rfl dX8_spread_115) (
  aSa (s_iload rfl dX8_spread_117) (
  aSa (s_aload_n rfl rfl dX8_spread_119) (
  aSa (s_getf (T := TX8) rfl (by decide) (by decide) in_X8 q2710 (Or.inl rfl) rfl dX8_spread_120) (
  aSa (s_callV (List.forall_mem_cons.mpr ⟨d_F (x := ⟨"java/util/List", "size", "()I"⟩) rfl rfl (aL1 q1384 (aL1 q681 (aL1 q683 (aL1 q106 aL0)))) q685 q680 q679 q684 q682 q252 (by decide +kernel) (by decide) rfl dX8_spread_123, fun _ h => absurd h List.not_mem_nil⟩) aHS0) (
  aSa (s_cge (by decide) rfl dX8_spread_128) (
  aSa (s_iload rfl dX8_spread_131) (
  aSa (s_iload rfl dX8_spread_133) (
  aSa (s_iload rfl dX8_spread_135) (
  aSa (s_isub rfl dX8_spread_137) (
  aSa (s_iload rfl dX8_spread_138) (
  aSa (s_iload rfl dX8_spread_140) (
  aSa (s_callS rfl q1385 q1386 q149 q1387 (by decide +kernel) (by decide) aHS0 rfl dX8_spread_142) (
  aSa (s_imul rfl dX8_spread_145) (
  aSa (s_iadd rfl dX8_spread_146) (
  aSa (s_istore (by decide) rfl dX8_spread_147) (
  aSa (s_iload rfl dX8_spread_149) (
  aSa (s_aload_n rfl rfl dX8_spread_151) (
  aSa (s_getfN (T := TX4) rfl (by decide) (by decide) in_X4 q1086 rfl rfl dX8_spread_152) (
  aSa (s_aload_n rfl rfl dX8_spread_155) (
  aSa (s_getf (T := TX8) rfl (by decide) (by decide) in_X8 q2710 (Or.inl rfl) rfl dX8_spread_156) (
  aSa (s_iload rfl dX8_spread_159) (
  aSa (s_callV (List.forall_mem_cons.mpr ⟨d_F (x := ⟨"java/util/List", "get", "(I)Ljava/lang/Object;"⟩) rfl rfl (aL1 q1389 (aL1 q696 (aL1 q698 (aL1 q106 aL0)))) q700 q695 q694 q699 q697 q252 (by decide +kernel) (by decide) rfl dX8_spread_161, fun _ h => absurd h List.not_mem_nil⟩) aHS0) (
  aSa (s_cast q1390 (List.forall_mem_cons.mpr ⟨⟨_, rfl, (Or.inl rfl)⟩, List.forall_mem_cons.mpr ⟨⟨_, rfl, (Or.inl rfl)⟩, fun _ h => absurd h List.not_mem_nil⟩⟩) (fun t h => absurd h List.not_mem_nil) rfl dX8_spread_166) (
  aSa (s_callV (List.forall_mem_cons.mpr ⟨d_V rfl rfl q1391 q713 q714 q109 q715 rfl (by decide +kernel) (by decide) rfl dX8_spread_169, List.forall_mem_cons.mpr ⟨d_V rfl rfl q1391 q713 q714 q109 q715 rfl (by decide +kernel) (by decide) rfl dX8_spread_169, fun _ h => absurd h List.not_mem_nil⟩⟩) aHS0) (
  aSa (s_iald rfl dX8_spread_172) (
  aSa (s_iadd rfl dX8_spread_173) (
  aSa (s_istore (by decide) rfl dX8_spread_174) (
  aSa (s_aload_n rfl rfl dX8_spread_176) (
  aSa (s_getf (T := TX8) rfl (by decide) (by decide) in_X8 q2711 (Or.inl rfl) rfl dX8_spread_177) (
  aSa (s_iload rfl dX8_spread_180) (
  aSa (s_iald rfl dX8_spread_182) (
  aSa (s_iconst (v0 := (-1)) (by decide) rfl dX8_spread_183) (
  aSa (s_cne (by decide) rfl dX8_spread_184) (
  aSa (s_aload_n rfl rfl dX8_spread_187) (
  aSa (s_new (T := TX14) (ty0 := tyX14) tyX14_ok rfl (by decide) in_X14 q2686 q2687 q160 (by decide) rfl dX8_spread_188) (
  aSa (s_dup rfl dX8_spread_191) (
  aSa (s_iload rfl dX8_spread_192) (
  aSa (s_iload rfl dX8_spread_194) (
  aSa (s_callI rfl q2688 q2689 q160 q2690 (by decide +kernel) (by decide) rfl aHS0 rfl dX8_spread_196) (
  aSa (s_callV (List.forall_mem_cons.mpr ⟨d_V rfl rfl q2701 q1510 q1511 q151 q1512 rfl (by decide +kernel) (by decide) rfl dX8_spread_199, fun _ h => absurd h List.not_mem_nil⟩) aHS0) (
  aSa (s_pop rfl dX8_spread_202) (
  aSa (s_iinc (by decide) rfl dX8_spread_203) (
  aSa (s_goto (n := 0) (by decide) dX8_spread_206) (
  aSa (s_ret (n := 0) rfl dX8_spread_209) (
  aSn)))))))))))))))))))))))))))))))))))))))))))))))))))))))))))))))))))))))))))))))))))))))))))))))))))))
theorem sn211 : SndL "Slidingtray$Part$Place" "<init>" cX14_init 3 (Option.none : Option Jvm.ClassFile.FieldType) [] T211 := aSa (s_aload_n rfl rfl dX14_init_0) (
  aSa (s_oinit q2691 q167 q168 rfl dX14_init_1) (
  aSa (s_aload_n rfl rfl dX14_init_4) (
  aSa (s_iload_n rfl rfl dX14_init_5) (
  aSa (s_putfF (T := TX14) (ty0 := tyX14) tyX14_ok nmX14 rfl (by decide) (by decide) in_X14 q2692 (Or.inl rfl) rfl rfl rfl rfl rfl dX14_init_6) (
  aSa (s_aload_n rfl rfl dX14_init_9) (
  aSa (s_iload_n rfl rfl dX14_init_10) (
  aSa (s_putfF (T := TX14) (ty0 := tyX14) tyX14_ok nmX14 rfl (by decide) (by decide) in_X14 q2694 (Or.inl rfl) rfl rfl rfl rfl rfl dX14_init_11) (
  aSa (s_ret (n := 0) rfl dX14_init_14) (
  aSn)))))))))
theorem sn212 : SndL "Slidingtray$Part$Place" "compareTo" cX14_compareTo_2 2 (Option.some Jvm.ClassFile.FieldType.int) [] T212 := aSa (s_aload_n rfl rfl dX14_compareTo_2_0) (
  aSa (s_getf (T := TX14) rfl (by decide) (by decide) in_X14 q2694 (Or.inl rfl) rfl dX14_compareTo_2_1) (
  aSa (s_aload_n rfl rfl dX14_compareTo_2_4) (
  aSa (s_getf (T := TX14) rfl (by decide) (by decide) in_X14 q2694 (Or.inl rfl) rfl dX14_compareTo_2_5) (
  aSa (s_ceq (by decide) rfl dX14_compareTo_2_8) (
  aSa (s_aload_n rfl rfl dX14_compareTo_2_11) (
  aSa (s_getf (T := TX14) rfl (by decide) (by decide) in_X14 q2694 (Or.inl rfl) rfl dX14_compareTo_2_12) (
  aSa (s_aload_n rfl rfl dX14_compareTo_2_15) (
  aSa (s_getf (T := TX14) rfl (by decide) (by decide) in_X14 q2694 (Or.inl rfl) rfl dX14_compareTo_2_16) (
  aSa (s_callS rfl q1549 q1550 q109 q1551 (by decide +kernel) (by decide) aHS0 rfl dX14_compareTo_2_19) (
  aSa (s_goto (n := 0) (by decide) dX14_compareTo_2_22) (
  aSa (s_aload_n rfl rfl dX14_compareTo_2_25) (
  aSa (s_getf (T := TX14) rfl (by decide) (by decide) in_X14 q2692 (Or.inl rfl) rfl dX14_compareTo_2_26) (
  aSa (s_aload_n rfl rfl dX14_compareTo_2_29) (
  aSa (s_getf (T := TX14) rfl (by decide) (by decide) in_X14 q2692 (Or.inl rfl) rfl dX14_compareTo_2_30) (
  aSa (s_callS rfl q1549 q1550 q109 q1551 (by decide +kernel) (by decide) aHS0 rfl dX14_compareTo_2_33) (
  aSa (s_iret (n := 0) rfl dX14_compareTo_2_36) (
  aSn)))))))))))))))))
theorem sn213 : SndL "Slidingtray$Part$Place" "compareTo" cX14_compareTo 2 (Option.some Jvm.ClassFile.FieldType.int) [] T213 := aSa (s_aload_n rfl rfl dX14_compareTo_0) (
  aSa (s_aload_n rfl rfl dX14_compareTo_1) (
  aSa (s_cast q1544 (List.forall_mem_cons.mpr ⟨⟨_, rfl, (Or.inl rfl)⟩, fun _ h => absurd h List.not_mem_nil⟩) (fun t h => absurd h List.not_mem_nil) rfl dX14_compareTo_2) (
  aSa (s_callV (List.forall_mem_cons.mpr ⟨d_V rfl rfl q1545 q1546 q1547 q160 q1548 rfl (by decide +kernel) (by decide) rfl dX14_compareTo_5, fun _ h => absurd h List.not_mem_nil⟩) aHS0) (
  aSa (s_iret (n := 0) rfl dX14_compareTo_8) (
  aSn)))))
theorem sn214 : SndL "Slidingtray$Rings" "<init>" cX12_init 2 (Option.none : Option Jvm.ClassFile.FieldType) [] T214 := aSa (s_aload_n rfl rfl dX12_init_0) (
  aSa (s_oinit q2515 q167 q168 rfl dX12_init_1) (
  aSa (s_aload_n rfl rfl dX12_init_4) (
  aSa (s_new (T := TJ40) (ty0 := tyJ40) tyJ40_ok rfl (by decide) in_J40 q2516 q2517 q158 (by decide) rfl dX12_init_5) (
  aSa (s_dup rfl dX12_init_8) (
  aSa (s_callI rfl q2518 q2519 q158 q2520 (by decide +kernel) (by decide) rfl aHS0 rfl dX12_init_9) (
  aSa (s_putfF (T := TX12) (ty0 := tyX12) tyX12_ok nmX12 rfl (by decide) (by decide) in_X12 q2549 (Or.inl rfl) rfl rfl rfl rfl rfl dX12_init_12) (
  aSa (s_aload_n rfl rfl dX12_init_15) (
  aSa (s_new (T := TJ2) (ty0 := tyJ2) tyJ2_ok rfl (by decide) in_J2 q2531 q176 q106 (by decide) rfl dX12_init_16) (
  aSa (s_dup rfl dX12_init_19) (
  aSa (s_callI rfl q2532 q178 q106 q179 (by decide +kernel) (by decide) rfl aHS0 rfl dX12_init_20) (
  aSa (s_putf (T := TX12) (ty0 := tyX12) tyX12_ok nmX12 rfl (by decide) (by decide) in_X12 q2550 (Or.inl rfl) rfl rfl rfl dX12_init_23) (
  aSa (s_aload_n rfl rfl dX12_init_26) (
  aSa (s_getf (T := TX12) rfl (by decide) (by decide) in_X12 q2549 (Or.inl rfl) rfl dX12_init_27) (
  aSa (s_aload_n rfl rfl dX12_init_30) (
  aSa (s_callV (List.forall_mem_cons.mpr ⟨d_V rfl rfl q2533 q1199 q1200 q133 q1201 rfl (by decide +kernel) (by decide) rfl dX12_init_31, fun _ h => absurd h List.not_mem_nil⟩) aHS0) (
  aSa (s_callS rfl q2534 q1791 q129 q1792 (by decide +kernel) (by decide) aHS0 rfl dX12_init_34) (
  aSa (s_callV (List.forall_mem_cons.mpr ⟨d_V rfl rfl q2535 q2536 q2537 q158 q2538 rfl (by decide +kernel) (by decide) rfl dX12_init_37, fun _ h => absurd h List.not_mem_nil⟩) aHS0) (
  aSa (s_pop rfl dX12_init_40) (
  aSa (s_aload_n rfl rfl dX12_init_41) (
  aSa (s_getf (T := TX12) rfl (by decide) (by decide) in_X12 q2550 (Or.inl rfl) rfl dX12_init_42) (
  aSa (s_aload_n rfl rfl dX12_init_45) (
  aSa (s_callV (List.forall_mem_cons.mpr ⟨d_F (x := ⟨"java/util/List", "add", "(Ljava/lang/Object;)Z"⟩) rfl rfl (aL1 q2548 (aL1 q253 (aL1 q255 (aL1 q106 aL0)))) q257 q251 q250 q256 q254 q252 (by decide +kernel) (by decide) rfl dX12_init_46, fun _ h => absurd h List.not_mem_nil⟩) aHS0) (
  aSa (s_pop rfl dX12_init_51) (
  aSa (s_ret (n := 0) rfl dX12_init_52) (
  aSn)))))))))))))))))))))))))
theorem sn215 : SndL "Slidingtray$Rings" "grow" cX12_grow 7 (Option.some Jvm.ClassFile.FieldType.int) [] T215 := aSa (s_new (T := TJ2) (ty0 := tyJ2) tyJ2_ok rfl (by decide) in_J2 q2531 q176 q106 (by decide) rfl dX12_grow_0) (
  aSa (s_dup rfl dX12_grow_3) (
  aSa (s_callI rfl q2532 q178 q106 q179 (by decide +kernel) (by decide) rfl aHS0 rfl dX12_grow_4) (
  aSa (s_astore_n rfl (by decide) rfl dX12_grow_7) (
  aSa (s_aload_n rfl rfl dX12_grow_8) (
  aSa (s_getf (T := TX12) rfl (by decide) (by decide) in_X12 q2550 (Or.inl rfl) rfl dX12_grow_9) (
  aSa (s_callV (List.forall_mem_cons.mpr ⟨d_F (x := ⟨"java/util/List", "iterator", "()Ljava/util/Iterator;"⟩) rfl rfl (aL1 q2561 (aL1 q1272 (aL1 q1274 (aL1 q106 aL0)))) q1276 q1271 q1270 q1275 q1273 q252 (by decide +kernel) (by decide) rfl dX12_grow_12, fun _ h => absurd h List.not_mem_nil⟩) aHS0) (
  aSa (s_astore_n rfl (by decide) rfl dX12_grow_17) (
  aSa (s_aload_n rfl rfl dX12_grow_18) (
  aSa (s_callV (List.forall_mem_cons.mpr ⟨d_F (x := ⟨"java/util/Iterator", "hasNext", "()Z"⟩) rfl rfl (aL1 q2563 (aL1 q1307 (aL1 q1309 (aL1 q137 aL0)))) q1311 q1299 q1298 q1310 q1308 q1306 (by decide +kernel) (by decide) rfl dX12_grow_19, fun _ h => absurd h List.not_mem_nil⟩) aHS0) (
  aSa (s_ifeq (by decide) rfl dX12_grow_24) (
  aSa (s_aload_n rfl rfl dX12_grow_27) (
  aSa (s_callV (List.forall_mem_cons.mpr ⟨d_F (x := ⟨"java/util/Iterator", "next", "()Ljava/lang/Object;"⟩) rfl rfl (aL1 q2565 (aL1 q1340 (aL1 q1342 (aL1 q137 aL0)))) q1344 q1328 q1327 q1343 q1341 q1306 (by decide +kernel) (by decide) rfl dX12_grow_28, fun _ h => absurd h List.not_mem_nil⟩) aHS0) (
  aSa (s_cast q2566 (List.forall_mem_cons.mpr ⟨⟨_, rfl, (Or.inl rfl)⟩, fun _ h => absurd h List.not_mem_nil⟩) (fun t h => absurd h List.not_mem_nil) rfl dX12_grow_33) (
  aSa (s_astore (by decide) rfl dX12_grow_36) (
  aSa (s_iconst (v0 := 0) (by decide) rfl dX12_grow_38) (
  aSa (s_istore (by decide) rfl dX12_grow_39) (
  aSa (s_iload rfl dX12_grow_41) (
  aSa (s_iconst (v0 := 3) (by decide) rfl dX12_grow_43) (
  aSa (s_cgt (by decide) rfl dX12_grow_44) (
  aSa (s_aload rfl dX12_grow_47) (
  aSa (s_iload rfl dX12_grow_49) (
  aSa (s_callV (List.forall_mem_cons.mpr ⟨d_V rfl rfl q2583 q1253 q1254 q133 q1255 rfl (by decide +kernel) (by decide) rfl dX12_grow_51, fun _ h => absurd h List.not_mem_nil⟩) aHS0) (
  aSa (s_ifle (by decide) rfl dX12_grow_54) (
  aSa (s_aload rfl dX12_grow_57) (
  aSa (s_iload rfl dX12_grow_59) (
  aSa (s_callV (List.forall_mem_cons.mpr ⟨d_V rfl rfl q2584 q1257 q1258 q133 q1259 rfl (by decide +kernel) (by decide) rfl dX12_grow_61, fun _ h => absurd h List.not_mem_nil⟩) aHS0) (
  aSa (s_astore (by decide) rfl dX12_grow_64) (
  aSa (s_aload_n rfl rfl dX12_grow_66) (
  aSa (s_getf (T := TX12) rfl (by decide) (by decide) in_X12 q2549 (Or.inl rfl) rfl dX12_grow_67) (
  aSa (s_aload rfl dX12_grow_70) (
  aSa (s_callV (List.forall_mem_cons.mpr ⟨d_V rfl rfl q2533 q1199 q1200 q133 q1201 rfl (by decide +kernel) (by decide) rfl dX12_grow_72, fun _ h => absurd h List.not_mem_nil⟩) aHS0) (
  aSa (s_callS rfl q2534 q1791 q129 q1792 (by decide +kernel) (by decide) aHS0 rfl dX12_grow_75) (
  aSa (s_callV (List.forall_mem_cons.mpr ⟨d_V rfl rfl q2567 q2568 q2569 q158 q2570 rfl (by decide +kernel) (by decide) rfl dX12_grow_78, fun _ h => absurd h List.not_mem_nil⟩) aHS0) (
  aSa (s_ifne (by decide) rfl dX12_grow_81) (
  aSa (s_aload_n rfl rfl dX12_grow_84) (
  aSa (s_callV (List.forall_mem_cons.mpr ⟨d_F (x := ⟨"java/util/List", "size", "()I"⟩) rfl rfl (aL1 q2586 (aL1 q681 (aL1 q683 (aL1 q106 aL0)))) q685 q680 q679 q684 q682 q252 (by decide +kernel) (by decide) rfl dX12_grow_85, fun _ h => absurd h List.not_mem_nil⟩) aHS0) (
  aSa (s_iload_n rfl rfl dX12_grow_90) (
  aSa (s_cne (by decide) rfl dX12_grow_91) (
  aSa (s_new (T := TX10) (ty0 := tyX10) tyX10_ok rfl (by decide) in_X10 q2587 q1906 q155 (by decide) rfl dX12_grow_94) (
  aSa (s_dup rfl dX12_grow_97) (
  aSa (s_callI rfl q2588 q1915 q155 q1916 (by decide +kernel) (by decide) rfl aHS0 rfl dX12_grow_98) (
  aSa (s_athrow (n := 0) rfl (by decide) rfl (by decide +kernel) dX12_grow_101) (
  aSa (s_aload_n rfl rfl dX12_grow_102) (
  aSa (s_getf (T := TX12) rfl (by decide) (by decide) in_X12 q2549 (Or.inl rfl) rfl dX12_grow_103) (
  aSa (s_aload rfl dX12_grow_106) (
  aSa (s_callV (List.forall_mem_cons.mpr ⟨d_V rfl rfl q2533 q1199 q1200 q133 q1201 rfl (by decide +kernel) (by decide) rfl dX12_grow_108, fun _ h => absurd h List.not_mem_nil⟩) aHS0) (
  aSa (s_callS rfl q2534 q1791 q129 q1792 (by decide +kernel) (by decide) aHS0 rfl dX12_grow_111) (
  aSa (s_callV (List.forall_mem_cons.mpr ⟨d_V rfl rfl q2535 q2536 q2537 q158 q2538 rfl (by decide +kernel) (by decide) rfl dX12_grow_114, fun _ h => absurd h List.not_mem_nil⟩) aHS0) (
  aSa (s_pop rfl dX12_grow_117) (
  aSa (s_aload_n rfl rfl dX12_grow_118) (
  aSa (s_aload rfl dX12_grow_119) (
  aSa (s_callV (List.forall_mem_cons.mpr ⟨d_F (x := ⟨"java/util/List", "add", "(Ljava/lang/Object;)Z"⟩) rfl rfl (aL1 q2548 (aL1 q253 (aL1 q255 (aL1 q106 aL0)))) q257 q251 q250 q256 q254 q252 (by decide +kernel) (by decide) rfl dX12_grow_121, fun _ h => absurd h List.not_mem_nil⟩) aHS0) (
  aSa (s_pop rfl dX12_grow_126) (
  aSa (s_iinc (by decide) rfl dX12_grow_127) (
  aSa (s_goto (n := 0) (by decide) dX12_grow_130) (
  aSa (s_goto (n := 0) (by decide) dX12_grow_133) (
  aSa (s_aload_n rfl rfl dX12_grow_136) (
  aSa (s_aload_n rfl rfl dX12_grow_137) (
  aSa (s_putf (T := TX12) (ty0 := tyX12) tyX12_ok nmX12 rfl (by decide) (by decide) in_X12 q2550 (Or.inl rfl) rfl rfl rfl dX12_grow_138) (
  aSa (s_aload_n rfl rfl dX12_grow_141) (
  aSa (s_callV (List.forall_mem_cons.mpr ⟨d_F (x := ⟨"java/util/List", "size", "()I"⟩) rfl rfl (aL1 q2586 (aL1 q681 (aL1 q683 (aL1 q106 aL0)))) q685 q680 q679 q684 q682 q252 (by decide +kernel) (by decide) rfl dX12_grow_142, fun _ h => absurd h List.not_mem_nil⟩) aHS0) (
  aSa (s_iret (n := 0) rfl dX12_grow_147) (
  aSn)))))))))))))))))))))))))))))))))))))))))))))))))))))))))))))))
theorem sn216 : SndL "Slidingtray$Rings" "meets" cX12_meets 5 (Option.some Jvm.ClassFile.FieldType.boolean) [] T216 := aSa (s_iconst (v0 := 0) (by decide) rfl dX12_meets_0) (
  aSa (s_istore_n rfl (by decide) rfl dX12_meets_1) (
  aSa (s_aload_n rfl rfl dX12_meets_2) (
  aSa (s_getf (T := TX12) rfl (by decide) (by decide) in_X12 q2550 (Or.inl rfl) rfl dX12_meets_3) (
  aSa (s_callV (List.forall_mem_cons.mpr ⟨d_F (x := ⟨"java/util/List", "iterator", "()Ljava/util/Iterator;"⟩) rfl rfl (aL1 q2561 (aL1 q1272 (aL1 q1274 (aL1 q106 aL0)))) q1276 q1271 q1270 q1275 q1273 q252 (by decide +kernel) (by decide) rfl dX12_meets_6, fun _ h => absurd h List.not_mem_nil⟩) aHS0) (
  aSa (s_astore_n rfl (by decide) rfl dX12_meets_11) (
  aSa (s_aload_n rfl rfl dX12_meets_12) (
  aSa (s_callV (List.forall_mem_cons.mpr ⟨d_F (x := ⟨"java/util/Iterator", "hasNext", "()Z"⟩) rfl rfl (aL1 q2563 (aL1 q1307 (aL1 q1309 (aL1 q137 aL0)))) q1311 q1299 q1298 q1310 q1308 q1306 (by decide +kernel) (by decide) rfl dX12_meets_13, fun _ h => absurd h List.not_mem_nil⟩) aHS0) (
  aSa (s_ifeq (by decide) rfl dX12_meets_18) (
  aSa (s_aload_n rfl rfl dX12_meets_21) (
  aSa (s_callV (List.forall_mem_cons.mpr ⟨d_F (x := ⟨"java/util/Iterator", "next", "()Ljava/lang/Object;"⟩) rfl rfl (aL1 q2565 (aL1 q1340 (aL1 q1342 (aL1 q137 aL0)))) q1344 q1328 q1327 q1343 q1341 q1306 (by decide +kernel) (by decide) rfl dX12_meets_22, fun _ h => absurd h List.not_mem_nil⟩) aHS0) (
  aSa (s_cast q2566 (List.forall_mem_cons.mpr ⟨⟨_, rfl, (Or.inl rfl)⟩, fun _ h => absurd h List.not_mem_nil⟩) (fun t h => absurd h List.not_mem_nil) rfl dX12_meets_27) (
  aSa (s_astore (by decide) rfl dX12_meets_30) (
  aSa (s_iload_n rfl rfl dX12_meets_32) (
  aSa (s_ifne (by decide) rfl dX12_meets_33) (
  aSa (s_aload_n rfl rfl dX12_meets_36) (
  aSa (s_getf (T := TX12) rfl (by decide) (by decide) in_X12 q2549 (Or.inl rfl) rfl dX12_meets_37) (
  aSa (s_aload rfl dX12_meets_40) (
  aSa (s_callV (List.forall_mem_cons.mpr ⟨d_V rfl rfl q2533 q1199 q1200 q133 q1201 rfl (by decide +kernel) (by decide) rfl dX12_meets_42, fun _ h => absurd h List.not_mem_nil⟩) aHS0) (
  aSa (s_callS rfl q2534 q1791 q129 q1792 (by decide +kernel) (by decide) aHS0 rfl dX12_meets_45) (
  aSa (s_callV (List.forall_mem_cons.mpr ⟨d_V rfl rfl q2567 q2568 q2569 q158 q2570 rfl (by decide +kernel) (by decide) rfl dX12_meets_48, fun _ h => absurd h List.not_mem_nil⟩) aHS0) (
  aSa (s_ifeq (by decide) rfl dX12_meets_51) (
  aSa (s_iconst (v0 := 1) (by decide) rfl dX12_meets_54) (
  aSa (s_goto (n := 0) (by decide) dX12_meets_55) (
  aSa (s_iconst (v0 := 0) (by decide) rfl dX12_meets_58) (
  aSa (s_istore_n rfl (by decide) rfl dX12_meets_59) (
  aSa (s_goto (n := 0) (by decide) dX12_meets_60) (
  aSa (s_iload_n rfl rfl dX12_meets_63) (
  aSa (s_iret (n := 0) rfl dX12_meets_64) (
  aSn)))))))))))))))))))))))))))))
theorem sn217 : SndL "Slidingtray$Shape" "<init>" cX2_init 7 (Option.none : Option Jvm.ClassFile.FieldType) [] T217 := aSa (s_aload_n rfl rfl dX2_init_0) (
  aSa (s_oinit q174 q167 q168 rfl dX2_init_1) (
  aSa (s_aload_n rfl rfl dX2_init_4) (
  aSa (s_new (T := TJ2) (ty0 := tyJ2) tyJ2_ok rfl (by decide) in_J2 q175 q176 q106 (by decide) rfl dX2_init_5) (
  aSa (s_dup rfl dX2_init_8) (
  aSa (s_callI rfl q177 q178 q106 q179 (by decide +kernel) (by decide) rfl aHS0 rfl dX2_init_9) (
  aSa (s_putfF (T := TX2) (ty0 := tyX2) tyX2_ok nmX2 rfl (by decide) (by decide) in_X2 q991 (Or.inl rfl) rfl rfl rfl rfl rfl dX2_init_12) (
  aSa (s_aload_n rfl rfl dX2_init_15) (
  aSa (s_new (T := TJ3) (ty0 := tyJ3) tyJ3_ok rfl (by decide) in_J3 q204 q205 q107 (by decide) rfl dX2_init_16) (
  aSa (s_dup rfl dX2_init_19) (
  aSa (s_callI rfl q206 q207 q107 q208 (by decide +kernel) (by decide) rfl aHS0 rfl dX2_init_20) (
  aSa (s_putfF (T := TX2) (ty0 := tyX2) tyX2_ok nmX2 rfl (by decide) (by decide) in_X2 q998 (Or.inl rfl) rfl rfl rfl rfl rfl dX2_init_23) (
  aSa (s_aload_n rfl rfl dX2_init_26) (
  aSa (s_new (T := TJ3) (ty0 := tyJ3) tyJ3_ok rfl (by decide) in_J3 q204 q205 q107 (by decide) rfl dX2_init_27) (
  aSa (s_dup rfl dX2_init_30) (
  aSa (s_callI rfl q206 q207 q107 q208 (by decide +kernel) (by decide) rfl aHS0 rfl dX2_init_31) (
  aSa (s_putfF (T := TX2) (ty0 := tyX2) tyX2_ok nmX2 rfl (by decide) (by decide) in_X2 q1000 (Or.inl rfl) rfl rfl rfl rfl rfl dX2_init_34) (
  aSa (s_aload_n rfl rfl dX2_init_37) (
  aSa (s_iload_n rfl rfl dX2_init_38) (
  aSa (s_putfF (T := TX2) (ty0 := tyX2) tyX2_ok nmX2 rfl (by decide) (by decide) in_X2 q987 (Or.inl rfl) rfl rfl rfl rfl rfl dX2_init_39) (
  aSa (s_aload_n rfl rfl dX2_init_42) (
  aSa (s_iload_n rfl rfl dX2_init_43) (
  aSa (s_putfF (T := TX2) (ty0 := tyX2) tyX2_ok nmX2 rfl (by decide) (by decide) in_X2 q989 (Or.inl rfl) rfl rfl rfl rfl rfl dX2_init_44) (
  aSa (s_iconst (v0 := 0) (by decide) rfl dX2_init_47) (
  aSa (s_istore (by decide) rfl dX2_init_48) (
  aSa (s_iload rfl dX2_init_50) (
  aSa (s_iload_n rfl rfl dX2_init_52) (
  aSa (s_iload_n rfl rfl dX2_init_53) (
  aSa (s_imul rfl dX2_init_54) (
  aSa (s_cge (by decide) rfl dX2_init_55) (
  aSa (s_iload_n rfl rfl dX2_init_58) (
  aSa (s_iload rfl dX2_init_59) (
  aSa (s_ishr rfl dX2_init_61) (
  aSa (s_iconst (v0 := 1) (by decide) rfl dX2_init_62) (
  aSa (s_iand rfl dX2_init_63) (
  aSa (s_ifne (by decide) rfl dX2_init_64) (
  aSa (s_aload_n rfl rfl dX2_init_67) (
  aSa (s_getf (T := TX2) rfl (by decide) (by decide) in_X2 q991 (Or.inl rfl) rfl dX2_init_68) (
  aSa (s_iload rfl dX2_init_71) (
  aSa (s_callS rfl q228 q229 q109 q230 (by decide +kernel) (by decide) aHS0 rfl dX2_init_73) (
  aSa (s_callV (List.forall_mem_cons.mpr ⟨d_F (x := ⟨"java/util/List", "add", "(Ljava/lang/Object;)Z"⟩) rfl rfl (aL1 q249 (aL1 q253 (aL1 q255 (aL1 q106 aL0)))) q257 q251 q250 q256 q254 q252 (by decide +kernel) (by decide) rfl dX2_init_76, fun _ h => absurd h List.not_mem_nil⟩) aHS0) (
  aSa (s_pop rfl dX2_init_81) (
  aSa (s_goto (n := 0) (by decide) dX2_init_82) (
  aSa (s_aload_n rfl rfl dX2_init_85) (
  aSa (s_getf (T := TX2) rfl (by decide) (by decide) in_X2 q998 (Or.inl rfl) rfl dX2_init_86) (
  aSa (s_iload rfl dX2_init_89) (
  aSa (s_iload_n rfl rfl dX2_init_91) (
  aSa (s_idiv rfl dX2_init_92) (
  aSa (s_callV (List.forall_mem_cons.mpr ⟨d_V rfl rfl q337 q338 q339 q107 q340 rfl (by decide +kernel) (by decide) rfl dX2_init_93, fun _ h => absurd h List.not_mem_nil⟩) aHS0) (
  aSa (s_aload_n rfl rfl dX2_init_96) (
  aSa (s_getf (T := TX2) rfl (by decide) (by decide) in_X2 q1000 (Or.inl rfl) rfl dX2_init_97) (
  aSa (s_iload rfl dX2_init_100) (
  aSa (s_iload_n rfl rfl dX2_init_102) (
  aSa (s_irem rfl dX2_init_103) (
  aSa (s_callV (List.forall_mem_cons.mpr ⟨d_V rfl rfl q337 q338 q339 q107 q340 rfl (by decide +kernel) (by decide) rfl dX2_init_104, fun _ h => absurd h List.not_mem_nil⟩) aHS0) (
  aSa (s_iinc (by decide) rfl dX2_init_107) (
  aSa (s_goto (n := 0) (by decide) dX2_init_110) (
  aSa (s_aload_n rfl rfl dX2_init_113) (
  aSa (s_aload_n rfl rfl dX2_init_114) (
  aSa (s_getf (T := TX2) rfl (by decide) (by decide) in_X2 q991 (Or.inl rfl) rfl dX2_init_115) (
  aSa (s_callV (List.forall_mem_cons.mpr ⟨d_F (x := ⟨"java/util/List", "size", "()I"⟩) rfl rfl (aL1 q678 (aL1 q681 (aL1 q683 (aL1 q106 aL0)))) q685 q680 q679 q684 q682 q252 (by decide +kernel) (by decide) rfl dX2_init_118, fun _ h => absurd h List.not_mem_nil⟩) aHS0) (
  aSa (s_iconst (v0 := 4) (by decide) rfl dX2_init_123) (
  aSa (s_multi q686 q687 q915 rfl dX2_init_124) (
  aSa (s_putfF (T := TX2) (ty0 := tyX2) tyX2_ok nmX2 rfl (by decide) (by decide) in_X2 q993 (Or.inl rfl) rfl rfl rfl rfl rfl dX2_init_128) (
  aSa (s_iconst (v0 := 0) (by decide) rfl dX2_init_131) (
  aSa (s_istore (by decide) rfl dX2_init_132) (
  aSa (s_iload rfl dX2_init_134) (
  aSa (s_aload_n rfl rfl dX2_init_136) (
  aSa (s_getf (T := TX2) rfl (by decide) (by decide) in_X2 q991 (Or.inl rfl) rfl dX2_init_137) (
  aSa (s_callV (List.forall_mem_cons.mpr ⟨d_F (x := ⟨"java/util/List", "size", "()I"⟩) rfl rfl (aL1 q678 (aL1 q681 (aL1 q683 (aL1 q106 aL0)))) q685 q680 q679 q684 q682 q252 (by decide +kernel) (by decide) rfl dX2_init_140, fun _ h => absurd h List.not_mem_nil⟩) aHS0) (
  aSa (s_cge (by decide) rfl dX2_init_145) (
  aSa (s_aload_n rfl rfl dX2_init_148) (
  aSa (s_iload rfl dX2_init_149) (
  aSa (s_callV (List.forall_mem_cons.mpr ⟨d_V rfl rfl q688 q689 q690 q103 q691 rfl (by decide +kernel) (by decide) rfl dX2_init_151, fun _ h => absurd h List.not_mem_nil⟩) aHS0) (
  aSa (s_istore (by decide) rfl dX2_init_154) (
  aSa (s_aload_n rfl rfl dX2_init_156) (
  aSa (s_iload rfl dX2_init_157) (
  aSa (s_callV (List.forall_mem_cons.mpr ⟨d_V rfl rfl q716 q717 q718 q103 q719 rfl (by decide +kernel) (by decide) rfl dX2_init_159, fun _ h => absurd h List.not_mem_nil⟩) aHS0) (
  aSa (s_istore (by decide) rfl dX2_init_162) (
  aSa (s_aload_n rfl rfl dX2_init_164) (
  aSa (s_getf (T := TX2) rfl (by decide) (by decide) in_X2 q993 (Or.inl rfl) rfl dX2_init_165) (
  aSa (s_iload rfl dX2_init_168) (
  aSa (s_aald rfl dX2_init_170) (
  aSa (s_iconst (v0 := 0) (by decide) rfl dX2_init_171) (
  aSa (s_aload_n rfl rfl dX2_init_172) (
  aSa (s_iload rfl dX2_init_173) (
  aSa (s_iconst (v0 := 1) (by decide) rfl dX2_init_175) (
  aSa (s_isub rfl dX2_init_176) (
  aSa (s_iload rfl dX2_init_177) (
  aSa (s_callV (List.forall_mem_cons.mpr ⟨d_V rfl rfl q720 q721 q722 q103 q723 rfl (by decide +kernel) (by decide) rfl dX2_init_179, fun _ h => absurd h List.not_mem_nil⟩) aHS0) (
  aSa (s_iast rfl dX2_init_182) (
  aSa (s_aload_n rfl rfl dX2_init_183) (
  aSa (s_getf (T := TX2) rfl (by decide) (by decide) in_X2 q993 (Or.inl rfl) rfl dX2_init_184) (
  aSa (s_iload rfl dX2_init_187) (
  aSa (s_aald rfl dX2_init_189) (
  aSa (s_iconst (v0 := 1) (by decide) rfl dX2_init_190) (
  aSa (s_aload_n rfl rfl dX2_init_191) (
  aSa (s_iload rfl dX2_init_192) (
  aSa (s_iload rfl dX2_init_194) (
  aSa (s_iconst (v0 := 1) (by decide) rfl dX2_init_196) (
  aSa (s_isub rfl dX2_init_197) (
  aSa (s_callV (List.forall_mem_cons.mpr ⟨d_V rfl rfl q720 q721 q722 q103 q723 rfl (by decide +kernel) (by decide) rfl dX2_init_198, fun _ h => absurd h List.not_mem_nil⟩) aHS0) (
  aSa (s_iast rfl dX2_init_201) (
  aSa (s_aload_n rfl rfl dX2_init_202) (
  aSa (s_getf (T := TX2) rfl (by decide) (by decide) in_X2 q993 (Or.inl rfl) rfl dX2_init_203) (
  aSa (s_iload rfl dX2_init_206) (
  aSa (s_aald rfl dX2_init_208) (
  aSa (s_iconst (v0 := 2) (by decide) rfl dX2_init_209) (
  aSa (s_aload_n rfl rfl dX2_init_210) (
  aSa (s_iload rfl dX2_init_211) (
  aSa (s_iload rfl dX2_init_213) (
  aSa (s_iconst (v0 := 1) (by decide) rfl dX2_init_215) (
  aSa (s_iadd rfl dX2_init_216) (
  aSa (s_callV (List.forall_mem_cons.mpr ⟨d_V rfl rfl q720 q721 q722 q103 q723 rfl (by decide +kernel) (by decide) rfl dX2_init_217, fun _ h => absurd h List.not_mem_nil⟩) aHS0) (
  aSa (s_iast rfl dX2_init_220) (
  aSa (s_aload_n rfl rfl dX2_init_221) (
  aSa (s_getf (T := TX2) rfl (by decide) (by decide) in_X2 q993 (Or.inl rfl) rfl dX2_init_222) (
  aSa (s_iload rfl dX2_init_225) (
  aSa (s_aald rfl dX2_init_227) (
  aSa (s_iconst (v0 := 3) (by decide) rfl dX2_init_228) (
  aSa (s_aload_n rfl rfl dX2_init_229) (
  aSa (s_iload rfl dX2_init_230) (
  aSa (s_iconst (v0 := 1) (by decide) rfl dX2_init_232) (
  aSa (s_iadd rfl dX2_init_233) (
  aSa (s_iload rfl dX2_init_234) (
  aSa (s_callV (List.forall_mem_cons.mpr ⟨d_V rfl rfl q720 q721 q722 q103 q723 rfl (by decide +kernel) (by decide) rfl dX2_init_236, fun _ h => absurd h List.not_mem_nil⟩) aHS0) (
  aSa (s_iast rfl dX2_init_239) (
  aSa (s_iinc (by decide) rfl dX2_init_240) (
  aSa (s_goto (n := 0) (by decide) dX2_init_243) (
  aSa (s_aload_n rfl rfl dX2_init_246) (
  aSa (s_aload_n rfl rfl dX2_init_247) (
  aSa (s_getf (T := TX2) rfl (by decide) (by decide) in_X2 q991 (Or.inl rfl) rfl dX2_init_248) (
  aSa (s_callV (List.forall_mem_cons.mpr ⟨d_F (x := ⟨"java/util/List", "size", "()I"⟩) rfl rfl (aL1 q678 (aL1 q681 (aL1 q683 (aL1 q106 aL0)))) q685 q680 q679 q684 q682 q252 (by decide +kernel) (by decide) rfl dX2_init_251, fun _ h => absurd h List.not_mem_nil⟩) aHS0) (
  aSa (s_aload_n rfl rfl dX2_init_256) (
  aSa (s_getf (T := TX2) rfl (by decide) (by decide) in_X2 q991 (Or.inl rfl) rfl dX2_init_257) (
  aSa (s_callV (List.forall_mem_cons.mpr ⟨d_F (x := ⟨"java/util/List", "size", "()I"⟩) rfl rfl (aL1 q678 (aL1 q681 (aL1 q683 (aL1 q106 aL0)))) q685 q680 q679 q684 q682 q252 (by decide +kernel) (by decide) rfl dX2_init_260, fun _ h => absurd h List.not_mem_nil⟩) aHS0) (
  aSa (s_multi q686 q687 q915 rfl dX2_init_265) (
  aSa (s_putfF (T := TX2) (ty0 := tyX2) tyX2_ok nmX2 rfl (by decide) (by decide) in_X2 q996 (Or.inl rfl) rfl rfl rfl rfl rfl dX2_init_269) (
  aSa (s_iconst (v0 := 0) (by decide) rfl dX2_init_272) (
  aSa (s_istore (by decide) rfl dX2_init_273) (
  aSa (s_iload rfl dX2_init_275) (
  aSa (s_aload_n rfl rfl dX2_init_277) (
  aSa (s_getf (T := TX2) rfl (by decide) (by decide) in_X2 q991 (Or.inl rfl) rfl dX2_init_278) (
  aSa (s_callV (List.forall_mem_cons.mpr ⟨d_F (x := ⟨"java/util/List", "size", "()I"⟩) rfl rfl (aL1 q678 (aL1 q681 (aL1 q683 (aL1 q106 aL0)))) q685 q680 q679 q684 q682 q252 (by decide +kernel) (by decide) rfl dX2_init_281, fun _ h => absurd h List.not_mem_nil⟩) aHS0) (
  aSa (s_cge (by decide) rfl dX2_init_286) (
  aSa (s_aload_n rfl rfl dX2_init_289) (
  aSa (s_iload rfl dX2_init_290) (
  aSa (s_callV (List.forall_mem_cons.mpr ⟨d_V rfl rfl q889 q891 qs8 q103 q892 rfl (by decide +kernel) (by decide) rfl dX2_init_292, fun _ h => absurd h List.not_mem_nil⟩) aHS0) (
  aSa (s_iinc (by decide) rfl dX2_init_295) (
  aSa (s_goto (n := 0) (by decide) dX2_init_298) (
  aSa (s_ret (n := 0) rfl dX2_init_301) (
  aSn)))))))))))))))))))))))))))))))))))))))))))))))))))))))))))))))))))))))))))))))))))))))))))))))))))))))))))))))))))))))))))))))))))))))))))))))))))))))
theorem sn218 : SndL "Slidingtray$Shape" "columnOf" cX2_columnOf 2 (Option.some Jvm.ClassFile.FieldType.int) [] T218 := aSa (s_aload_n rfl rfl dX2_columnOf_0) (
  aSa (s_getf (T := TX2) rfl (by decide) (by decide) in_X2 q991 (Or.inl rfl) rfl dX2_columnOf_1) (
  aSa (s_iload_n rfl rfl dX2_columnOf_4) (
  aSa (s_callV (List.forall_mem_cons.mpr ⟨d_F (x := ⟨"java/util/List", "get", "(I)Ljava/lang/Object;"⟩) rfl rfl (aL1 q693 (aL1 q696 (aL1 q698 (aL1 q106 aL0)))) q700 q695 q694 q699 q697 q252 (by decide +kernel) (by decide) rfl dX2_columnOf_5, fun _ h => absurd h List.not_mem_nil⟩) aHS0) (
  aSa (s_cast q711 (List.forall_mem_cons.mpr ⟨⟨_, rfl, (Or.inl rfl)⟩, List.forall_mem_cons.mpr ⟨⟨_, rfl, (Or.inl rfl)⟩, fun _ h => absurd h List.not_mem_nil⟩⟩) (fun t h => absurd h List.not_mem_nil) rfl dX2_columnOf_10) (
  aSa (s_callV (List.forall_mem_cons.mpr ⟨d_V rfl rfl q712 q713 q714 q109 q715 rfl (by decide +kernel) (by decide) rfl dX2_columnOf_13, List.forall_mem_cons.mpr ⟨d_V rfl rfl q712 q713 q714 q109 q715 rfl (by decide +kernel) (by decide) rfl dX2_columnOf_13, fun _ h => absurd h List.not_mem_nil⟩⟩) aHS0) (
  aSa (s_aload_n rfl rfl dX2_columnOf_16) (
  aSa (s_getf (T := TX2) rfl (by decide) (by decide) in_X2 q989 (Or.inl rfl) rfl dX2_columnOf_17) (
  aSa (s_irem rfl dX2_columnOf_20) (
  aSa (s_iret (n := 0) rfl dX2_columnOf_21) (
  aSn))))))))))
theorem sn219 : SndL "Slidingtray$Shape" "isConnected" cX2_isConnected 3 (Option.some Jvm.ClassFile.FieldType.boolean) [] T219 := aSa (s_iconst (v0 := 1) (by decide) rfl dX2_isConnected_0) (
  aSa (s_istore_n rfl (by decide) rfl dX2_isConnected_1) (
  aSa (s_iconst (v0 := 0) (by decide) rfl dX2_isConnected_2) (
  aSa (s_istore_n rfl (by decide) rfl dX2_isConnected_3) (
  aSa (s_iload_n rfl rfl dX2_isConnected_4) (
  aSa (s_aload_n rfl rfl dX2_isConnected_5) (
  aSa (s_callV (List.forall_mem_cons.mpr ⟨d_V rfl rfl q2025 q1023 q1024 q103 q1025 rfl (by decide +kernel) (by decide) rfl dX2_isConnected_6, fun _ h => absurd h List.not_mem_nil⟩) aHS0) (
  aSa (s_cge (by decide) rfl dX2_isConnected_9) (
  aSa (s_iload_n rfl rfl dX2_isConnected_12) (
  aSa (s_ifeq (by decide) rfl dX2_isConnected_13) (
  aSa (s_aload_n rfl rfl dX2_isConnected_16) (
  aSa (s_getf (T := TX2) rfl (by decide) (by decide) in_X2 q996 (Or.inl rfl) rfl dX2_isConnected_17) (
  aSa (s_iconst (v0 := 0) (by decide) rfl dX2_isConnected_20) (
  aSa (s_aald rfl dX2_isConnected_21) (
  aSa (s_iload_n rfl rfl dX2_isConnected_22) (
  aSa (s_iald rfl dX2_isConnected_23) (
  aSa (s_iconst (v0 := (-1)) (by decide) rfl dX2_isConnected_24) (
  aSa (s_ceq (by decide) rfl dX2_isConnected_25) (
  aSa (s_iconst (v0 := 1) (by decide) rfl dX2_isConnected_28) (
  aSa (s_goto (n := 0) (by decide) dX2_isConnected_29) (
  aSa (s_iconst (v0 := 0) (by decide) rfl dX2_isConnected_32) (
  aSa (s_istore_n rfl (by decide) rfl dX2_isConnected_33) (
  aSa (s_iinc (by decide) rfl dX2_isConnected_34) (
  aSa (s_goto (n := 0) (by decide) dX2_isConnected_37) (
  aSa (s_iload_n rfl rfl dX2_isConnected_40) (
  aSa (s_iret (n := 0) rfl dX2_isConnected_41) (
  aSn))))))))))))))))))))))))))
theorem sn220 : SndL "Slidingtray$Shape" "measure" cX2_measure 8 (Option.none : Option Jvm.ClassFile.FieldType) [] T220 := aSa (s_aload_n rfl rfl dX2_measure_0) (
  aSa (s_getf (T := TX2) rfl (by decide) (by decide) in_X2 q996 (Or.inl rfl) rfl dX2_measure_1) (
  aSa (s_iload_n rfl rfl dX2_measure_4) (
  aSa (s_aald rfl dX2_measure_5) (
  aSa (s_iconst (v0 := (-1)) (by decide) rfl dX2_measure_6) (
  aSa (s_callS rfl q893 q894 q113 q895 (by decide +kernel) (by decide) aHS0 rfl dX2_measure_7) (
  aSa (s_aload_n rfl rfl dX2_measure_10) (
  aSa (s_getf (T := TX2) rfl (by decide) (by decide) in_X2 q996 (Or.inl rfl) rfl dX2_measure_11) (
  aSa (s_iload_n rfl rfl dX2_measure_14) (
  aSa (s_aald rfl dX2_measure_15) (
  aSa (s_iload_n rfl rfl dX2_measure_16) (
  aSa (s_iconst (v0 := 0) (by decide) rfl dX2_measure_17) (
  aSa (s_iast rfl dX2_measure_18) (
  aSa (s_new (T := TJ23) (ty0 := tyJ23) tyJ23_ok rfl (by decide) in_J23 q896 q897 q130 (by decide) rfl dX2_measure_19) (
  aSa (s_dup rfl dX2_measure_22) (
  aSa (s_callI rfl q898 q899 q130 q900 (by decide +kernel) (by decide) rfl aHS0 rfl dX2_measure_23) (
  aSa (s_astore_n rfl (by decide) rfl dX2_measure_26) (
  aSa (s_aload_n rfl rfl dX2_measure_27) (
  aSa (s_iload_n rfl rfl dX2_measure_28) (
  aSa (s_callS rfl q228 q229 q109 q230 (by decide +kernel) (by decide) aHS0 rfl dX2_measure_29) (
  aSa (s_callV (List.forall_mem_cons.mpr ⟨d_V rfl rfl q916 q917 q918 q130 q919 rfl (by decide +kernel) (by decide) rfl dX2_measure_32, fun _ h => absurd h List.not_mem_nil⟩) aHS0) (
  aSa (s_aload_n rfl rfl dX2_measure_35) (
  aSa (s_callV (List.forall_mem_cons.mpr ⟨d_V rfl rfl q951 q952 q953 q130 q954 rfl (by decide +kernel) (by decide) rfl dX2_measure_36, fun _ h => absurd h List.not_mem_nil⟩) aHS0) (
  aSa (s_ifne (by decide) rfl dX2_measure_39) (
  aSa (s_aload_n rfl rfl dX2_measure_42) (
  aSa (s_callV (List.forall_mem_cons.mpr ⟨d_V rfl rfl q955 q956 q957 q130 q958 rfl (by decide +kernel) (by decide) rfl dX2_measure_43, fun _ h => absurd h List.not_mem_nil⟩) aHS0) (
  aSa (s_cast q711 (List.forall_mem_cons.mpr ⟨⟨_, rfl, (Or.inl rfl)⟩, List.forall_mem_cons.mpr ⟨⟨_, rfl, (Or.inl rfl)⟩, fun _ h => absurd h List.not_mem_nil⟩⟩) (fun t h => absurd h List.not_mem_nil) rfl dX2_measure_46) (
  aSa (s_callV (List.forall_mem_cons.mpr ⟨d_V rfl rfl q712 q713 q714 q109 q715 rfl (by decide +kernel) (by decide) rfl dX2_measure_49, List.forall_mem_cons.mpr ⟨d_V rfl rfl q712 q713 q714 q109 q715 rfl (by decide +kernel) (by decide) rfl dX2_measure_49, fun _ h => absurd h List.not_mem_nil⟩⟩) aHS0) (
  aSa (s_istore_n rfl (by decide) rfl dX2_measure_52) (
  aSa (s_aload_n rfl rfl dX2_measure_53) (
  aSa (s_getf (T := TX2) rfl (by decide) (by decide) in_X2 q993 (Or.inl rfl) rfl dX2_measure_54) (
  aSa (s_iload_n rfl rfl dX2_measure_57) (
  aSa (s_aald rfl dX2_measure_58) (
  aSa (s_astore (by decide) rfl dX2_measure_59) (
  aSa (s_aload rfl dX2_measure_61) (
  aSa (s_alen rfl dX2_measure_63) (
  aSa (s_istore (by decide) rfl dX2_measure_64) (
  aSa (s_iconst (v0 := 0) (by decide) rfl dX2_measure_66) (
  aSa (s_istore (by decide) rfl dX2_measure_67) (
  aSa (s_iload rfl dX2_measure_69) (
  aSa (s_iload rfl dX2_measure_71) (
  aSa (s_cge (by decide) rfl dX2_measure_73) (
  aSa (s_aload rfl dX2_measure_76) (
  aSa (s_iload rfl dX2_measure_78) (
  aSa (s_iald rfl dX2_measure_80) (
  aSa (s_istore (by decide) rfl dX2_measure_81) (
  aSa (s_iload rfl dX2_measure_83) (
  aSa (s_iconst (v0 := (-1)) (by decide) rfl dX2_measure_85) (
  aSa (s_ceq (by decide) rfl dX2_measure_86) (
  aSa (s_aload_n rfl rfl dX2_measure_89) (
  aSa (s_getf (T := TX2) rfl (by decide) (by decide) in_X2 q996 (Or.inl rfl) rfl dX2_measure_90) (
  aSa (s_iload_n rfl rfl dX2_measure_93) (
  aSa (s_aald rfl dX2_measure_94) (
  aSa (s_iload rfl dX2_measure_95) (
  aSa (s_iald rfl dX2_measure_97) (
  aSa (s_iconst (v0 := (-1)) (by decide) rfl dX2_measure_98) (
  aSa (s_cne (by decide) rfl dX2_measure_99) (
  aSa (s_aload_n rfl rfl dX2_measure_102) (
  aSa (s_getf (T := TX2) rfl (by decide) (by decide) in_X2 q996 (Or.inl rfl) rfl dX2_measure_103) (
  aSa (s_iload_n rfl rfl dX2_measure_106) (
  aSa (s_aald rfl dX2_measure_107) (
  aSa (s_iload rfl dX2_measure_108) (
  aSa (s_aload_n rfl rfl dX2_measure_110) (
  aSa (s_getf (T := TX2) rfl (by decide) (by decide) in_X2 q996 (Or.inl rfl) rfl dX2_measure_111) (
  aSa (s_iload_n rfl rfl dX2_measure_114) (
  aSa (s_aald rfl dX2_measure_115) (
  aSa (s_iload_n rfl rfl dX2_measure_116) (
  aSa (s_iald rfl dX2_measure_117) (
  aSa (s_iconst (v0 := 1) (by decide) rfl dX2_measure_118) (
  aSa (s_iadd rfl dX2_measure_119) (
  aSa (s_iast rfl dX2_measure_120) (
  aSa (s_aload_n rfl rfl dX2_measure_121) (
  aSa (s_iload rfl dX2_measure_122) (
  aSa (s_callS rfl q228 q229 q109 q230 (by decide +kernel) (by decide) aHS0 rfl dX2_measure_124) (
  aSa (s_callV (List.forall_mem_cons.mpr ⟨d_V rfl rfl q916 q917 q918 q130 q919 rfl (by decide +kernel) (by decide) rfl dX2_measure_127, fun _ h => absurd h List.not_mem_nil⟩) aHS0) (
  aSa (s_iinc (by decide) rfl dX2_measure_130) (
  aSa (s_goto (n := 0) (by decide) dX2_measure_133) (
  aSa (s_goto (n := 0) (by decide) dX2_measure_136) (
  aSa (s_ret (n := 0) rfl dX2_measure_139) (
  aSn)))))))))))))))))))))))))))))))))))))))))))))))))))))))))))))))))))))))))))))))
theorem sn221 : SndL "Slidingtray$Shape" "openAt" cX2_openAt 4 (Option.some Jvm.ClassFile.FieldType.int) [] T221 := aSa (s_iload_n rfl rfl dX2_openAt_0) (
  aSa (s_iflt (by decide) rfl dX2_openAt_1) (
  aSa (s_iload_n rfl rfl dX2_openAt_4) (
  aSa (s_aload_n rfl rfl dX2_openAt_5) (
  aSa (s_getf (T := TX2) rfl (by decide) (by decide) in_X2 q987 (Or.inl rfl) rfl dX2_openAt_6) (
  aSa (s_cge (by decide) rfl dX2_openAt_9) (
  aSa (s_iload_n rfl rfl dX2_openAt_12) (
  aSa (s_iflt (by decide) rfl dX2_openAt_13) (
  aSa (s_iload_n rfl rfl dX2_openAt_16) (
  aSa (s_aload_n rfl rfl dX2_openAt_17) (
  aSa (s_getf (T := TX2) rfl (by decide) (by decide) in_X2 q989 (Or.inl rfl) rfl dX2_openAt_18) (
  aSa (s_cge (by decide) rfl dX2_openAt_21) (
  aSa (s_iconst (v0 := 1) (by decide) rfl dX2_openAt_24) (
  aSa (s_goto (n := 0) (by decide) dX2_openAt_25) (
  aSa (s_iconst (v0 := 0) (by decide) rfl dX2_openAt_28) (
  aSa (s_istore_n rfl (by decide) rfl dX2_openAt_29) (
  aSa (s_iload_n rfl rfl dX2_openAt_30) (
  aSa (s_ifeq (by decide) rfl dX2_openAt_31) (
  aSa (s_aload_n rfl rfl dX2_openAt_34) (
  aSa (s_getf (T := TX2) rfl (by decide) (by decide) in_X2 q991 (Or.inl rfl) rfl dX2_openAt_35) (
  aSa (s_iload_n rfl rfl dX2_openAt_38) (
  aSa (s_aload_n rfl rfl dX2_openAt_39) (
  aSa (s_getf (T := TX2) rfl (by decide) (by decide) in_X2 q989 (Or.inl rfl) rfl dX2_openAt_40) (
  aSa (s_imul rfl dX2_openAt_43) (
  aSa (s_iload_n rfl rfl dX2_openAt_44) (
  aSa (s_iadd rfl dX2_openAt_45) (
  aSa (s_callS rfl q228 q229 q109 q230 (by decide +kernel) (by decide) aHS0 rfl dX2_openAt_46) (
  aSa (s_callV (List.forall_mem_cons.mpr ⟨d_F (x := ⟨"java/util/List", "indexOf", "(Ljava/lang/Object;)I"⟩) rfl rfl (aL1 q725 (aL1 q728 (aL1 q730 (aL1 q106 aL0)))) q732 q727 q726 q731 q729 q252 (by decide +kernel) (by decide) rfl dX2_openAt_49, fun _ h => absurd h List.not_mem_nil⟩) aHS0) (
  aSa (s_goto (n := 0) (by decide) dX2_openAt_54) (
  aSa (s_iconst (v0 := (-1)) (by decide) rfl dX2_openAt_57) (
  aSa (s_iret (n := 0) rfl dX2_openAt_58) (
  aSn)))))))))))))))))))))))))))))))
theorem sn222 : SndL "Slidingtray$Shape" "rowOf" cX2_rowOf 2 (Option.some Jvm.ClassFile.FieldType.int) [] T222 := aSa (s_aload_n rfl rfl dX2_rowOf_0) (
  aSa (s_getf (T := TX2) rfl (by decide) (by decide) in_X2 q991 (Or.inl rfl) rfl dX2_rowOf_1) (
  aSa (s_iload_n rfl rfl dX2_rowOf_4) (
  aSa (s_callV (List.forall_mem_cons.mpr ⟨d_F (x := ⟨"java/util/List", "get", "(I)Ljava/lang/Object;"⟩) rfl rfl (aL1 q693 (aL1 q696 (aL1 q698 (aL1 q106 aL0)))) q700 q695 q694 q699 q697 q252 (by decide +kernel) (by decide) rfl dX2_rowOf_5, fun _ h => absurd h List.not_mem_nil⟩) aHS0) (
  aSa (s_cast q711 (List.forall_mem_cons.mpr ⟨⟨_, rfl, (Or.inl rfl)⟩, List.forall_mem_cons.mpr ⟨⟨_, rfl, (Or.inl rfl)⟩, fun _ h => absurd h List.not_mem_nil⟩⟩) (fun t h => absurd h List.not_mem_nil) rfl dX2_rowOf_10) (
  aSa (s_callV (List.forall_mem_cons.mpr ⟨d_V rfl rfl q712 q713 q714 q109 q715 rfl (by decide +kernel) (by decide) rfl dX2_rowOf_13, List.forall_mem_cons.mpr ⟨d_V rfl rfl q712 q713 q714 q109 q715 rfl (by decide +kernel) (by decide) rfl dX2_rowOf_13, fun _ h => absurd h List.not_mem_nil⟩⟩) aHS0) (
  aSa (s_aload_n rfl rfl dX2_rowOf_16) (
  aSa (s_getf (T := TX2) rfl (by decide) (by decide) in_X2 q989 (Or.inl rfl) rfl dX2_rowOf_17) (
  aSa (s_idiv rfl dX2_rowOf_20) (
  aSa (s_iret (n := 0) rfl dX2_rowOf_21) (
  aSn))))))))))
theorem sn223 : SndL "Slidingtray$Shape" "size" cX2_size 1 (Option.some Jvm.ClassFile.FieldType.int) [] T223 := aSa (s_aload_n rfl rfl dX2_size_0) (
  aSa (s_getf (T := TX2) rfl (by decide) (by decide) in_X2 q991 (Or.inl rfl) rfl dX2_size_1) (
  aSa (s_callV (List.forall_mem_cons.mpr ⟨d_F (x := ⟨"java/util/List", "size", "()I"⟩) rfl rfl (aL1 q678 (aL1 q681 (aL1 q683 (aL1 q106 aL0)))) q685 q680 q679 q684 q682 q252 (by decide +kernel) (by decide) rfl dX2_size_4, fun _ h => absurd h List.not_mem_nil⟩) aHS0) (
  aSa (s_iret (n := 0) rfl dX2_size_9) (
  aSn))))
theorem sn224 : SndL "Slidingtray$State" "<init>" cX9_init 6 (Option.none : Option Jvm.ClassFile.FieldType) [] T224 := aSa (s_aload_n rfl rfl dX9_init_0) (
  aSa (s_oinit q1479 q167 q168 rfl dX9_init_1) (
  aSa (s_aload_n rfl rfl dX9_init_4) (
  aSa (s_aload_n rfl rfl dX9_init_5) (
  aSa (s_putfF (T := TX9) (ty0 := tyX9) tyX9_ok nmX9 rfl (by decide) (by decide) in_X9 q1481 (Or.inl rfl) rfl rfl rfl rfl rfl dX9_init_6) (
  aSa (s_aload_n rfl rfl dX9_init_9) (
  aSa (s_iload_n rfl rfl dX9_init_10) (
  aSa (s_putfF (T := TX9) (ty0 := tyX9) tyX9_ok nmX9 rfl (by decide) (by decide) in_X9 q1484 (Or.inl rfl) rfl rfl rfl rfl rfl dX9_init_11) (
  aSa (s_aload_n rfl rfl dX9_init_14) (
  aSa (s_aload_n rfl rfl dX9_init_15) (
  aSa (s_callV (List.forall_mem_cons.mpr ⟨d_V rfl rfl q1480 q1199 q1200 q133 q1201 rfl (by decide +kernel) (by decide) rfl dX9_init_16, fun _ h => absurd h List.not_mem_nil⟩) aHS0) (
  aSa (s_putfF (T := TX9) (ty0 := tyX9) tyX9_ok nmX9 rfl (by decide) (by decide) in_X9 q1486 (Or.inl rfl) rfl rfl rfl rfl rfl dX9_init_19) (
  aSa (s_aload_n rfl rfl dX9_init_22) (
  aSa (s_iload_n rfl rfl dX9_init_23) (
  aSa (s_putfF (T := TX9) (ty0 := tyX9) tyX9_ok nmX9 rfl (by decide) (by decide) in_X9 q1489 (Or.inl rfl) rfl rfl rfl rfl rfl dX9_init_24) (
  aSa (s_aload_n rfl rfl dX9_init_27) (
  aSa (s_aload rfl dX9_init_28) (
  aSa (s_putfF (T := TX9) (ty0 := tyX9) tyX9_ok nmX9 rfl (by decide) (by decide) in_X9 q1492 (Or.inl rfl) rfl rfl rfl rfl rfl dX9_init_30) (
  aSa (s_aload_n rfl rfl dX9_init_33) (
  aSa (s_iload rfl dX9_init_34) (
  aSa (s_putfF (T := TX9) (ty0 := tyX9) tyX9_ok nmX9 rfl (by decide) (by decide) in_X9 q1494 (Or.inl rfl) rfl rfl rfl rfl rfl dX9_init_36) (
  aSa (s_ret (n := 0) rfl dX9_init_39) (
  aSn))))))))))))))))))))))
theorem sn225 : SndL "Slidingtray$State" "compareTo" cX9_compareTo_2 4 (Option.some Jvm.ClassFile.FieldType.int) [] T225 := aSa (s_aload_n rfl rfl dX9_compareTo_2_0) (
  aSa (s_getf (T := TX9) rfl (by decide) (by decide) in_X9 q1489 (Or.inl rfl) rfl dX9_compareTo_2_1) (
  aSa (s_aload_n rfl rfl dX9_compareTo_2_4) (
  aSa (s_getf (T := TX9) rfl (by decide) (by decide) in_X9 q1484 (Or.inl rfl) rfl dX9_compareTo_2_5) (
  aSa (s_iadd rfl dX9_compareTo_2_8) (
  aSa (s_aload_n rfl rfl dX9_compareTo_2_9) (
  aSa (s_getf (T := TX9) rfl (by decide) (by decide) in_X9 q1489 (Or.inl rfl) rfl dX9_compareTo_2_10) (
  aSa (s_aload_n rfl rfl dX9_compareTo_2_13) (
  aSa (s_getf (T := TX9) rfl (by decide) (by decide) in_X9 q1484 (Or.inl rfl) rfl dX9_compareTo_2_14) (
  aSa (s_iadd rfl dX9_compareTo_2_17) (
  aSa (s_callS rfl q1563 q1550 q109 q1551 (by decide +kernel) (by decide) aHS0 rfl dX9_compareTo_2_18) (
  aSa (s_istore_n rfl (by decide) rfl dX9_compareTo_2_21) (
  aSa (s_iload_n rfl rfl dX9_compareTo_2_22) (
  aSa (s_ifeq (by decide) rfl dX9_compareTo_2_23) (
  aSa (s_iload_n rfl rfl dX9_compareTo_2_26) (
  aSa (s_goto (n := 0) (by decide) dX9_compareTo_2_27) (
  aSa (s_aload_n rfl rfl dX9_compareTo_2_30) (
  aSa (s_getf (T := TX9) rfl (by decide) (by decide) in_X9 q1484 (Or.inl rfl) rfl dX9_compareTo_2_31) (
  aSa (s_aload_n rfl rfl dX9_compareTo_2_34) (
  aSa (s_getf (T := TX9) rfl (by decide) (by decide) in_X9 q1484 (Or.inl rfl) rfl dX9_compareTo_2_35) (
  aSa (s_callS rfl q1563 q1550 q109 q1551 (by decide +kernel) (by decide) aHS0 rfl dX9_compareTo_2_38) (
  aSa (s_istore_n rfl (by decide) rfl dX9_compareTo_2_41) (
  aSa (s_iload_n rfl rfl dX9_compareTo_2_42) (
  aSa (s_ifeq (by decide) rfl dX9_compareTo_2_43) (
  aSa (s_iload_n rfl rfl dX9_compareTo_2_46) (
  aSa (s_goto (n := 0) (by decide) dX9_compareTo_2_47) (
  aSa (s_aload_n rfl rfl dX9_compareTo_2_50) (
  aSa (s_getf (T := TX9) rfl (by decide) (by decide) in_X9 q1486 (Or.inl rfl) rfl dX9_compareTo_2_51) (
  aSa (s_aload_n rfl rfl dX9_compareTo_2_54) (
  aSa (s_getf (T := TX9) rfl (by decide) (by decide) in_X9 q1486 (Or.inl rfl) rfl dX9_compareTo_2_55) (
  aSa (s_callS rfl q1564 q1565 q129 q1566 (by decide +kernel) (by decide) aHS0 rfl dX9_compareTo_2_58) (
  aSa (s_iret (n := 0) rfl dX9_compareTo_2_61) (
  aSn))))))))))))))))))))))))))))))))
theorem sn226 : SndL "Slidingtray$State" "compareTo" cX9_compareTo 2 (Option.some Jvm.ClassFile.FieldType.int) [] T226 := aSa (s_aload_n rfl rfl dX9_compareTo_0) (
  aSa (s_aload_n rfl rfl dX9_compareTo_1) (
  aSa (s_cast q1558 (List.forall_mem_cons.mpr ⟨⟨_, rfl, (Or.inl rfl)⟩, fun _ h => absurd h List.not_mem_nil⟩) (fun t h => absurd h List.not_mem_nil) rfl dX9_compareTo_2) (
  aSa (s_callV (List.forall_mem_cons.mpr ⟨d_V rfl rfl q1559 q1560 q1561 q152 q1562 rfl (by decide +kernel) (by decide) rfl dX9_compareTo_5, fun _ h => absurd h List.not_mem_nil⟩) aHS0) (
  aSa (s_iret (n := 0) rfl dX9_compareTo_8) (
  aSn)))))
theorem hs227_3 : aHS "SlidingtrayLaw" [((0 : Nat), (8 : Nat), (11 : Nat), (39 : Nat))] 3 [("java/lang/IllegalStateException", some 11)] := by
  refine ⟨fun h => (by cases h), fun E r h => ?_⟩
  simp only [List.lookup_cons] at h
  split at h
  · next e =>
    cases h
    obtain rfl := eq_of_beq e
    exact ⟨11, rfl, (tableOf [((0 : Nat), (8 : Nat), (11 : Nat), (39 : Nat))]).take 0, (tableOf [((0 : Nat), (8 : Nat), (11 : Nat), (39 : Nat))])[0]'(by decide +kernel), (tableOf [((0 : Nat), (8 : Nat), (11 : Nat), (39 : Nat))]).drop 1, "java/lang/IllegalStateException", by rfl, fun _ h => absurd h List.not_mem_nil, by decide +kernel, by decide +kernel, by decide +kernel, q2116, q934⟩
  · cases h
theorem sn227 : SndL "SlidingtrayLaw" "both" cX0_both 3 (Option.some Jvm.ClassFile.FieldType.int) [((0 : Nat), (8 : Nat), (11 : Nat), (39 : Nat))] T227 := aSa (s_aload_n rfl rfl dX0_both_0) (
  aSa (s_iconst (v0 := 0) (by decide) rfl dX0_both_1) (
  aSa (s_aload_n rfl rfl dX0_both_2) (
  aSa (s_callV (List.forall_mem_cons.mpr ⟨d_VX rfl rfl (by decide) q2502 q2503 q2504 q102 q2505 rfl (by decide +kernel) (by decide) rfl dX0_both_3, fun _ h => absurd h List.not_mem_nil⟩) hs227_3) (
  aSa (s_i2l rfl dX0_both_6) (
  aSa (s_last rfl dX0_both_7) (
  aSa (s_goto (n := 0) (by decide) dX0_both_8) (
  aSa (s_astore_n rfl (by decide) rfl dX0_both_11) (
  aSa (s_iconst (v0 := 1) (by decide) rfl dX0_both_12) (
  aSa (s_iret (n := 0) rfl dX0_both_13) (
  aSa (s_iconst (v0 := 0) (by decide) rfl dX0_both_14) (
  aSa (s_iret (n := 0) rfl dX0_both_15) (
  aSn))))))))))))
theorem hs228_4 : aHS "SlidingtrayLaw" [((0 : Nat), (9 : Nat), (12 : Nat), (13 : Nat)), ((0 : Nat), (9 : Nat), (15 : Nat), (39 : Nat))] 4 [("java/lang/IllegalArgumentException", some 12), ("java/lang/IllegalStateException", some 15)] := by
  refine ⟨fun h => (by cases h), fun E r h => ?_⟩
  simp only [List.lookup_cons] at h
  split at h
  · next e =>
    cases h
    obtain rfl := eq_of_beq e
    exact ⟨12, rfl, (tableOf [((0 : Nat), (9 : Nat), (12 : Nat), (13 : Nat)), ((0 : Nat), (9 : Nat), (15 : Nat), (39 : Nat))]).take 0, (tableOf [((0 : Nat), (9 : Nat), (12 : Nat), (13 : Nat)), ((0 : Nat), (9 : Nat), (15 : Nat), (39 : Nat))])[0]'(by decide +kernel), (tableOf [((0 : Nat), (9 : Nat), (12 : Nat), (13 : Nat)), ((0 : Nat), (9 : Nat), (15 : Nat), (39 : Nat))]).drop 1, "java/lang/IllegalArgumentException", by rfl, fun _ h => absurd h List.not_mem_nil, by decide +kernel, by decide +kernel, by decide +kernel, q2005, q586⟩
  · split at h
    · next e =>
      cases h
      obtain rfl := eq_of_beq e
      exact ⟨15, rfl, (tableOf [((0 : Nat), (9 : Nat), (12 : Nat), (13 : Nat)), ((0 : Nat), (9 : Nat), (15 : Nat), (39 : Nat))]).take 1, (tableOf [((0 : Nat), (9 : Nat), (12 : Nat), (13 : Nat)), ((0 : Nat), (9 : Nat), (15 : Nat), (39 : Nat))])[1]'(by decide +kernel), (tableOf [((0 : Nat), (9 : Nat), (12 : Nat), (13 : Nat)), ((0 : Nat), (9 : Nat), (15 : Nat), (39 : Nat))]).drop 2, "java/lang/IllegalStateException", by rfl, List.forall_mem_cons.mpr ⟨Or.inr ⟨by decide, _, q2005, by decide +kernel⟩, fun _ h => absurd h List.not_mem_nil⟩, by decide +kernel, by decide +kernel, by decide +kernel, q2116, q934⟩
    · cases h
theorem sn228 : SndL "SlidingtrayLaw" "deepen" cX0_deepen 4 (Option.some Jvm.ClassFile.FieldType.int) [((0 : Nat), (9 : Nat), (12 : Nat), (13 : Nat)), ((0 : Nat), (9 : Nat), (15 : Nat), (39 : Nat))] T228 := aSa (s_aload_n rfl rfl dX0_deepen_0) (
  aSa (s_iconst (v0 := 0) (by decide) rfl dX0_deepen_1) (
  aSa (s_aload_n rfl rfl dX0_deepen_2) (
  aSa (s_iload_n rfl rfl dX0_deepen_3) (
  aSa (s_callV (List.forall_mem_cons.mpr ⟨d_VX rfl rfl (by decide) q2495 q2496 q2497 q102 q2498 rfl (by decide +kernel) (by decide) rfl dX0_deepen_4, fun _ h => absurd h List.not_mem_nil⟩) hs228_4) (
  aSa (s_i2l rfl dX0_deepen_7) (
  aSa (s_last rfl dX0_deepen_8) (
  aSa (s_goto (n := 0) (by decide) dX0_deepen_9) (
  aSa (s_astore_n rfl (by decide) rfl dX0_deepen_12) (
  aSa (s_iconst (v0 := 1) (by decide) rfl dX0_deepen_13) (
  aSa (s_iret (n := 0) rfl dX0_deepen_14) (
  aSa (s_astore_n rfl (by decide) rfl dX0_deepen_15) (
  aSa (s_iconst (v0 := 2) (by decide) rfl dX0_deepen_16) (
  aSa (s_iret (n := 0) rfl dX0_deepen_17) (
  aSa (s_iconst (v0 := 0) (by decide) rfl dX0_deepen_18) (
  aSa (s_iret (n := 0) rfl dX0_deepen_19) (
  aSn))))))))))))))))
theorem hs229_4 : aHS "SlidingtrayLaw" [((0 : Nat), (9 : Nat), (12 : Nat), (13 : Nat))] 4 [("java/lang/IllegalArgumentException", some 12)] := by
  refine ⟨fun h => (by cases h), fun E r h => ?_⟩
  simp only [List.lookup_cons] at h
  split at h
  · next e =>
    cases h
    obtain rfl := eq_of_beq e
    exact ⟨12, rfl, (tableOf [((0 : Nat), (9 : Nat), (12 : Nat), (13 : Nat))]).take 0, (tableOf [((0 : Nat), (9 : Nat), (12 : Nat), (13 : Nat))])[0]'(by decide +kernel), (tableOf [((0 : Nat), (9 : Nat), (12 : Nat), (13 : Nat))]).drop 1, "java/lang/IllegalArgumentException", by rfl, fun _ h => absurd h List.not_mem_nil, by decide +kernel, by decide +kernel, by decide +kernel, q2005, q586⟩
  · cases h
theorem sn229 : SndL "SlidingtrayLaw" "estimate" cX0_estimate 4 (Option.some Jvm.ClassFile.FieldType.int) [((0 : Nat), (9 : Nat), (12 : Nat), (13 : Nat))] T229 := aSa (s_aload_n rfl rfl dX0_estimate_0) (
  aSa (s_iconst (v0 := 0) (by decide) rfl dX0_estimate_1) (
  aSa (s_aload_n rfl rfl dX0_estimate_2) (
  aSa (s_iload_n rfl rfl dX0_estimate_3) (
  aSa (s_callV (List.forall_mem_cons.mpr ⟨d_V rfl rfl q2474 q2475 q2476 q102 q2477 rfl (by decide +kernel) (by decide) rfl dX0_estimate_4, fun _ h => absurd h List.not_mem_nil⟩) hs229_4) (
  aSa (s_i2l rfl dX0_estimate_7) (
  aSa (s_last rfl dX0_estimate_8) (
  aSa (s_goto (n := 0) (by decide) dX0_estimate_9) (
  aSa (s_astore_n rfl (by decide) rfl dX0_estimate_12) (
  aSa (s_iconst (v0 := 1) (by decide) rfl dX0_estimate_13) (
  aSa (s_iret (n := 0) rfl dX0_estimate_14) (
  aSa (s_iconst (v0 := 0) (by decide) rfl dX0_estimate_15) (
  aSa (s_iret (n := 0) rfl dX0_estimate_16) (
  aSn)))))))))))))
theorem hs230_4 : aHS "SlidingtrayLaw" [((0 : Nat), (9 : Nat), (12 : Nat), (13 : Nat)), ((0 : Nat), (9 : Nat), (15 : Nat), (39 : Nat))] 4 [("java/lang/IllegalArgumentException", some 12), ("java/lang/IllegalStateException", some 15)] := by
  refine ⟨fun h => (by cases h), fun E r h => ?_⟩
  simp only [List.lookup_cons] at h
  split at h
  · next e =>
    cases h
    obtain rfl := eq_of_beq e
    exact ⟨12, rfl, (tableOf [((0 : Nat), (9 : Nat), (12 : Nat), (13 : Nat)), ((0 : Nat), (9 : Nat), (15 : Nat), (39 : Nat))]).take 0, (tableOf [((0 : Nat), (9 : Nat), (12 : Nat), (13 : Nat)), ((0 : Nat), (9 : Nat), (15 : Nat), (39 : Nat))])[0]'(by decide +kernel), (tableOf [((0 : Nat), (9 : Nat), (12 : Nat), (13 : Nat)), ((0 : Nat), (9 : Nat), (15 : Nat), (39 : Nat))]).drop 1, "java/lang/IllegalArgumentException", by rfl, fun _ h => absurd h List.not_mem_nil, by decide +kernel, by decide +kernel, by decide +kernel, q2005, q586⟩
  · split at h
    · next e =>
      cases h
      obtain rfl := eq_of_beq e
      exact ⟨15, rfl, (tableOf [((0 : Nat), (9 : Nat), (12 : Nat), (13 : Nat)), ((0 : Nat), (9 : Nat), (15 : Nat), (39 : Nat))]).take 1, (tableOf [((0 : Nat), (9 : Nat), (12 : Nat), (13 : Nat)), ((0 : Nat), (9 : Nat), (15 : Nat), (39 : Nat))])[1]'(by decide +kernel), (tableOf [((0 : Nat), (9 : Nat), (12 : Nat), (13 : Nat)), ((0 : Nat), (9 : Nat), (15 : Nat), (39 : Nat))]).drop 2, "java/lang/IllegalStateException", by rfl, List.forall_mem_cons.mpr ⟨Or.inr ⟨by decide, _, q2005, by decide +kernel⟩, fun _ h => absurd h List.not_mem_nil⟩, by decide +kernel, by decide +kernel, by decide +kernel, q2116, q934⟩
    · cases h
theorem sn230 : SndL "SlidingtrayLaw" "far" cX0_far 4 (Option.some Jvm.ClassFile.FieldType.int) [((0 : Nat), (9 : Nat), (12 : Nat), (13 : Nat)), ((0 : Nat), (9 : Nat), (15 : Nat), (39 : Nat))] T230 := aSa (s_aload_n rfl rfl dX0_far_0) (
  aSa (s_iconst (v0 := 0) (by decide) rfl dX0_far_1) (
  aSa (s_aload_n rfl rfl dX0_far_2) (
  aSa (s_iload_n rfl rfl dX0_far_3) (
  aSa (s_callV (List.forall_mem_cons.mpr ⟨d_V rfl rfl q2617 q2618 q2619 q102 q2620 rfl (by decide +kernel) (by decide) rfl dX0_far_4, fun _ h => absurd h List.not_mem_nil⟩) hs230_4) (
  aSa (s_i2l rfl dX0_far_7) (
  aSa (s_last rfl dX0_far_8) (
  aSa (s_goto (n := 0) (by decide) dX0_far_9) (
  aSa (s_astore_n rfl (by decide) rfl dX0_far_12) (
  aSa (s_iconst (v0 := 1) (by decide) rfl dX0_far_13) (
  aSa (s_iret (n := 0) rfl dX0_far_14) (
  aSa (s_astore_n rfl (by decide) rfl dX0_far_15) (
  aSa (s_iconst (v0 := 2) (by decide) rfl dX0_far_16) (
  aSa (s_iret (n := 0) rfl dX0_far_17) (
  aSa (s_iconst (v0 := 0) (by decide) rfl dX0_far_18) (
  aSa (s_iret (n := 0) rfl dX0_far_19) (
  aSn))))))))))))))))
theorem hs231_3 : aHS "SlidingtrayLaw" [((0 : Nat), (8 : Nat), (11 : Nat), (39 : Nat))] 3 [("java/lang/IllegalStateException", some 11)] := by
  refine ⟨fun h => (by cases h), fun E r h => ?_⟩
  simp only [List.lookup_cons] at h
  split at h
  · next e =>
    cases h
    obtain rfl := eq_of_beq e
    exact ⟨11, rfl, (tableOf [((0 : Nat), (8 : Nat), (11 : Nat), (39 : Nat))]).take 0, (tableOf [((0 : Nat), (8 : Nat), (11 : Nat), (39 : Nat))])[0]'(by decide +kernel), (tableOf [((0 : Nat), (8 : Nat), (11 : Nat), (39 : Nat))]).drop 1, "java/lang/IllegalStateException", by rfl, fun _ h => absurd h List.not_mem_nil, by decide +kernel, by decide +kernel, by decide +kernel, q2116, q934⟩
  · cases h
theorem sn231 : SndL "SlidingtrayLaw" "hint" cX0_hint 3 (Option.some Jvm.ClassFile.FieldType.int) [((0 : Nat), (8 : Nat), (11 : Nat), (39 : Nat))] T231 := aSa (s_aload_n rfl rfl dX0_hint_0) (
  aSa (s_iconst (v0 := 0) (by decide) rfl dX0_hint_1) (
  aSa (s_aload_n rfl rfl dX0_hint_2) (
  aSa (s_callV (List.forall_mem_cons.mpr ⟨d_VX rfl rfl (by decide) q2606 q2607 q2608 q102 q2609 rfl (by decide +kernel) (by decide) rfl dX0_hint_3, fun _ h => absurd h List.not_mem_nil⟩) hs231_3) (
  aSa (s_i2l rfl dX0_hint_6) (
  aSa (s_last rfl dX0_hint_7) (
  aSa (s_goto (n := 0) (by decide) dX0_hint_8) (
  aSa (s_astore_n rfl (by decide) rfl dX0_hint_11) (
  aSa (s_iconst (v0 := 1) (by decide) rfl dX0_hint_12) (
  aSa (s_iret (n := 0) rfl dX0_hint_13) (
  aSa (s_iconst (v0 := 0) (by decide) rfl dX0_hint_14) (
  aSa (s_iret (n := 0) rfl dX0_hint_15) (
  aSn))))))))))))
theorem hs232_4 : aHS "SlidingtrayLaw" [((0 : Nat), (16 : Nat), (19 : Nat), (13 : Nat)), ((0 : Nat), (16 : Nat), (22 : Nat), (39 : Nat))] 4 [("java/lang/IllegalArgumentException", some 19), ("java/lang/IllegalStateException", some 22)] := by
  refine ⟨fun h => (by cases h), fun E r h => ?_⟩
  simp only [List.lookup_cons] at h
  split at h
  · next e =>
    cases h
    obtain rfl := eq_of_beq e
    exact ⟨19, rfl, (tableOf [((0 : Nat), (16 : Nat), (19 : Nat), (13 : Nat)), ((0 : Nat), (16 : Nat), (22 : Nat), (39 : Nat))]).take 0, (tableOf [((0 : Nat), (16 : Nat), (19 : Nat), (13 : Nat)), ((0 : Nat), (16 : Nat), (22 : Nat), (39 : Nat))])[0]'(by decide +kernel), (tableOf [((0 : Nat), (16 : Nat), (19 : Nat), (13 : Nat)), ((0 : Nat), (16 : Nat), (22 : Nat), (39 : Nat))]).drop 1, "java/lang/IllegalArgumentException", by rfl, fun _ h => absurd h List.not_mem_nil, by decide +kernel, by decide +kernel, by decide +kernel, q2005, q586⟩
  · split at h
    · next e =>
      cases h
      obtain rfl := eq_of_beq e
      exact ⟨22, rfl, (tableOf [((0 : Nat), (16 : Nat), (19 : Nat), (13 : Nat)), ((0 : Nat), (16 : Nat), (22 : Nat), (39 : Nat))]).take 1, (tableOf [((0 : Nat), (16 : Nat), (19 : Nat), (13 : Nat)), ((0 : Nat), (16 : Nat), (22 : Nat), (39 : Nat))])[1]'(by decide +kernel), (tableOf [((0 : Nat), (16 : Nat), (19 : Nat), (13 : Nat)), ((0 : Nat), (16 : Nat), (22 : Nat), (39 : Nat))]).drop 2, "java/lang/IllegalStateException", by rfl, List.forall_mem_cons.mpr ⟨Or.inr ⟨by decide, _, q2005, by decide +kernel⟩, fun _ h => absurd h List.not_mem_nil⟩, by decide +kernel, by decide +kernel, by decide +kernel, q2116, q934⟩
    · cases h
theorem sn232 : SndL "SlidingtrayLaw" "isFair" cX0_isFair 4 (Option.some Jvm.ClassFile.FieldType.int) [((0 : Nat), (16 : Nat), (19 : Nat), (13 : Nat)), ((0 : Nat), (16 : Nat), (22 : Nat), (39 : Nat))] T232 := aSa (s_aload_n rfl rfl dX0_isFair_0) (
  aSa (s_iconst (v0 := 0) (by decide) rfl dX0_isFair_1) (
  aSa (s_aload_n rfl rfl dX0_isFair_2) (
  aSa (s_iload_n rfl rfl dX0_isFair_3) (
  aSa (s_callV (List.forall_mem_cons.mpr ⟨d_V rfl rfl q2645 q2646 q2647 q102 q2648 rfl (by decide +kernel) (by decide) rfl dX0_isFair_4, fun _ h => absurd h List.not_mem_nil⟩) hs232_4) (
  aSa (s_ifeq (by decide) rfl dX0_isFair_7) (
  aSa (s_lconst (by decide) rfl dX0_isFair_10) (
  aSa (s_goto (n := 0) (by decide) dX0_isFair_11) (
  aSa (s_lconst (by decide) rfl dX0_isFair_14) (
  aSa (s_last rfl dX0_isFair_15) (
  aSa (s_goto (n := 0) (by decide) dX0_isFair_16) (
  aSa (s_astore_n rfl (by decide) rfl dX0_isFair_19) (
  aSa (s_iconst (v0 := 1) (by decide) rfl dX0_isFair_20) (
  aSa (s_iret (n := 0) rfl dX0_isFair_21) (
  aSa (s_astore_n rfl (by decide) rfl dX0_isFair_22) (
  aSa (s_iconst (v0 := 2) (by decide) rfl dX0_isFair_23) (
  aSa (s_iret (n := 0) rfl dX0_isFair_24) (
  aSa (s_iconst (v0 := 0) (by decide) rfl dX0_isFair_25) (
  aSa (s_iret (n := 0) rfl dX0_isFair_26) (
  aSn)))))))))))))))))))
theorem hs233_4 : aHS "SlidingtrayLaw" [((0 : Nat), (8 : Nat), (11 : Nat), (27 : Nat))] 4 [("java/lang/IndexOutOfBoundsException", some 11)] := by
  refine ⟨fun h => (by cases h), fun E r h => ?_⟩
  simp only [List.lookup_cons] at h
  split at h
  · next e =>
    cases h
    obtain rfl := eq_of_beq e
    exact ⟨11, rfl, (tableOf [((0 : Nat), (8 : Nat), (11 : Nat), (27 : Nat))]).take 0, (tableOf [((0 : Nat), (8 : Nat), (11 : Nat), (27 : Nat))])[0]'(by decide +kernel), (tableOf [((0 : Nat), (8 : Nat), (11 : Nat), (27 : Nat))]).drop 1, "java/lang/IndexOutOfBoundsException", by rfl, fun _ h => absurd h List.not_mem_nil, by decide +kernel, by decide +kernel, by decide +kernel, q2063, q343⟩
  · cases h
theorem sn233 : SndL "SlidingtrayLaw" "keep" cX0_keep 4 (Option.some Jvm.ClassFile.FieldType.int) [((0 : Nat), (8 : Nat), (11 : Nat), (27 : Nat))] T233 := aSa (s_aload_n rfl rfl dX0_keep_0) (
  aSa (s_iconst (v0 := 0) (by decide) rfl dX0_keep_1) (
  aSa (s_aload_n rfl rfl dX0_keep_2) (
  aSa (s_iload_n rfl rfl dX0_keep_3) (
  aSa (s_callV (List.forall_mem_cons.mpr ⟨d_V rfl rfl q2426 q2427 q2428 q102 q2429 rfl (by decide +kernel) (by decide) rfl dX0_keep_4, fun _ h => absurd h List.not_mem_nil⟩) hs233_4) (
  aSa (s_last rfl dX0_keep_7) (
  aSa (s_goto (n := 0) (by decide) dX0_keep_8) (
  aSa (s_astore_n rfl (by decide) rfl dX0_keep_11) (
  aSa (s_iconst (v0 := 1) (by decide) rfl dX0_keep_12) (
  aSa (s_iret (n := 0) rfl dX0_keep_13) (
  aSa (s_iconst (v0 := 0) (by decide) rfl dX0_keep_14) (
  aSa (s_iret (n := 0) rfl dX0_keep_15) (
  aSn))))))))))))
theorem sn234 : SndL "SlidingtrayLaw" "law" code 9 (some .boolean) [] T234 := aSa (s_new (T := TX1) (ty0 := tyX1) tyX1_ok rfl (by decide) in_X1 q161 q162 q102 (by decide) rfl dL_law_0) (
  aSa (s_dup rfl dL_law_3) (
  aSa (s_callI rfl q163 q164 q102 q165 (by decide +kernel) (by decide) rfl aHS0 rfl dL_law_4) (
  aSa (s_astore_n rfl (by decide) rfl dL_law_7) (
  aSa (s_new (T := TX6) (ty0 := tyX6) tyX6_ok rfl (by decide) in_X6 q2723 q2724 q136 (by decide) rfl dL_law_8) (
  aSa (s_dup rfl dL_law_11) (
  aSa (s_callI rfl q2725 q2726 q136 q2727 (by decide +kernel) (by decide) rfl aHS0 rfl dL_law_12) (
  aSa (s_astore_n rfl (by decide) rfl dL_law_15) (
  aSa (s_iconst (v0 := 1) (by decide) rfl dL_law_16) (
  aSa (s_newa_long q227 rfl dL_law_17) (
  aSa (s_astore_n rfl (by decide) rfl dL_law_19) (
  aSa (s_iconst (v0 := 0) (by decide) rfl dL_law_20) (
  aSa (s_istore (by decide) rfl dL_law_21) (
  aSa (s_iload rfl dL_law_23) (
  aSa (s_aload_n rfl rfl dL_law_25) (
  aSa (s_alen rfl dL_law_26) (
  aSa (s_iconst (v0 := 4) (by decide) rfl dL_law_27) (
  aSa (s_isub rfl dL_law_28) (
  aSa (s_cgt (by decide) rfl dL_law_29) (
  aSa (s_aload_n rfl rfl dL_law_32) (
  aSa (s_iload rfl dL_law_33) (
  aSa (s_iald rfl dL_law_35) (
  aSa (s_bipush (v0 := 31) (by decide) rfl dL_law_36) (
  aSa (s_iand rfl dL_law_38) (
  aSa (s_tsw (n := 0) dL_law_39 (by decide) (by decide)) (
  aSa (s_aload_n rfl rfl dL_law_176) (
  aSa (s_aload_n rfl rfl dL_law_177) (
  aSa (s_iload rfl dL_law_178) (
  aSa (s_iconst (v0 := 1) (by decide) rfl dL_law_180) (
  aSa (s_iadd rfl dL_law_181) (
  aSa (s_iald rfl dL_law_182) (
  aSa (s_aload_n rfl rfl dL_law_183) (
  aSa (s_iload rfl dL_law_184) (
  aSa (s_iconst (v0 := 2) (by decide) rfl dL_law_186) (
  aSa (s_iadd rfl dL_law_187) (
  aSa (s_iald rfl dL_law_188) (
  aSa (s_aload_n rfl rfl dL_law_189) (
  aSa (s_iload rfl dL_law_190) (
  aSa (s_iconst (v0 := 3) (by decide) rfl dL_law_192) (
  aSa (s_iadd rfl dL_law_193) (
  aSa (s_iald rfl dL_law_194) (
  aSa (s_aload_n rfl rfl dL_law_195) (
  aSa (s_callSX rfl (by decide) q2002 q2003 q101 q2004 (by decide +kernel) (by decide) aHS0 rfl dL_law_196) (
  aSa (s_istore (by decide) rfl dL_law_199) (
  aSa (s_aload_n rfl rfl dL_law_201) (
  aSa (s_aload_n rfl rfl dL_law_202) (
  aSa (s_iload rfl dL_law_203) (
  aSa (s_iconst (v0 := 1) (by decide) rfl dL_law_205) (
  aSa (s_iadd rfl dL_law_206) (
  aSa (s_iald rfl dL_law_207) (
  aSa (s_aload_n rfl rfl dL_law_208) (
  aSa (s_iload rfl dL_law_209) (
  aSa (s_iconst (v0 := 2) (by decide) rfl dL_law_211) (
  aSa (s_iadd rfl dL_law_212) (
  aSa (s_iald rfl dL_law_213) (
  aSa (s_aload_n rfl rfl dL_law_214) (
  aSa (s_iload rfl dL_law_215) (
  aSa (s_iconst (v0 := 3) (by decide) rfl dL_law_217) (
  aSa (s_iadd rfl dL_law_218) (
  aSa (s_iald rfl dL_law_219) (
  aSa (s_callV (List.forall_mem_cons.mpr ⟨d_V rfl rfl q2950 q2951 q2952 q136 q2953 rfl (by decide +kernel) (by decide) rfl dL_law_220, fun _ h => absurd h List.not_mem_nil⟩) aHS0) (
  aSa (s_istore (by decide) rfl dL_law_223) (
  aSa (s_aload_n rfl rfl dL_law_225) (
  aSa (s_callV (List.forall_mem_cons.mpr ⟨d_V rfl rfl q2946 q2947 q2948 q136 q2949 rfl (by decide +kernel) (by decide) rfl dL_law_226, fun _ h => absurd h List.not_mem_nil⟩) aHS0) (
  aSa (s_iload rfl dL_law_229) (
  aSa (s_ceq (by decide) rfl dL_law_231) (
  aSa (s_iconst (v0 := 0) (by decide) rfl dL_law_234) (
  aSa (s_iret (n := 0) rfl dL_law_235) (
  aSa (s_iload rfl dL_law_236) (
  aSa (s_ifne (by decide) rfl dL_law_238) (
  aSa (s_aload_n rfl rfl dL_law_241) (
  aSa (s_iconst (v0 := 0) (by decide) rfl dL_law_242) (
  aSa (s_lald rfl dL_law_243) (
  aSa (s_iload rfl dL_law_244) (
  aSa (s_i2l rfl dL_law_246) (
  aSa (s_lcmp rfl dL_law_247) (
  aSa (s_ifeq (by decide) rfl dL_law_248) (
  aSa (s_iconst (v0 := 0) (by decide) rfl dL_law_251) (
  aSa (s_iret (n := 0) rfl dL_law_252) (
  aSa (s_goto (n := 0) (by decide) dL_law_253) (
  aSa (s_aload_n rfl rfl dL_law_256) (
  aSa (s_aload_n rfl rfl dL_law_257) (
  aSa (s_iload rfl dL_law_258) (
  aSa (s_iconst (v0 := 1) (by decide) rfl dL_law_260) (
  aSa (s_iadd rfl dL_law_261) (
  aSa (s_iald rfl dL_law_262) (
  aSa (s_i2l rfl dL_law_263) (
  aSa (s_bipush (v0 := 32) (by decide) rfl dL_law_264) (
  aSa (s_lshl rfl dL_law_266) (
  aSa (s_aload_n rfl rfl dL_law_267) (
  aSa (s_iload rfl dL_law_268) (
  aSa (s_iconst (v0 := 2) (by decide) rfl dL_law_270) (
  aSa (s_iadd rfl dL_law_271) (
  aSa (s_iald rfl dL_law_272) (
  aSa (s_i2l rfl dL_law_273) (
  aSa (s_ldc2 q3279 rfl dL_law_274) (
  aSa (s_land rfl dL_law_277) (
  aSa (s_lor rfl dL_law_278) (
  aSa (s_aload_n rfl rfl dL_law_279) (
  aSa (s_callSX rfl (by decide) q2034 q2035 q101 q2036 (by decide +kernel) (by decide) aHS0 rfl dL_law_280) (
  aSa (s_istore (by decide) rfl dL_law_283) (
  aSa (s_aload_n rfl rfl dL_law_285) (
  aSa (s_aload_n rfl rfl dL_law_286) (
  aSa (s_iload rfl dL_law_287) (
  aSa (s_iconst (v0 := 1) (by decide) rfl dL_law_289) (
  aSa (s_iadd rfl dL_law_290) (
  aSa (s_iald rfl dL_law_291) (
  aSa (s_i2l rfl dL_law_292) (
  aSa (s_bipush (v0 := 32) (by decide) rfl dL_law_293) (
  aSa (s_lshl rfl dL_law_295) (
  aSa (s_aload_n rfl rfl dL_law_296) (
  aSa (s_iload rfl dL_law_297) (
  aSa (s_iconst (v0 := 2) (by decide) rfl dL_law_299) (
  aSa (s_iadd rfl dL_law_300) (
  aSa (s_iald rfl dL_law_301) (
  aSa (s_i2l rfl dL_law_302) (
  aSa (s_ldc2 q3279 rfl dL_law_303) (
  aSa (s_land rfl dL_law_306) (
  aSa (s_lor rfl dL_law_307) (
  aSa (s_callV (List.forall_mem_cons.mpr ⟨d_V rfl rfl q3000 q3001 q3002 q136 q3003 rfl (by decide +kernel) (by decide) rfl dL_law_308, fun _ h => absurd h List.not_mem_nil⟩) aHS0) (
  aSa (s_istore (by decide) rfl dL_law_311) (
  aSa (s_aload_n rfl rfl dL_law_313) (
  aSa (s_callV (List.forall_mem_cons.mpr ⟨d_V rfl rfl q2946 q2947 q2948 q136 q2949 rfl (by decide +kernel) (by decide) rfl dL_law_314, fun _ h => absurd h List.not_mem_nil⟩) aHS0) (
  aSa (s_iload rfl dL_law_317) (
  aSa (s_ceq (by decide) rfl dL_law_319) (
  aSa (s_iconst (v0 := 0) (by decide) rfl dL_law_322) (
  aSa (s_iret (n := 0) rfl dL_law_323) (
  aSa (s_iload rfl dL_law_324) (
  aSa (s_ifne (by decide) rfl dL_law_326) (
  aSa (s_aload_n rfl rfl dL_law_329) (
  aSa (s_iconst (v0 := 0) (by decide) rfl dL_law_330) (
  aSa (s_lald rfl dL_law_331) (
  aSa (s_iload rfl dL_law_332) (
  aSa (s_i2l rfl dL_law_334) (
  aSa (s_lcmp rfl dL_law_335) (
  aSa (s_ifeq (by decide) rfl dL_law_336) (
  aSa (s_iconst (v0 := 0) (by decide) rfl dL_law_339) (
  aSa (s_iret (n := 0) rfl dL_law_340) (
  aSa (s_goto (n := 0) (by decide) dL_law_341) (
  aSa (s_aload_n rfl rfl dL_law_344) (
  aSa (s_aload_n rfl rfl dL_law_345) (
  aSa (s_iload rfl dL_law_346) (
  aSa (s_iconst (v0 := 1) (by decide) rfl dL_law_348) (
  aSa (s_iadd rfl dL_law_349) (
  aSa (s_iald rfl dL_law_350) (
  aSa (s_aload_n rfl rfl dL_law_351) (
  aSa (s_iload rfl dL_law_352) (
  aSa (s_iconst (v0 := 2) (by decide) rfl dL_law_354) (
  aSa (s_iadd rfl dL_law_355) (
  aSa (s_iald rfl dL_law_356) (
  aSa (s_aload_n rfl rfl dL_law_357) (
  aSa (s_callSX rfl (by decide) q2050 q2051 q101 q2052 (by decide +kernel) (by decide) aHS0 rfl dL_law_358) (
  aSa (s_istore (by decide) rfl dL_law_361) (
  aSa (s_aload_n rfl rfl dL_law_363) (
  aSa (s_aload_n rfl rfl dL_law_364) (
  aSa (s_iload rfl dL_law_365) (
  aSa (s_iconst (v0 := 1) (by decide) rfl dL_law_367) (
  aSa (s_iadd rfl dL_law_368) (
  aSa (s_iald rfl dL_law_369) (
  aSa (s_aload_n rfl rfl dL_law_370) (
  aSa (s_iload rfl dL_law_371) (
  aSa (s_iconst (v0 := 2) (by decide) rfl dL_law_373) (
  aSa (s_iadd rfl dL_law_374) (
  aSa (s_iald rfl dL_law_375) (
  aSa (s_callV (List.forall_mem_cons.mpr ⟨d_V rfl rfl q3016 q3017 q3018 q136 q3019 rfl (by decide +kernel) (by decide) rfl dL_law_376, fun _ h => absurd h List.not_mem_nil⟩) aHS0) (
  aSa (s_istore (by decide) rfl dL_law_379) (
  aSa (s_aload_n rfl rfl dL_law_381) (
  aSa (s_callV (List.forall_mem_cons.mpr ⟨d_V rfl rfl q2946 q2947 q2948 q136 q2949 rfl (by decide +kernel) (by decide) rfl dL_law_382, fun _ h => absurd h List.not_mem_nil⟩) aHS0) (
  aSa (s_iload rfl dL_law_385) (
  aSa (s_ceq (by decide) rfl dL_law_387) (
  aSa (s_iconst (v0 := 0) (by decide) rfl dL_law_390) (
  aSa (s_iret (n := 0) rfl dL_law_391) (
  aSa (s_iload rfl dL_law_392) (
  aSa (s_ifne (by decide) rfl dL_law_394) (
  aSa (s_aload_n rfl rfl dL_law_397) (
  aSa (s_iconst (v0 := 0) (by decide) rfl dL_law_398) (
  aSa (s_lald rfl dL_law_399) (
  aSa (s_iload rfl dL_law_400) (
  aSa (s_i2l rfl dL_law_402) (
  aSa (s_lcmp rfl dL_law_403) (
  aSa (s_ifeq (by decide) rfl dL_law_404) (
  aSa (s_iconst (v0 := 0) (by decide) rfl dL_law_407) (
  aSa (s_iret (n := 0) rfl dL_law_408) (
  aSa (s_goto (n := 0) (by decide) dL_law_409) (
  aSa (s_aload_n rfl rfl dL_law_412) (
  aSa (s_callV (List.forall_mem_cons.mpr ⟨d_V rfl rfl q1173 q1174 q1175 q102 q1176 rfl (by decide +kernel) (by decide) rfl dL_law_413, fun _ h => absurd h List.not_mem_nil⟩) aHS0) (
  aSa (s_aload_n rfl rfl dL_law_416) (
  aSa (s_callV (List.forall_mem_cons.mpr ⟨d_V rfl rfl q3025 q3026 q3027 q136 q3028 rfl (by decide +kernel) (by decide) rfl dL_law_417, fun _ h => absurd h List.not_mem_nil⟩) aHS0) (
  aSa (s_lcmp rfl dL_law_420) (
  aSa (s_ifeq (by decide) rfl dL_law_421) (
  aSa (s_iconst (v0 := 0) (by decide) rfl dL_law_424) (
  aSa (s_iret (n := 0) rfl dL_law_425) (
  aSa (s_aload_n rfl rfl dL_law_426) (
  aSa (s_aload_n rfl rfl dL_law_427) (
  aSa (s_iload rfl dL_law_428) (
  aSa (s_iconst (v0 := 1) (by decide) rfl dL_law_430) (
  aSa (s_iadd rfl dL_law_431) (
  aSa (s_iald rfl dL_law_432) (
  aSa (s_aload_n rfl rfl dL_law_433) (
  aSa (s_iload rfl dL_law_434) (
  aSa (s_iconst (v0 := 2) (by decide) rfl dL_law_436) (
  aSa (s_iadd rfl dL_law_437) (
  aSa (s_iald rfl dL_law_438) (
  aSa (s_ifeq (by decide) rfl dL_law_439) (
  aSa (s_iconst (v0 := 1) (by decide) rfl dL_law_442) (
  aSa (s_goto (n := 0) (by decide) dL_law_443) (
  aSa (s_iconst (v0 := 0) (by decide) rfl dL_law_446) (
  aSa (s_aload_n rfl rfl dL_law_447) (
  aSa (s_callSX rfl (by decide) q2060 q2061 q101 q2062 (by decide +kernel) (by decide) aHS0 rfl dL_law_448) (
  aSa (s_istore (by decide) rfl dL_law_451) (
  aSa (s_aload_n rfl rfl dL_law_453) (
  aSa (s_aload_n rfl rfl dL_law_454) (
  aSa (s_iload rfl dL_law_455) (
  aSa (s_iconst (v0 := 1) (by decide) rfl dL_law_457) (
  aSa (s_iadd rfl dL_law_458) (
  aSa (s_iald rfl dL_law_459) (
  aSa (s_aload_n rfl rfl dL_law_460) (
  aSa (s_iload rfl dL_law_461) (
  aSa (s_iconst (v0 := 2) (by decide) rfl dL_law_463) (
  aSa (s_iadd rfl dL_law_464) (
  aSa (s_iald rfl dL_law_465) (
  aSa (s_ifeq (by decide) rfl dL_law_466) (
  aSa (s_iconst (v0 := 1) (by decide) rfl dL_law_469) (
  aSa (s_goto (n := 0) (by decide) dL_law_470) (
  aSa (s_iconst (v0 := 0) (by decide) rfl dL_law_473) (
  aSa (s_callV (List.forall_mem_cons.mpr ⟨d_V rfl rfl q3037 q3038 q3039 q136 q3040 rfl (by decide +kernel) (by decide) rfl dL_law_474, fun _ h => absurd h List.not_mem_nil⟩) aHS0) (
  aSa (s_istore (by decide) rfl dL_law_477) (
  aSa (s_aload_n rfl rfl dL_law_479) (
  aSa (s_callV (List.forall_mem_cons.mpr ⟨d_V rfl rfl q2946 q2947 q2948 q136 q2949 rfl (by decide +kernel) (by decide) rfl dL_law_480, fun _ h => absurd h List.not_mem_nil⟩) aHS0) (
  aSa (s_iload rfl dL_law_483) (
  aSa (s_ceq (by decide) rfl dL_law_485) (
  aSa (s_iconst (v0 := 0) (by decide) rfl dL_law_488) (
  aSa (s_iret (n := 0) rfl dL_law_489) (
  aSa (s_iload rfl dL_law_490) (
  aSa (s_ifne (by decide) rfl dL_law_492) (
  aSa (s_aload_n rfl rfl dL_law_495) (
  aSa (s_iconst (v0 := 0) (by decide) rfl dL_law_496) (
  aSa (s_lald rfl dL_law_497) (
  aSa (s_iload rfl dL_law_498) (
  aSa (s_ifeq (by decide) rfl dL_law_500) (
  aSa (s_lconst (by decide) rfl dL_law_503) (
  aSa (s_goto (n := 0) (by decide) dL_law_504) (
  aSa (s_lconst (by decide) rfl dL_law_507) (
  aSa (s_lcmp rfl dL_law_508) (
  aSa (s_ifeq (by decide) rfl dL_law_509) (
  aSa (s_iconst (v0 := 0) (by decide) rfl dL_law_512) (
  aSa (s_iret (n := 0) rfl dL_law_513) (
  aSa (s_goto (n := 0) (by decide) dL_law_514) (
  aSa (s_aload_n rfl rfl dL_law_517) (
  aSa (s_aload_n rfl rfl dL_law_518) (
  aSa (s_iload rfl dL_law_519) (
  aSa (s_iconst (v0 := 1) (by decide) rfl dL_law_521) (
  aSa (s_iadd rfl dL_law_522) (
  aSa (s_iald rfl dL_law_523) (
  aSa (s_aload_n rfl rfl dL_law_524) (
  aSa (s_iload rfl dL_law_525) (
  aSa (s_iconst (v0 := 2) (by decide) rfl dL_law_527) (
  aSa (s_iadd rfl dL_law_528) (
  aSa (s_iald rfl dL_law_529) (
  aSa (s_aload_n rfl rfl dL_law_530) (
  aSa (s_callSX rfl (by decide) q2099 q2100 q101 q2101 (by decide +kernel) (by decide) aHS0 rfl dL_law_531) (
  aSa (s_istore (by decide) rfl dL_law_534) (
  aSa (s_aload_n rfl rfl dL_law_536) (
  aSa (s_aload_n rfl rfl dL_law_537) (
  aSa (s_iload rfl dL_law_538) (
  aSa (s_iconst (v0 := 1) (by decide) rfl dL_law_540) (
  aSa (s_iadd rfl dL_law_541) (
  aSa (s_iald rfl dL_law_542) (
  aSa (s_aload_n rfl rfl dL_law_543) (
  aSa (s_iload rfl dL_law_544) (
  aSa (s_iconst (v0 := 2) (by decide) rfl dL_law_546) (
  aSa (s_iadd rfl dL_law_547) (
  aSa (s_iald rfl dL_law_548) (
  aSa (s_callV (List.forall_mem_cons.mpr ⟨d_V rfl rfl q3049 q3050 q3051 q136 q3052 rfl (by decide +kernel) (by decide) rfl dL_law_549, fun _ h => absurd h List.not_mem_nil⟩) aHS0) (
  aSa (s_istore (by decide) rfl dL_law_552) (
  aSa (s_aload_n rfl rfl dL_law_554) (
  aSa (s_callV (List.forall_mem_cons.mpr ⟨d_V rfl rfl q2946 q2947 q2948 q136 q2949 rfl (by decide +kernel) (by decide) rfl dL_law_555, fun _ h => absurd h List.not_mem_nil⟩) aHS0) (
  aSa (s_iload rfl dL_law_558) (
  aSa (s_ceq (by decide) rfl dL_law_560) (
  aSa (s_iconst (v0 := 0) (by decide) rfl dL_law_563) (
  aSa (s_iret (n := 0) rfl dL_law_564) (
  aSa (s_iload rfl dL_law_565) (
  aSa (s_ifne (by decide) rfl dL_law_567) (
  aSa (s_aload_n rfl rfl dL_law_570) (
  aSa (s_iconst (v0 := 0) (by decide) rfl dL_law_571) (
  aSa (s_lald rfl dL_law_572) (
  aSa (s_iload rfl dL_law_573) (
  aSa (s_i2l rfl dL_law_575) (
  aSa (s_lcmp rfl dL_law_576) (
  aSa (s_ifeq (by decide) rfl dL_law_577) (
  aSa (s_iconst (v0 := 0) (by decide) rfl dL_law_580) (
  aSa (s_iret (n := 0) rfl dL_law_581) (
  aSa (s_goto (n := 0) (by decide) dL_law_582) (
  aSa (s_aload_n rfl rfl dL_law_585) (
  aSa (s_aload_n rfl rfl dL_law_586) (
  aSa (s_iload rfl dL_law_587) (
  aSa (s_iconst (v0 := 1) (by decide) rfl dL_law_589) (
  aSa (s_iadd rfl dL_law_590) (
  aSa (s_iald rfl dL_law_591) (
  aSa (s_aload_n rfl rfl dL_law_592) (
  aSa (s_callSX rfl (by decide) q2106 q2107 q101 q2108 (by decide +kernel) (by decide) aHS0 rfl dL_law_593) (
  aSa (s_istore (by decide) rfl dL_law_596) (
  aSa (s_aload_n rfl rfl dL_law_598) (
  aSa (s_aload_n rfl rfl dL_law_599) (
  aSa (s_iload rfl dL_law_600) (
  aSa (s_iconst (v0 := 1) (by decide) rfl dL_law_602) (
  aSa (s_iadd rfl dL_law_603) (
  aSa (s_iald rfl dL_law_604) (
  aSa (s_callV (List.forall_mem_cons.mpr ⟨d_V rfl rfl q3053 q3054 q3055 q136 q3056 rfl (by decide +kernel) (by decide) rfl dL_law_605, fun _ h => absurd h List.not_mem_nil⟩) aHS0) (
  aSa (s_istore (by decide) rfl dL_law_608) (
  aSa (s_aload_n rfl rfl dL_law_610) (
  aSa (s_callV (List.forall_mem_cons.mpr ⟨d_V rfl rfl q2946 q2947 q2948 q136 q2949 rfl (by decide +kernel) (by decide) rfl dL_law_611, fun _ h => absurd h List.not_mem_nil⟩) aHS0) (
  aSa (s_iload rfl dL_law_614) (
  aSa (s_ceq (by decide) rfl dL_law_616) (
  aSa (s_iconst (v0 := 0) (by decide) rfl dL_law_619) (
  aSa (s_iret (n := 0) rfl dL_law_620) (
  aSa (s_iload rfl dL_law_621) (
  aSa (s_ifne (by decide) rfl dL_law_623) (
  aSa (s_aload_n rfl rfl dL_law_626) (
  aSa (s_iconst (v0 := 0) (by decide) rfl dL_law_627) (
  aSa (s_lald rfl dL_law_628) (
  aSa (s_iload rfl dL_law_629) (
  aSa (s_i2l rfl dL_law_631) (
  aSa (s_lcmp rfl dL_law_632) (
  aSa (s_ifeq (by decide) rfl dL_law_633) (
  aSa (s_iconst (v0 := 0) (by decide) rfl dL_law_636) (
  aSa (s_iret (n := 0) rfl dL_law_637) (
  aSa (s_goto (n := 0) (by decide) dL_law_638) (
  aSa (s_aload_n rfl rfl dL_law_641) (
  aSa (s_aload_n rfl rfl dL_law_642) (
  aSa (s_iload rfl dL_law_643) (
  aSa (s_iconst (v0 := 1) (by decide) rfl dL_law_645) (
  aSa (s_iadd rfl dL_law_646) (
  aSa (s_iald rfl dL_law_647) (
  aSa (s_aload_n rfl rfl dL_law_648) (
  aSa (s_iload rfl dL_law_649) (
  aSa (s_iconst (v0 := 2) (by decide) rfl dL_law_651) (
  aSa (s_iadd rfl dL_law_652) (
  aSa (s_iald rfl dL_law_653) (
  aSa (s_aload_n rfl rfl dL_law_654) (
  aSa (s_callSX rfl (by decide) q2113 q2114 q101 q2115 (by decide +kernel) (by decide) aHS0 rfl dL_law_655) (
  aSa (s_istore (by decide) rfl dL_law_658) (
  aSa (s_aload_n rfl rfl dL_law_660) (
  aSa (s_aload_n rfl rfl dL_law_661) (
  aSa (s_iload rfl dL_law_662) (
  aSa (s_iconst (v0 := 1) (by decide) rfl dL_law_664) (
  aSa (s_iadd rfl dL_law_665) (
  aSa (s_iald rfl dL_law_666) (
  aSa (s_aload_n rfl rfl dL_law_667) (
  aSa (s_iload rfl dL_law_668) (
  aSa (s_iconst (v0 := 2) (by decide) rfl dL_law_670) (
  aSa (s_iadd rfl dL_law_671) (
  aSa (s_iald rfl dL_law_672) (
  aSa (s_callV (List.forall_mem_cons.mpr ⟨d_V rfl rfl q3057 q3058 q3059 q136 q3060 rfl (by decide +kernel) (by decide) rfl dL_law_673, fun _ h => absurd h List.not_mem_nil⟩) aHS0) (
  aSa (s_istore (by decide) rfl dL_law_676) (
  aSa (s_aload_n rfl rfl dL_law_678) (
  aSa (s_callV (List.forall_mem_cons.mpr ⟨d_V rfl rfl q2946 q2947 q2948 q136 q2949 rfl (by decide +kernel) (by decide) rfl dL_law_679, fun _ h => absurd h List.not_mem_nil⟩) aHS0) (
  aSa (s_iload rfl dL_law_682) (
  aSa (s_ceq (by decide) rfl dL_law_684) (
  aSa (s_iconst (v0 := 0) (by decide) rfl dL_law_687) (
  aSa (s_iret (n := 0) rfl dL_law_688) (
  aSa (s_iload rfl dL_law_689) (
  aSa (s_ifne (by decide) rfl dL_law_691) (
  aSa (s_aload_n rfl rfl dL_law_694) (
  aSa (s_iconst (v0 := 0) (by decide) rfl dL_law_695) (
  aSa (s_lald rfl dL_law_696) (
  aSa (s_iload rfl dL_law_697) (
  aSa (s_i2l rfl dL_law_699) (
  aSa (s_lcmp rfl dL_law_700) (
  aSa (s_ifeq (by decide) rfl dL_law_701) (
  aSa (s_iconst (v0 := 0) (by decide) rfl dL_law_704) (
  aSa (s_iret (n := 0) rfl dL_law_705) (
  aSa (s_goto (n := 0) (by decide) dL_law_706) (
  aSa (s_aload_n rfl rfl dL_law_709) (
  aSa (s_aload_n rfl rfl dL_law_710) (
  aSa (s_iload rfl dL_law_711) (
  aSa (s_iconst (v0 := 1) (by decide) rfl dL_law_713) (
  aSa (s_iadd rfl dL_law_714) (
  aSa (s_iald rfl dL_law_715) (
  aSa (s_aload_n rfl rfl dL_law_716) (
  aSa (s_callSX rfl (by decide) q2136 q2137 q101 q2138 (by decide +kernel) (by decide) aHS0 rfl dL_law_717) (
  aSa (s_istore (by decide) rfl dL_law_720) (
  aSa (s_aload_n rfl rfl dL_law_722) (
  aSa (s_aload_n rfl rfl dL_law_723) (
  aSa (s_iload rfl dL_law_724) (
  aSa (s_iconst (v0 := 1) (by decide) rfl dL_law_726) (
  aSa (s_iadd rfl dL_law_727) (
  aSa (s_iald rfl dL_law_728) (
  aSa (s_callV (List.forall_mem_cons.mpr ⟨d_V rfl rfl q3065 q3066 q3067 q136 q3068 rfl (by decide +kernel) (by decide) rfl dL_law_729, fun _ h => absurd h List.not_mem_nil⟩) aHS0) (
  aSa (s_istore (by decide) rfl dL_law_732) (
  aSa (s_aload_n rfl rfl dL_law_734) (
  aSa (s_callV (List.forall_mem_cons.mpr ⟨d_V rfl rfl q2946 q2947 q2948 q136 q2949 rfl (by decide +kernel) (by decide) rfl dL_law_735, fun _ h => absurd h List.not_mem_nil⟩) aHS0) (
  aSa (s_iload rfl dL_law_738) (
  aSa (s_ceq (by decide) rfl dL_law_740) (
  aSa (s_iconst (v0 := 0) (by decide) rfl dL_law_743) (
  aSa (s_iret (n := 0) rfl dL_law_744) (
  aSa (s_iload rfl dL_law_745) (
  aSa (s_ifne (by decide) rfl dL_law_747) (
  aSa (s_aload_n rfl rfl dL_law_750) (
  aSa (s_iconst (v0 := 0) (by decide) rfl dL_law_751) (
  aSa (s_lald rfl dL_law_752) (
  aSa (s_iload rfl dL_law_753) (
  aSa (s_i2l rfl dL_law_755) (
  aSa (s_lcmp rfl dL_law_756) (
  aSa (s_ifeq (by decide) rfl dL_law_757) (
  aSa (s_iconst (v0 := 0) (by decide) rfl dL_law_760) (
  aSa (s_iret (n := 0) rfl dL_law_761) (
  aSa (s_goto (n := 0) (by decide) dL_law_762) (
  aSa (s_aload_n rfl rfl dL_law_765) (
  aSa (s_aload_n rfl rfl dL_law_766) (
  aSa (s_iload rfl dL_law_767) (
  aSa (s_iconst (v0 := 1) (by decide) rfl dL_law_769) (
  aSa (s_iadd rfl dL_law_770) (
  aSa (s_iald rfl dL_law_771) (
  aSa (s_aload_n rfl rfl dL_law_772) (
  aSa (s_iload rfl dL_law_773) (
  aSa (s_iconst (v0 := 2) (by decide) rfl dL_law_775) (
  aSa (s_iadd rfl dL_law_776) (
  aSa (s_iald rfl dL_law_777) (
  aSa (s_i2l rfl dL_law_778) (
  aSa (s_bipush (v0 := 32) (by decide) rfl dL_law_779) (
  aSa (s_lshl rfl dL_law_781) (
  aSa (s_aload_n rfl rfl dL_law_782) (
  aSa (s_iload rfl dL_law_783) (
  aSa (s_iconst (v0 := 3) (by decide) rfl dL_law_785) (
  aSa (s_iadd rfl dL_law_786) (
  aSa (s_iald rfl dL_law_787) (
  aSa (s_i2l rfl dL_law_788) (
  aSa (s_ldc2 q3279 rfl dL_law_789) (
  aSa (s_land rfl dL_law_792) (
  aSa (s_lor rfl dL_law_793) (
  aSa (s_aload_n rfl rfl dL_law_794) (
  aSa (s_callSX rfl (by decide) q2155 q2156 q101 q2157 (by decide +kernel) (by decide) aHS0 rfl dL_law_795) (
  aSa (s_istore (by decide) rfl dL_law_798) (
  aSa (s_aload_n rfl rfl dL_law_800) (
  aSa (s_aload_n rfl rfl dL_law_801) (
  aSa (s_iload rfl dL_law_802) (
  aSa (s_iconst (v0 := 1) (by decide) rfl dL_law_804) (
  aSa (s_iadd rfl dL_law_805) (
  aSa (s_iald rfl dL_law_806) (
  aSa (s_aload_n rfl rfl dL_law_807) (
  aSa (s_iload rfl dL_law_808) (
  aSa (s_iconst (v0 := 2) (by decide) rfl dL_law_810) (
  aSa (s_iadd rfl dL_law_811) (
  aSa (s_iald rfl dL_law_812) (
  aSa (s_i2l rfl dL_law_813) (
  aSa (s_bipush (v0 := 32) (by decide) rfl dL_law_814) (
  aSa (s_lshl rfl dL_law_816) (
  aSa (s_aload_n rfl rfl dL_law_817) (
  aSa (s_iload rfl dL_law_818) (
  aSa (s_iconst (v0 := 3) (by decide) rfl dL_law_820) (
  aSa (s_iadd rfl dL_law_821) (
  aSa (s_iald rfl dL_law_822) (
  aSa (s_i2l rfl dL_law_823) (
  aSa (s_ldc2 q3279 rfl dL_law_824) (
  aSa (s_land rfl dL_law_827) (
  aSa (s_lor rfl dL_law_828) (
  aSa (s_callV (List.forall_mem_cons.mpr ⟨d_V rfl rfl q3069 q3070 q3071 q136 q3072 rfl (by decide +kernel) (by decide) rfl dL_law_829, fun _ h => absurd h List.not_mem_nil⟩) aHS0) (
  aSa (s_istore (by decide) rfl dL_law_832) (
  aSa (s_aload_n rfl rfl dL_law_834) (
  aSa (s_callV (List.forall_mem_cons.mpr ⟨d_V rfl rfl q2946 q2947 q2948 q136 q2949 rfl (by decide +kernel) (by decide) rfl dL_law_835, fun _ h => absurd h List.not_mem_nil⟩) aHS0) (
  aSa (s_iload rfl dL_law_838) (
  aSa (s_ceq (by decide) rfl dL_law_840) (
  aSa (s_iconst (v0 := 0) (by decide) rfl dL_law_843) (
  aSa (s_iret (n := 0) rfl dL_law_844) (
  aSa (s_iload rfl dL_law_845) (
  aSa (s_ifne (by decide) rfl dL_law_847) (
  aSa (s_aload_n rfl rfl dL_law_850) (
  aSa (s_iconst (v0 := 0) (by decide) rfl dL_law_851) (
  aSa (s_lald rfl dL_law_852) (
  aSa (s_iload rfl dL_law_853) (
  aSa (s_i2l rfl dL_law_855) (
  aSa (s_lcmp rfl dL_law_856) (
  aSa (s_ifeq (by decide) rfl dL_law_857) (
  aSa (s_iconst (v0 := 0) (by decide) rfl dL_law_860) (
  aSa (s_iret (n := 0) rfl dL_law_861) (
  aSa (s_goto (n := 0) (by decide) dL_law_862) (
  aSa (s_aload_n rfl rfl dL_law_865) (
  aSa (s_aload_n rfl rfl dL_law_866) (
  aSa (s_iload rfl dL_law_867) (
  aSa (s_iconst (v0 := 1) (by decide) rfl dL_law_869) (
  aSa (s_iadd rfl dL_law_870) (
  aSa (s_iald rfl dL_law_871) (
  aSa (s_aload_n rfl rfl dL_law_872) (
  aSa (s_iload rfl dL_law_873) (
  aSa (s_iconst (v0 := 2) (by decide) rfl dL_law_875) (
  aSa (s_iadd rfl dL_law_876) (
  aSa (s_iald rfl dL_law_877) (
  aSa (s_aload_n rfl rfl dL_law_878) (
  aSa (s_callSX rfl (by decide) q2404 q2405 q101 q2406 (by decide +kernel) (by decide) aHS0 rfl dL_law_879) (
  aSa (s_istore (by decide) rfl dL_law_882) (
  aSa (s_aload_n rfl rfl dL_law_884) (
  aSa (s_aload_n rfl rfl dL_law_885) (
  aSa (s_iload rfl dL_law_886) (
  aSa (s_iconst (v0 := 1) (by decide) rfl dL_law_888) (
  aSa (s_iadd rfl dL_law_889) (
  aSa (s_iald rfl dL_law_890) (
  aSa (s_aload_n rfl rfl dL_law_891) (
  aSa (s_iload rfl dL_law_892) (
  aSa (s_iconst (v0 := 2) (by decide) rfl dL_law_894) (
  aSa (s_iadd rfl dL_law_895) (
  aSa (s_iald rfl dL_law_896) (
  aSa (s_callV (List.forall_mem_cons.mpr ⟨d_V rfl rfl q3077 q3078 q3079 q136 q3080 rfl (by decide +kernel) (by decide) rfl dL_law_897, fun _ h => absurd h List.not_mem_nil⟩) aHS0) (
  aSa (s_istore (by decide) rfl dL_law_900) (
  aSa (s_aload_n rfl rfl dL_law_902) (
  aSa (s_callV (List.forall_mem_cons.mpr ⟨d_V rfl rfl q2946 q2947 q2948 q136 q2949 rfl (by decide +kernel) (by decide) rfl dL_law_903, fun _ h => absurd h List.not_mem_nil⟩) aHS0) (
  aSa (s_iload rfl dL_law_906) (
  aSa (s_ceq (by decide) rfl dL_law_908) (
  aSa (s_iconst (v0 := 0) (by decide) rfl dL_law_911) (
  aSa (s_iret (n := 0) rfl dL_law_912) (
  aSa (s_iload rfl dL_law_913) (
  aSa (s_ifne (by decide) rfl dL_law_915) (
  aSa (s_aload_n rfl rfl dL_law_918) (
  aSa (s_iconst (v0 := 0) (by decide) rfl dL_law_919) (
  aSa (s_lald rfl dL_law_920) (
  aSa (s_iload rfl dL_law_921) (
  aSa (s_i2l rfl dL_law_923) (
  aSa (s_lcmp rfl dL_law_924) (
  aSa (s_ifeq (by decide) rfl dL_law_925) (
  aSa (s_iconst (v0 := 0) (by decide) rfl dL_law_928) (
  aSa (s_iret (n := 0) rfl dL_law_929) (
  aSa (s_goto (n := 0) (by decide) dL_law_930) (
  aSa (s_aload_n rfl rfl dL_law_933) (
  aSa (s_aload_n rfl rfl dL_law_934) (
  aSa (s_iload rfl dL_law_935) (
  aSa (s_iconst (v0 := 1) (by decide) rfl dL_law_937) (
  aSa (s_iadd rfl dL_law_938) (
  aSa (s_iald rfl dL_law_939) (
  aSa (s_aload_n rfl rfl dL_law_940) (
  aSa (s_callSX rfl (by decide) q2423 q2424 q101 q2425 (by decide +kernel) (by decide) aHS0 rfl dL_law_941) (
  aSa (s_istore (by decide) rfl dL_law_944) (
  aSa (s_aload_n rfl rfl dL_law_946) (
  aSa (s_aload_n rfl rfl dL_law_947) (
  aSa (s_iload rfl dL_law_948) (
  aSa (s_iconst (v0 := 1) (by decide) rfl dL_law_950) (
  aSa (s_iadd rfl dL_law_951) (
  aSa (s_iald rfl dL_law_952) (
  aSa (s_callV (List.forall_mem_cons.mpr ⟨d_V rfl rfl q3081 q3082 q3083 q136 q3084 rfl (by decide +kernel) (by decide) rfl dL_law_953, fun _ h => absurd h List.not_mem_nil⟩) aHS0) (
  aSa (s_lstore (by decide) rfl dL_law_956) (
  aSa (s_aload_n rfl rfl dL_law_958) (
  aSa (s_callV (List.forall_mem_cons.mpr ⟨d_V rfl rfl q2946 q2947 q2948 q136 q2949 rfl (by decide +kernel) (by decide) rfl dL_law_959, fun _ h => absurd h List.not_mem_nil⟩) aHS0) (
  aSa (s_iload rfl dL_law_962) (
  aSa (s_ceq (by decide) rfl dL_law_964) (
  aSa (s_iconst (v0 := 0) (by decide) rfl dL_law_967) (
  aSa (s_iret (n := 0) rfl dL_law_968) (
  aSa (s_iload rfl dL_law_969) (
  aSa (s_ifne (by decide) rfl dL_law_971) (
  aSa (s_aload_n rfl rfl dL_law_974) (
  aSa (s_iconst (v0 := 0) (by decide) rfl dL_law_975) (
  aSa (s_lald rfl dL_law_976) (
  aSa (s_lload rfl dL_law_977) (
  aSa (s_lcmp rfl dL_law_979) (
  aSa (s_ifeq (by decide) rfl dL_law_980) (
  aSa (s_iconst (v0 := 0) (by decide) rfl dL_law_983) (
  aSa (s_iret (n := 0) rfl dL_law_984) (
  aSa (s_goto (n := 0) (by decide) dL_law_985) (
  aSa (s_aload_n rfl rfl dL_law_988) (
  aSa (s_aload_n rfl rfl dL_law_989) (
  aSa (s_iload rfl dL_law_990) (
  aSa (s_iconst (v0 := 1) (by decide) rfl dL_law_992) (
  aSa (s_iadd rfl dL_law_993) (
  aSa (s_iald rfl dL_law_994) (
  aSa (s_aload_n rfl rfl dL_law_995) (
  aSa (s_callSX rfl (by decide) q2444 q2445 q101 q2446 (by decide +kernel) (by decide) aHS0 rfl dL_law_996) (
  aSa (s_istore (by decide) rfl dL_law_999) (
  aSa (s_aload_n rfl rfl dL_law_1001) (
  aSa (s_aload_n rfl rfl dL_law_1002) (
  aSa (s_iload rfl dL_law_1003) (
  aSa (s_iconst (v0 := 1) (by decide) rfl dL_law_1005) (
  aSa (s_iadd rfl dL_law_1006) (
  aSa (s_iald rfl dL_law_1007) (
  aSa (s_callV (List.forall_mem_cons.mpr ⟨d_V rfl rfl q3085 q3086 q3087 q136 q3088 rfl (by decide +kernel) (by decide) rfl dL_law_1008, fun _ h => absurd h List.not_mem_nil⟩) aHS0) (
  aSa (s_istore (by decide) rfl dL_law_1011) (
  aSa (s_aload_n rfl rfl dL_law_1013) (
  aSa (s_callV (List.forall_mem_cons.mpr ⟨d_V rfl rfl q2946 q2947 q2948 q136 q2949 rfl (by decide +kernel) (by decide) rfl dL_law_1014, fun _ h => absurd h List.not_mem_nil⟩) aHS0) (
  aSa (s_iload rfl dL_law_1017) (
  aSa (s_ceq (by decide) rfl dL_law_1019) (
  aSa (s_iconst (v0 := 0) (by decide) rfl dL_law_1022) (
  aSa (s_iret (n := 0) rfl dL_law_1023) (
  aSa (s_iload rfl dL_law_1024) (
  aSa (s_ifne (by decide) rfl dL_law_1026) (
  aSa (s_aload_n rfl rfl dL_law_1029) (
  aSa (s_iconst (v0 := 0) (by decide) rfl dL_law_1030) (
  aSa (s_lald rfl dL_law_1031) (
  aSa (s_iload rfl dL_law_1032) (
  aSa (s_i2l rfl dL_law_1034) (
  aSa (s_lcmp rfl dL_law_1035) (
  aSa (s_ifeq (by decide) rfl dL_law_1036) (
  aSa (s_iconst (v0 := 0) (by decide) rfl dL_law_1039) (
  aSa (s_iret (n := 0) rfl dL_law_1040) (
  aSa (s_goto (n := 0) (by decide) dL_law_1041) (
  aSa (s_aload_n rfl rfl dL_law_1044) (
  aSa (s_aload_n rfl rfl dL_law_1045) (
  aSa (s_iload rfl dL_law_1046) (
  aSa (s_iconst (v0 := 1) (by decide) rfl dL_law_1048) (
  aSa (s_iadd rfl dL_law_1049) (
  aSa (s_iald rfl dL_law_1050) (
  aSa (s_aload_n rfl rfl dL_law_1051) (
  aSa (s_callSX rfl (by decide) q2451 q2452 q101 q2453 (by decide +kernel) (by decide) aHS0 rfl dL_law_1052) (
  aSa (s_istore (by decide) rfl dL_law_1055) (
  aSa (s_aload_n rfl rfl dL_law_1057) (
  aSa (s_aload_n rfl rfl dL_law_1058) (
  aSa (s_iload rfl dL_law_1059) (
  aSa (s_iconst (v0 := 1) (by decide) rfl dL_law_1061) (
  aSa (s_iadd rfl dL_law_1062) (
  aSa (s_iald rfl dL_law_1063) (
  aSa (s_callV (List.forall_mem_cons.mpr ⟨d_V rfl rfl q3089 q3090 q3091 q136 q3092 rfl (by decide +kernel) (by decide) rfl dL_law_1064, fun _ h => absurd h List.not_mem_nil⟩) aHS0) (
  aSa (s_istore (by decide) rfl dL_law_1067) (
  aSa (s_aload_n rfl rfl dL_law_1069) (
  aSa (s_callV (List.forall_mem_cons.mpr ⟨d_V rfl rfl q2946 q2947 q2948 q136 q2949 rfl (by decide +kernel) (by decide) rfl dL_law_1070, fun _ h => absurd h List.not_mem_nil⟩) aHS0) (
  aSa (s_iload rfl dL_law_1073) (
  aSa (s_ceq (by decide) rfl dL_law_1075) (
  aSa (s_iconst (v0 := 0) (by decide) rfl dL_law_1078) (
  aSa (s_iret (n := 0) rfl dL_law_1079) (
  aSa (s_iload rfl dL_law_1080) (
  aSa (s_ifne (by decide) rfl dL_law_1082) (
  aSa (s_aload_n rfl rfl dL_law_1085) (
  aSa (s_iconst (v0 := 0) (by decide) rfl dL_law_1086) (
  aSa (s_lald rfl dL_law_1087) (
  aSa (s_iload rfl dL_law_1088) (
  aSa (s_i2l rfl dL_law_1090) (
  aSa (s_lcmp rfl dL_law_1091) (
  aSa (s_ifeq (by decide) rfl dL_law_1092) (
  aSa (s_iconst (v0 := 0) (by decide) rfl dL_law_1095) (
  aSa (s_iret (n := 0) rfl dL_law_1096) (
  aSa (s_goto (n := 0) (by decide) dL_law_1097) (
  aSa (s_aload_n rfl rfl dL_law_1100) (
  aSa (s_callV (List.forall_mem_cons.mpr ⟨d_V rfl rfl q1210 q1211 q1212 q102 q1213 rfl (by decide +kernel) (by decide) rfl dL_law_1101, fun _ h => absurd h List.not_mem_nil⟩) aHS0) (
  aSa (s_aload_n rfl rfl dL_law_1104) (
  aSa (s_callV (List.forall_mem_cons.mpr ⟨d_V rfl rfl q3093 q3094 q3095 q136 q3096 rfl (by decide +kernel) (by decide) rfl dL_law_1105, fun _ h => absurd h List.not_mem_nil⟩) aHS0) (
  aSa (s_lcmp rfl dL_law_1108) (
  aSa (s_ifeq (by decide) rfl dL_law_1109) (
  aSa (s_iconst (v0 := 0) (by decide) rfl dL_law_1112) (
  aSa (s_iret (n := 0) rfl dL_law_1113) (
  aSa (s_aload_n rfl rfl dL_law_1114) (
  aSa (s_callV (List.forall_mem_cons.mpr ⟨d_V rfl rfl q1214 q1215 q1216 q102 q1217 rfl (by decide +kernel) (by decide) rfl dL_law_1115, fun _ h => absurd h List.not_mem_nil⟩) aHS0) (
  aSa (s_aload_n rfl rfl dL_law_1118) (
  aSa (s_callV (List.forall_mem_cons.mpr ⟨d_V rfl rfl q3097 q3098 q3099 q136 q3100 rfl (by decide +kernel) (by decide) rfl dL_law_1119, fun _ h => absurd h List.not_mem_nil⟩) aHS0) (
  aSa (s_ceq (by decide) rfl dL_law_1122) (
  aSa (s_iconst (v0 := 0) (by decide) rfl dL_law_1125) (
  aSa (s_iret (n := 0) rfl dL_law_1126) (
  aSa (s_aload_n rfl rfl dL_law_1127) (
  aSa (s_aload_n rfl rfl dL_law_1128) (
  aSa (s_callSX rfl (by decide) q2460 q2461 q101 q2462 (by decide +kernel) (by decide) aHS0 rfl dL_law_1129) (
  aSa (s_istore (by decide) rfl dL_law_1132) (
  aSa (s_aload_n rfl rfl dL_law_1134) (
  aSa (s_callV (List.forall_mem_cons.mpr ⟨d_V rfl rfl q3105 q3106 q3107 q136 q3108 rfl (by decide +kernel) (by decide) rfl dL_law_1135, fun _ h => absurd h List.not_mem_nil⟩) aHS0) (
  aSa (s_istore (by decide) rfl dL_law_1138) (
  aSa (s_aload_n rfl rfl dL_law_1140) (
  aSa (s_callV (List.forall_mem_cons.mpr ⟨d_V rfl rfl q2946 q2947 q2948 q136 q2949 rfl (by decide +kernel) (by decide) rfl dL_law_1141, fun _ h => absurd h List.not_mem_nil⟩) aHS0) (
  aSa (s_iload rfl dL_law_1144) (
  aSa (s_ceq (by decide) rfl dL_law_1146) (
  aSa (s_iconst (v0 := 0) (by decide) rfl dL_law_1149) (
  aSa (s_iret (n := 0) rfl dL_law_1150) (
  aSa (s_iload rfl dL_law_1151) (
  aSa (s_ifne (by decide) rfl dL_law_1153) (
  aSa (s_aload_n rfl rfl dL_law_1156) (
  aSa (s_iconst (v0 := 0) (by decide) rfl dL_law_1157) (
  aSa (s_lald rfl dL_law_1158) (
  aSa (s_iload rfl dL_law_1159) (
  aSa (s_ifeq (by decide) rfl dL_law_1161) (
  aSa (s_lconst (by decide) rfl dL_law_1164) (
  aSa (s_goto (n := 0) (by decide) dL_law_1165) (
  aSa (s_lconst (by decide) rfl dL_law_1168) (
  aSa (s_lcmp rfl dL_law_1169) (
  aSa (s_ifeq (by decide) rfl dL_law_1170) (
  aSa (s_iconst (v0 := 0) (by decide) rfl dL_law_1173) (
  aSa (s_iret (n := 0) rfl dL_law_1174) (
  aSa (s_goto (n := 0) (by decide) dL_law_1175) (
  aSa (s_aload_n rfl rfl dL_law_1178) (
  aSa (s_aload_n rfl rfl dL_law_1179) (
  aSa (s_iload rfl dL_law_1180) (
  aSa (s_iconst (v0 := 1) (by decide) rfl dL_law_1182) (
  aSa (s_iadd rfl dL_law_1183) (
  aSa (s_iald rfl dL_law_1184) (
  aSa (s_aload_n rfl rfl dL_law_1185) (
  aSa (s_callSX rfl (by decide) q2471 q2472 q101 q2473 (by decide +kernel) (by decide) aHS0 rfl dL_law_1186) (
  aSa (s_istore (by decide) rfl dL_law_1189) (
  aSa (s_aload_n rfl rfl dL_law_1191) (
  aSa (s_aload_n rfl rfl dL_law_1192) (
  aSa (s_iload rfl dL_law_1193) (
  aSa (s_iconst (v0 := 1) (by decide) rfl dL_law_1195) (
  aSa (s_iadd rfl dL_law_1196) (
  aSa (s_iald rfl dL_law_1197) (
  aSa (s_callV (List.forall_mem_cons.mpr ⟨d_V rfl rfl q3117 q3118 q3119 q136 q3120 rfl (by decide +kernel) (by decide) rfl dL_law_1198, fun _ h => absurd h List.not_mem_nil⟩) aHS0) (
  aSa (s_istore (by decide) rfl dL_law_1201) (
  aSa (s_aload_n rfl rfl dL_law_1203) (
  aSa (s_callV (List.forall_mem_cons.mpr ⟨d_V rfl rfl q2946 q2947 q2948 q136 q2949 rfl (by decide +kernel) (by decide) rfl dL_law_1204, fun _ h => absurd h List.not_mem_nil⟩) aHS0) (
  aSa (s_iload rfl dL_law_1207) (
  aSa (s_ceq (by decide) rfl dL_law_1209) (
  aSa (s_iconst (v0 := 0) (by decide) rfl dL_law_1212) (
  aSa (s_iret (n := 0) rfl dL_law_1213) (
  aSa (s_iload rfl dL_law_1214) (
  aSa (s_ifne (by decide) rfl dL_law_1216) (
  aSa (s_aload_n rfl rfl dL_law_1219) (
  aSa (s_iconst (v0 := 0) (by decide) rfl dL_law_1220) (
  aSa (s_lald rfl dL_law_1221) (
  aSa (s_iload rfl dL_law_1222) (
  aSa (s_i2l rfl dL_law_1224) (
  aSa (s_lcmp rfl dL_law_1225) (
  aSa (s_ifeq (by decide) rfl dL_law_1226) (
  aSa (s_iconst (v0 := 0) (by decide) rfl dL_law_1229) (
  aSa (s_iret (n := 0) rfl dL_law_1230) (
  aSa (s_goto (n := 0) (by decide) dL_law_1231) (
  aSa (s_aload_n rfl rfl dL_law_1234) (
  aSa (s_aload_n rfl rfl dL_law_1235) (
  aSa (s_iload rfl dL_law_1236) (
  aSa (s_iconst (v0 := 1) (by decide) rfl dL_law_1238) (
  aSa (s_iadd rfl dL_law_1239) (
  aSa (s_iald rfl dL_law_1240) (
  aSa (s_aload_n rfl rfl dL_law_1241) (
  aSa (s_callSX rfl (by decide) q2481 q2482 q101 q2483 (by decide +kernel) (by decide) aHS0 rfl dL_law_1242) (
  aSa (s_istore (by decide) rfl dL_law_1245) (
  aSa (s_aload_n rfl rfl dL_law_1247) (
  aSa (s_aload_n rfl rfl dL_law_1248) (
  aSa (s_iload rfl dL_law_1249) (
  aSa (s_iconst (v0 := 1) (by decide) rfl dL_law_1251) (
  aSa (s_iadd rfl dL_law_1252) (
  aSa (s_iald rfl dL_law_1253) (
  aSa (s_callV (List.forall_mem_cons.mpr ⟨d_V rfl rfl q3145 q3146 q3147 q136 q3148 rfl (by decide +kernel) (by decide) rfl dL_law_1254, fun _ h => absurd h List.not_mem_nil⟩) aHS0) (
  aSa (s_istore (by decide) rfl dL_law_1257) (
  aSa (s_aload_n rfl rfl dL_law_1259) (
  aSa (s_callV (List.forall_mem_cons.mpr ⟨d_V rfl rfl q2946 q2947 q2948 q136 q2949 rfl (by decide +kernel) (by decide) rfl dL_law_1260, fun _ h => absurd h List.not_mem_nil⟩) aHS0) (
  aSa (s_iload rfl dL_law_1263) (
  aSa (s_ceq (by decide) rfl dL_law_1265) (
  aSa (s_iconst (v0 := 0) (by decide) rfl dL_law_1268) (
  aSa (s_iret (n := 0) rfl dL_law_1269) (
  aSa (s_iload rfl dL_law_1270) (
  aSa (s_ifne (by decide) rfl dL_law_1272) (
  aSa (s_aload_n rfl rfl dL_law_1275) (
  aSa (s_iconst (v0 := 0) (by decide) rfl dL_law_1276) (
  aSa (s_lald rfl dL_law_1277) (
  aSa (s_iload rfl dL_law_1278) (
  aSa (s_i2l rfl dL_law_1280) (
  aSa (s_lcmp rfl dL_law_1281) (
  aSa (s_ifeq (by decide) rfl dL_law_1282) (
  aSa (s_iconst (v0 := 0) (by decide) rfl dL_law_1285) (
  aSa (s_iret (n := 0) rfl dL_law_1286) (
  aSa (s_goto (n := 0) (by decide) dL_law_1287) (
  aSa (s_aload_n rfl rfl dL_law_1290) (
  aSa (s_aload_n rfl rfl dL_law_1291) (
  aSa (s_iload rfl dL_law_1292) (
  aSa (s_iconst (v0 := 1) (by decide) rfl dL_law_1294) (
  aSa (s_iadd rfl dL_law_1295) (
  aSa (s_iald rfl dL_law_1296) (
  aSa (s_aload_n rfl rfl dL_law_1297) (
  aSa (s_callSX rfl (by decide) q2492 q2493 q101 q2494 (by decide +kernel) (by decide) aHS0 rfl dL_law_1298) (
  aSa (s_istore (by decide) rfl dL_law_1301) (
  aSa (s_aload_n rfl rfl dL_law_1303) (
  aSa (s_aload_n rfl rfl dL_law_1304) (
  aSa (s_iload rfl dL_law_1305) (
  aSa (s_iconst (v0 := 1) (by decide) rfl dL_law_1307) (
  aSa (s_iadd rfl dL_law_1308) (
  aSa (s_iald rfl dL_law_1309) (
  aSa (s_callV (List.forall_mem_cons.mpr ⟨d_V rfl rfl q3190 q3191 q3192 q136 q3193 rfl (by decide +kernel) (by decide) rfl dL_law_1310, fun _ h => absurd h List.not_mem_nil⟩) aHS0) (
  aSa (s_istore (by decide) rfl dL_law_1313) (
  aSa (s_aload_n rfl rfl dL_law_1315) (
  aSa (s_callV (List.forall_mem_cons.mpr ⟨d_V rfl rfl q2946 q2947 q2948 q136 q2949 rfl (by decide +kernel) (by decide) rfl dL_law_1316, fun _ h => absurd h List.not_mem_nil⟩) aHS0) (
  aSa (s_iload rfl dL_law_1319) (
  aSa (s_ceq (by decide) rfl dL_law_1321) (
  aSa (s_iconst (v0 := 0) (by decide) rfl dL_law_1324) (
  aSa (s_iret (n := 0) rfl dL_law_1325) (
  aSa (s_iload rfl dL_law_1326) (
  aSa (s_ifne (by decide) rfl dL_law_1328) (
  aSa (s_aload_n rfl rfl dL_law_1331) (
  aSa (s_iconst (v0 := 0) (by decide) rfl dL_law_1332) (
  aSa (s_lald rfl dL_law_1333) (
  aSa (s_iload rfl dL_law_1334) (
  aSa (s_i2l rfl dL_law_1336) (
  aSa (s_lcmp rfl dL_law_1337) (
  aSa (s_ifeq (by decide) rfl dL_law_1338) (
  aSa (s_iconst (v0 := 0) (by decide) rfl dL_law_1341) (
  aSa (s_iret (n := 0) rfl dL_law_1342) (
  aSa (s_goto (n := 0) (by decide) dL_law_1343) (
  aSa (s_aload_n rfl rfl dL_law_1346) (
  aSa (s_aload_n rfl rfl dL_law_1347) (
  aSa (s_callSX rfl (by decide) q2499 q2500 q101 q2501 (by decide +kernel) (by decide) aHS0 rfl dL_law_1348) (
  aSa (s_istore (by decide) rfl dL_law_1351) (
  aSa (s_aload_n rfl rfl dL_law_1353) (
  aSa (s_callV (List.forall_mem_cons.mpr ⟨d_V rfl rfl q3206 q3207 q3208 q136 q3209 rfl (by decide +kernel) (by decide) rfl dL_law_1354, fun _ h => absurd h List.not_mem_nil⟩) aHS0) (
  aSa (s_istore (by decide) rfl dL_law_1357) (
  aSa (s_aload_n rfl rfl dL_law_1359) (
  aSa (s_callV (List.forall_mem_cons.mpr ⟨d_V rfl rfl q2946 q2947 q2948 q136 q2949 rfl (by decide +kernel) (by decide) rfl dL_law_1360, fun _ h => absurd h List.not_mem_nil⟩) aHS0) (
  aSa (s_iload rfl dL_law_1363) (
  aSa (s_ceq (by decide) rfl dL_law_1365) (
  aSa (s_iconst (v0 := 0) (by decide) rfl dL_law_1368) (
  aSa (s_iret (n := 0) rfl dL_law_1369) (
  aSa (s_iload rfl dL_law_1370) (
  aSa (s_ifne (by decide) rfl dL_law_1372) (
  aSa (s_aload_n rfl rfl dL_law_1375) (
  aSa (s_iconst (v0 := 0) (by decide) rfl dL_law_1376) (
  aSa (s_lald rfl dL_law_1377) (
  aSa (s_iload rfl dL_law_1378) (
  aSa (s_i2l rfl dL_law_1380) (
  aSa (s_lcmp rfl dL_law_1381) (
  aSa (s_ifeq (by decide) rfl dL_law_1382) (
  aSa (s_iconst (v0 := 0) (by decide) rfl dL_law_1385) (
  aSa (s_iret (n := 0) rfl dL_law_1386) (
  aSa (s_goto (n := 0) (by decide) dL_law_1387) (
  aSa (s_aload_n rfl rfl dL_law_1390) (
  aSa (s_aload_n rfl rfl dL_law_1391) (
  aSa (s_iload rfl dL_law_1392) (
  aSa (s_iconst (v0 := 1) (by decide) rfl dL_law_1394) (
  aSa (s_iadd rfl dL_law_1395) (
  aSa (s_iald rfl dL_law_1396) (
  aSa (s_aload_n rfl rfl dL_law_1397) (
  aSa (s_callSX rfl (by decide) q2589 q2590 q101 q2591 (by decide +kernel) (by decide) aHS0 rfl dL_law_1398) (
  aSa (s_istore (by decide) rfl dL_law_1401) (
  aSa (s_aload_n rfl rfl dL_law_1403) (
  aSa (s_aload_n rfl rfl dL_law_1404) (
  aSa (s_iload rfl dL_law_1405) (
  aSa (s_iconst (v0 := 1) (by decide) rfl dL_law_1407) (
  aSa (s_iadd rfl dL_law_1408) (
  aSa (s_iald rfl dL_law_1409) (
  aSa (s_callV (List.forall_mem_cons.mpr ⟨d_V rfl rfl q3222 q3223 q3224 q136 q3225 rfl (by decide +kernel) (by decide) rfl dL_law_1410, fun _ h => absurd h List.not_mem_nil⟩) aHS0) (
  aSa (s_istore (by decide) rfl dL_law_1413) (
  aSa (s_aload_n rfl rfl dL_law_1415) (
  aSa (s_callV (List.forall_mem_cons.mpr ⟨d_V rfl rfl q2946 q2947 q2948 q136 q2949 rfl (by decide +kernel) (by decide) rfl dL_law_1416, fun _ h => absurd h List.not_mem_nil⟩) aHS0) (
  aSa (s_iload rfl dL_law_1419) (
  aSa (s_ceq (by decide) rfl dL_law_1421) (
  aSa (s_iconst (v0 := 0) (by decide) rfl dL_law_1424) (
  aSa (s_iret (n := 0) rfl dL_law_1425) (
  aSa (s_iload rfl dL_law_1426) (
  aSa (s_ifne (by decide) rfl dL_law_1428) (
  aSa (s_aload_n rfl rfl dL_law_1431) (
  aSa (s_iconst (v0 := 0) (by decide) rfl dL_law_1432) (
  aSa (s_lald rfl dL_law_1433) (
  aSa (s_iload rfl dL_law_1434) (
  aSa (s_i2l rfl dL_law_1436) (
  aSa (s_lcmp rfl dL_law_1437) (
  aSa (s_ifeq (by decide) rfl dL_law_1438) (
  aSa (s_iconst (v0 := 0) (by decide) rfl dL_law_1441) (
  aSa (s_iret (n := 0) rfl dL_law_1442) (
  aSa (s_goto (n := 0) (by decide) dL_law_1443) (
  aSa (s_aload_n rfl rfl dL_law_1446) (
  aSa (s_aload_n rfl rfl dL_law_1447) (
  aSa (s_iload rfl dL_law_1448) (
  aSa (s_iconst (v0 := 1) (by decide) rfl dL_law_1450) (
  aSa (s_iadd rfl dL_law_1451) (
  aSa (s_iald rfl dL_law_1452) (
  aSa (s_aload_n rfl rfl dL_law_1453) (
  aSa (s_callSX rfl (by decide) q2596 q2597 q101 q2598 (by decide +kernel) (by decide) aHS0 rfl dL_law_1454) (
  aSa (s_istore (by decide) rfl dL_law_1457) (
  aSa (s_aload_n rfl rfl dL_law_1459) (
  aSa (s_aload_n rfl rfl dL_law_1460) (
  aSa (s_iload rfl dL_law_1461) (
  aSa (s_iconst (v0 := 1) (by decide) rfl dL_law_1463) (
  aSa (s_iadd rfl dL_law_1464) (
  aSa (s_iald rfl dL_law_1465) (
  aSa (s_callV (List.forall_mem_cons.mpr ⟨d_V rfl rfl q3226 q3227 q3228 q136 q3229 rfl (by decide +kernel) (by decide) rfl dL_law_1466, fun _ h => absurd h List.not_mem_nil⟩) aHS0) (
  aSa (s_istore (by decide) rfl dL_law_1469) (
  aSa (s_aload_n rfl rfl dL_law_1471) (
  aSa (s_callV (List.forall_mem_cons.mpr ⟨d_V rfl rfl q2946 q2947 q2948 q136 q2949 rfl (by decide +kernel) (by decide) rfl dL_law_1472, fun _ h => absurd h List.not_mem_nil⟩) aHS0) (
  aSa (s_iload rfl dL_law_1475) (
  aSa (s_ceq (by decide) rfl dL_law_1477) (
  aSa (s_iconst (v0 := 0) (by decide) rfl dL_law_1480) (
  aSa (s_iret (n := 0) rfl dL_law_1481) (
  aSa (s_iload rfl dL_law_1482) (
  aSa (s_ifne (by decide) rfl dL_law_1484) (
  aSa (s_aload_n rfl rfl dL_law_1487) (
  aSa (s_iconst (v0 := 0) (by decide) rfl dL_law_1488) (
  aSa (s_lald rfl dL_law_1489) (
  aSa (s_iload rfl dL_law_1490) (
  aSa (s_i2l rfl dL_law_1492) (
  aSa (s_lcmp rfl dL_law_1493) (
  aSa (s_ifeq (by decide) rfl dL_law_1494) (
  aSa (s_iconst (v0 := 0) (by decide) rfl dL_law_1497) (
  aSa (s_iret (n := 0) rfl dL_law_1498) (
  aSa (s_goto (n := 0) (by decide) dL_law_1499) (
  aSa (s_aload_n rfl rfl dL_law_1502) (
  aSa (s_aload_n rfl rfl dL_law_1503) (
  aSa (s_callSX rfl (by decide) q2603 q2604 q101 q2605 (by decide +kernel) (by decide) aHS0 rfl dL_law_1504) (
  aSa (s_istore (by decide) rfl dL_law_1507) (
  aSa (s_aload_n rfl rfl dL_law_1509) (
  aSa (s_callV (List.forall_mem_cons.mpr ⟨d_V rfl rfl q3230 q3231 q3232 q136 q3233 rfl (by decide +kernel) (by decide) rfl dL_law_1510, fun _ h => absurd h List.not_mem_nil⟩) aHS0) (
  aSa (s_istore (by decide) rfl dL_law_1513) (
  aSa (s_aload_n rfl rfl dL_law_1515) (
  aSa (s_callV (List.forall_mem_cons.mpr ⟨d_V rfl rfl q2946 q2947 q2948 q136 q2949 rfl (by decide +kernel) (by decide) rfl dL_law_1516, fun _ h => absurd h List.not_mem_nil⟩) aHS0) (
  aSa (s_iload rfl dL_law_1519) (
  aSa (s_ceq (by decide) rfl dL_law_1521) (
  aSa (s_iconst (v0 := 0) (by decide) rfl dL_law_1524) (
  aSa (s_iret (n := 0) rfl dL_law_1525) (
  aSa (s_iload rfl dL_law_1526) (
  aSa (s_ifne (by decide) rfl dL_law_1528) (
  aSa (s_aload_n rfl rfl dL_law_1531) (
  aSa (s_iconst (v0 := 0) (by decide) rfl dL_law_1532) (
  aSa (s_lald rfl dL_law_1533) (
  aSa (s_iload rfl dL_law_1534) (
  aSa (s_i2l rfl dL_law_1536) (
  aSa (s_lcmp rfl dL_law_1537) (
  aSa (s_ifeq (by decide) rfl dL_law_1538) (
  aSa (s_iconst (v0 := 0) (by decide) rfl dL_law_1541) (
  aSa (s_iret (n := 0) rfl dL_law_1542) (
  aSa (s_goto (n := 0) (by decide) dL_law_1543) (
  aSa (s_aload_n rfl rfl dL_law_1546) (
  aSa (s_aload_n rfl rfl dL_law_1547) (
  aSa (s_iload rfl dL_law_1548) (
  aSa (s_iconst (v0 := 1) (by decide) rfl dL_law_1550) (
  aSa (s_iadd rfl dL_law_1551) (
  aSa (s_iald rfl dL_law_1552) (
  aSa (s_aload_n rfl rfl dL_law_1553) (
  aSa (s_callSX rfl (by decide) q2614 q2615 q101 q2616 (by decide +kernel) (by decide) aHS0 rfl dL_law_1554) (
  aSa (s_istore (by decide) rfl dL_law_1557) (
  aSa (s_aload_n rfl rfl dL_law_1559) (
  aSa (s_aload_n rfl rfl dL_law_1560) (
  aSa (s_iload rfl dL_law_1561) (
  aSa (s_iconst (v0 := 1) (by decide) rfl dL_law_1563) (
  aSa (s_iadd rfl dL_law_1564) (
  aSa (s_iald rfl dL_law_1565) (
  aSa (s_callV (List.forall_mem_cons.mpr ⟨d_V rfl rfl q3234 q3235 q3236 q136 q3237 rfl (by decide +kernel) (by decide) rfl dL_law_1566, fun _ h => absurd h List.not_mem_nil⟩) aHS0) (
  aSa (s_istore (by decide) rfl dL_law_1569) (
  aSa (s_aload_n rfl rfl dL_law_1571) (
  aSa (s_callV (List.forall_mem_cons.mpr ⟨d_V rfl rfl q2946 q2947 q2948 q136 q2949 rfl (by decide +kernel) (by decide) rfl dL_law_1572, fun _ h => absurd h List.not_mem_nil⟩) aHS0) (
  aSa (s_iload rfl dL_law_1575) (
  aSa (s_ceq (by decide) rfl dL_law_1577) (
  aSa (s_iconst (v0 := 0) (by decide) rfl dL_law_1580) (
  aSa (s_iret (n := 0) rfl dL_law_1581) (
  aSa (s_iload rfl dL_law_1582) (
  aSa (s_ifne (by decide) rfl dL_law_1584) (
  aSa (s_aload_n rfl rfl dL_law_1587) (
  aSa (s_iconst (v0 := 0) (by decide) rfl dL_law_1588) (
  aSa (s_lald rfl dL_law_1589) (
  aSa (s_iload rfl dL_law_1590) (
  aSa (s_i2l rfl dL_law_1592) (
  aSa (s_lcmp rfl dL_law_1593) (
  aSa (s_ifeq (by decide) rfl dL_law_1594) (
  aSa (s_iconst (v0 := 0) (by decide) rfl dL_law_1597) (
  aSa (s_iret (n := 0) rfl dL_law_1598) (
  aSa (s_goto (n := 0) (by decide) dL_law_1599) (
  aSa (s_aload_n rfl rfl dL_law_1602) (
  aSa (s_aload_n rfl rfl dL_law_1603) (
  aSa (s_iload rfl dL_law_1604) (
  aSa (s_iconst (v0 := 1) (by decide) rfl dL_law_1606) (
  aSa (s_iadd rfl dL_law_1607) (
  aSa (s_iald rfl dL_law_1608) (
  aSa (s_aload_n rfl rfl dL_law_1609) (
  aSa (s_callSX rfl (by decide) q2635 q2636 q101 q2637 (by decide +kernel) (by decide) aHS0 rfl dL_law_1610) (
  aSa (s_istore (by decide) rfl dL_law_1613) (
  aSa (s_aload_n rfl rfl dL_law_1615) (
  aSa (s_aload_n rfl rfl dL_law_1616) (
  aSa (s_iload rfl dL_law_1617) (
  aSa (s_iconst (v0 := 1) (by decide) rfl dL_law_1619) (
  aSa (s_iadd rfl dL_law_1620) (
  aSa (s_iald rfl dL_law_1621) (
  aSa (s_callV (List.forall_mem_cons.mpr ⟨d_V rfl rfl q3251 q3252 q3253 q136 q3254 rfl (by decide +kernel) (by decide) rfl dL_law_1622, fun _ h => absurd h List.not_mem_nil⟩) aHS0) (
  aSa (s_istore (by decide) rfl dL_law_1625) (
  aSa (s_aload_n rfl rfl dL_law_1627) (
  aSa (s_callV (List.forall_mem_cons.mpr ⟨d_V rfl rfl q2946 q2947 q2948 q136 q2949 rfl (by decide +kernel) (by decide) rfl dL_law_1628, fun _ h => absurd h List.not_mem_nil⟩) aHS0) (
  aSa (s_iload rfl dL_law_1631) (
  aSa (s_ceq (by decide) rfl dL_law_1633) (
  aSa (s_iconst (v0 := 0) (by decide) rfl dL_law_1636) (
  aSa (s_iret (n := 0) rfl dL_law_1637) (
  aSa (s_iload rfl dL_law_1638) (
  aSa (s_ifne (by decide) rfl dL_law_1640) (
  aSa (s_aload_n rfl rfl dL_law_1643) (
  aSa (s_iconst (v0 := 0) (by decide) rfl dL_law_1644) (
  aSa (s_lald rfl dL_law_1645) (
  aSa (s_iload rfl dL_law_1646) (
  aSa (s_i2l rfl dL_law_1648) (
  aSa (s_lcmp rfl dL_law_1649) (
  aSa (s_ifeq (by decide) rfl dL_law_1650) (
  aSa (s_iconst (v0 := 0) (by decide) rfl dL_law_1653) (
  aSa (s_iret (n := 0) rfl dL_law_1654) (
  aSa (s_goto (n := 0) (by decide) dL_law_1655) (
  aSa (s_aload_n rfl rfl dL_law_1658) (
  aSa (s_aload_n rfl rfl dL_law_1659) (
  aSa (s_iload rfl dL_law_1660) (
  aSa (s_iconst (v0 := 1) (by decide) rfl dL_law_1662) (
  aSa (s_iadd rfl dL_law_1663) (
  aSa (s_iald rfl dL_law_1664) (
  aSa (s_aload_n rfl rfl dL_law_1665) (
  aSa (s_callSX rfl (by decide) q2642 q2643 q101 q2644 (by decide +kernel) (by decide) aHS0 rfl dL_law_1666) (
  aSa (s_istore (by decide) rfl dL_law_1669) (
  aSa (s_aload_n rfl rfl dL_law_1671) (
  aSa (s_aload_n rfl rfl dL_law_1672) (
  aSa (s_iload rfl dL_law_1673) (
  aSa (s_iconst (v0 := 1) (by decide) rfl dL_law_1675) (
  aSa (s_iadd rfl dL_law_1676) (
  aSa (s_iald rfl dL_law_1677) (
  aSa (s_callV (List.forall_mem_cons.mpr ⟨d_V rfl rfl q3255 q3256 q3257 q136 q3258 rfl (by decide +kernel) (by decide) rfl dL_law_1678, fun _ h => absurd h List.not_mem_nil⟩) aHS0) (
  aSa (s_istore (by decide) rfl dL_law_1681) (
  aSa (s_aload_n rfl rfl dL_law_1683) (
  aSa (s_callV (List.forall_mem_cons.mpr ⟨d_V rfl rfl q2946 q2947 q2948 q136 q2949 rfl (by decide +kernel) (by decide) rfl dL_law_1684, fun _ h => absurd h List.not_mem_nil⟩) aHS0) (
  aSa (s_iload rfl dL_law_1687) (
  aSa (s_ceq (by decide) rfl dL_law_1689) (
  aSa (s_iconst (v0 := 0) (by decide) rfl dL_law_1692) (
  aSa (s_iret (n := 0) rfl dL_law_1693) (
  aSa (s_iload rfl dL_law_1694) (
  aSa (s_ifne (by decide) rfl dL_law_1696) (
  aSa (s_aload_n rfl rfl dL_law_1699) (
  aSa (s_iconst (v0 := 0) (by decide) rfl dL_law_1700) (
  aSa (s_lald rfl dL_law_1701) (
  aSa (s_iload rfl dL_law_1702) (
  aSa (s_ifeq (by decide) rfl dL_law_1704) (
  aSa (s_lconst (by decide) rfl dL_law_1707) (
  aSa (s_goto (n := 0) (by decide) dL_law_1708) (
  aSa (s_lconst (by decide) rfl dL_law_1711) (
  aSa (s_lcmp rfl dL_law_1712) (
  aSa (s_ifeq (by decide) rfl dL_law_1713) (
  aSa (s_iconst (v0 := 0) (by decide) rfl dL_law_1716) (
  aSa (s_iret (n := 0) rfl dL_law_1717) (
  aSa (s_goto (n := 0) (by decide) dL_law_1718) (
  aSa (s_aload_n rfl rfl dL_law_1721) (
  aSa (s_aload_n rfl rfl dL_law_1722) (
  aSa (s_iload rfl dL_law_1723) (
  aSa (s_iconst (v0 := 1) (by decide) rfl dL_law_1725) (
  aSa (s_iadd rfl dL_law_1726) (
  aSa (s_iald rfl dL_law_1727) (
  aSa (s_aload_n rfl rfl dL_law_1728) (
  aSa (s_callSX rfl (by decide) q2655 q2656 q101 q2657 (by decide +kernel) (by decide) aHS0 rfl dL_law_1729) (
  aSa (s_istore (by decide) rfl dL_law_1732) (
  aSa (s_aload_n rfl rfl dL_law_1734) (
  aSa (s_aload_n rfl rfl dL_law_1735) (
  aSa (s_iload rfl dL_law_1736) (
  aSa (s_iconst (v0 := 1) (by decide) rfl dL_law_1738) (
  aSa (s_iadd rfl dL_law_1739) (
  aSa (s_iald rfl dL_law_1740) (
  aSa (s_callV (List.forall_mem_cons.mpr ⟨d_V rfl rfl q2973 q2974 q2975 q136 q2976 rfl (by decide +kernel) (by decide) rfl dL_law_1741, fun _ h => absurd h List.not_mem_nil⟩) aHS0) (
  aSa (s_istore (by decide) rfl dL_law_1744) (
  aSa (s_aload_n rfl rfl dL_law_1746) (
  aSa (s_callV (List.forall_mem_cons.mpr ⟨d_V rfl rfl q2946 q2947 q2948 q136 q2949 rfl (by decide +kernel) (by decide) rfl dL_law_1747, fun _ h => absurd h List.not_mem_nil⟩) aHS0) (
  aSa (s_iload rfl dL_law_1750) (
  aSa (s_ceq (by decide) rfl dL_law_1752) (
  aSa (s_iconst (v0 := 0) (by decide) rfl dL_law_1755) (
  aSa (s_iret (n := 0) rfl dL_law_1756) (
  aSa (s_iload rfl dL_law_1757) (
  aSa (s_ifne (by decide) rfl dL_law_1759) (
  aSa (s_aload_n rfl rfl dL_law_1762) (
  aSa (s_iconst (v0 := 0) (by decide) rfl dL_law_1763) (
  aSa (s_lald rfl dL_law_1764) (
  aSa (s_iload rfl dL_law_1765) (
  aSa (s_i2l rfl dL_law_1767) (
  aSa (s_lcmp rfl dL_law_1768) (
  aSa (s_ifeq (by decide) rfl dL_law_1769) (
  aSa (s_iconst (v0 := 0) (by decide) rfl dL_law_1772) (
  aSa (s_iret (n := 0) rfl dL_law_1773) (
  aSa (s_goto (n := 0) (by decide) dL_law_1774) (
  aSa (s_aload_n rfl rfl dL_law_1777) (
  aSa (s_callV (List.forall_mem_cons.mpr ⟨d_V rfl rfl q1222 q1223 q1224 q102 q1225 rfl (by decide +kernel) (by decide) rfl dL_law_1778, fun _ h => absurd h List.not_mem_nil⟩) aHS0) (
  aSa (s_dstore (by decide) rfl dL_law_1781) (
  aSa (s_aload_n rfl rfl dL_law_1783) (
  aSa (s_callV (List.forall_mem_cons.mpr ⟨d_V rfl rfl q3263 q3264 q3265 q136 q3266 rfl (by decide +kernel) (by decide) rfl dL_law_1784, fun _ h => absurd h List.not_mem_nil⟩) aHS0) (
  aSa (s_dstore (by decide) rfl dL_law_1787) (
  aSa (s_dload rfl dL_law_1789) (
  aSa (s_dload rfl dL_law_1791) (
  aSa (s_dcmp rfl dL_law_1793) (
  aSa (s_ifeq (by decide) rfl dL_law_1794) (
  aSa (s_dload rfl dL_law_1797) (
  aSa (s_dload rfl dL_law_1799) (
  aSa (s_dcmp rfl dL_law_1801) (
  aSa (s_ifeq (by decide) rfl dL_law_1802) (
  aSa (s_dload rfl dL_law_1805) (
  aSa (s_dload rfl dL_law_1807) (
  aSa (s_dcmp rfl dL_law_1809) (
  aSa (s_ifne (by decide) rfl dL_law_1810) (
  aSa (s_iconst (v0 := 0) (by decide) rfl dL_law_1813) (
  aSa (s_iret (n := 0) rfl dL_law_1814) (
  aSa (s_goto (n := 0) (by decide) dL_law_1815) (
  aSa (s_aload_n rfl rfl dL_law_1818) (
  aSa (s_callV (List.forall_mem_cons.mpr ⟨d_V rfl rfl q1227 q1228 q1229 q102 q1230 rfl (by decide +kernel) (by decide) rfl dL_law_1819, fun _ h => absurd h List.not_mem_nil⟩) aHS0) (
  aSa (s_f2d rfl dL_law_1822) (
  aSa (s_dstore (by decide) rfl dL_law_1823) (
  aSa (s_aload_n rfl rfl dL_law_1825) (
  aSa (s_callV (List.forall_mem_cons.mpr ⟨d_V rfl rfl q3267 q3268 q3269 q136 q3270 rfl (by decide +kernel) (by decide) rfl dL_law_1826, fun _ h => absurd h List.not_mem_nil⟩) aHS0) (
  aSa (s_f2d rfl dL_law_1829) (
  aSa (s_dstore (by decide) rfl dL_law_1830) (
  aSa (s_dload rfl dL_law_1832) (
  aSa (s_dload rfl dL_law_1834) (
  aSa (s_dcmp rfl dL_law_1836) (
  aSa (s_ifeq (by decide) rfl dL_law_1837) (
  aSa (s_dload rfl dL_law_1840) (
  aSa (s_dload rfl dL_law_1842) (
  aSa (s_dcmp rfl dL_law_1844) (
  aSa (s_ifeq (by decide) rfl dL_law_1845) (
  aSa (s_dload rfl dL_law_1848) (
  aSa (s_dload rfl dL_law_1850) (
  aSa (s_dcmp rfl dL_law_1852) (
  aSa (s_ifne (by decide) rfl dL_law_1853) (
  aSa (s_iconst (v0 := 0) (by decide) rfl dL_law_1856) (
  aSa (s_iret (n := 0) rfl dL_law_1857) (
  aSa (s_goto (n := 0) (by decide) dL_law_1858) (
  aSa (s_aload_n rfl rfl dL_law_1861) (
  aSa (s_callV (List.forall_mem_cons.mpr ⟨d_V rfl rfl q1239 q1240 q1241 q102 q1242 rfl (by decide +kernel) (by decide) rfl dL_law_1862, fun _ h => absurd h List.not_mem_nil⟩) aHS0) (
  aSa (s_aload_n rfl rfl dL_law_1865) (
  aSa (s_callV (List.forall_mem_cons.mpr ⟨d_V rfl rfl q3271 q3272 q3273 q136 q3274 rfl (by decide +kernel) (by decide) rfl dL_law_1866, fun _ h => absurd h List.not_mem_nil⟩) aHS0) (
  aSa (s_ceq (by decide) rfl dL_law_1869) (
  aSa (s_iconst (v0 := 0) (by decide) rfl dL_law_1872) (
  aSa (s_iret (n := 0) rfl dL_law_1873) (
  aSa (s_iinc (by decide) rfl dL_law_1874) (
  aSa (s_goto (n := 0) (by decide) dL_law_1877) (
  aSa (s_iconst (v0 := 1) (by decide) rfl dL_law_1880) (
  aSa (s_iret (n := 0) rfl dL_law_1881) (
  aSn))))))))))))))))))))))))))))))))))))))))))))))))))))))))))))))))))))))))))))))))))))))))))))))))))))))))))))))))))))))))))))))))))))))))))))))))))))))))))))))))))))))))))))))))))))))))))))))))))))))))))))))))))))))))))))))))))))))))))))))))))))))))))))))))))))))))))))))))))))))))))))))))))))))))))))))))))))))))))))))))))))))))))))))))))))))))))))))))))))))))))))))))))))))))))))))))))))))))))))))))))))))))))))))))))))))))))))))))))))))))))))))))))))))))))))))))))))))))))))))))))))))))))))))))))))))))))))))))))))))))))))))))))))))))))))))))))))))))))))))))))))))))))))))))))))))))))))))))))))))))))))))))))))))))))))))))))))))))))))))))))))))))))))))))))))))))))))))))))))))))))))))))))))))))))))))))))))))))))))))))))))))))))))))))))))))))))))))))))))))))))))))))))))))))))))))))))))))))))))))))))))))))))))))))))))))))))))))))))))))))))))))))))))))))))))))))))))))))))))))))))))))))))))))))))))))))))))))))))))))))))))))))))))))))))))))))))))))))))))))))))))))))))))))))))))))))))))))))))))))))))))))))))))))))))))))))))))))))))))))))))))))))))))))))))))))))))))))))))))))))))))))))))))
theorem hs235_4 : aHS "SlidingtrayLaw" [((0 : Nat), (9 : Nat), (12 : Nat), (13 : Nat))] 4 [("java/lang/IllegalArgumentException", some 12)] := by
  refine ⟨fun h => (by cases h), fun E r h => ?_⟩
  simp only [List.lookup_cons] at h
  split at h
  · next e =>
    cases h
    obtain rfl := eq_of_beq e
    exact ⟨12, rfl, (tableOf [((0 : Nat), (9 : Nat), (12 : Nat), (13 : Nat))]).take 0, (tableOf [((0 : Nat), (9 : Nat), (12 : Nat), (13 : Nat))])[0]'(by decide +kernel), (tableOf [((0 : Nat), (9 : Nat), (12 : Nat), (13 : Nat))]).drop 1, "java/lang/IllegalArgumentException", by rfl, fun _ h => absurd h List.not_mem_nil, by decide +kernel, by decide +kernel, by decide +kernel, q2005, q586⟩
  · cases h
theorem sn235 : SndL "SlidingtrayLaw" "lay" cX0_lay 5 (Option.some Jvm.ClassFile.FieldType.int) [((0 : Nat), (9 : Nat), (12 : Nat), (13 : Nat))] T235 := aSa (s_aload_n rfl rfl dX0_lay_0) (
  aSa (s_iconst (v0 := 0) (by decide) rfl dX0_lay_1) (
  aSa (s_aload_n rfl rfl dX0_lay_2) (
  aSa (s_lload_n rfl rfl dX0_lay_3) (
  aSa (s_callV (List.forall_mem_cons.mpr ⟨d_V rfl rfl q2037 q2038 q2039 q102 q2040 rfl (by decide +kernel) (by decide) rfl dX0_lay_4, fun _ h => absurd h List.not_mem_nil⟩) hs235_4) (
  aSa (s_i2l rfl dX0_lay_7) (
  aSa (s_last rfl dX0_lay_8) (
  aSa (s_goto (n := 0) (by decide) dX0_lay_9) (
  aSa (s_astore (by decide) rfl dX0_lay_12) (
  aSa (s_iconst (v0 := 1) (by decide) rfl dX0_lay_14) (
  aSa (s_iret (n := 0) rfl dX0_lay_15) (
  aSa (s_iconst (v0 := 0) (by decide) rfl dX0_lay_16) (
  aSa (s_iret (n := 0) rfl dX0_lay_17) (
  aSn)))))))))))))
theorem hs236_5 : aHS "SlidingtrayLaw" [((0 : Nat), (10 : Nat), (13 : Nat), (13 : Nat))] 5 [("java/lang/IllegalArgumentException", some 13)] := by
  refine ⟨fun h => (by cases h), fun E r h => ?_⟩
  simp only [List.lookup_cons] at h
  split at h
  · next e =>
    cases h
    obtain rfl := eq_of_beq e
    exact ⟨13, rfl, (tableOf [((0 : Nat), (10 : Nat), (13 : Nat), (13 : Nat))]).take 0, (tableOf [((0 : Nat), (10 : Nat), (13 : Nat), (13 : Nat))])[0]'(by decide +kernel), (tableOf [((0 : Nat), (10 : Nat), (13 : Nat), (13 : Nat))]).drop 1, "java/lang/IllegalArgumentException", by rfl, fun _ h => absurd h List.not_mem_nil, by decide +kernel, by decide +kernel, by decide +kernel, q2005, q586⟩
  · cases h
theorem sn236 : SndL "SlidingtrayLaw" "mix" cX0_mix 5 (Option.some Jvm.ClassFile.FieldType.int) [((0 : Nat), (10 : Nat), (13 : Nat), (13 : Nat))] T236 := aSa (s_aload_n rfl rfl dX0_mix_0) (
  aSa (s_iconst (v0 := 0) (by decide) rfl dX0_mix_1) (
  aSa (s_aload_n rfl rfl dX0_mix_2) (
  aSa (s_iload_n rfl rfl dX0_mix_3) (
  aSa (s_iload_n rfl rfl dX0_mix_4) (
  aSa (s_callV (List.forall_mem_cons.mpr ⟨d_V rfl rfl q2053 q2054 q2055 q102 q2056 rfl (by decide +kernel) (by decide) rfl dX0_mix_5, fun _ h => absurd h List.not_mem_nil⟩) hs236_5) (
  aSa (s_i2l rfl dX0_mix_8) (
  aSa (s_last rfl dX0_mix_9) (
  aSa (s_goto (n := 0) (by decide) dX0_mix_10) (
  aSa (s_astore (by decide) rfl dX0_mix_13) (
  aSa (s_iconst (v0 := 1) (by decide) rfl dX0_mix_15) (
  aSa (s_iret (n := 0) rfl dX0_mix_16) (
  aSa (s_iconst (v0 := 0) (by decide) rfl dX0_mix_17) (
  aSa (s_iret (n := 0) rfl dX0_mix_18) (
  aSn))))))))))))))
theorem hs237_5 : aHS "SlidingtrayLaw" [((0 : Nat), (10 : Nat), (13 : Nat), (13 : Nat)), ((0 : Nat), (10 : Nat), (17 : Nat), (39 : Nat))] 5 [("java/lang/IllegalArgumentException", some 13), ("java/lang/IllegalStateException", some 17)] := by
  refine ⟨fun h => (by cases h), fun E r h => ?_⟩
  simp only [List.lookup_cons] at h
  split at h
  · next e =>
    cases h
    obtain rfl := eq_of_beq e
    exact ⟨13, rfl, (tableOf [((0 : Nat), (10 : Nat), (13 : Nat), (13 : Nat)), ((0 : Nat), (10 : Nat), (17 : Nat), (39 : Nat))]).take 0, (tableOf [((0 : Nat), (10 : Nat), (13 : Nat), (13 : Nat)), ((0 : Nat), (10 : Nat), (17 : Nat), (39 : Nat))])[0]'(by decide +kernel), (tableOf [((0 : Nat), (10 : Nat), (13 : Nat), (13 : Nat)), ((0 : Nat), (10 : Nat), (17 : Nat), (39 : Nat))]).drop 1, "java/lang/IllegalArgumentException", by rfl, fun _ h => absurd h List.not_mem_nil, by decide +kernel, by decide +kernel, by decide +kernel, q2005, q586⟩
  · split at h
    · next e =>
      cases h
      obtain rfl := eq_of_beq e
      exact ⟨17, rfl, (tableOf [((0 : Nat), (10 : Nat), (13 : Nat), (13 : Nat)), ((0 : Nat), (10 : Nat), (17 : Nat), (39 : Nat))]).take 1, (tableOf [((0 : Nat), (10 : Nat), (13 : Nat), (13 : Nat)), ((0 : Nat), (10 : Nat), (17 : Nat), (39 : Nat))])[1]'(by decide +kernel), (tableOf [((0 : Nat), (10 : Nat), (13 : Nat), (13 : Nat)), ((0 : Nat), (10 : Nat), (17 : Nat), (39 : Nat))]).drop 2, "java/lang/IllegalStateException", by rfl, List.forall_mem_cons.mpr ⟨Or.inr ⟨by decide, _, q2005, by decide +kernel⟩, fun _ h => absurd h List.not_mem_nil⟩, by decide +kernel, by decide +kernel, by decide +kernel, q2116, q934⟩
    · cases h
theorem sn237 : SndL "SlidingtrayLaw" "move" cX0_move 5 (Option.some Jvm.ClassFile.FieldType.int) [((0 : Nat), (10 : Nat), (13 : Nat), (13 : Nat)), ((0 : Nat), (10 : Nat), (17 : Nat), (39 : Nat))] T237 := aSa (s_aload_n rfl rfl dX0_move_0) (
  aSa (s_iconst (v0 := 0) (by decide) rfl dX0_move_1) (
  aSa (s_aload_n rfl rfl dX0_move_2) (
  aSa (s_iload_n rfl rfl dX0_move_3) (
  aSa (s_iload_n rfl rfl dX0_move_4) (
  aSa (s_callV (List.forall_mem_cons.mpr ⟨d_V rfl rfl q2117 q2118 q2119 q102 q2120 rfl (by decide +kernel) (by decide) rfl dX0_move_5, fun _ h => absurd h List.not_mem_nil⟩) hs237_5) (
  aSa (s_i2l rfl dX0_move_8) (
  aSa (s_last rfl dX0_move_9) (
  aSa (s_goto (n := 0) (by decide) dX0_move_10) (
  aSa (s_astore (by decide) rfl dX0_move_13) (
  aSa (s_iconst (v0 := 1) (by decide) rfl dX0_move_15) (
  aSa (s_iret (n := 0) rfl dX0_move_16) (
  aSa (s_astore (by decide) rfl dX0_move_17) (
  aSa (s_iconst (v0 := 2) (by decide) rfl dX0_move_19) (
  aSa (s_iret (n := 0) rfl dX0_move_20) (
  aSa (s_iconst (v0 := 0) (by decide) rfl dX0_move_21) (
  aSa (s_iret (n := 0) rfl dX0_move_22) (
  aSn)))))))))))))))))
theorem hs238_4 : aHS "SlidingtrayLaw" [((0 : Nat), (9 : Nat), (12 : Nat), (13 : Nat)), ((0 : Nat), (9 : Nat), (15 : Nat), (39 : Nat))] 4 [("java/lang/IllegalArgumentException", some 12), ("java/lang/IllegalStateException", some 15)] := by
  refine ⟨fun h => (by cases h), fun E r h => ?_⟩
  simp only [List.lookup_cons] at h
  split at h
  · next e =>
    cases h
    obtain rfl := eq_of_beq e
    exact ⟨12, rfl, (tableOf [((0 : Nat), (9 : Nat), (12 : Nat), (13 : Nat)), ((0 : Nat), (9 : Nat), (15 : Nat), (39 : Nat))]).take 0, (tableOf [((0 : Nat), (9 : Nat), (12 : Nat), (13 : Nat)), ((0 : Nat), (9 : Nat), (15 : Nat), (39 : Nat))])[0]'(by decide +kernel), (tableOf [((0 : Nat), (9 : Nat), (12 : Nat), (13 : Nat)), ((0 : Nat), (9 : Nat), (15 : Nat), (39 : Nat))]).drop 1, "java/lang/IllegalArgumentException", by rfl, fun _ h => absurd h List.not_mem_nil, by decide +kernel, by decide +kernel, by decide +kernel, q2005, q586⟩
  · split at h
    · next e =>
      cases h
      obtain rfl := eq_of_beq e
      exact ⟨15, rfl, (tableOf [((0 : Nat), (9 : Nat), (12 : Nat), (13 : Nat)), ((0 : Nat), (9 : Nat), (15 : Nat), (39 : Nat))]).take 1, (tableOf [((0 : Nat), (9 : Nat), (12 : Nat), (13 : Nat)), ((0 : Nat), (9 : Nat), (15 : Nat), (39 : Nat))])[1]'(by decide +kernel), (tableOf [((0 : Nat), (9 : Nat), (12 : Nat), (13 : Nat)), ((0 : Nat), (9 : Nat), (15 : Nat), (39 : Nat))]).drop 2, "java/lang/IllegalStateException", by rfl, List.forall_mem_cons.mpr ⟨Or.inr ⟨by decide, _, q2005, by decide +kernel⟩, fun _ h => absurd h List.not_mem_nil⟩, by decide +kernel, by decide +kernel, by decide +kernel, q2116, q934⟩
    · cases h
theorem sn238 : SndL "SlidingtrayLaw" "onlyWay" cX0_onlyWay 4 (Option.some Jvm.ClassFile.FieldType.int) [((0 : Nat), (9 : Nat), (12 : Nat), (13 : Nat)), ((0 : Nat), (9 : Nat), (15 : Nat), (39 : Nat))] T238 := aSa (s_aload_n rfl rfl dX0_onlyWay_0) (
  aSa (s_iconst (v0 := 0) (by decide) rfl dX0_onlyWay_1) (
  aSa (s_aload_n rfl rfl dX0_onlyWay_2) (
  aSa (s_iload_n rfl rfl dX0_onlyWay_3) (
  aSa (s_callV (List.forall_mem_cons.mpr ⟨d_V rfl rfl q2638 q2639 q2640 q102 q2641 rfl (by decide +kernel) (by decide) rfl dX0_onlyWay_4, fun _ h => absurd h List.not_mem_nil⟩) hs238_4) (
  aSa (s_i2l rfl dX0_onlyWay_7) (
  aSa (s_last rfl dX0_onlyWay_8) (
  aSa (s_goto (n := 0) (by decide) dX0_onlyWay_9) (
  aSa (s_astore_n rfl (by decide) rfl dX0_onlyWay_12) (
  aSa (s_iconst (v0 := 1) (by decide) rfl dX0_onlyWay_13) (
  aSa (s_iret (n := 0) rfl dX0_onlyWay_14) (
  aSa (s_astore_n rfl (by decide) rfl dX0_onlyWay_15) (
  aSa (s_iconst (v0 := 2) (by decide) rfl dX0_onlyWay_16) (
  aSa (s_iret (n := 0) rfl dX0_onlyWay_17) (
  aSa (s_iconst (v0 := 0) (by decide) rfl dX0_onlyWay_18) (
  aSa (s_iret (n := 0) rfl dX0_onlyWay_19) (
  aSn))))))))))))))))
theorem hs239_4 : aHS "SlidingtrayLaw" [((0 : Nat), (9 : Nat), (12 : Nat), (13 : Nat)), ((0 : Nat), (9 : Nat), (15 : Nat), (39 : Nat))] 4 [("java/lang/IllegalArgumentException", some 12), ("java/lang/IllegalStateException", some 15)] := by
  refine ⟨fun h => (by cases h), fun E r h => ?_⟩
  simp only [List.lookup_cons] at h
  split at h
  · next e =>
    cases h
    obtain rfl := eq_of_beq e
    exact ⟨12, rfl, (tableOf [((0 : Nat), (9 : Nat), (12 : Nat), (13 : Nat)), ((0 : Nat), (9 : Nat), (15 : Nat), (39 : Nat))]).take 0, (tableOf [((0 : Nat), (9 : Nat), (12 : Nat), (13 : Nat)), ((0 : Nat), (9 : Nat), (15 : Nat), (39 : Nat))])[0]'(by decide +kernel), (tableOf [((0 : Nat), (9 : Nat), (12 : Nat), (13 : Nat)), ((0 : Nat), (9 : Nat), (15 : Nat), (39 : Nat))]).drop 1, "java/lang/IllegalArgumentException", by rfl, fun _ h => absurd h List.not_mem_nil, by decide +kernel, by decide +kernel, by decide +kernel, q2005, q586⟩
  · split at h
    · next e =>
      cases h
      obtain rfl := eq_of_beq e
      exact ⟨15, rfl, (tableOf [((0 : Nat), (9 : Nat), (12 : Nat), (13 : Nat)), ((0 : Nat), (9 : Nat), (15 : Nat), (39 : Nat))]).take 1, (tableOf [((0 : Nat), (9 : Nat), (12 : Nat), (13 : Nat)), ((0 : Nat), (9 : Nat), (15 : Nat), (39 : Nat))])[1]'(by decide +kernel), (tableOf [((0 : Nat), (9 : Nat), (12 : Nat), (13 : Nat)), ((0 : Nat), (9 : Nat), (15 : Nat), (39 : Nat))]).drop 2, "java/lang/IllegalStateException", by rfl, List.forall_mem_cons.mpr ⟨Or.inr ⟨by decide, _, q2005, by decide +kernel⟩, fun _ h => absurd h List.not_mem_nil⟩, by decide +kernel, by decide +kernel, by decide +kernel, q2116, q934⟩
    · cases h
theorem sn239 : SndL "SlidingtrayLaw" "part" cX0_part 4 (Option.some Jvm.ClassFile.FieldType.int) [((0 : Nat), (9 : Nat), (12 : Nat), (13 : Nat)), ((0 : Nat), (9 : Nat), (15 : Nat), (39 : Nat))] T239 := aSa (s_aload_n rfl rfl dX0_part_0) (
  aSa (s_iconst (v0 := 0) (by decide) rfl dX0_part_1) (
  aSa (s_aload_n rfl rfl dX0_part_2) (
  aSa (s_iload_n rfl rfl dX0_part_3) (
  aSa (s_callV (List.forall_mem_cons.mpr ⟨d_V rfl rfl q2658 q2659 q2660 q102 q2661 rfl (by decide +kernel) (by decide) rfl dX0_part_4, fun _ h => absurd h List.not_mem_nil⟩) hs239_4) (
  aSa (s_i2l rfl dX0_part_7) (
  aSa (s_last rfl dX0_part_8) (
  aSa (s_goto (n := 0) (by decide) dX0_part_9) (
  aSa (s_astore_n rfl (by decide) rfl dX0_part_12) (
  aSa (s_iconst (v0 := 1) (by decide) rfl dX0_part_13) (
  aSa (s_iret (n := 0) rfl dX0_part_14) (
  aSa (s_astore_n rfl (by decide) rfl dX0_part_15) (
  aSa (s_iconst (v0 := 2) (by decide) rfl dX0_part_16) (
  aSa (s_iret (n := 0) rfl dX0_part_17) (
  aSa (s_iconst (v0 := 0) (by decide) rfl dX0_part_18) (
  aSa (s_iret (n := 0) rfl dX0_part_19) (
  aSn))))))))))))))))
theorem hs240_5 : aHS "SlidingtrayLaw" [((0 : Nat), (10 : Nat), (13 : Nat), (27 : Nat)), ((0 : Nat), (10 : Nat), (17 : Nat), (13 : Nat)), ((0 : Nat), (10 : Nat), (21 : Nat), (51 : Nat))] 5 [("java/lang/IndexOutOfBoundsException", some 13), ("java/lang/IllegalArgumentException", some 17), ("java/util/NoSuchElementException", some 21)] := by
  refine ⟨fun h => (by cases h), fun E r h => ?_⟩
  simp only [List.lookup_cons] at h
  split at h
  · next e =>
    cases h
    obtain rfl := eq_of_beq e
    exact ⟨13, rfl, (tableOf [((0 : Nat), (10 : Nat), (13 : Nat), (27 : Nat)), ((0 : Nat), (10 : Nat), (17 : Nat), (13 : Nat)), ((0 : Nat), (10 : Nat), (21 : Nat), (51 : Nat))]).take 0, (tableOf [((0 : Nat), (10 : Nat), (13 : Nat), (27 : Nat)), ((0 : Nat), (10 : Nat), (17 : Nat), (13 : Nat)), ((0 : Nat), (10 : Nat), (21 : Nat), (51 : Nat))])[0]'(by decide +kernel), (tableOf [((0 : Nat), (10 : Nat), (13 : Nat), (27 : Nat)), ((0 : Nat), (10 : Nat), (17 : Nat), (13 : Nat)), ((0 : Nat), (10 : Nat), (21 : Nat), (51 : Nat))]).drop 1, "java/lang/IndexOutOfBoundsException", by rfl, fun _ h => absurd h List.not_mem_nil, by decide +kernel, by decide +kernel, by decide +kernel, q2063, q343⟩
  · split at h
    · next e =>
      cases h
      obtain rfl := eq_of_beq e
      exact ⟨17, rfl, (tableOf [((0 : Nat), (10 : Nat), (13 : Nat), (27 : Nat)), ((0 : Nat), (10 : Nat), (17 : Nat), (13 : Nat)), ((0 : Nat), (10 : Nat), (21 : Nat), (51 : Nat))]).take 1, (tableOf [((0 : Nat), (10 : Nat), (13 : Nat), (27 : Nat)), ((0 : Nat), (10 : Nat), (17 : Nat), (13 : Nat)), ((0 : Nat), (10 : Nat), (21 : Nat), (51 : Nat))])[1]'(by decide +kernel), (tableOf [((0 : Nat), (10 : Nat), (13 : Nat), (27 : Nat)), ((0 : Nat), (10 : Nat), (17 : Nat), (13 : Nat)), ((0 : Nat), (10 : Nat), (21 : Nat), (51 : Nat))]).drop 2, "java/lang/IllegalArgumentException", by rfl, List.forall_mem_cons.mpr ⟨Or.inr ⟨by decide, _, q2063, by decide +kernel⟩, fun _ h => absurd h List.not_mem_nil⟩, by decide +kernel, by decide +kernel, by decide +kernel, q2005, q586⟩
    · split at h
      · next e =>
        cases h
        obtain rfl := eq_of_beq e
        exact ⟨21, rfl, (tableOf [((0 : Nat), (10 : Nat), (13 : Nat), (27 : Nat)), ((0 : Nat), (10 : Nat), (17 : Nat), (13 : Nat)), ((0 : Nat), (10 : Nat), (21 : Nat), (51 : Nat))]).take 2, (tableOf [((0 : Nat), (10 : Nat), (13 : Nat), (27 : Nat)), ((0 : Nat), (10 : Nat), (17 : Nat), (13 : Nat)), ((0 : Nat), (10 : Nat), (21 : Nat), (51 : Nat))])[2]'(by decide +kernel), (tableOf [((0 : Nat), (10 : Nat), (13 : Nat), (27 : Nat)), ((0 : Nat), (10 : Nat), (17 : Nat), (13 : Nat)), ((0 : Nat), (10 : Nat), (21 : Nat), (51 : Nat))]).drop 3, "java/util/NoSuchElementException", by rfl, List.forall_mem_cons.mpr ⟨Or.inr ⟨by decide, _, q2063, by decide +kernel⟩, List.forall_mem_cons.mpr ⟨Or.inr ⟨by decide, _, q2005, by decide +kernel⟩, fun _ h => absurd h List.not_mem_nil⟩⟩, by decide +kernel, by decide +kernel, by decide +kernel, q2407, q968⟩
      · cases h
theorem sn240 : SndL "SlidingtrayLaw" "play" cX0_play 5 (Option.some Jvm.ClassFile.FieldType.int) [((0 : Nat), (10 : Nat), (13 : Nat), (27 : Nat)), ((0 : Nat), (10 : Nat), (17 : Nat), (13 : Nat)), ((0 : Nat), (10 : Nat), (21 : Nat), (51 : Nat))] T240 := aSa (s_aload_n rfl rfl dX0_play_0) (
  aSa (s_iconst (v0 := 0) (by decide) rfl dX0_play_1) (
  aSa (s_aload_n rfl rfl dX0_play_2) (
  aSa (s_iload_n rfl rfl dX0_play_3) (
  aSa (s_iload_n rfl rfl dX0_play_4) (
  aSa (s_callV (List.forall_mem_cons.mpr ⟨d_V rfl rfl q2408 q2409 q2410 q102 q2411 rfl (by decide +kernel) (by decide) rfl dX0_play_5, fun _ h => absurd h List.not_mem_nil⟩) hs240_5) (
  aSa (s_i2l rfl dX0_play_8) (
  aSa (s_last rfl dX0_play_9) (
  aSa (s_goto (n := 0) (by decide) dX0_play_10) (
  aSa (s_astore (by decide) rfl dX0_play_13) (
  aSa (s_iconst (v0 := 1) (by decide) rfl dX0_play_15) (
  aSa (s_iret (n := 0) rfl dX0_play_16) (
  aSa (s_astore (by decide) rfl dX0_play_17) (
  aSa (s_iconst (v0 := 2) (by decide) rfl dX0_play_19) (
  aSa (s_iret (n := 0) rfl dX0_play_20) (
  aSa (s_astore (by decide) rfl dX0_play_21) (
  aSa (s_iconst (v0 := 3) (by decide) rfl dX0_play_23) (
  aSa (s_iret (n := 0) rfl dX0_play_24) (
  aSa (s_iconst (v0 := 0) (by decide) rfl dX0_play_25) (
  aSa (s_iret (n := 0) rfl dX0_play_26) (
  aSn))))))))))))))))))))
theorem hs241_3 : aHS "SlidingtrayLaw" [((0 : Nat), (15 : Nat), (18 : Nat), (39 : Nat))] 3 [("java/lang/IllegalStateException", some 18)] := by
  refine ⟨fun h => (by cases h), fun E r h => ?_⟩
  simp only [List.lookup_cons] at h
  split at h
  · next e =>
    cases h
    obtain rfl := eq_of_beq e
    exact ⟨18, rfl, (tableOf [((0 : Nat), (15 : Nat), (18 : Nat), (39 : Nat))]).take 0, (tableOf [((0 : Nat), (15 : Nat), (18 : Nat), (39 : Nat))])[0]'(by decide +kernel), (tableOf [((0 : Nat), (15 : Nat), (18 : Nat), (39 : Nat))]).drop 1, "java/lang/IllegalStateException", by rfl, fun _ h => absurd h List.not_mem_nil, by decide +kernel, by decide +kernel, by decide +kernel, q2116, q934⟩
  · cases h
theorem sn241 : SndL "SlidingtrayLaw" "reaches" cX0_reaches 3 (Option.some Jvm.ClassFile.FieldType.int) [((0 : Nat), (15 : Nat), (18 : Nat), (39 : Nat))] T241 := aSa (s_aload_n rfl rfl dX0_reaches_0) (
  aSa (s_iconst (v0 := 0) (by decide) rfl dX0_reaches_1) (
  aSa (s_aload_n rfl rfl dX0_reaches_2) (
  aSa (s_callV (List.forall_mem_cons.mpr ⟨d_V rfl rfl q2463 q2464 q2465 q102 q2466 rfl (by decide +kernel) (by decide) rfl dX0_reaches_3, fun _ h => absurd h List.not_mem_nil⟩) hs241_3) (
  aSa (s_ifeq (by decide) rfl dX0_reaches_6) (
  aSa (s_lconst (by decide) rfl dX0_reaches_9) (
  aSa (s_goto (n := 0) (by decide) dX0_reaches_10) (
  aSa (s_lconst (by decide) rfl dX0_reaches_13) (
  aSa (s_last rfl dX0_reaches_14) (
  aSa (s_goto (n := 0) (by decide) dX0_reaches_15) (
  aSa (s_astore_n rfl (by decide) rfl dX0_reaches_18) (
  aSa (s_iconst (v0 := 1) (by decide) rfl dX0_reaches_19) (
  aSa (s_iret (n := 0) rfl dX0_reaches_20) (
  aSa (s_iconst (v0 := 0) (by decide) rfl dX0_reaches_21) (
  aSa (s_iret (n := 0) rfl dX0_reaches_22) (
  aSn)))))))))))))))
theorem hs242_4 : aHS "SlidingtrayLaw" [((0 : Nat), (9 : Nat), (12 : Nat), (27 : Nat)), ((0 : Nat), (9 : Nat), (15 : Nat), (39 : Nat))] 4 [("java/lang/IndexOutOfBoundsException", some 12), ("java/lang/IllegalStateException", some 15)] := by
  refine ⟨fun h => (by cases h), fun E r h => ?_⟩
  simp only [List.lookup_cons] at h
  split at h
  · next e =>
    cases h
    obtain rfl := eq_of_beq e
    exact ⟨12, rfl, (tableOf [((0 : Nat), (9 : Nat), (12 : Nat), (27 : Nat)), ((0 : Nat), (9 : Nat), (15 : Nat), (39 : Nat))]).take 0, (tableOf [((0 : Nat), (9 : Nat), (12 : Nat), (27 : Nat)), ((0 : Nat), (9 : Nat), (15 : Nat), (39 : Nat))])[0]'(by decide +kernel), (tableOf [((0 : Nat), (9 : Nat), (12 : Nat), (27 : Nat)), ((0 : Nat), (9 : Nat), (15 : Nat), (39 : Nat))]).drop 1, "java/lang/IndexOutOfBoundsException", by rfl, fun _ h => absurd h List.not_mem_nil, by decide +kernel, by decide +kernel, by decide +kernel, q2063, q343⟩
  · split at h
    · next e =>
      cases h
      obtain rfl := eq_of_beq e
      exact ⟨15, rfl, (tableOf [((0 : Nat), (9 : Nat), (12 : Nat), (27 : Nat)), ((0 : Nat), (9 : Nat), (15 : Nat), (39 : Nat))]).take 1, (tableOf [((0 : Nat), (9 : Nat), (12 : Nat), (27 : Nat)), ((0 : Nat), (9 : Nat), (15 : Nat), (39 : Nat))])[1]'(by decide +kernel), (tableOf [((0 : Nat), (9 : Nat), (12 : Nat), (27 : Nat)), ((0 : Nat), (9 : Nat), (15 : Nat), (39 : Nat))]).drop 2, "java/lang/IllegalStateException", by rfl, List.forall_mem_cons.mpr ⟨Or.inr ⟨by decide, _, q2063, by decide +kernel⟩, fun _ h => absurd h List.not_mem_nil⟩, by decide +kernel, by decide +kernel, by decide +kernel, q2116, q934⟩
    · cases h
theorem sn242 : SndL "SlidingtrayLaw" "restore" cX0_restore 4 (Option.some Jvm.ClassFile.FieldType.int) [((0 : Nat), (9 : Nat), (12 : Nat), (27 : Nat)), ((0 : Nat), (9 : Nat), (15 : Nat), (39 : Nat))] T242 := aSa (s_aload_n rfl rfl dX0_restore_0) (
  aSa (s_iconst (v0 := 0) (by decide) rfl dX0_restore_1) (
  aSa (s_aload_n rfl rfl dX0_restore_2) (
  aSa (s_iload_n rfl rfl dX0_restore_3) (
  aSa (s_callV (List.forall_mem_cons.mpr ⟨d_V rfl rfl q2447 q2448 q2449 q102 q2450 rfl (by decide +kernel) (by decide) rfl dX0_restore_4, fun _ h => absurd h List.not_mem_nil⟩) hs242_4) (
  aSa (s_i2l rfl dX0_restore_7) (
  aSa (s_last rfl dX0_restore_8) (
  aSa (s_goto (n := 0) (by decide) dX0_restore_9) (
  aSa (s_astore_n rfl (by decide) rfl dX0_restore_12) (
  aSa (s_iconst (v0 := 1) (by decide) rfl dX0_restore_13) (
  aSa (s_iret (n := 0) rfl dX0_restore_14) (
  aSa (s_astore_n rfl (by decide) rfl dX0_restore_15) (
  aSa (s_iconst (v0 := 2) (by decide) rfl dX0_restore_16) (
  aSa (s_iret (n := 0) rfl dX0_restore_17) (
  aSa (s_iconst (v0 := 0) (by decide) rfl dX0_restore_18) (
  aSa (s_iret (n := 0) rfl dX0_restore_19) (
  aSn))))))))))))))))
theorem hs243_4 : aHS "SlidingtrayLaw" [((0 : Nat), (9 : Nat), (12 : Nat), (13 : Nat))] 4 [("java/lang/IllegalArgumentException", some 12)] := by
  refine ⟨fun h => (by cases h), fun E r h => ?_⟩
  simp only [List.lookup_cons] at h
  split at h
  · next e =>
    cases h
    obtain rfl := eq_of_beq e
    exact ⟨12, rfl, (tableOf [((0 : Nat), (9 : Nat), (12 : Nat), (13 : Nat))]).take 0, (tableOf [((0 : Nat), (9 : Nat), (12 : Nat), (13 : Nat))])[0]'(by decide +kernel), (tableOf [((0 : Nat), (9 : Nat), (12 : Nat), (13 : Nat))]).drop 1, "java/lang/IllegalArgumentException", by rfl, fun _ h => absurd h List.not_mem_nil, by decide +kernel, by decide +kernel, by decide +kernel, q2005, q586⟩
  · cases h
theorem sn243 : SndL "SlidingtrayLaw" "searched" cX0_searched 4 (Option.some Jvm.ClassFile.FieldType.int) [((0 : Nat), (9 : Nat), (12 : Nat), (13 : Nat))] T243 := aSa (s_aload_n rfl rfl dX0_searched_0) (
  aSa (s_iconst (v0 := 0) (by decide) rfl dX0_searched_1) (
  aSa (s_aload_n rfl rfl dX0_searched_2) (
  aSa (s_iload_n rfl rfl dX0_searched_3) (
  aSa (s_callV (List.forall_mem_cons.mpr ⟨d_V rfl rfl q2592 q2593 q2594 q102 q2595 rfl (by decide +kernel) (by decide) rfl dX0_searched_4, fun _ h => absurd h List.not_mem_nil⟩) hs243_4) (
  aSa (s_i2l rfl dX0_searched_7) (
  aSa (s_last rfl dX0_searched_8) (
  aSa (s_goto (n := 0) (by decide) dX0_searched_9) (
  aSa (s_astore_n rfl (by decide) rfl dX0_searched_12) (
  aSa (s_iconst (v0 := 1) (by decide) rfl dX0_searched_13) (
  aSa (s_iret (n := 0) rfl dX0_searched_14) (
  aSa (s_iconst (v0 := 0) (by decide) rfl dX0_searched_15) (
  aSa (s_iret (n := 0) rfl dX0_searched_16) (
  aSn)))))))))))))
theorem hs244_5 : aHS "SlidingtrayLaw" [((0 : Nat), (17 : Nat), (20 : Nat), (27 : Nat))] 5 [("java/lang/IndexOutOfBoundsException", some 20)] := by
  refine ⟨fun h => (by cases h), fun E r h => ?_⟩
  simp only [List.lookup_cons] at h
  split at h
  · next e =>
    cases h
    obtain rfl := eq_of_beq e
    exact ⟨20, rfl, (tableOf [((0 : Nat), (17 : Nat), (20 : Nat), (27 : Nat))]).take 0, (tableOf [((0 : Nat), (17 : Nat), (20 : Nat), (27 : Nat))])[0]'(by decide +kernel), (tableOf [((0 : Nat), (17 : Nat), (20 : Nat), (27 : Nat))]).drop 1, "java/lang/IndexOutOfBoundsException", by rfl, fun _ h => absurd h List.not_mem_nil, by decide +kernel, by decide +kernel, by decide +kernel, q2063, q343⟩
  · cases h
theorem sn244 : SndL "SlidingtrayLaw" "setFree" cX0_setFree 5 (Option.some Jvm.ClassFile.FieldType.int) [((0 : Nat), (17 : Nat), (20 : Nat), (27 : Nat))] T244 := aSa (s_aload_n rfl rfl dX0_setFree_0) (
  aSa (s_iconst (v0 := 0) (by decide) rfl dX0_setFree_1) (
  aSa (s_aload_n rfl rfl dX0_setFree_2) (
  aSa (s_iload_n rfl rfl dX0_setFree_3) (
  aSa (s_iload_n rfl rfl dX0_setFree_4) (
  aSa (s_callV (List.forall_mem_cons.mpr ⟨d_V rfl rfl q2079 q2080 q2081 q102 q2082 rfl (by decide +kernel) (by decide) rfl dX0_setFree_5, fun _ h => absurd h List.not_mem_nil⟩) hs244_5) (
  aSa (s_ifeq (by decide) rfl dX0_setFree_8) (
  aSa (s_lconst (by decide) rfl dX0_setFree_11) (
  aSa (s_goto (n := 0) (by decide) dX0_setFree_12) (
  aSa (s_lconst (by decide) rfl dX0_setFree_15) (
  aSa (s_last rfl dX0_setFree_16) (
  aSa (s_goto (n := 0) (by decide) dX0_setFree_17) (
  aSa (s_astore (by decide) rfl dX0_setFree_20) (
  aSa (s_iconst (v0 := 1) (by decide) rfl dX0_setFree_22) (
  aSa (s_iret (n := 0) rfl dX0_setFree_23) (
  aSa (s_iconst (v0 := 0) (by decide) rfl dX0_setFree_24) (
  aSa (s_iret (n := 0) rfl dX0_setFree_25) (
  aSn)))))))))))))))))
theorem hs245_4 : aHS "SlidingtrayLaw" [((0 : Nat), (9 : Nat), (12 : Nat), (13 : Nat))] 4 [("java/lang/IllegalArgumentException", some 12)] := by
  refine ⟨fun h => (by cases h), fun E r h => ?_⟩
  simp only [List.lookup_cons] at h
  split at h
  · next e =>
    cases h
    obtain rfl := eq_of_beq e
    exact ⟨12, rfl, (tableOf [((0 : Nat), (9 : Nat), (12 : Nat), (13 : Nat))]).take 0, (tableOf [((0 : Nat), (9 : Nat), (12 : Nat), (13 : Nat))])[0]'(by decide +kernel), (tableOf [((0 : Nat), (9 : Nat), (12 : Nat), (13 : Nat))]).drop 1, "java/lang/IllegalArgumentException", by rfl, fun _ h => absurd h List.not_mem_nil, by decide +kernel, by decide +kernel, by decide +kernel, q2005, q586⟩
  · cases h
theorem sn245 : SndL "SlidingtrayLaw" "setLimit" cX0_setLimit 4 (Option.some Jvm.ClassFile.FieldType.int) [((0 : Nat), (9 : Nat), (12 : Nat), (13 : Nat))] T245 := aSa (s_aload_n rfl rfl dX0_setLimit_0) (
  aSa (s_iconst (v0 := 0) (by decide) rfl dX0_setLimit_1) (
  aSa (s_aload_n rfl rfl dX0_setLimit_2) (
  aSa (s_iload_n rfl rfl dX0_setLimit_3) (
  aSa (s_callV (List.forall_mem_cons.mpr ⟨d_V rfl rfl q2109 q2110 q2111 q102 q2112 rfl (by decide +kernel) (by decide) rfl dX0_setLimit_4, fun _ h => absurd h List.not_mem_nil⟩) hs245_4) (
  aSa (s_i2l rfl dX0_setLimit_7) (
  aSa (s_last rfl dX0_setLimit_8) (
  aSa (s_goto (n := 0) (by decide) dX0_setLimit_9) (
  aSa (s_astore_n rfl (by decide) rfl dX0_setLimit_12) (
  aSa (s_iconst (v0 := 1) (by decide) rfl dX0_setLimit_13) (
  aSa (s_iret (n := 0) rfl dX0_setLimit_14) (
  aSa (s_iconst (v0 := 0) (by decide) rfl dX0_setLimit_15) (
  aSa (s_iret (n := 0) rfl dX0_setLimit_16) (
  aSn)))))))))))))
theorem hs246_6 : aHS "SlidingtrayLaw" [((0 : Nat), (11 : Nat), (14 : Nat), (27 : Nat)), ((0 : Nat), (11 : Nat), (18 : Nat), (13 : Nat))] 6 [("java/lang/IndexOutOfBoundsException", some 14), ("java/lang/IllegalArgumentException", some 18)] := by
  refine ⟨fun h => (by cases h), fun E r h => ?_⟩
  simp only [List.lookup_cons] at h
  split at h
  · next e =>
    cases h
    obtain rfl := eq_of_beq e
    exact ⟨14, rfl, (tableOf [((0 : Nat), (11 : Nat), (14 : Nat), (27 : Nat)), ((0 : Nat), (11 : Nat), (18 : Nat), (13 : Nat))]).take 0, (tableOf [((0 : Nat), (11 : Nat), (14 : Nat), (27 : Nat)), ((0 : Nat), (11 : Nat), (18 : Nat), (13 : Nat))])[0]'(by decide +kernel), (tableOf [((0 : Nat), (11 : Nat), (14 : Nat), (27 : Nat)), ((0 : Nat), (11 : Nat), (18 : Nat), (13 : Nat))]).drop 1, "java/lang/IndexOutOfBoundsException", by rfl, fun _ h => absurd h List.not_mem_nil, by decide +kernel, by decide +kernel, by decide +kernel, q2063, q343⟩
  · split at h
    · next e =>
      cases h
      obtain rfl := eq_of_beq e
      exact ⟨18, rfl, (tableOf [((0 : Nat), (11 : Nat), (14 : Nat), (27 : Nat)), ((0 : Nat), (11 : Nat), (18 : Nat), (13 : Nat))]).take 1, (tableOf [((0 : Nat), (11 : Nat), (14 : Nat), (27 : Nat)), ((0 : Nat), (11 : Nat), (18 : Nat), (13 : Nat))])[1]'(by decide +kernel), (tableOf [((0 : Nat), (11 : Nat), (14 : Nat), (27 : Nat)), ((0 : Nat), (11 : Nat), (18 : Nat), (13 : Nat))]).drop 2, "java/lang/IllegalArgumentException", by rfl, List.forall_mem_cons.mpr ⟨Or.inr ⟨by decide, _, q2063, by decide +kernel⟩, fun _ h => absurd h List.not_mem_nil⟩, by decide +kernel, by decide +kernel, by decide +kernel, q2005, q586⟩
    · cases h
theorem sn246 : SndL "SlidingtrayLaw" "setMacro" cX0_setMacro 6 (Option.some Jvm.ClassFile.FieldType.int) [((0 : Nat), (11 : Nat), (14 : Nat), (27 : Nat)), ((0 : Nat), (11 : Nat), (18 : Nat), (13 : Nat))] T246 := aSa (s_aload rfl dX0_setMacro_0) (
  aSa (s_iconst (v0 := 0) (by decide) rfl dX0_setMacro_2) (
  aSa (s_aload_n rfl rfl dX0_setMacro_3) (
  aSa (s_iload_n rfl rfl dX0_setMacro_4) (
  aSa (s_lload_n rfl rfl dX0_setMacro_5) (
  aSa (s_callV (List.forall_mem_cons.mpr ⟨d_V rfl rfl q2158 q2159 q2160 q102 q2161 rfl (by decide +kernel) (by decide) rfl dX0_setMacro_6, fun _ h => absurd h List.not_mem_nil⟩) hs246_6) (
  aSa (s_i2l rfl dX0_setMacro_9) (
  aSa (s_last rfl dX0_setMacro_10) (
  aSa (s_goto (n := 0) (by decide) dX0_setMacro_11) (
  aSa (s_astore (by decide) rfl dX0_setMacro_14) (
  aSa (s_iconst (v0 := 1) (by decide) rfl dX0_setMacro_16) (
  aSa (s_iret (n := 0) rfl dX0_setMacro_17) (
  aSa (s_astore (by decide) rfl dX0_setMacro_18) (
  aSa (s_iconst (v0 := 2) (by decide) rfl dX0_setMacro_20) (
  aSa (s_iret (n := 0) rfl dX0_setMacro_21) (
  aSa (s_iconst (v0 := 0) (by decide) rfl dX0_setMacro_22) (
  aSa (s_iret (n := 0) rfl dX0_setMacro_23) (
  aSn)))))))))))))))))
theorem hs247_5 : aHS "SlidingtrayLaw" [((0 : Nat), (10 : Nat), (13 : Nat), (27 : Nat)), ((0 : Nat), (10 : Nat), (17 : Nat), (13 : Nat))] 5 [("java/lang/IndexOutOfBoundsException", some 13), ("java/lang/IllegalArgumentException", some 17)] := by
  refine ⟨fun h => (by cases h), fun E r h => ?_⟩
  simp only [List.lookup_cons] at h
  split at h
  · next e =>
    cases h
    obtain rfl := eq_of_beq e
    exact ⟨13, rfl, (tableOf [((0 : Nat), (10 : Nat), (13 : Nat), (27 : Nat)), ((0 : Nat), (10 : Nat), (17 : Nat), (13 : Nat))]).take 0, (tableOf [((0 : Nat), (10 : Nat), (13 : Nat), (27 : Nat)), ((0 : Nat), (10 : Nat), (17 : Nat), (13 : Nat))])[0]'(by decide +kernel), (tableOf [((0 : Nat), (10 : Nat), (13 : Nat), (27 : Nat)), ((0 : Nat), (10 : Nat), (17 : Nat), (13 : Nat))]).drop 1, "java/lang/IndexOutOfBoundsException", by rfl, fun _ h => absurd h List.not_mem_nil, by decide +kernel, by decide +kernel, by decide +kernel, q2063, q343⟩
  · split at h
    · next e =>
      cases h
      obtain rfl := eq_of_beq e
      exact ⟨17, rfl, (tableOf [((0 : Nat), (10 : Nat), (13 : Nat), (27 : Nat)), ((0 : Nat), (10 : Nat), (17 : Nat), (13 : Nat))]).take 1, (tableOf [((0 : Nat), (10 : Nat), (13 : Nat), (27 : Nat)), ((0 : Nat), (10 : Nat), (17 : Nat), (13 : Nat))])[1]'(by decide +kernel), (tableOf [((0 : Nat), (10 : Nat), (13 : Nat), (27 : Nat)), ((0 : Nat), (10 : Nat), (17 : Nat), (13 : Nat))]).drop 2, "java/lang/IllegalArgumentException", by rfl, List.forall_mem_cons.mpr ⟨Or.inr ⟨by decide, _, q2063, by decide +kernel⟩, fun _ h => absurd h List.not_mem_nil⟩, by decide +kernel, by decide +kernel, by decide +kernel, q2005, q586⟩
    · cases h
theorem sn247 : SndL "SlidingtrayLaw" "setWeight" cX0_setWeight 5 (Option.some Jvm.ClassFile.FieldType.int) [((0 : Nat), (10 : Nat), (13 : Nat), (27 : Nat)), ((0 : Nat), (10 : Nat), (17 : Nat), (13 : Nat))] T247 := aSa (s_aload_n rfl rfl dX0_setWeight_0) (
  aSa (s_iconst (v0 := 0) (by decide) rfl dX0_setWeight_1) (
  aSa (s_aload_n rfl rfl dX0_setWeight_2) (
  aSa (s_iload_n rfl rfl dX0_setWeight_3) (
  aSa (s_iload_n rfl rfl dX0_setWeight_4) (
  aSa (s_callV (List.forall_mem_cons.mpr ⟨d_V rfl rfl q2102 q2103 q2104 q102 q2105 rfl (by decide +kernel) (by decide) rfl dX0_setWeight_5, fun _ h => absurd h List.not_mem_nil⟩) hs247_5) (
  aSa (s_i2l rfl dX0_setWeight_8) (
  aSa (s_last rfl dX0_setWeight_9) (
  aSa (s_goto (n := 0) (by decide) dX0_setWeight_10) (
  aSa (s_astore (by decide) rfl dX0_setWeight_13) (
  aSa (s_iconst (v0 := 1) (by decide) rfl dX0_setWeight_15) (
  aSa (s_iret (n := 0) rfl dX0_setWeight_16) (
  aSa (s_astore (by decide) rfl dX0_setWeight_17) (
  aSa (s_iconst (v0 := 2) (by decide) rfl dX0_setWeight_19) (
  aSa (s_iret (n := 0) rfl dX0_setWeight_20) (
  aSa (s_iconst (v0 := 0) (by decide) rfl dX0_setWeight_21) (
  aSa (s_iret (n := 0) rfl dX0_setWeight_22) (
  aSn)))))))))))))))))
theorem hs248_4 : aHS "SlidingtrayLaw" [((0 : Nat), (9 : Nat), (12 : Nat), (13 : Nat)), ((0 : Nat), (9 : Nat), (15 : Nat), (39 : Nat))] 4 [("java/lang/IllegalArgumentException", some 12), ("java/lang/IllegalStateException", some 15)] := by
  refine ⟨fun h => (by cases h), fun E r h => ?_⟩
  simp only [List.lookup_cons] at h
  split at h
  · next e =>
    cases h
    obtain rfl := eq_of_beq e
    exact ⟨12, rfl, (tableOf [((0 : Nat), (9 : Nat), (12 : Nat), (13 : Nat)), ((0 : Nat), (9 : Nat), (15 : Nat), (39 : Nat))]).take 0, (tableOf [((0 : Nat), (9 : Nat), (12 : Nat), (13 : Nat)), ((0 : Nat), (9 : Nat), (15 : Nat), (39 : Nat))])[0]'(by decide +kernel), (tableOf [((0 : Nat), (9 : Nat), (12 : Nat), (13 : Nat)), ((0 : Nat), (9 : Nat), (15 : Nat), (39 : Nat))]).drop 1, "java/lang/IllegalArgumentException", by rfl, fun _ h => absurd h List.not_mem_nil, by decide +kernel, by decide +kernel, by decide +kernel, q2005, q586⟩
  · split at h
    · next e =>
      cases h
      obtain rfl := eq_of_beq e
      exact ⟨15, rfl, (tableOf [((0 : Nat), (9 : Nat), (12 : Nat), (13 : Nat)), ((0 : Nat), (9 : Nat), (15 : Nat), (39 : Nat))]).take 1, (tableOf [((0 : Nat), (9 : Nat), (12 : Nat), (13 : Nat)), ((0 : Nat), (9 : Nat), (15 : Nat), (39 : Nat))])[1]'(by decide +kernel), (tableOf [((0 : Nat), (9 : Nat), (12 : Nat), (13 : Nat)), ((0 : Nat), (9 : Nat), (15 : Nat), (39 : Nat))]).drop 2, "java/lang/IllegalStateException", by rfl, List.forall_mem_cons.mpr ⟨Or.inr ⟨by decide, _, q2005, by decide +kernel⟩, fun _ h => absurd h List.not_mem_nil⟩, by decide +kernel, by decide +kernel, by decide +kernel, q2116, q934⟩
    · cases h
theorem sn248 : SndL "SlidingtrayLaw" "solve" cX0_solve 4 (Option.some Jvm.ClassFile.FieldType.int) [((0 : Nat), (9 : Nat), (12 : Nat), (13 : Nat)), ((0 : Nat), (9 : Nat), (15 : Nat), (39 : Nat))] T248 := aSa (s_aload_n rfl rfl dX0_solve_0) (
  aSa (s_iconst (v0 := 0) (by decide) rfl dX0_solve_1) (
  aSa (s_aload_n rfl rfl dX0_solve_2) (
  aSa (s_iload_n rfl rfl dX0_solve_3) (
  aSa (s_callV (List.forall_mem_cons.mpr ⟨d_VX rfl rfl (by decide) q2484 q2485 q2486 q102 q2487 rfl (by decide +kernel) (by decide) rfl dX0_solve_4, fun _ h => absurd h List.not_mem_nil⟩) hs248_4) (
  aSa (s_i2l rfl dX0_solve_7) (
  aSa (s_last rfl dX0_solve_8) (
  aSa (s_goto (n := 0) (by decide) dX0_solve_9) (
  aSa (s_astore_n rfl (by decide) rfl dX0_solve_12) (
  aSa (s_iconst (v0 := 1) (by decide) rfl dX0_solve_13) (
  aSa (s_iret (n := 0) rfl dX0_solve_14) (
  aSa (s_astore_n rfl (by decide) rfl dX0_solve_15) (
  aSa (s_iconst (v0 := 2) (by decide) rfl dX0_solve_16) (
  aSa (s_iret (n := 0) rfl dX0_solve_17) (
  aSa (s_iconst (v0 := 0) (by decide) rfl dX0_solve_18) (
  aSa (s_iret (n := 0) rfl dX0_solve_19) (
  aSn))))))))))))))))
theorem hs249_4 : aHS "SlidingtrayLaw" [((0 : Nat), (9 : Nat), (12 : Nat), (27 : Nat))] 4 [("java/lang/IndexOutOfBoundsException", some 12)] := by
  refine ⟨fun h => (by cases h), fun E r h => ?_⟩
  simp only [List.lookup_cons] at h
  split at h
  · next e =>
    cases h
    obtain rfl := eq_of_beq e
    exact ⟨12, rfl, (tableOf [((0 : Nat), (9 : Nat), (12 : Nat), (27 : Nat))]).take 0, (tableOf [((0 : Nat), (9 : Nat), (12 : Nat), (27 : Nat))])[0]'(by decide +kernel), (tableOf [((0 : Nat), (9 : Nat), (12 : Nat), (27 : Nat))]).drop 1, "java/lang/IndexOutOfBoundsException", by rfl, fun _ h => absurd h List.not_mem_nil, by decide +kernel, by decide +kernel, by decide +kernel, q2063, q343⟩
  · cases h
theorem sn249 : SndL "SlidingtrayLaw" "tileAt" cX0_tileAt 4 (Option.some Jvm.ClassFile.FieldType.int) [((0 : Nat), (9 : Nat), (12 : Nat), (27 : Nat))] T249 := aSa (s_aload_n rfl rfl dX0_tileAt_0) (
  aSa (s_iconst (v0 := 0) (by decide) rfl dX0_tileAt_1) (
  aSa (s_aload_n rfl rfl dX0_tileAt_2) (
  aSa (s_iload_n rfl rfl dX0_tileAt_3) (
  aSa (s_callV (List.forall_mem_cons.mpr ⟨d_V rfl rfl q2454 q2455 q2456 q102 q2457 rfl (by decide +kernel) (by decide) rfl dX0_tileAt_4, fun _ h => absurd h List.not_mem_nil⟩) hs249_4) (
  aSa (s_i2l rfl dX0_tileAt_7) (
  aSa (s_last rfl dX0_tileAt_8) (
  aSa (s_goto (n := 0) (by decide) dX0_tileAt_9) (
  aSa (s_astore_n rfl (by decide) rfl dX0_tileAt_12) (
  aSa (s_iconst (v0 := 1) (by decide) rfl dX0_tileAt_13) (
  aSa (s_iret (n := 0) rfl dX0_tileAt_14) (
  aSa (s_iconst (v0 := 0) (by decide) rfl dX0_tileAt_15) (
  aSa (s_iret (n := 0) rfl dX0_tileAt_16) (
  aSn)))))))))))))
theorem hs250_7 : aHS "SlidingtrayLaw" [((0 : Nat), (12 : Nat), (15 : Nat), (13 : Nat))] 7 [("java/lang/IllegalArgumentException", some 15)] := by
  refine ⟨fun h => (by cases h), fun E r h => ?_⟩
  simp only [List.lookup_cons] at h
  split at h
  · next e =>
    cases h
    obtain rfl := eq_of_beq e
    exact ⟨15, rfl, (tableOf [((0 : Nat), (12 : Nat), (15 : Nat), (13 : Nat))]).take 0, (tableOf [((0 : Nat), (12 : Nat), (15 : Nat), (13 : Nat))])[0]'(by decide +kernel), (tableOf [((0 : Nat), (12 : Nat), (15 : Nat), (13 : Nat))]).drop 1, "java/lang/IllegalArgumentException", by rfl, fun _ h => absurd h List.not_mem_nil, by decide +kernel, by decide +kernel, by decide +kernel, q2005, q586⟩
  · cases h
theorem sn250 : SndL "SlidingtrayLaw" "tray" cX0_tray 6 (Option.some Jvm.ClassFile.FieldType.int) [((0 : Nat), (12 : Nat), (15 : Nat), (13 : Nat))] T250 := aSa (s_aload rfl dX0_tray_0) (
  aSa (s_iconst (v0 := 0) (by decide) rfl dX0_tray_2) (
  aSa (s_aload_n rfl rfl dX0_tray_3) (
  aSa (s_iload_n rfl rfl dX0_tray_4) (
  aSa (s_iload_n rfl rfl dX0_tray_5) (
  aSa (s_iload_n rfl rfl dX0_tray_6) (
  aSa (s_callV (List.forall_mem_cons.mpr ⟨d_V rfl rfl q2006 q2007 q2008 q102 q2009 rfl (by decide +kernel) (by decide) rfl dX0_tray_7, fun _ h => absurd h List.not_mem_nil⟩) hs250_7) (
  aSa (s_i2l rfl dX0_tray_10) (
  aSa (s_last rfl dX0_tray_11) (
  aSa (s_goto (n := 0) (by decide) dX0_tray_12) (
  aSa (s_astore (by decide) rfl dX0_tray_15) (
  aSa (s_iconst (v0 := 1) (by decide) rfl dX0_tray_17) (
  aSa (s_iret (n := 0) rfl dX0_tray_18) (
  aSa (s_iconst (v0 := 0) (by decide) rfl dX0_tray_19) (
  aSa (s_iret (n := 0) rfl dX0_tray_20) (
  aSn)))))))))))))))
theorem hs251_4 : aHS "SlidingtrayLaw" [((0 : Nat), (9 : Nat), (12 : Nat), (13 : Nat))] 4 [("java/lang/IllegalArgumentException", some 12)] := by
  refine ⟨fun h => (by cases h), fun E r h => ?_⟩
  simp only [List.lookup_cons] at h
  split at h
  · next e =>
    cases h
    obtain rfl := eq_of_beq e
    exact ⟨12, rfl, (tableOf [((0 : Nat), (9 : Nat), (12 : Nat), (13 : Nat))]).take 0, (tableOf [((0 : Nat), (9 : Nat), (12 : Nat), (13 : Nat))])[0]'(by decide +kernel), (tableOf [((0 : Nat), (9 : Nat), (12 : Nat), (13 : Nat))]).drop 1, "java/lang/IllegalArgumentException", by rfl, fun _ h => absurd h List.not_mem_nil, by decide +kernel, by decide +kernel, by decide +kernel, q2005, q586⟩
  · cases h
theorem sn251 : SndL "SlidingtrayLaw" "undo" cX0_undo 4 (Option.some Jvm.ClassFile.FieldType.int) [((0 : Nat), (9 : Nat), (12 : Nat), (13 : Nat))] T251 := aSa (s_aload_n rfl rfl dX0_undo_0) (
  aSa (s_iconst (v0 := 0) (by decide) rfl dX0_undo_1) (
  aSa (s_aload_n rfl rfl dX0_undo_2) (
  aSa (s_iload_n rfl rfl dX0_undo_3) (
  aSa (s_callV (List.forall_mem_cons.mpr ⟨d_V rfl rfl q2139 q2140 q2141 q102 q2142 rfl (by decide +kernel) (by decide) rfl dX0_undo_4, fun _ h => absurd h List.not_mem_nil⟩) hs251_4) (
  aSa (s_i2l rfl dX0_undo_7) (
  aSa (s_last rfl dX0_undo_8) (
  aSa (s_goto (n := 0) (by decide) dX0_undo_9) (
  aSa (s_astore_n rfl (by decide) rfl dX0_undo_12) (
  aSa (s_iconst (v0 := 1) (by decide) rfl dX0_undo_13) (
  aSa (s_iret (n := 0) rfl dX0_undo_14) (
  aSa (s_iconst (v0 := 0) (by decide) rfl dX0_undo_15) (
  aSa (s_iret (n := 0) rfl dX0_undo_16) (
  aSn)))))))))))))
theorem hs252_4 : aHS "SlidingtrayLaw" [((0 : Nat), (9 : Nat), (12 : Nat), (51 : Nat))] 4 [("java/util/NoSuchElementException", some 12)] := by
  refine ⟨fun h => (by cases h), fun E r h => ?_⟩
  simp only [List.lookup_cons] at h
  split at h
  · next e =>
    cases h
    obtain rfl := eq_of_beq e
    exact ⟨12, rfl, (tableOf [((0 : Nat), (9 : Nat), (12 : Nat), (51 : Nat))]).take 0, (tableOf [((0 : Nat), (9 : Nat), (12 : Nat), (51 : Nat))])[0]'(by decide +kernel), (tableOf [((0 : Nat), (9 : Nat), (12 : Nat), (51 : Nat))]).drop 1, "java/util/NoSuchElementException", by rfl, fun _ h => absurd h List.not_mem_nil, by decide +kernel, by decide +kernel, by decide +kernel, q2407, q968⟩
  · cases h
theorem sn252 : SndL "SlidingtrayLaw" "wayAt" cX0_wayAt 4 (Option.some Jvm.ClassFile.FieldType.int) [((0 : Nat), (9 : Nat), (12 : Nat), (51 : Nat))] T252 := aSa (s_aload_n rfl rfl dX0_wayAt_0) (
  aSa (s_iconst (v0 := 0) (by decide) rfl dX0_wayAt_1) (
  aSa (s_aload_n rfl rfl dX0_wayAt_2) (
  aSa (s_iload_n rfl rfl dX0_wayAt_3) (
  aSa (s_callV (List.forall_mem_cons.mpr ⟨d_V rfl rfl q2599 q2600 q2601 q102 q2602 rfl (by decide +kernel) (by decide) rfl dX0_wayAt_4, fun _ h => absurd h List.not_mem_nil⟩) hs252_4) (
  aSa (s_i2l rfl dX0_wayAt_7) (
  aSa (s_last rfl dX0_wayAt_8) (
  aSa (s_goto (n := 0) (by decide) dX0_wayAt_9) (
  aSa (s_astore_n rfl (by decide) rfl dX0_wayAt_12) (
  aSa (s_iconst (v0 := 1) (by decide) rfl dX0_wayAt_13) (
  aSa (s_iret (n := 0) rfl dX0_wayAt_14) (
  aSa (s_iconst (v0 := 0) (by decide) rfl dX0_wayAt_15) (
  aSa (s_iret (n := 0) rfl dX0_wayAt_16) (
  aSn)))))))))))))
