set_option maxRecDepth 100000
theorem sn253 : SndL "SlidingtrayModel" "<init>" cX6_init 1 (Option.none : Option Jvm.ClassFile.FieldType) [] T253 := aSa (s_aload_n rfl rfl dX6_init_0) (
  aSa (s_oinit q2728 q167 q168 rfl dX6_init_1) (
  aSa (s_aload_n rfl rfl dX6_init_4) (
  aSa (s_bipush (v0 := 16) (by decide) rfl dX6_init_5) (
  aSa (s_newa_int q915 rfl dX6_init_7) (
  aSa (s_putfF (T := TX6) (ty0 := tyX6) tyX6_ok nmX6 rfl (by decide) (by decide) in_X6 q2743 (Or.inl rfl) rfl rfl rfl rfl rfl dX6_init_9) (
  aSa (s_aload_n rfl rfl dX6_init_12) (
  aSa (s_bipush (v0 := 16) (by decide) rfl dX6_init_13) (
  aSa (s_newa_int q915 rfl dX6_init_15) (
  aSa (s_putfF (T := TX6) (ty0 := tyX6) tyX6_ok nmX6 rfl (by decide) (by decide) in_X6 q2744 (Or.inl rfl) rfl rfl rfl rfl rfl dX6_init_17) (
  aSa (s_aload_n rfl rfl dX6_init_20) (
  aSa (s_bipush (v0 := 64) (by decide) rfl dX6_init_21) (
  aSa (s_newa_int q915 rfl dX6_init_23) (
  aSa (s_putfF (T := TX6) (ty0 := tyX6) tyX6_ok nmX6 rfl (by decide) (by decide) in_X6 q2745 (Or.inl rfl) rfl rfl rfl rfl rfl dX6_init_25) (
  aSa (s_aload_n rfl rfl dX6_init_28) (
  aSa (s_sipush (v0 := 256) (by decide) rfl dX6_init_29) (
  aSa (s_newa_int q915 rfl dX6_init_32) (
  aSa (s_putfF (T := TX6) (ty0 := tyX6) tyX6_ok nmX6 rfl (by decide) (by decide) in_X6 q2746 (Or.inl rfl) rfl rfl rfl rfl rfl dX6_init_34) (
  aSa (s_aload_n rfl rfl dX6_init_37) (
  aSa (s_bipush (v0 := 16) (by decide) rfl dX6_init_38) (
  aSa (s_newa_boolean q2945 rfl dX6_init_40) (
  aSa (s_putfF (T := TX6) (ty0 := tyX6) tyX6_ok nmX6 rfl (by decide) (by decide) in_X6 q2747 (Or.inl rfl) rfl rfl rfl rfl rfl dX6_init_42) (
  aSa (s_aload_n rfl rfl dX6_init_45) (
  aSa (s_iconst (v0 := 3) (by decide) rfl dX6_init_46) (
  aSa (s_putf (T := TX6) (ty0 := tyX6) tyX6_ok nmX6 rfl (by decide) (by decide) in_X6 q2748 (Or.inl rfl) rfl rfl rfl dX6_init_47) (
  aSa (s_aload_n rfl rfl dX6_init_50) (
  aSa (s_iconst (v0 := 3) (by decide) rfl dX6_init_51) (
  aSa (s_putf (T := TX6) (ty0 := tyX6) tyX6_ok nmX6 rfl (by decide) (by decide) in_X6 q2749 (Or.inl rfl) rfl rfl rfl dX6_init_52) (
  aSa (s_aload_n rfl rfl dX6_init_55) (
  aSa (s_bipush (v0 := 16) (by decide) rfl dX6_init_56) (
  aSa (s_newa_int q915 rfl dX6_init_58) (
  aSa (s_putfF (T := TX6) (ty0 := tyX6) tyX6_ok nmX6 rfl (by decide) (by decide) in_X6 q2752 (Or.inl rfl) rfl rfl rfl rfl rfl dX6_init_60) (
  aSa (s_aload_n rfl rfl dX6_init_63) (
  aSa (s_bipush (v0 := 16) (by decide) rfl dX6_init_64) (
  aSa (s_newa_int q915 rfl dX6_init_66) (
  aSa (s_putfF (T := TX6) (ty0 := tyX6) tyX6_ok nmX6 rfl (by decide) (by decide) in_X6 q2753 (Or.inl rfl) rfl rfl rfl rfl rfl dX6_init_68) (
  aSa (s_aload_n rfl rfl dX6_init_71) (
  aSa (s_bipush (v0 := 16) (by decide) rfl dX6_init_72) (
  aSa (s_newa_int q915 rfl dX6_init_74) (
  aSa (s_putfF (T := TX6) (ty0 := tyX6) tyX6_ok nmX6 rfl (by decide) (by decide) in_X6 q2754 (Or.inl rfl) rfl rfl rfl rfl rfl dX6_init_76) (
  aSa (s_aload_n rfl rfl dX6_init_79) (
  aSa (s_bipush (v0 := 16) (by decide) rfl dX6_init_80) (
  aSa (s_newa_boolean q2945 rfl dX6_init_82) (
  aSa (s_putfF (T := TX6) (ty0 := tyX6) tyX6_ok nmX6 rfl (by decide) (by decide) in_X6 q2755 (Or.inl rfl) rfl rfl rfl rfl rfl dX6_init_84) (
  aSa (s_aload_n rfl rfl dX6_init_87) (
  aSa (s_sipush (v0 := 500) (by decide) rfl dX6_init_88) (
  aSa (s_putf (T := TX6) (ty0 := tyX6) tyX6_ok nmX6 rfl (by decide) (by decide) in_X6 q2756 (Or.inl rfl) rfl rfl rfl dX6_init_91) (
  aSa (s_aload_n rfl rfl dX6_init_94) (
  aSa (s_sipush (v0 := 200) (by decide) rfl dX6_init_95) (
  aSa (s_newa_int q915 rfl dX6_init_98) (
  aSa (s_putfF (T := TX6) (ty0 := tyX6) tyX6_ok nmX6 rfl (by decide) (by decide) in_X6 q2757 (Or.inl rfl) rfl rfl rfl rfl rfl dX6_init_100) (
  aSa (s_aload_n rfl rfl dX6_init_103) (
  aSa (s_iconst (v0 := 4) (by decide) rfl dX6_init_104) (
  aSa (s_newa_int q915 rfl dX6_init_105) (
  aSa (s_putfF (T := TX6) (ty0 := tyX6) tyX6_ok nmX6 rfl (by decide) (by decide) in_X6 q2758 (Or.inl rfl) rfl rfl rfl rfl rfl dX6_init_107) (
  aSa (s_aload_n rfl rfl dX6_init_110) (
  aSa (s_bipush (v0 := 32) (by decide) rfl dX6_init_111) (
  aSa (s_newa_int q915 rfl dX6_init_113) (
  aSa (s_putfF (T := TX6) (ty0 := tyX6) tyX6_ok nmX6 rfl (by decide) (by decide) in_X6 q2759 (Or.inl rfl) rfl rfl rfl rfl rfl dX6_init_115) (
  aSa (s_aload_n rfl rfl dX6_init_118) (
  aSa (s_bipush (v0 := 32) (by decide) rfl dX6_init_119) (
  aSa (s_newa_int q915 rfl dX6_init_121) (
  aSa (s_putfF (T := TX6) (ty0 := tyX6) tyX6_ok nmX6 rfl (by decide) (by decide) in_X6 q2761 (Or.inl rfl) rfl rfl rfl rfl rfl dX6_init_123) (
  aSa (s_aload_n rfl rfl dX6_init_126) (
  aSa (s_bipush (v0 := 32) (by decide) rfl dX6_init_127) (
  aSa (s_newa_int q915 rfl dX6_init_129) (
  aSa (s_putfF (T := TX6) (ty0 := tyX6) tyX6_ok nmX6 rfl (by decide) (by decide) in_X6 q2762 (Or.inl rfl) rfl rfl rfl rfl rfl dX6_init_131) (
  aSa (s_aload_n rfl rfl dX6_init_134) (
  aSa (s_bipush (v0 := 32) (by decide) rfl dX6_init_135) (
  aSa (s_newa_int q915 rfl dX6_init_137) (
  aSa (s_putfF (T := TX6) (ty0 := tyX6) tyX6_ok nmX6 rfl (by decide) (by decide) in_X6 q2763 (Or.inl rfl) rfl rfl rfl rfl rfl dX6_init_139) (
  aSa (s_aload_n rfl rfl dX6_init_142) (
  aSa (s_bipush (v0 := 32) (by decide) rfl dX6_init_143) (
  aSa (s_newa_boolean q2945 rfl dX6_init_145) (
  aSa (s_putfF (T := TX6) (ty0 := tyX6) tyX6_ok nmX6 rfl (by decide) (by decide) in_X6 q2764 (Or.inl rfl) rfl rfl rfl rfl rfl dX6_init_147) (
  aSa (s_aload_n rfl rfl dX6_init_150) (
  aSa (s_iconst (v0 := 2) (by decide) rfl dX6_init_151) (
  aSa (s_newa_boolean q2945 rfl dX6_init_152) (
  aSa (s_putfF (T := TX6) (ty0 := tyX6) tyX6_ok nmX6 rfl (by decide) (by decide) in_X6 q2765 (Or.inl rfl) rfl rfl rfl rfl rfl dX6_init_154) (
  aSa (s_aload_n rfl rfl dX6_init_157) (
  aSa (s_bipush (v0 := 16) (by decide) rfl dX6_init_158) (
  aSa (s_newa_boolean q2945 rfl dX6_init_160) (
  aSa (s_putfF (T := TX6) (ty0 := tyX6) tyX6_ok nmX6 rfl (by decide) (by decide) in_X6 q2766 (Or.inl rfl) rfl rfl rfl rfl rfl dX6_init_162) (
  aSa (s_aload_n rfl rfl dX6_init_165) (
  aSa (s_bipush (v0 := 16) (by decide) rfl dX6_init_166) (
  aSa (s_newa_boolean q2945 rfl dX6_init_168) (
  aSa (s_putfF (T := TX6) (ty0 := tyX6) tyX6_ok nmX6 rfl (by decide) (by decide) in_X6 q2767 (Or.inl rfl) rfl rfl rfl rfl rfl dX6_init_170) (
  aSa (s_aload_n rfl rfl dX6_init_173) (
  aSa (s_bipush (v0 := 16) (by decide) rfl dX6_init_174) (
  aSa (s_newa_boolean q2945 rfl dX6_init_176) (
  aSa (s_putfF (T := TX6) (ty0 := tyX6) tyX6_ok nmX6 rfl (by decide) (by decide) in_X6 q2768 (Or.inl rfl) rfl rfl rfl rfl rfl dX6_init_178) (
  aSa (s_aload_n rfl rfl dX6_init_181) (
  aSa (s_iconst (v0 := 4) (by decide) rfl dX6_init_182) (
  aSa (s_newa_int q915 rfl dX6_init_183) (
  aSa (s_putfF (T := TX6) (ty0 := tyX6) tyX6_ok nmX6 rfl (by decide) (by decide) in_X6 q2769 (Or.inl rfl) rfl rfl rfl rfl rfl dX6_init_185) (
  aSa (s_aload_n rfl rfl dX6_init_188) (
  aSa (s_iconst (v0 := 4) (by decide) rfl dX6_init_189) (
  aSa (s_newa_int q915 rfl dX6_init_190) (
  aSa (s_putfF (T := TX6) (ty0 := tyX6) tyX6_ok nmX6 rfl (by decide) (by decide) in_X6 q2770 (Or.inl rfl) rfl rfl rfl rfl rfl dX6_init_192) (
  aSa (s_aload_n rfl rfl dX6_init_195) (
  aSa (s_bipush (v0 := 6) (by decide) rfl dX6_init_196) (
  aSa (s_newa_int q915 rfl dX6_init_198) (
  aSa (s_putfF (T := TX6) (ty0 := tyX6) tyX6_ok nmX6 rfl (by decide) (by decide) in_X6 q2771 (Or.inl rfl) rfl rfl rfl rfl rfl dX6_init_200) (
  aSa (s_aload_n rfl rfl dX6_init_203) (
  aSa (s_iconst (v0 := 2) (by decide) rfl dX6_init_204) (
  aSa (s_newa_int q915 rfl dX6_init_205) (
  aSa (s_putfF (T := TX6) (ty0 := tyX6) tyX6_ok nmX6 rfl (by decide) (by decide) in_X6 q2772 (Or.inl rfl) rfl rfl rfl rfl rfl dX6_init_207) (
  aSa (s_aload_n rfl rfl dX6_init_210) (
  aSa (s_sipush (v0 := 13122) (by decide) rfl dX6_init_211) (
  aSa (s_newa_int q915 rfl dX6_init_214) (
  aSa (s_putfF (T := TX6) (ty0 := tyX6) tyX6_ok nmX6 rfl (by decide) (by decide) in_X6 q2773 (Or.inl rfl) rfl rfl rfl rfl rfl dX6_init_216) (
  aSa (s_aload_n rfl rfl dX6_init_219) (
  aSa (s_iconst (v0 := 4) (by decide) rfl dX6_init_220) (
  aSa (s_newa_int q915 rfl dX6_init_221) (
  aSa (s_putfF (T := TX6) (ty0 := tyX6) tyX6_ok nmX6 rfl (by decide) (by decide) in_X6 q2774 (Or.inl rfl) rfl rfl rfl rfl rfl dX6_init_223) (
  aSa (s_aload_n rfl rfl dX6_init_226) (
  aSa (s_bipush (v0 := 16) (by decide) rfl dX6_init_227) (
  aSa (s_newa_int q915 rfl dX6_init_229) (
  aSa (s_putfF (T := TX6) (ty0 := tyX6) tyX6_ok nmX6 rfl (by decide) (by decide) in_X6 q2776 (Or.inl rfl) rfl rfl rfl rfl rfl dX6_init_231) (
  aSa (s_aload_n rfl rfl dX6_init_234) (
  aSa (s_ldc q2729 rfl dX6_init_235) (
  aSa (s_newa_int q915 rfl dX6_init_237) (
  aSa (s_putfF (T := TX6) (ty0 := tyX6) tyX6_ok nmX6 rfl (by decide) (by decide) in_X6 q2777 (Or.inl rfl) rfl rfl rfl rfl rfl dX6_init_239) (
  aSa (s_aload_n rfl rfl dX6_init_242) (
  aSa (s_sipush (v0 := 4101) (by decide) rfl dX6_init_243) (
  aSa (s_newa_int q915 rfl dX6_init_246) (
  aSa (s_putfF (T := TX6) (ty0 := tyX6) tyX6_ok nmX6 rfl (by decide) (by decide) in_X6 q2778 (Or.inl rfl) rfl rfl rfl rfl rfl dX6_init_248) (
  aSa (s_aload_n rfl rfl dX6_init_251) (
  aSa (s_sipush (v0 := 4101) (by decide) rfl dX6_init_252) (
  aSa (s_newa_int q915 rfl dX6_init_255) (
  aSa (s_putfF (T := TX6) (ty0 := tyX6) tyX6_ok nmX6 rfl (by decide) (by decide) in_X6 q2779 (Or.inl rfl) rfl rfl rfl rfl rfl dX6_init_257) (
  aSa (s_aload_n rfl rfl dX6_init_260) (
  aSa (s_sipush (v0 := 4101) (by decide) rfl dX6_init_261) (
  aSa (s_newa_int q915 rfl dX6_init_264) (
  aSa (s_putfF (T := TX6) (ty0 := tyX6) tyX6_ok nmX6 rfl (by decide) (by decide) in_X6 q2780 (Or.inl rfl) rfl rfl rfl rfl rfl dX6_init_266) (
  aSa (s_aload_n rfl rfl dX6_init_269) (
  aSa (s_sipush (v0 := 4101) (by decide) rfl dX6_init_270) (
  aSa (s_newa_int q915 rfl dX6_init_273) (
  aSa (s_putfF (T := TX6) (ty0 := tyX6) tyX6_ok nmX6 rfl (by decide) (by decide) in_X6 q2781 (Or.inl rfl) rfl rfl rfl rfl rfl dX6_init_275) (
  aSa (s_aload_n rfl rfl dX6_init_278) (
  aSa (s_sipush (v0 := 16384) (by decide) rfl dX6_init_279) (
  aSa (s_newa_int q915 rfl dX6_init_282) (
  aSa (s_putfF (T := TX6) (ty0 := tyX6) tyX6_ok nmX6 rfl (by decide) (by decide) in_X6 q2782 (Or.inl rfl) rfl rfl rfl rfl rfl dX6_init_284) (
  aSa (s_aload_n rfl rfl dX6_init_287) (
  aSa (s_sipush (v0 := 4101) (by decide) rfl dX6_init_288) (
  aSa (s_newa_long q227 rfl dX6_init_291) (
  aSa (s_putfF (T := TX6) (ty0 := tyX6) tyX6_ok nmX6 rfl (by decide) (by decide) in_X6 q2783 (Or.inl rfl) rfl rfl rfl rfl rfl dX6_init_293) (
  aSa (s_aload_n rfl rfl dX6_init_296) (
  aSa (s_sipush (v0 := 4101) (by decide) rfl dX6_init_297) (
  aSa (s_newa_boolean q2945 rfl dX6_init_300) (
  aSa (s_putfF (T := TX6) (ty0 := tyX6) tyX6_ok nmX6 rfl (by decide) (by decide) in_X6 q2784 (Or.inl rfl) rfl rfl rfl rfl rfl dX6_init_302) (
  aSa (s_aload_n rfl rfl dX6_init_305) (
  aSa (s_bipush (v0 := 16) (by decide) rfl dX6_init_306) (
  aSa (s_newa_int q915 rfl dX6_init_308) (
  aSa (s_putfF (T := TX6) (ty0 := tyX6) tyX6_ok nmX6 rfl (by decide) (by decide) in_X6 q2786 (Or.inl rfl) rfl rfl rfl rfl rfl dX6_init_310) (
  aSa (s_aload_n rfl rfl dX6_init_313) (
  aSa (s_sipush (v0 := 4101) (by decide) rfl dX6_init_314) (
  aSa (s_newa_int q915 rfl dX6_init_317) (
  aSa (s_putfF (T := TX6) (ty0 := tyX6) tyX6_ok nmX6 rfl (by decide) (by decide) in_X6 q2787 (Or.inl rfl) rfl rfl rfl rfl rfl dX6_init_319) (
  aSa (s_aload_n rfl rfl dX6_init_322) (
  aSa (s_sipush (v0 := 4101) (by decide) rfl dX6_init_323) (
  aSa (s_newa_int q915 rfl dX6_init_326) (
  aSa (s_putfF (T := TX6) (ty0 := tyX6) tyX6_ok nmX6 rfl (by decide) (by decide) in_X6 q2788 (Or.inl rfl) rfl rfl rfl rfl rfl dX6_init_328) (
  aSa (s_aload_n rfl rfl dX6_init_331) (
  aSa (s_sipush (v0 := 1001) (by decide) rfl dX6_init_332) (
  aSa (s_newa_int q915 rfl dX6_init_335) (
  aSa (s_putfF (T := TX6) (ty0 := tyX6) tyX6_ok nmX6 rfl (by decide) (by decide) in_X6 q2800 (Or.inl rfl) rfl rfl rfl rfl rfl dX6_init_337) (
  aSa (s_aload_n rfl rfl dX6_init_340) (
  aSa (s_sipush (v0 := 1001) (by decide) rfl dX6_init_341) (
  aSa (s_newa_int q915 rfl dX6_init_344) (
  aSa (s_putfF (T := TX6) (ty0 := tyX6) tyX6_ok nmX6 rfl (by decide) (by decide) in_X6 q2801 (Or.inl rfl) rfl rfl rfl rfl rfl dX6_init_346) (
  aSa (s_aload_n rfl rfl dX6_init_349) (
  aSa (s_sipush (v0 := 1001) (by decide) rfl dX6_init_350) (
  aSa (s_newa_int q915 rfl dX6_init_353) (
  aSa (s_putfF (T := TX6) (ty0 := tyX6) tyX6_ok nmX6 rfl (by decide) (by decide) in_X6 q2802 (Or.inl rfl) rfl rfl rfl rfl rfl dX6_init_355) (
  aSa (s_aload_n rfl rfl dX6_init_358) (
  aSa (s_sipush (v0 := 8202) (by decide) rfl dX6_init_359) (
  aSa (s_newa_int q915 rfl dX6_init_362) (
  aSa (s_putfF (T := TX6) (ty0 := tyX6) tyX6_ok nmX6 rfl (by decide) (by decide) in_X6 q2803 (Or.inl rfl) rfl rfl rfl rfl rfl dX6_init_364) (
  aSa (s_aload_n rfl rfl dX6_init_367) (
  aSa (s_sipush (v0 := 720) (by decide) rfl dX6_init_368) (
  aSa (s_newa_int q915 rfl dX6_init_371) (
  aSa (s_putfF (T := TX6) (ty0 := tyX6) tyX6_ok nmX6 rfl (by decide) (by decide) in_X6 q2804 (Or.inl rfl) rfl rfl rfl rfl rfl dX6_init_373) (
  aSa (s_aload_n rfl rfl dX6_init_376) (
  aSa (s_sipush (v0 := 2880) (by decide) rfl dX6_init_377) (
  aSa (s_newa_int q915 rfl dX6_init_380) (
  aSa (s_putfF (T := TX6) (ty0 := tyX6) tyX6_ok nmX6 rfl (by decide) (by decide) in_X6 q2805 (Or.inl rfl) rfl rfl rfl rfl rfl dX6_init_382) (
  aSa (s_aload_n rfl rfl dX6_init_385) (
  aSa (s_sipush (v0 := 2880) (by decide) rfl dX6_init_386) (
  aSa (s_newa_int q915 rfl dX6_init_389) (
  aSa (s_putfF (T := TX6) (ty0 := tyX6) tyX6_ok nmX6 rfl (by decide) (by decide) in_X6 q2806 (Or.inl rfl) rfl rfl rfl rfl rfl dX6_init_391) (
  aSa (s_aload_n rfl rfl dX6_init_394) (
  aSa (s_sipush (v0 := 720) (by decide) rfl dX6_init_395) (
  aSa (s_newa_int q915 rfl dX6_init_398) (
  aSa (s_putfF (T := TX6) (ty0 := tyX6) tyX6_ok nmX6 rfl (by decide) (by decide) in_X6 q2807 (Or.inl rfl) rfl rfl rfl rfl rfl dX6_init_400) (
  aSa (s_aload_n rfl rfl dX6_init_403) (
  aSa (s_sipush (v0 := 720) (by decide) rfl dX6_init_404) (
  aSa (s_newa_int q915 rfl dX6_init_407) (
  aSa (s_putfF (T := TX6) (ty0 := tyX6) tyX6_ok nmX6 rfl (by decide) (by decide) in_X6 q2809 (Or.inl rfl) rfl rfl rfl rfl rfl dX6_init_409) (
  aSa (s_aload_n rfl rfl dX6_init_412) (
  aSa (s_callV (List.forall_mem_cons.mpr ⟨d_V rfl rfl q2730 q2732 qs50 q136 q2733 rfl (by decide +kernel) (by decide) rfl dX6_init_413, fun _ h => absurd h List.not_mem_nil⟩) aHS0) (
  aSa (s_ret (n := 0) rfl dX6_init_416) (
  aSn))))))))))))))))))))))))))))))))))))))))))))))))))))))))))))))))))))))))))))))))))))))))))))))))))))))))))))))))))))))))))))))))))))))))))))))))))))))))))))))))))))))))))))))))))))))))))))))))))))))))))
theorem sn254 : SndL "SlidingtrayModel" "adds" cX6_adds 13 (Option.some Jvm.ClassFile.FieldType.int) [] T254 := aSa (s_iconst (v0 := 0) (by decide) rfl dX6_adds_0) (
  aSa (s_istore (by decide) rfl dX6_adds_1) (
  aSa (s_iload_n rfl rfl dX6_adds_3) (
  aSa (s_ifeq (by decide) rfl dX6_adds_4) (
  aSa (s_aload_n rfl rfl dX6_adds_7) (
  aSa (s_getf (T := TX6) rfl (by decide) (by decide) in_X6 q2749 (Or.inl rfl) rfl dX6_adds_8) (
  aSa (s_goto (n := 0) (by decide) dX6_adds_11) (
  aSa (s_aload_n rfl rfl dX6_adds_14) (
  aSa (s_getf (T := TX6) rfl (by decide) (by decide) in_X6 q2748 (Or.inl rfl) rfl dX6_adds_15) (
  aSa (s_istore (by decide) rfl dX6_adds_18) (
  aSa (s_iconst (v0 := 0) (by decide) rfl dX6_adds_20) (
  aSa (s_istore (by decide) rfl dX6_adds_21) (
  aSa (s_iload rfl dX6_adds_23) (
  aSa (s_iload rfl dX6_adds_25) (
  aSa (s_cge (by decide) rfl dX6_adds_27) (
  aSa (s_iload_n rfl rfl dX6_adds_30) (
  aSa (s_ifeq (by decide) rfl dX6_adds_31) (
  aSa (s_iload_n rfl rfl dX6_adds_34) (
  aSa (s_aload_n rfl rfl dX6_adds_35) (
  aSa (s_getf (T := TX6) rfl (by decide) (by decide) in_X6 q2749 (Or.inl rfl) rfl dX6_adds_36) (
  aSa (s_imul rfl dX6_adds_39) (
  aSa (s_iload rfl dX6_adds_40) (
  aSa (s_iadd rfl dX6_adds_42) (
  aSa (s_goto (n := 0) (by decide) dX6_adds_43) (
  aSa (s_iload rfl dX6_adds_46) (
  aSa (s_aload_n rfl rfl dX6_adds_48) (
  aSa (s_getf (T := TX6) rfl (by decide) (by decide) in_X6 q2749 (Or.inl rfl) rfl dX6_adds_49) (
  aSa (s_imul rfl dX6_adds_52) (
  aSa (s_iload_n rfl rfl dX6_adds_53) (
  aSa (s_iadd rfl dX6_adds_54) (
  aSa (s_istore (by decide) rfl dX6_adds_55) (
  aSa (s_aload_n rfl rfl dX6_adds_57) (
  aSa (s_getf (T := TX6) rfl (by decide) (by decide) in_X6 q2747 (Or.inl rfl) rfl dX6_adds_58) (
  aSa (s_iload rfl dX6_adds_61) (
  aSa (s_zald rfl dX6_adds_63) (
  aSa (s_ifeq (by decide) rfl dX6_adds_64) (
  aSa (s_iconst (v0 := 0) (by decide) rfl dX6_adds_67) (
  aSa (s_iret (n := 0) rfl dX6_adds_68) (
  aSa (s_aload_n rfl rfl dX6_adds_69) (
  aSa (s_aload_n rfl rfl dX6_adds_70) (
  aSa (s_getf (T := TX6) rfl (by decide) (by decide) in_X6 q2744 (Or.inl rfl) rfl dX6_adds_71) (
  aSa (s_iload rfl dX6_adds_74) (
  aSa (s_iald rfl dX6_adds_76) (
  aSa (s_iald rfl dX6_adds_77) (
  aSa (s_istore (by decide) rfl dX6_adds_78) (
  aSa (s_aload_n rfl rfl dX6_adds_80) (
  aSa (s_getf (T := TX6) rfl (by decide) (by decide) in_X6 q2743 (Or.inl rfl) rfl dX6_adds_81) (
  aSa (s_aload_n rfl rfl dX6_adds_84) (
  aSa (s_getf (T := TX6) rfl (by decide) (by decide) in_X6 q2753 (Or.inl rfl) rfl dX6_adds_85) (
  aSa (s_iload rfl dX6_adds_88) (
  aSa (s_iald rfl dX6_adds_90) (
  aSa (s_iald rfl dX6_adds_91) (
  aSa (s_istore (by decide) rfl dX6_adds_92) (
  aSa (s_iload rfl dX6_adds_94) (
  aSa (s_ifle (by decide) rfl dX6_adds_96) (
  aSa (s_aload_n rfl rfl dX6_adds_99) (
  aSa (s_getf (T := TX6) rfl (by decide) (by decide) in_X6 q2755 (Or.inl rfl) rfl dX6_adds_100) (
  aSa (s_iload rfl dX6_adds_103) (
  aSa (s_zald rfl dX6_adds_105) (
  aSa (s_ifne (by decide) rfl dX6_adds_106) (
  aSa (s_iload_n rfl rfl dX6_adds_109) (
  aSa (s_ifeq (by decide) rfl dX6_adds_110) (
  aSa (s_iload rfl dX6_adds_113) (
  aSa (s_aload_n rfl rfl dX6_adds_115) (
  aSa (s_getf (T := TX6) rfl (by decide) (by decide) in_X6 q2749 (Or.inl rfl) rfl dX6_adds_116) (
  aSa (s_idiv rfl dX6_adds_119) (
  aSa (s_goto (n := 0) (by decide) dX6_adds_120) (
  aSa (s_iload rfl dX6_adds_123) (
  aSa (s_aload_n rfl rfl dX6_adds_125) (
  aSa (s_getf (T := TX6) rfl (by decide) (by decide) in_X6 q2749 (Or.inl rfl) rfl dX6_adds_126) (
  aSa (s_irem rfl dX6_adds_129) (
  aSa (s_iload_n rfl rfl dX6_adds_130) (
  aSa (s_cne (by decide) rfl dX6_adds_131) (
  aSa (s_aload_n rfl rfl dX6_adds_134) (
  aSa (s_getf (T := TX6) rfl (by decide) (by decide) in_X6 q2769 (Or.inl rfl) rfl dX6_adds_135) (
  aSa (s_iload rfl dX6_adds_138) (
  aSa (s_aload_n rfl rfl dX6_adds_140) (
  aSa (s_getf (T := TX6) rfl (by decide) (by decide) in_X6 q2754 (Or.inl rfl) rfl dX6_adds_141) (
  aSa (s_iload rfl dX6_adds_144) (
  aSa (s_iald rfl dX6_adds_146) (
  aSa (s_iast rfl dX6_adds_147) (
  aSa (s_aload_n rfl rfl dX6_adds_148) (
  aSa (s_getf (T := TX6) rfl (by decide) (by decide) in_X6 q2770 (Or.inl rfl) rfl dX6_adds_149) (
  aSa (s_iload rfl dX6_adds_152) (
  aSa (s_iload_n rfl rfl dX6_adds_154) (
  aSa (s_ifeq (by decide) rfl dX6_adds_155) (
  aSa (s_iload rfl dX6_adds_158) (
  aSa (s_aload_n rfl rfl dX6_adds_160) (
  aSa (s_getf (T := TX6) rfl (by decide) (by decide) in_X6 q2749 (Or.inl rfl) rfl dX6_adds_161) (
  aSa (s_irem rfl dX6_adds_164) (
  aSa (s_goto (n := 0) (by decide) dX6_adds_165) (
  aSa (s_iload rfl dX6_adds_168) (
  aSa (s_aload_n rfl rfl dX6_adds_170) (
  aSa (s_getf (T := TX6) rfl (by decide) (by decide) in_X6 q2749 (Or.inl rfl) rfl dX6_adds_171) (
  aSa (s_idiv rfl dX6_adds_174) (
  aSa (s_iast rfl dX6_adds_175) (
  aSa (s_iinc (by decide) rfl dX6_adds_176) (
  aSa (s_iinc (by decide) rfl dX6_adds_179) (
  aSa (s_goto (n := 0) (by decide) dX6_adds_182) (
  aSa (s_ldc q2742 rfl dX6_adds_185) (
  aSa (s_istore (by decide) rfl dX6_adds_187) (
  aSa (s_iconst (v0 := 0) (by decide) rfl dX6_adds_189) (
  aSa (s_istore (by decide) rfl dX6_adds_190) (
  aSa (s_iload rfl dX6_adds_192) (
  aSa (s_iconst (v0 := 1) (by decide) rfl dX6_adds_194) (
  aSa (s_iload rfl dX6_adds_195) (
  aSa (s_ishl rfl dX6_adds_197) (
  aSa (s_cge (by decide) rfl dX6_adds_198) (
  aSa (s_iconst (v0 := 0) (by decide) rfl dX6_adds_201) (
  aSa (s_istore (by decide) rfl dX6_adds_202) (
  aSa (s_iconst (v0 := 1) (by decide) rfl dX6_adds_204) (
  aSa (s_istore (by decide) rfl dX6_adds_205) (
  aSa (s_iconst (v0 := 0) (by decide) rfl dX6_adds_207) (
  aSa (s_istore (by decide) rfl dX6_adds_208) (
  aSa (s_iload rfl dX6_adds_210) (
  aSa (s_iload rfl dX6_adds_212) (
  aSa (s_cge (by decide) rfl dX6_adds_214) (
  aSa (s_iload rfl dX6_adds_217) (
  aSa (s_iload rfl dX6_adds_219) (
  aSa (s_ishr rfl dX6_adds_221) (
  aSa (s_iconst (v0 := 1) (by decide) rfl dX6_adds_222) (
  aSa (s_iand rfl dX6_adds_223) (
  aSa (s_iconst (v0 := 1) (by decide) rfl dX6_adds_224) (
  aSa (s_cne (by decide) rfl dX6_adds_225) (
  aSa (s_iconst (v0 := 1) (by decide) rfl dX6_adds_228) (
  aSa (s_goto (n := 0) (by decide) dX6_adds_229) (
  aSa (s_iconst (v0 := 0) (by decide) rfl dX6_adds_232) (
  aSa (s_istore (by decide) rfl dX6_adds_233) (
  aSa (s_iload rfl dX6_adds_235) (
  aSa (s_iload rfl dX6_adds_237) (
  aSa (s_ifeq (by decide) rfl dX6_adds_239) (
  aSa (s_aload_n rfl rfl dX6_adds_242) (
  aSa (s_getf (T := TX6) rfl (by decide) (by decide) in_X6 q2769 (Or.inl rfl) rfl dX6_adds_243) (
  aSa (s_iload rfl dX6_adds_246) (
  aSa (s_iald rfl dX6_adds_248) (
  aSa (s_goto (n := 0) (by decide) dX6_adds_249) (
  aSa (s_iconst (v0 := 0) (by decide) rfl dX6_adds_252) (
  aSa (s_iadd rfl dX6_adds_253) (
  aSa (s_istore (by decide) rfl dX6_adds_254) (
  aSa (s_iconst (v0 := 0) (by decide) rfl dX6_adds_256) (
  aSa (s_istore (by decide) rfl dX6_adds_257) (
  aSa (s_iload rfl dX6_adds_259) (
  aSa (s_iload rfl dX6_adds_261) (
  aSa (s_cge (by decide) rfl dX6_adds_263) (
  aSa (s_iload rfl dX6_adds_266) (
  aSa (s_ifeq (by decide) rfl dX6_adds_268) (
  aSa (s_iload rfl dX6_adds_271) (
  aSa (s_ifne (by decide) rfl dX6_adds_273) (
  aSa (s_iload rfl dX6_adds_276) (
  aSa (s_iload rfl dX6_adds_278) (
  aSa (s_ishr rfl dX6_adds_280) (
  aSa (s_iconst (v0 := 1) (by decide) rfl dX6_adds_281) (
  aSa (s_iand rfl dX6_adds_282) (
  aSa (s_iconst (v0 := 1) (by decide) rfl dX6_adds_283) (
  aSa (s_ceq (by decide) rfl dX6_adds_284) (
  aSa (s_aload_n rfl rfl dX6_adds_287) (
  aSa (s_getf (T := TX6) rfl (by decide) (by decide) in_X6 q2770 (Or.inl rfl) rfl dX6_adds_288) (
  aSa (s_iload rfl dX6_adds_291) (
  aSa (s_iald rfl dX6_adds_293) (
  aSa (s_aload_n rfl rfl dX6_adds_294) (
  aSa (s_getf (T := TX6) rfl (by decide) (by decide) in_X6 q2770 (Or.inl rfl) rfl dX6_adds_295) (
  aSa (s_iload rfl dX6_adds_298) (
  aSa (s_iald rfl dX6_adds_300) (
  aSa (s_cge (by decide) rfl dX6_adds_301) (
  aSa (s_iconst (v0 := 1) (by decide) rfl dX6_adds_304) (
  aSa (s_goto (n := 0) (by decide) dX6_adds_305) (
  aSa (s_iconst (v0 := 0) (by decide) rfl dX6_adds_308) (
  aSa (s_istore (by decide) rfl dX6_adds_309) (
  aSa (s_iinc (by decide) rfl dX6_adds_311) (
  aSa (s_goto (n := 0) (by decide) dX6_adds_314) (
  aSa (s_iinc (by decide) rfl dX6_adds_317) (
  aSa (s_goto (n := 0) (by decide) dX6_adds_320) (
  aSa (s_iload rfl dX6_adds_323) (
  aSa (s_ifeq (by decide) rfl dX6_adds_325) (
  aSa (s_iload rfl dX6_adds_328) (
  aSa (s_iload rfl dX6_adds_330) (
  aSa (s_cge (by decide) rfl dX6_adds_332) (
  aSa (s_iload rfl dX6_adds_335) (
  aSa (s_goto (n := 0) (by decide) dX6_adds_337) (
  aSa (s_iload rfl dX6_adds_340) (
  aSa (s_istore (by decide) rfl dX6_adds_342) (
  aSa (s_iinc (by decide) rfl dX6_adds_344) (
  aSa (s_goto (n := 0) (by decide) dX6_adds_347) (
  aSa (s_iload rfl dX6_adds_350) (
  aSa (s_iret (n := 0) rfl dX6_adds_352) (
  aSn)))))))))))))))))))))))))))))))))))))))))))))))))))))))))))))))))))))))))))))))))))))))))))))))))))))))))))))))))))))))))))))))))))))))))))))))))))))))))))))))))))))))))))))))))))))))))
theorem sn255 : SndL "SlidingtrayModel" "arrangements" cX6_arrangements 4 (Option.some Jvm.ClassFile.FieldType.long) [] T255 := aSa (s_lconst (by decide) rfl dX6_arrangements_0) (
  aSa (s_lstore_n rfl (by decide) rfl dX6_arrangements_1) (
  aSa (s_iconst (v0 := 2) (by decide) rfl dX6_arrangements_2) (
  aSa (s_istore_n rfl (by decide) rfl dX6_arrangements_3) (
  aSa (s_iload_n rfl rfl dX6_arrangements_4) (
  aSa (s_aload_n rfl rfl dX6_arrangements_5) (
  aSa (s_getf (T := TX6) rfl (by decide) (by decide) in_X6 q2750 (Or.inl rfl) rfl dX6_arrangements_6) (
  aSa (s_cgt (by decide) rfl dX6_arrangements_9) (
  aSa (s_lload_n rfl rfl dX6_arrangements_12) (
  aSa (s_iload_n rfl rfl dX6_arrangements_13) (
  aSa (s_i2l rfl dX6_arrangements_14) (
  aSa (s_lmul rfl dX6_arrangements_15) (
  aSa (s_lstore_n rfl (by decide) rfl dX6_arrangements_16) (
  aSa (s_iinc (by decide) rfl dX6_arrangements_17) (
  aSa (s_goto (n := 0) (by decide) dX6_arrangements_20) (
  aSa (s_lload_n rfl rfl dX6_arrangements_23) (
  aSa (s_lret (n := 0) rfl dX6_arrangements_24) (
  aSn)))))))))))))))))
theorem sn256 : SndL "SlidingtrayModel" "asked" cX6_asked 3 (Option.some Jvm.ClassFile.FieldType.int) [] T256 := aSa (s_aload_n rfl rfl dX6_asked_0) (
  aSa (s_getf (T := TX6) rfl (by decide) (by decide) in_X6 q2803 (Or.inl rfl) rfl dX6_asked_1) (
  aSa (s_sipush (v0 := 4101) (by decide) rfl dX6_asked_4) (
  aSa (s_iload_n rfl rfl dX6_asked_7) (
  aSa (s_imul rfl dX6_asked_8) (
  aSa (s_iload_n rfl rfl dX6_asked_9) (
  aSa (s_iadd rfl dX6_asked_10) (
  aSa (s_iald rfl dX6_asked_11) (
  aSa (s_iret (n := 0) rfl dX6_asked_12) (
  aSn)))))))))
theorem sn257 : SndL "SlidingtrayModel" "bits" cX6_bits 3 (Option.some Jvm.ClassFile.FieldType.int) [] T257 := aSa (s_iconst (v0 := 0) (by decide) rfl dX6_bits_0) (
  aSa (s_istore_n rfl (by decide) rfl dX6_bits_1) (
  aSa (s_iconst (v0 := 0) (by decide) rfl dX6_bits_2) (
  aSa (s_istore_n rfl (by decide) rfl dX6_bits_3) (
  aSa (s_iload_n rfl rfl dX6_bits_4) (
  aSa (s_bipush (v0 := 31) (by decide) rfl dX6_bits_5) (
  aSa (s_cge (by decide) rfl dX6_bits_7) (
  aSa (s_iload_n rfl rfl dX6_bits_10) (
  aSa (s_iload_n rfl rfl dX6_bits_11) (
  aSa (s_iload_n rfl rfl dX6_bits_12) (
  aSa (s_ishr rfl dX6_bits_13) (
  aSa (s_iconst (v0 := 1) (by decide) rfl dX6_bits_14) (
  aSa (s_iand rfl dX6_bits_15) (
  aSa (s_iadd rfl dX6_bits_16) (
  aSa (s_istore_n rfl (by decide) rfl dX6_bits_17) (
  aSa (s_iinc (by decide) rfl dX6_bits_18) (
  aSa (s_goto (n := 0) (by decide) dX6_bits_21) (
  aSa (s_iload_n rfl rfl dX6_bits_24) (
  aSa (s_iret (n := 0) rfl dX6_bits_25) (
  aSn)))))))))))))))))))
theorem sn258 : SndL "SlidingtrayModel" "both" cX6_both 10 (Option.some Jvm.ClassFile.FieldType.int) [] T258 := aSa (s_aload_n rfl rfl dX6_both_0) (
  aSa (s_callV (List.forall_mem_cons.mpr ⟨d_V rfl rfl q3109 q3111 qs72 q136 q3112 rfl (by decide +kernel) (by decide) rfl dX6_both_1, fun _ h => absurd h List.not_mem_nil⟩) aHS0) (
  aSa (s_ifeq (by decide) rfl dX6_both_4) (
  aSa (s_aload_n rfl rfl dX6_both_7) (
  aSa (s_iconst (v0 := 1) (by decide) rfl dX6_both_8) (
  aSa (s_callV (List.forall_mem_cons.mpr ⟨d_V rfl rfl q2957 q2959 qs53 q136 q2960 rfl (by decide +kernel) (by decide) rfl dX6_both_9, fun _ h => absurd h List.not_mem_nil⟩) aHS0) (
  aSa (s_iret (n := 0) rfl dX6_both_12) (
  aSa (s_aload_n rfl rfl dX6_both_13) (
  aSa (s_callV (List.forall_mem_cons.mpr ⟨d_V rfl rfl q3157 q3159 qs82 q136 q3160 rfl (by decide +kernel) (by decide) rfl dX6_both_14, fun _ h => absurd h List.not_mem_nil⟩) aHS0) (
  aSa (s_aload_n rfl rfl dX6_both_17) (
  aSa (s_callV (List.forall_mem_cons.mpr ⟨d_V rfl rfl q3149 q3151 qs80 q136 q3152 rfl (by decide +kernel) (by decide) rfl dX6_both_18, fun _ h => absurd h List.not_mem_nil⟩) aHS0) (
  aSa (s_aload_n rfl rfl dX6_both_21) (
  aSa (s_iconst (v0 := 0) (by decide) rfl dX6_both_22) (
  aSa (s_iconst (v0 := 0) (by decide) rfl dX6_both_23) (
  aSa (s_callV (List.forall_mem_cons.mpr ⟨d_V rfl rfl q3210 q3212 qs93 q136 q3213 rfl (by decide +kernel) (by decide) rfl dX6_both_24, fun _ h => absurd h List.not_mem_nil⟩) aHS0) (
  aSa (s_ifeq (by decide) rfl dX6_both_27) (
  aSa (s_iconst (v0 := 1) (by decide) rfl dX6_both_30) (
  aSa (s_goto (n := 0) (by decide) dX6_both_31) (
  aSa (s_iconst (v0 := 0) (by decide) rfl dX6_both_34) (
  aSa (s_istore_n rfl (by decide) rfl dX6_both_35) (
  aSa (s_aload_n rfl rfl dX6_both_36) (
  aSa (s_callV (List.forall_mem_cons.mpr ⟨d_V rfl rfl q3113 q3115 qs73 q136 q3116 rfl (by decide +kernel) (by decide) rfl dX6_both_37, fun _ h => absurd h List.not_mem_nil⟩) aHS0) (
  aSa (s_iconst (v0 := 0) (by decide) rfl dX6_both_40) (
  aSa (s_istore_n rfl (by decide) rfl dX6_both_41) (
  aSa (s_iload_n rfl rfl dX6_both_42) (
  aSa (s_aload_n rfl rfl dX6_both_43) (
  aSa (s_getf (T := TX6) rfl (by decide) (by decide) in_X6 q2750 (Or.inl rfl) rfl dX6_both_44) (
  aSa (s_cge (by decide) rfl dX6_both_47) (
  aSa (s_aload_n rfl rfl dX6_both_50) (
  aSa (s_getf (T := TX6) rfl (by decide) (by decide) in_X6 q2786 (Or.inl rfl) rfl dX6_both_51) (
  aSa (s_iload_n rfl rfl dX6_both_54) (
  aSa (s_aload_n rfl rfl dX6_both_55) (
  aSa (s_getf (T := TX6) rfl (by decide) (by decide) in_X6 q2776 (Or.inl rfl) rfl dX6_both_56) (
  aSa (s_iload_n rfl rfl dX6_both_59) (
  aSa (s_iald rfl dX6_both_60) (
  aSa (s_iast rfl dX6_both_61) (
  aSa (s_iinc (by decide) rfl dX6_both_62) (
  aSa (s_goto (n := 0) (by decide) dX6_both_65) (
  aSa (s_iload_n rfl rfl dX6_both_68) (
  aSa (s_aload_n rfl rfl dX6_both_69) (
  aSa (s_iconst (v0 := 1) (by decide) rfl dX6_both_70) (
  aSa (s_iconst (v0 := 0) (by decide) rfl dX6_both_71) (
  aSa (s_callV (List.forall_mem_cons.mpr ⟨d_V rfl rfl q3210 q3212 qs93 q136 q3213 rfl (by decide +kernel) (by decide) rfl dX6_both_72, fun _ h => absurd h List.not_mem_nil⟩) aHS0) (
  aSa (s_ifeq (by decide) rfl dX6_both_75) (
  aSa (s_iconst (v0 := 1) (by decide) rfl dX6_both_78) (
  aSa (s_goto (n := 0) (by decide) dX6_both_79) (
  aSa (s_iconst (v0 := 0) (by decide) rfl dX6_both_82) (
  aSa (s_iadd rfl dX6_both_83) (
  aSa (s_istore_n rfl (by decide) rfl dX6_both_84) (
  aSa (s_iload_n rfl rfl dX6_both_85) (
  aSa (s_aload_n rfl rfl dX6_both_86) (
  aSa (s_getf (T := TX6) rfl (by decide) (by decide) in_X6 q2756 (Or.inl rfl) rfl dX6_both_87) (
  aSa (s_cle (by decide) rfl dX6_both_90) (
  aSa (s_aload_n rfl rfl dX6_both_93) (
  aSa (s_iconst (v0 := 1) (by decide) rfl dX6_both_94) (
  aSa (s_callV (List.forall_mem_cons.mpr ⟨d_V rfl rfl q2957 q2959 qs53 q136 q2960 rfl (by decide +kernel) (by decide) rfl dX6_both_95, fun _ h => absurd h List.not_mem_nil⟩) aHS0) (
  aSa (s_iret (n := 0) rfl dX6_both_98) (
  aSa (s_iconst (v0 := 0) (by decide) rfl dX6_both_99) (
  aSa (s_istore_n rfl (by decide) rfl dX6_both_100) (
  aSa (s_iconst (v0 := 1) (by decide) rfl dX6_both_101) (
  aSa (s_istore_n rfl (by decide) rfl dX6_both_102) (
  aSa (s_iload_n rfl rfl dX6_both_103) (
  aSa (s_ifeq (by decide) rfl dX6_both_104) (
  aSa (s_aload_n rfl rfl dX6_both_107) (
  aSa (s_iconst (v0 := 0) (by decide) rfl dX6_both_108) (
  aSa (s_callV (List.forall_mem_cons.mpr ⟨d_V rfl rfl q3218 q3220 qs95 q136 q3221 rfl (by decide +kernel) (by decide) rfl dX6_both_109, fun _ h => absurd h List.not_mem_nil⟩) aHS0) (
  aSa (s_ifne (by decide) rfl dX6_both_112) (
  aSa (s_iload_n rfl rfl dX6_both_115) (
  aSa (s_iconst (v0 := 2) (by decide) rfl dX6_both_116) (
  aSa (s_irem rfl dX6_both_117) (
  aSa (s_istore (by decide) rfl dX6_both_118) (
  aSa (s_iload_n rfl rfl dX6_both_120) (
  aSa (s_iconst (v0 := 2) (by decide) rfl dX6_both_121) (
  aSa (s_idiv rfl dX6_both_122) (
  aSa (s_istore (by decide) rfl dX6_both_123) (
  aSa (s_iload_n rfl rfl dX6_both_125) (
  aSa (s_istore (by decide) rfl dX6_both_126) (
  aSa (s_aload_n rfl rfl dX6_both_128) (
  aSa (s_getf (T := TX6) rfl (by decide) (by decide) in_X6 q2785 (Or.inl rfl) rfl dX6_both_129) (
  aSa (s_istore (by decide) rfl dX6_both_132) (
  aSa (s_iconst (v0 := 0) (by decide) rfl dX6_both_134) (
  aSa (s_istore (by decide) rfl dX6_both_135) (
  aSa (s_iload rfl dX6_both_137) (
  aSa (s_iload rfl dX6_both_139) (
  aSa (s_cge (by decide) rfl dX6_both_141) (
  aSa (s_aload_n rfl rfl dX6_both_144) (
  aSa (s_iload rfl dX6_both_145) (
  aSa (s_iload rfl dX6_both_147) (
  aSa (s_callV (List.forall_mem_cons.mpr ⟨d_V rfl rfl q3214 q3216 qs94 q136 q3217 rfl (by decide +kernel) (by decide) rfl dX6_both_149, fun _ h => absurd h List.not_mem_nil⟩) aHS0) (
  aSa (s_iload rfl dX6_both_152) (
  aSa (s_ceq (by decide) rfl dX6_both_154) (
  aSa (s_goto (n := 0) (by decide) dX6_both_157) (
  aSa (s_iconst (v0 := 0) (by decide) rfl dX6_both_160) (
  aSa (s_istore (by decide) rfl dX6_both_161) (
  aSa (s_iload rfl dX6_both_163) (
  aSa (s_iconst (v0 := 4) (by decide) rfl dX6_both_165) (
  aSa (s_cge (by decide) rfl dX6_both_166) (
  aSa (s_aload_n rfl rfl dX6_both_169) (
  aSa (s_iload rfl dX6_both_170) (
  aSa (s_callV (List.forall_mem_cons.mpr ⟨d_V rfl rfl q3174 q3176 qs86 q136 q3177 rfl (by decide +kernel) (by decide) rfl dX6_both_172, fun _ h => absurd h List.not_mem_nil⟩) aHS0) (
  aSa (s_aload_n rfl rfl dX6_both_175) (
  aSa (s_aload_n rfl rfl dX6_both_176) (
  aSa (s_getf (T := TX6) rfl (by decide) (by decide) in_X6 q2786 (Or.inl rfl) rfl dX6_both_177) (
  aSa (s_iload rfl dX6_both_180) (
  aSa (s_callV (List.forall_mem_cons.mpr ⟨d_V rfl rfl q3021 q3023 qs65 q136 q3024 rfl (by decide +kernel) (by decide) rfl dX6_both_182, fun _ h => absurd h List.not_mem_nil⟩) aHS0) (
  aSa (s_iconst (v0 := (-1)) (by decide) rfl dX6_both_185) (
  aSa (s_ceq (by decide) rfl dX6_both_186) (
  aSa (s_aload_n rfl rfl dX6_both_189) (
  aSa (s_iload rfl dX6_both_190) (
  aSa (s_iload rfl dX6_both_192) (
  aSa (s_iconst (v0 := 1) (by decide) rfl dX6_both_194) (
  aSa (s_iadd rfl dX6_both_195) (
  aSa (s_callV (List.forall_mem_cons.mpr ⟨d_V rfl rfl q3210 q3212 qs93 q136 q3213 rfl (by decide +kernel) (by decide) rfl dX6_both_196, fun _ h => absurd h List.not_mem_nil⟩) aHS0) (
  aSa (s_ifeq (by decide) rfl dX6_both_199) (
  aSa (s_iinc (by decide) rfl dX6_both_202) (
  aSa (s_iload_n rfl rfl dX6_both_205) (
  aSa (s_aload_n rfl rfl dX6_both_206) (
  aSa (s_getf (T := TX6) rfl (by decide) (by decide) in_X6 q2756 (Or.inl rfl) rfl dX6_both_207) (
  aSa (s_cle (by decide) rfl dX6_both_210) (
  aSa (s_aload_n rfl rfl dX6_both_213) (
  aSa (s_iconst (v0 := 1) (by decide) rfl dX6_both_214) (
  aSa (s_callV (List.forall_mem_cons.mpr ⟨d_V rfl rfl q2957 q2959 qs53 q136 q2960 rfl (by decide +kernel) (by decide) rfl dX6_both_215, fun _ h => absurd h List.not_mem_nil⟩) aHS0) (
  aSa (s_iret (n := 0) rfl dX6_both_218) (
  aSa (s_iinc (by decide) rfl dX6_both_219) (
  aSa (s_goto (n := 0) (by decide) dX6_both_222) (
  aSa (s_iinc (by decide) rfl dX6_both_225) (
  aSa (s_goto (n := 0) (by decide) dX6_both_228) (
  aSa (s_iload_n rfl rfl dX6_both_231) (
  aSa (s_iload rfl dX6_both_232) (
  aSa (s_cle (by decide) rfl dX6_both_234) (
  aSa (s_iconst (v0 := 1) (by decide) rfl dX6_both_237) (
  aSa (s_goto (n := 0) (by decide) dX6_both_238) (
  aSa (s_iconst (v0 := 0) (by decide) rfl dX6_both_241) (
  aSa (s_istore_n rfl (by decide) rfl dX6_both_242) (
  aSa (s_iload_n rfl rfl dX6_both_243) (
  aSa (s_iload_n rfl rfl dX6_both_244) (
  aSa (s_ifeq (by decide) rfl dX6_both_245) (
  aSa (s_iconst (v0 := 1) (by decide) rfl dX6_both_248) (
  aSa (s_goto (n := 0) (by decide) dX6_both_249) (
  aSa (s_iconst (v0 := 0) (by decide) rfl dX6_both_252) (
  aSa (s_iadd rfl dX6_both_253) (
  aSa (s_istore_n rfl (by decide) rfl dX6_both_254) (
  aSa (s_goto (n := 0) (by decide) dX6_both_255) (
  aSa (s_aload_n rfl rfl dX6_both_258) (
  aSa (s_iload_n rfl rfl dX6_both_259) (
  aSa (s_putf (T := TX6) (ty0 := tyX6) tyX6_ok nmX6 rfl (by decide) (by decide) in_X6 q2790 (Or.inl rfl) rfl rfl rfl dX6_both_260) (
  aSa (s_aload_n rfl rfl dX6_both_263) (
  aSa (s_iload_n rfl rfl dX6_both_264) (
  aSa (s_putf (T := TX6) (ty0 := tyX6) tyX6_ok nmX6 rfl (by decide) (by decide) in_X6 q2791 (Or.inl rfl) rfl rfl rfl dX6_both_265) (
  aSa (s_aload_n rfl rfl dX6_both_268) (
  aSa (s_iconst (v0 := 0) (by decide) rfl dX6_both_269) (
  aSa (s_putf (T := TX6) (ty0 := tyX6) tyX6_ok nmX6 rfl (by decide) (by decide) in_X6 q2792 (Or.inl rfl) rfl rfl rfl dX6_both_270) (
  aSa (s_aload_n rfl rfl dX6_both_273) (
  aSa (s_iload_n rfl rfl dX6_both_274) (
  aSa (s_ifeq (by decide) rfl dX6_both_275) (
  aSa (s_iload_n rfl rfl dX6_both_278) (
  aSa (s_goto (n := 0) (by decide) dX6_both_279) (
  aSa (s_iconst (v0 := (-1)) (by decide) rfl dX6_both_282) (
  aSa (s_callV (List.forall_mem_cons.mpr ⟨d_V rfl rfl q2969 q2971 qs56 q136 q2972 rfl (by decide +kernel) (by decide) rfl dX6_both_283, fun _ h => absurd h List.not_mem_nil⟩) aHS0) (
  aSa (s_iret (n := 0) rfl dX6_both_286) (
  aSn))))))))))))))))))))))))))))))))))))))))))))))))))))))))))))))))))))))))))))))))))))))))))))))))))))))))))))))))))))))))))))))))))))))))))))))))))))))))))))))))
theorem sn259 : SndL "SlidingtrayModel" "cellBeside" cX6_cellBeside 5 (Option.some Jvm.ClassFile.FieldType.int) [] T259 := aSa (s_iload_n rfl rfl dX6_cellBeside_0) (
  aSa (s_aload_n rfl rfl dX6_cellBeside_1) (
  aSa (s_getf (T := TX6) rfl (by decide) (by decide) in_X6 q2749 (Or.inl rfl) rfl dX6_cellBeside_2) (
  aSa (s_idiv rfl dX6_cellBeside_5) (
  aSa (s_istore_n rfl (by decide) rfl dX6_cellBeside_6) (
  aSa (s_iload_n rfl rfl dX6_cellBeside_7) (
  aSa (s_aload_n rfl rfl dX6_cellBeside_8) (
  aSa (s_getf (T := TX6) rfl (by decide) (by decide) in_X6 q2749 (Or.inl rfl) rfl dX6_cellBeside_9) (
  aSa (s_irem rfl dX6_cellBeside_12) (
  aSa (s_istore (by decide) rfl dX6_cellBeside_13) (
  aSa (s_iload_n rfl rfl dX6_cellBeside_15) (
  aSa (s_tsw (n := 0) dX6_cellBeside_16 (by decide) (by decide)) (
  aSa (s_iload_n rfl rfl dX6_cellBeside_44) (
  aSa (s_ifne (by decide) rfl dX6_cellBeside_45) (
  aSa (s_iconst (v0 := (-1)) (by decide) rfl dX6_cellBeside_48) (
  aSa (s_goto (n := 0) (by decide) dX6_cellBeside_49) (
  aSa (s_iload_n rfl rfl dX6_cellBeside_52) (
  aSa (s_aload_n rfl rfl dX6_cellBeside_53) (
  aSa (s_getf (T := TX6) rfl (by decide) (by decide) in_X6 q2749 (Or.inl rfl) rfl dX6_cellBeside_54) (
  aSa (s_isub rfl dX6_cellBeside_57) (
  aSa (s_iret (n := 0) rfl dX6_cellBeside_58) (
  aSa (s_iload rfl dX6_cellBeside_59) (
  aSa (s_ifne (by decide) rfl dX6_cellBeside_61) (
  aSa (s_iconst (v0 := (-1)) (by decide) rfl dX6_cellBeside_64) (
  aSa (s_goto (n := 0) (by decide) dX6_cellBeside_65) (
  aSa (s_iload_n rfl rfl dX6_cellBeside_68) (
  aSa (s_iconst (v0 := 1) (by decide) rfl dX6_cellBeside_69) (
  aSa (s_isub rfl dX6_cellBeside_70) (
  aSa (s_iret (n := 0) rfl dX6_cellBeside_71) (
  aSa (s_iload rfl dX6_cellBeside_72) (
  aSa (s_iconst (v0 := 1) (by decide) rfl dX6_cellBeside_74) (
  aSa (s_iadd rfl dX6_cellBeside_75) (
  aSa (s_aload_n rfl rfl dX6_cellBeside_76) (
  aSa (s_getf (T := TX6) rfl (by decide) (by decide) in_X6 q2749 (Or.inl rfl) rfl dX6_cellBeside_77) (
  aSa (s_cne (by decide) rfl dX6_cellBeside_80) (
  aSa (s_iconst (v0 := (-1)) (by decide) rfl dX6_cellBeside_83) (
  aSa (s_goto (n := 0) (by decide) dX6_cellBeside_84) (
  aSa (s_iload_n rfl rfl dX6_cellBeside_87) (
  aSa (s_iconst (v0 := 1) (by decide) rfl dX6_cellBeside_88) (
  aSa (s_iadd rfl dX6_cellBeside_89) (
  aSa (s_iret (n := 0) rfl dX6_cellBeside_90) (
  aSa (s_iload_n rfl rfl dX6_cellBeside_91) (
  aSa (s_iconst (v0 := 1) (by decide) rfl dX6_cellBeside_92) (
  aSa (s_iadd rfl dX6_cellBeside_93) (
  aSa (s_aload_n rfl rfl dX6_cellBeside_94) (
  aSa (s_getf (T := TX6) rfl (by decide) (by decide) in_X6 q2748 (Or.inl rfl) rfl dX6_cellBeside_95) (
  aSa (s_cne (by decide) rfl dX6_cellBeside_98) (
  aSa (s_iconst (v0 := (-1)) (by decide) rfl dX6_cellBeside_101) (
  aSa (s_goto (n := 0) (by decide) dX6_cellBeside_102) (
  aSa (s_iload_n rfl rfl dX6_cellBeside_105) (
  aSa (s_aload_n rfl rfl dX6_cellBeside_106) (
  aSa (s_getf (T := TX6) rfl (by decide) (by decide) in_X6 q2749 (Or.inl rfl) rfl dX6_cellBeside_107) (
  aSa (s_iadd rfl dX6_cellBeside_110) (
  aSa (s_iret (n := 0) rfl dX6_cellBeside_111) (
  aSn))))))))))))))))))))))))))))))))))))))))))))))))))))))
theorem sn260 : SndL "SlidingtrayModel" "clearsStates" cX6_clearsStates 2 (Option.none : Option Jvm.ClassFile.FieldType) [] T260 := aSa (s_aload_n rfl rfl dX6_clearsStates_0) (
  aSa (s_iconst (v0 := 0) (by decide) rfl dX6_clearsStates_1) (
  aSa (s_putf (T := TX6) (ty0 := tyX6) tyX6_ok nmX6 rfl (by decide) (by decide) in_X6 q2785 (Or.inl rfl) rfl rfl rfl dX6_clearsStates_2) (
  aSa (s_iconst (v0 := 0) (by decide) rfl dX6_clearsStates_5) (
  aSa (s_istore_n rfl (by decide) rfl dX6_clearsStates_6) (
  aSa (s_iload_n rfl rfl dX6_clearsStates_7) (
  aSa (s_sipush (v0 := 16384) (by decide) rfl dX6_clearsStates_8) (
  aSa (s_cge (by decide) rfl dX6_clearsStates_11) (
  aSa (s_aload_n rfl rfl dX6_clearsStates_14) (
  aSa (s_getf (T := TX6) rfl (by decide) (by decide) in_X6 q2782 (Or.inl rfl) rfl dX6_clearsStates_15) (
  aSa (s_iload_n rfl rfl dX6_clearsStates_18) (
  aSa (s_iconst (v0 := 0) (by decide) rfl dX6_clearsStates_19) (
  aSa (s_iast rfl dX6_clearsStates_20) (
  aSa (s_iinc (by decide) rfl dX6_clearsStates_21) (
  aSa (s_goto (n := 0) (by decide) dX6_clearsStates_24) (
  aSa (s_ret (n := 0) rfl dX6_clearsStates_27) (
  aSn))))))))))))))))
theorem sn261 : SndL "SlidingtrayModel" "comesTo" cX6_comesTo 3 (Option.some Jvm.ClassFile.FieldType.int) [] T261 := aSa (s_aload_n rfl rfl dX6_comesTo_0) (
  aSa (s_getf (T := TX6) rfl (by decide) (by decide) in_X6 q2794 (Or.inl rfl) rfl dX6_comesTo_1) (
  aSa (s_aload_n rfl rfl dX6_comesTo_4) (
  aSa (s_getf (T := TX6) rfl (by decide) (by decide) in_X6 q2756 (Or.inl rfl) rfl dX6_comesTo_5) (
  aSa (s_cne (by decide) rfl dX6_comesTo_8) (
  aSa (s_aload_n rfl rfl dX6_comesTo_11) (
  aSa (s_iconst (v0 := 1) (by decide) rfl dX6_comesTo_12) (
  aSa (s_putf (T := TX6) (ty0 := tyX6) tyX6_ok nmX6 rfl (by decide) (by decide) in_X6 q2799 (Or.inl rfl) rfl rfl rfl dX6_comesTo_13) (
  aSa (s_iconst (v0 := (-1)) (by decide) rfl dX6_comesTo_16) (
  aSa (s_iret (n := 0) rfl dX6_comesTo_17) (
  aSa (s_aload_n rfl rfl dX6_comesTo_18) (
  aSa (s_dup rfl dX6_comesTo_19) (
  aSa (s_getf (T := TX6) rfl (by decide) (by decide) in_X6 q2794 (Or.inl rfl) rfl dX6_comesTo_20) (
  aSa (s_iconst (v0 := 1) (by decide) rfl dX6_comesTo_23) (
  aSa (s_iadd rfl dX6_comesTo_24) (
  aSa (s_putf (T := TX6) (ty0 := tyX6) tyX6_ok nmX6 rfl (by decide) (by decide) in_X6 q2794 (Or.inl rfl) rfl rfl rfl dX6_comesTo_25) (
  aSa (s_iload_n rfl rfl dX6_comesTo_28) (
  aSa (s_aload_n rfl rfl dX6_comesTo_29) (
  aSa (s_aload_n rfl rfl dX6_comesTo_30) (
  aSa (s_getf (T := TX6) rfl (by decide) (by decide) in_X6 q2786 (Or.inl rfl) rfl dX6_comesTo_31) (
  aSa (s_aload_n rfl rfl dX6_comesTo_34) (
  aSa (s_getf (T := TX6) rfl (by decide) (by decide) in_X6 q2798 (Or.inl rfl) rfl dX6_comesTo_35) (
  aSa (s_callV (List.forall_mem_cons.mpr ⟨d_V rfl rfl q3121 q3123 qs74 q136 q3124 rfl (by decide +kernel) (by decide) rfl dX6_comesTo_38, fun _ h => absurd h List.not_mem_nil⟩) aHS0) (
  aSa (s_iadd rfl dX6_comesTo_41) (
  aSa (s_istore_n rfl (by decide) rfl dX6_comesTo_42) (
  aSa (s_iload_n rfl rfl dX6_comesTo_43) (
  aSa (s_aload_n rfl rfl dX6_comesTo_44) (
  aSa (s_getf (T := TX6) rfl (by decide) (by decide) in_X6 q2796 (Or.inl rfl) rfl dX6_comesTo_45) (
  aSa (s_cle (by decide) rfl dX6_comesTo_48) (
  aSa (s_aload_n rfl rfl dX6_comesTo_51) (
  aSa (s_iload_n rfl rfl dX6_comesTo_52) (
  aSa (s_aload_n rfl rfl dX6_comesTo_53) (
  aSa (s_getf (T := TX6) rfl (by decide) (by decide) in_X6 q2797 (Or.inl rfl) rfl dX6_comesTo_54) (
  aSa (s_cge (by decide) rfl dX6_comesTo_57) (
  aSa (s_iload_n rfl rfl dX6_comesTo_60) (
  aSa (s_goto (n := 0) (by decide) dX6_comesTo_61) (
  aSa (s_aload_n rfl rfl dX6_comesTo_64) (
  aSa (s_getf (T := TX6) rfl (by decide) (by decide) in_X6 q2797 (Or.inl rfl) rfl dX6_comesTo_65) (
  aSa (s_putf (T := TX6) (ty0 := tyX6) tyX6_ok nmX6 rfl (by decide) (by decide) in_X6 q2797 (Or.inl rfl) rfl rfl rfl dX6_comesTo_68) (
  aSa (s_iconst (v0 := (-1)) (by decide) rfl dX6_comesTo_71) (
  aSa (s_iret (n := 0) rfl dX6_comesTo_72) (
  aSa (s_aload_n rfl rfl dX6_comesTo_73) (
  aSa (s_aload_n rfl rfl dX6_comesTo_74) (
  aSa (s_getf (T := TX6) rfl (by decide) (by decide) in_X6 q2786 (Or.inl rfl) rfl dX6_comesTo_75) (
  aSa (s_callV (List.forall_mem_cons.mpr ⟨d_V rfl rfl q3178 q3180 qs87 q136 q3181 rfl (by decide +kernel) (by decide) rfl dX6_comesTo_78, fun _ h => absurd h List.not_mem_nil⟩) aHS0) (
  aSa (s_ifeq (by decide) rfl dX6_comesTo_81) (
  aSa (s_iload_n rfl rfl dX6_comesTo_84) (
  aSa (s_goto (n := 0) (by decide) dX6_comesTo_85) (
  aSa (s_ldc q2742 rfl dX6_comesTo_88) (
  aSa (s_iret (n := 0) rfl dX6_comesTo_90) (
  aSn))))))))))))))))))))))))))))))))))))))))))))))))))
theorem sn262 : SndL "SlidingtrayModel" "countsWays" cX6_countsWays 7 (Option.none : Option Jvm.ClassFile.FieldType) [] T262 := aSa (s_aload_n rfl rfl dX6_countsWays_0) (
  aSa (s_callV (List.forall_mem_cons.mpr ⟨d_V rfl rfl q3246 q3248 qs98 q136 q3249 rfl (by decide +kernel) (by decide) rfl dX6_countsWays_1, fun _ h => absurd h List.not_mem_nil⟩) aHS0) (
  aSa (s_istore_n rfl (by decide) rfl dX6_countsWays_4) (
  aSa (s_iconst (v0 := 0) (by decide) rfl dX6_countsWays_5) (
  aSa (s_istore_n rfl (by decide) rfl dX6_countsWays_6) (
  aSa (s_iload_n rfl rfl dX6_countsWays_7) (
  aSa (s_iload_n rfl rfl dX6_countsWays_8) (
  aSa (s_cgt (by decide) rfl dX6_countsWays_9) (
  aSa (s_iconst (v0 := 0) (by decide) rfl dX6_countsWays_12) (
  aSa (s_istore_n rfl (by decide) rfl dX6_countsWays_13) (
  aSa (s_iload_n rfl rfl dX6_countsWays_14) (
  aSa (s_aload_n rfl rfl dX6_countsWays_15) (
  aSa (s_getf (T := TX6) rfl (by decide) (by decide) in_X6 q2808 (Or.inl rfl) rfl dX6_countsWays_16) (
  aSa (s_cge (by decide) rfl dX6_countsWays_19) (
  aSa (s_aload_n rfl rfl dX6_countsWays_22) (
  aSa (s_getf (T := TX6) rfl (by decide) (by decide) in_X6 q2804 (Or.inl rfl) rfl dX6_countsWays_23) (
  aSa (s_iload_n rfl rfl dX6_countsWays_26) (
  aSa (s_iald rfl dX6_countsWays_27) (
  aSa (s_iload_n rfl rfl dX6_countsWays_28) (
  aSa (s_ceq (by decide) rfl dX6_countsWays_29) (
  aSa (s_goto (n := 0) (by decide) dX6_countsWays_32) (
  aSa (s_iload_n rfl rfl dX6_countsWays_35) (
  aSa (s_ifne (by decide) rfl dX6_countsWays_36) (
  aSa (s_iconst (v0 := 1) (by decide) rfl dX6_countsWays_39) (
  aSa (s_goto (n := 0) (by decide) dX6_countsWays_40) (
  aSa (s_iconst (v0 := 0) (by decide) rfl dX6_countsWays_43) (
  aSa (s_istore (by decide) rfl dX6_countsWays_44) (
  aSa (s_iconst (v0 := 0) (by decide) rfl dX6_countsWays_46) (
  aSa (s_istore (by decide) rfl dX6_countsWays_47) (
  aSa (s_iload rfl dX6_countsWays_49) (
  aSa (s_iconst (v0 := 4) (by decide) rfl dX6_countsWays_51) (
  aSa (s_cge (by decide) rfl dX6_countsWays_52) (
  aSa (s_aload_n rfl rfl dX6_countsWays_55) (
  aSa (s_getf (T := TX6) rfl (by decide) (by decide) in_X6 q2805 (Or.inl rfl) rfl dX6_countsWays_56) (
  aSa (s_iconst (v0 := 4) (by decide) rfl dX6_countsWays_59) (
  aSa (s_iload_n rfl rfl dX6_countsWays_60) (
  aSa (s_imul rfl dX6_countsWays_61) (
  aSa (s_iload rfl dX6_countsWays_62) (
  aSa (s_iadd rfl dX6_countsWays_64) (
  aSa (s_iald rfl dX6_countsWays_65) (
  aSa (s_istore (by decide) rfl dX6_countsWays_66) (
  aSa (s_iload rfl dX6_countsWays_68) (
  aSa (s_iconst (v0 := (-1)) (by decide) rfl dX6_countsWays_70) (
  aSa (s_ceq (by decide) rfl dX6_countsWays_71) (
  aSa (s_iload_n rfl rfl dX6_countsWays_74) (
  aSa (s_ifle (by decide) rfl dX6_countsWays_75) (
  aSa (s_aload_n rfl rfl dX6_countsWays_78) (
  aSa (s_getf (T := TX6) rfl (by decide) (by decide) in_X6 q2804 (Or.inl rfl) rfl dX6_countsWays_79) (
  aSa (s_iload rfl dX6_countsWays_82) (
  aSa (s_iald rfl dX6_countsWays_84) (
  aSa (s_aload_n rfl rfl dX6_countsWays_85) (
  aSa (s_getf (T := TX6) rfl (by decide) (by decide) in_X6 q2806 (Or.inl rfl) rfl dX6_countsWays_86) (
  aSa (s_iconst (v0 := 4) (by decide) rfl dX6_countsWays_89) (
  aSa (s_iload_n rfl rfl dX6_countsWays_90) (
  aSa (s_imul rfl dX6_countsWays_91) (
  aSa (s_iload rfl dX6_countsWays_92) (
  aSa (s_iadd rfl dX6_countsWays_94) (
  aSa (s_iald rfl dX6_countsWays_95) (
  aSa (s_iadd rfl dX6_countsWays_96) (
  aSa (s_iload_n rfl rfl dX6_countsWays_97) (
  aSa (s_cne (by decide) rfl dX6_countsWays_98) (
  aSa (s_iload rfl dX6_countsWays_101) (
  aSa (s_aload_n rfl rfl dX6_countsWays_103) (
  aSa (s_getf (T := TX6) rfl (by decide) (by decide) in_X6 q2807 (Or.inl rfl) rfl dX6_countsWays_104) (
  aSa (s_iload rfl dX6_countsWays_107) (
  aSa (s_iald rfl dX6_countsWays_109) (
  aSa (s_iadd rfl dX6_countsWays_110) (
  aSa (s_istore (by decide) rfl dX6_countsWays_111) (
  aSa (s_iinc (by decide) rfl dX6_countsWays_113) (
  aSa (s_goto (n := 0) (by decide) dX6_countsWays_116) (
  aSa (s_aload_n rfl rfl dX6_countsWays_119) (
  aSa (s_getf (T := TX6) rfl (by decide) (by decide) in_X6 q2807 (Or.inl rfl) rfl dX6_countsWays_120) (
  aSa (s_iload_n rfl rfl dX6_countsWays_123) (
  aSa (s_iload rfl dX6_countsWays_124) (
  aSa (s_ldcw q3250 rfl dX6_countsWays_126) (
  aSa (s_cge (by decide) rfl dX6_countsWays_129) (
  aSa (s_iload rfl dX6_countsWays_132) (
  aSa (s_goto (n := 0) (by decide) dX6_countsWays_134) (
  aSa (s_ldcw q3250 rfl dX6_countsWays_137) (
  aSa (s_iast rfl dX6_countsWays_140) (
  aSa (s_iinc (by decide) rfl dX6_countsWays_141) (
  aSa (s_goto (n := 0) (by decide) dX6_countsWays_144) (
  aSa (s_iinc (by decide) rfl dX6_countsWays_147) (
  aSa (s_goto (n := 0) (by decide) dX6_countsWays_150) (
  aSa (s_ret (n := 0) rfl dX6_countsWays_153) (
  aSn)))))))))))))))))))))))))))))))))))))))))))))))))))))))))))))))))))))))))))))))))))))
theorem sn263 : SndL "SlidingtrayModel" "deepen" cX6_deepen 3 (Option.some Jvm.ClassFile.FieldType.int) [] T263 := aSa (s_iload_n rfl rfl dX6_deepen_0) (
  aSa (s_iconst (v0 := 0) (by decide) rfl dX6_deepen_1) (
  aSa (s_iconst (v0 := 4) (by decide) rfl dX6_deepen_2) (
  aSa (s_callS rfl q2954 q2955 q136 q2956 (by decide +kernel) (by decide) aHS0 rfl dX6_deepen_3) (
  aSa (s_ifne (by decide) rfl dX6_deepen_6) (
  aSa (s_aload_n rfl rfl dX6_deepen_9) (
  aSa (s_iconst (v0 := 1) (by decide) rfl dX6_deepen_10) (
  aSa (s_callV (List.forall_mem_cons.mpr ⟨d_V rfl rfl q2957 q2959 qs53 q136 q2960 rfl (by decide +kernel) (by decide) rfl dX6_deepen_11, fun _ h => absurd h List.not_mem_nil⟩) aHS0) (
  aSa (s_iret (n := 0) rfl dX6_deepen_14) (
  aSa (s_aload_n rfl rfl dX6_deepen_15) (
  aSa (s_callV (List.forall_mem_cons.mpr ⟨d_V rfl rfl q3149 q3151 qs80 q136 q3152 rfl (by decide +kernel) (by decide) rfl dX6_deepen_16, fun _ h => absurd h List.not_mem_nil⟩) aHS0) (
  aSa (s_aload_n rfl rfl dX6_deepen_19) (
  aSa (s_iload_n rfl rfl dX6_deepen_20) (
  aSa (s_callV (List.forall_mem_cons.mpr ⟨d_V rfl rfl q3194 q3196 qs90 q136 q3197 rfl (by decide +kernel) (by decide) rfl dX6_deepen_21, fun _ h => absurd h List.not_mem_nil⟩) aHS0) (
  aSa (s_istore_n rfl (by decide) rfl dX6_deepen_24) (
  aSa (s_iload_n rfl rfl dX6_deepen_25) (
  aSa (s_bipush (v0 := (-2)) (by decide) rfl dX6_deepen_26) (
  aSa (s_cne (by decide) rfl dX6_deepen_28) (
  aSa (s_aload_n rfl rfl dX6_deepen_31) (
  aSa (s_iconst (v0 := 2) (by decide) rfl dX6_deepen_32) (
  aSa (s_callV (List.forall_mem_cons.mpr ⟨d_V rfl rfl q2957 q2959 qs53 q136 q2960 rfl (by decide +kernel) (by decide) rfl dX6_deepen_33, fun _ h => absurd h List.not_mem_nil⟩) aHS0) (
  aSa (s_iret (n := 0) rfl dX6_deepen_36) (
  aSa (s_aload_n rfl rfl dX6_deepen_37) (
  aSa (s_callV (List.forall_mem_cons.mpr ⟨d_V rfl rfl q3186 q3188 qs89 q136 q3189 rfl (by decide +kernel) (by decide) rfl dX6_deepen_38, fun _ h => absurd h List.not_mem_nil⟩) aHS0) (
  aSa (s_aload_n rfl rfl dX6_deepen_41) (
  aSa (s_iload_n rfl rfl dX6_deepen_42) (
  aSa (s_callV (List.forall_mem_cons.mpr ⟨d_V rfl rfl q2969 q2971 qs56 q136 q2972 rfl (by decide +kernel) (by decide) rfl dX6_deepen_43, fun _ h => absurd h List.not_mem_nil⟩) aHS0) (
  aSa (s_iret (n := 0) rfl dX6_deepen_46) (
  aSn))))))))))))))))))))))))))))
theorem sn264 : SndL "SlidingtrayModel" "deepens" cX6_deepens 8 (Option.some Jvm.ClassFile.FieldType.int) [] T264 := aSa (s_aload_n rfl rfl dX6_deepens_0) (
  aSa (s_iconst (v0 := 0) (by decide) rfl dX6_deepens_1) (
  aSa (s_putf (T := TX6) (ty0 := tyX6) tyX6_ok nmX6 rfl (by decide) (by decide) in_X6 q2793 (Or.inl rfl) rfl rfl rfl dX6_deepens_2) (
  aSa (s_aload_n rfl rfl dX6_deepens_5) (
  aSa (s_iconst (v0 := 0) (by decide) rfl dX6_deepens_6) (
  aSa (s_callV (List.forall_mem_cons.mpr ⟨d_V rfl rfl q3202 q3204 qs92 q136 q3205 rfl (by decide +kernel) (by decide) rfl dX6_deepens_7, fun _ h => absurd h List.not_mem_nil⟩) aHS0) (
  aSa (s_istore_n rfl (by decide) rfl dX6_deepens_10) (
  aSa (s_iload_n rfl rfl dX6_deepens_11) (
  aSa (s_ldc q2742 rfl dX6_deepens_12) (
  aSa (s_ceq (by decide) rfl dX6_deepens_14) (
  aSa (s_iload_n rfl rfl dX6_deepens_17) (
  aSa (s_iret (n := 0) rfl dX6_deepens_18) (
  aSa (s_aload_n rfl rfl dX6_deepens_19) (
  aSa (s_getf (T := TX6) rfl (by decide) (by decide) in_X6 q2800 (Or.inl rfl) rfl dX6_deepens_20) (
  aSa (s_iconst (v0 := 0) (by decide) rfl dX6_deepens_23) (
  aSa (s_iconst (v0 := 0) (by decide) rfl dX6_deepens_24) (
  aSa (s_iast rfl dX6_deepens_25) (
  aSa (s_aload_n rfl rfl dX6_deepens_26) (
  aSa (s_getf (T := TX6) rfl (by decide) (by decide) in_X6 q2801 (Or.inl rfl) rfl dX6_deepens_27) (
  aSa (s_iconst (v0 := 0) (by decide) rfl dX6_deepens_30) (
  aSa (s_iconst (v0 := 0) (by decide) rfl dX6_deepens_31) (
  aSa (s_iast rfl dX6_deepens_32) (
  aSa (s_aload_n rfl rfl dX6_deepens_33) (
  aSa (s_getf (T := TX6) rfl (by decide) (by decide) in_X6 q2802 (Or.inl rfl) rfl dX6_deepens_34) (
  aSa (s_iconst (v0 := 0) (by decide) rfl dX6_deepens_37) (
  aSa (s_iconst (v0 := (-1)) (by decide) rfl dX6_deepens_38) (
  aSa (s_iast rfl dX6_deepens_39) (
  aSa (s_iconst (v0 := 0) (by decide) rfl dX6_deepens_40) (
  aSa (s_istore_n rfl (by decide) rfl dX6_deepens_41) (
  aSa (s_iload_n rfl rfl dX6_deepens_42) (
  aSa (s_iflt (by decide) rfl dX6_deepens_43) (
  aSa (s_aload_n rfl rfl dX6_deepens_46) (
  aSa (s_getf (T := TX6) rfl (by decide) (by decide) in_X6 q2800 (Or.inl rfl) rfl dX6_deepens_47) (
  aSa (s_iload_n rfl rfl dX6_deepens_50) (
  aSa (s_iald rfl dX6_deepens_51) (
  aSa (s_istore_n rfl (by decide) rfl dX6_deepens_52) (
  aSa (s_iload_n rfl rfl dX6_deepens_53) (
  aSa (s_iconst (v0 := 4) (by decide) rfl dX6_deepens_54) (
  aSa (s_cne (by decide) rfl dX6_deepens_55) (
  aSa (s_iinc (by decide) rfl dX6_deepens_58) (
  aSa (s_iload_n rfl rfl dX6_deepens_61) (
  aSa (s_ifge (by decide) rfl dX6_deepens_62) (
  aSa (s_iconst (v0 := (-1)) (by decide) rfl dX6_deepens_65) (
  aSa (s_goto (n := 0) (by decide) dX6_deepens_66) (
  aSa (s_aload_n rfl rfl dX6_deepens_69) (
  aSa (s_aload_n rfl rfl dX6_deepens_70) (
  aSa (s_getf (T := TX6) rfl (by decide) (by decide) in_X6 q2786 (Or.inl rfl) rfl dX6_deepens_71) (
  aSa (s_iconst (v0 := 3) (by decide) rfl dX6_deepens_74) (
  aSa (s_aload_n rfl rfl dX6_deepens_75) (
  aSa (s_getf (T := TX6) rfl (by decide) (by decide) in_X6 q2788 (Or.inl rfl) rfl dX6_deepens_76) (
  aSa (s_iload_n rfl rfl dX6_deepens_79) (
  aSa (s_iald rfl dX6_deepens_80) (
  aSa (s_isub rfl dX6_deepens_81) (
  aSa (s_callV (List.forall_mem_cons.mpr ⟨d_V rfl rfl q3021 q3023 qs65 q136 q3024 rfl (by decide +kernel) (by decide) rfl dX6_deepens_82, fun _ h => absurd h List.not_mem_nil⟩) aHS0) (
  aSa (s_istore (by decide) rfl dX6_deepens_85) (
  aSa (s_goto (n := 0) (by decide) dX6_deepens_87) (
  aSa (s_aload_n rfl rfl dX6_deepens_90) (
  aSa (s_getf (T := TX6) rfl (by decide) (by decide) in_X6 q2800 (Or.inl rfl) rfl dX6_deepens_91) (
  aSa (s_iload_n rfl rfl dX6_deepens_94) (
  aSa (s_dup2 rfl dX6_deepens_95) (
  aSa (s_iald rfl dX6_deepens_96) (
  aSa (s_iconst (v0 := 1) (by decide) rfl dX6_deepens_97) (
  aSa (s_iadd rfl dX6_deepens_98) (
  aSa (s_iast rfl dX6_deepens_99) (
  aSa (s_aload_n rfl rfl dX6_deepens_100) (
  aSa (s_aload_n rfl rfl dX6_deepens_101) (
  aSa (s_getf (T := TX6) rfl (by decide) (by decide) in_X6 q2786 (Or.inl rfl) rfl dX6_deepens_102) (
  aSa (s_callV (List.forall_mem_cons.mpr ⟨d_V rfl rfl q3012 q3014 qs64 q136 q3015 rfl (by decide +kernel) (by decide) rfl dX6_deepens_105, fun _ h => absurd h List.not_mem_nil⟩) aHS0) (
  aSa (s_istore (by decide) rfl dX6_deepens_108) (
  aSa (s_aload_n rfl rfl dX6_deepens_110) (
  aSa (s_getf (T := TX6) rfl (by decide) (by decide) in_X6 q2745 (Or.inl rfl) rfl dX6_deepens_111) (
  aSa (s_iconst (v0 := 4) (by decide) rfl dX6_deepens_114) (
  aSa (s_iload rfl dX6_deepens_115) (
  aSa (s_imul rfl dX6_deepens_117) (
  aSa (s_iload_n rfl rfl dX6_deepens_118) (
  aSa (s_iadd rfl dX6_deepens_119) (
  aSa (s_iald rfl dX6_deepens_120) (
  aSa (s_istore (by decide) rfl dX6_deepens_121) (
  aSa (s_iload rfl dX6_deepens_123) (
  aSa (s_iconst (v0 := (-1)) (by decide) rfl dX6_deepens_125) (
  aSa (s_ceq (by decide) rfl dX6_deepens_126) (
  aSa (s_iload rfl dX6_deepens_129) (
  aSa (s_aload_n rfl rfl dX6_deepens_131) (
  aSa (s_getf (T := TX6) rfl (by decide) (by decide) in_X6 q2802 (Or.inl rfl) rfl dX6_deepens_132) (
  aSa (s_iload_n rfl rfl dX6_deepens_135) (
  aSa (s_iald rfl dX6_deepens_136) (
  aSa (s_cne (by decide) rfl dX6_deepens_137) (
  aSa (s_goto (n := 0) (by decide) dX6_deepens_140) (
  aSa (s_aload_n rfl rfl dX6_deepens_143) (
  aSa (s_getf (T := TX6) rfl (by decide) (by decide) in_X6 q2801 (Or.inl rfl) rfl dX6_deepens_144) (
  aSa (s_iload_n rfl rfl dX6_deepens_147) (
  aSa (s_iald rfl dX6_deepens_148) (
  aSa (s_aload_n rfl rfl dX6_deepens_149) (
  aSa (s_aload_n rfl rfl dX6_deepens_150) (
  aSa (s_getf (T := TX6) rfl (by decide) (by decide) in_X6 q2786 (Or.inl rfl) rfl dX6_deepens_151) (
  aSa (s_iload_n rfl rfl dX6_deepens_154) (
  aSa (s_callV (List.forall_mem_cons.mpr ⟨d_V rfl rfl q3021 q3023 qs65 q136 q3024 rfl (by decide +kernel) (by decide) rfl dX6_deepens_155, fun _ h => absurd h List.not_mem_nil⟩) aHS0) (
  aSa (s_iadd rfl dX6_deepens_158) (
  aSa (s_istore (by decide) rfl dX6_deepens_159) (
  aSa (s_aload_n rfl rfl dX6_deepens_161) (
  aSa (s_getf (T := TX6) rfl (by decide) (by decide) in_X6 q2788 (Or.inl rfl) rfl dX6_deepens_162) (
  aSa (s_iload_n rfl rfl dX6_deepens_165) (
  aSa (s_iload_n rfl rfl dX6_deepens_166) (
  aSa (s_iast rfl dX6_deepens_167) (
  aSa (s_aload_n rfl rfl dX6_deepens_168) (
  aSa (s_iload rfl dX6_deepens_169) (
  aSa (s_callV (List.forall_mem_cons.mpr ⟨d_V rfl rfl q3202 q3204 qs92 q136 q3205 rfl (by decide +kernel) (by decide) rfl dX6_deepens_171, fun _ h => absurd h List.not_mem_nil⟩) aHS0) (
  aSa (s_istore_n rfl (by decide) rfl dX6_deepens_174) (
  aSa (s_aload_n rfl rfl dX6_deepens_175) (
  aSa (s_getf (T := TX6) rfl (by decide) (by decide) in_X6 q2799 (Or.inl rfl) rfl dX6_deepens_176) (
  aSa (s_ifeq (by decide) rfl dX6_deepens_179) (
  aSa (s_iconst (v0 := (-1)) (by decide) rfl dX6_deepens_182) (
  aSa (s_iret (n := 0) rfl dX6_deepens_183) (
  aSa (s_iload_n rfl rfl dX6_deepens_184) (
  aSa (s_iconst (v0 := (-1)) (by decide) rfl dX6_deepens_185) (
  aSa (s_cne (by decide) rfl dX6_deepens_186) (
  aSa (s_aload_n rfl rfl dX6_deepens_189) (
  aSa (s_aload_n rfl rfl dX6_deepens_190) (
  aSa (s_getf (T := TX6) rfl (by decide) (by decide) in_X6 q2786 (Or.inl rfl) rfl dX6_deepens_191) (
  aSa (s_iconst (v0 := 3) (by decide) rfl dX6_deepens_194) (
  aSa (s_iload_n rfl rfl dX6_deepens_195) (
  aSa (s_isub rfl dX6_deepens_196) (
  aSa (s_callV (List.forall_mem_cons.mpr ⟨d_V rfl rfl q3021 q3023 qs65 q136 q3024 rfl (by decide +kernel) (by decide) rfl dX6_deepens_197, fun _ h => absurd h List.not_mem_nil⟩) aHS0) (
  aSa (s_istore (by decide) rfl dX6_deepens_200) (
  aSa (s_goto (n := 0) (by decide) dX6_deepens_202) (
  aSa (s_iload_n rfl rfl dX6_deepens_205) (
  aSa (s_ldc q2742 rfl dX6_deepens_206) (
  aSa (s_cge (by decide) rfl dX6_deepens_208) (
  aSa (s_aload_n rfl rfl dX6_deepens_211) (
  aSa (s_iload_n rfl rfl dX6_deepens_212) (
  aSa (s_iconst (v0 := 1) (by decide) rfl dX6_deepens_213) (
  aSa (s_iadd rfl dX6_deepens_214) (
  aSa (s_putf (T := TX6) (ty0 := tyX6) tyX6_ok nmX6 rfl (by decide) (by decide) in_X6 q2793 (Or.inl rfl) rfl rfl rfl dX6_deepens_215) (
  aSa (s_iload_n rfl rfl dX6_deepens_218) (
  aSa (s_iret (n := 0) rfl dX6_deepens_219) (
  aSa (s_iinc (by decide) rfl dX6_deepens_220) (
  aSa (s_aload_n rfl rfl dX6_deepens_223) (
  aSa (s_getf (T := TX6) rfl (by decide) (by decide) in_X6 q2800 (Or.inl rfl) rfl dX6_deepens_224) (
  aSa (s_iload_n rfl rfl dX6_deepens_227) (
  aSa (s_iconst (v0 := 0) (by decide) rfl dX6_deepens_228) (
  aSa (s_iast rfl dX6_deepens_229) (
  aSa (s_aload_n rfl rfl dX6_deepens_230) (
  aSa (s_getf (T := TX6) rfl (by decide) (by decide) in_X6 q2801 (Or.inl rfl) rfl dX6_deepens_231) (
  aSa (s_iload_n rfl rfl dX6_deepens_234) (
  aSa (s_iload rfl dX6_deepens_235) (
  aSa (s_iast rfl dX6_deepens_237) (
  aSa (s_aload_n rfl rfl dX6_deepens_238) (
  aSa (s_getf (T := TX6) rfl (by decide) (by decide) in_X6 q2802 (Or.inl rfl) rfl dX6_deepens_239) (
  aSa (s_iload_n rfl rfl dX6_deepens_242) (
  aSa (s_iload rfl dX6_deepens_243) (
  aSa (s_iast rfl dX6_deepens_245) (
  aSa (s_goto (n := 0) (by decide) dX6_deepens_246) (
  aSa (s_iconst (v0 := (-1)) (by decide) rfl dX6_deepens_249) (
  aSa (s_iret (n := 0) rfl dX6_deepens_250) (
  aSn))))))))))))))))))))))))))))))))))))))))))))))))))))))))))))))))))))))))))))))))))))))))))))))))))))))))))))))))))))))))))))))))))))))))))))))))))))))))))
theorem sn265 : SndL "SlidingtrayModel" "denies" cX6_denies 2 (Option.some Jvm.ClassFile.FieldType.boolean) [] T265 := aSa (s_aload_n rfl rfl dX6_denies_0) (
  aSa (s_iload_n rfl rfl dX6_denies_1) (
  aSa (s_putf (T := TX6) (ty0 := tyX6) tyX6_ok nmX6 rfl (by decide) (by decide) in_X6 q2751 (Or.inl rfl) rfl rfl rfl dX6_denies_2) (
  aSa (s_iconst (v0 := 0) (by decide) rfl dX6_denies_5) (
  aSa (s_iret (n := 0) rfl dX6_denies_6) (
  aSn)))))
theorem sn266 : SndL "SlidingtrayModel" "directionOf" cX6_directionOf 1 (Option.some Jvm.ClassFile.FieldType.int) [] T266 := aSa (s_iload_n rfl rfl dX6_directionOf_0) (
  aSa (s_bipush (v0 := 117) (by decide) rfl dX6_directionOf_1) (
  aSa (s_cne (by decide) rfl dX6_directionOf_3) (
  aSa (s_iconst (v0 := 0) (by decide) rfl dX6_directionOf_6) (
  aSa (s_goto (n := 0) (by decide) dX6_directionOf_7) (
  aSa (s_iload_n rfl rfl dX6_directionOf_10) (
  aSa (s_bipush (v0 := 108) (by decide) rfl dX6_directionOf_11) (
  aSa (s_cne (by decide) rfl dX6_directionOf_13) (
  aSa (s_iconst (v0 := 1) (by decide) rfl dX6_directionOf_16) (
  aSa (s_goto (n := 0) (by decide) dX6_directionOf_17) (
  aSa (s_iload_n rfl rfl dX6_directionOf_20) (
  aSa (s_bipush (v0 := 114) (by decide) rfl dX6_directionOf_21) (
  aSa (s_cne (by decide) rfl dX6_directionOf_23) (
  aSa (s_iconst (v0 := 2) (by decide) rfl dX6_directionOf_26) (
  aSa (s_goto (n := 0) (by decide) dX6_directionOf_27) (
  aSa (s_iload_n rfl rfl dX6_directionOf_30) (
  aSa (s_bipush (v0 := 100) (by decide) rfl dX6_directionOf_31) (
  aSa (s_cne (by decide) rfl dX6_directionOf_33) (
  aSa (s_iconst (v0 := 3) (by decide) rfl dX6_directionOf_36) (
  aSa (s_goto (n := 0) (by decide) dX6_directionOf_37) (
  aSa (s_iconst (v0 := (-1)) (by decide) rfl dX6_directionOf_40) (
  aSa (s_iret (n := 0) rfl dX6_directionOf_41) (
  aSn))))))))))))))))))))))
theorem sn267 : SndL "SlidingtrayModel" "displaced" cX6_displaced 5 (Option.some Jvm.ClassFile.FieldType.int) [] T267 := aSa (s_iconst (v0 := 0) (by decide) rfl dX6_displaced_0) (
  aSa (s_istore_n rfl (by decide) rfl dX6_displaced_1) (
  aSa (s_iconst (v0 := 0) (by decide) rfl dX6_displaced_2) (
  aSa (s_istore_n rfl (by decide) rfl dX6_displaced_3) (
  aSa (s_iload_n rfl rfl dX6_displaced_4) (
  aSa (s_aload_n rfl rfl dX6_displaced_5) (
  aSa (s_getf (T := TX6) rfl (by decide) (by decide) in_X6 q2750 (Or.inl rfl) rfl dX6_displaced_6) (
  aSa (s_cge (by decide) rfl dX6_displaced_9) (
  aSa (s_aload_n rfl rfl dX6_displaced_12) (
  aSa (s_iload_n rfl rfl dX6_displaced_13) (
  aSa (s_iald rfl dX6_displaced_14) (
  aSa (s_istore (by decide) rfl dX6_displaced_15) (
  aSa (s_iload_n rfl rfl dX6_displaced_17) (
  aSa (s_iload rfl dX6_displaced_18) (
  aSa (s_ifle (by decide) rfl dX6_displaced_20) (
  aSa (s_aload_n rfl rfl dX6_displaced_23) (
  aSa (s_getf (T := TX6) rfl (by decide) (by decide) in_X6 q2755 (Or.inl rfl) rfl dX6_displaced_24) (
  aSa (s_iload rfl dX6_displaced_27) (
  aSa (s_zald rfl dX6_displaced_29) (
  aSa (s_ifne (by decide) rfl dX6_displaced_30) (
  aSa (s_aload_n rfl rfl dX6_displaced_33) (
  aSa (s_getf (T := TX6) rfl (by decide) (by decide) in_X6 q2753 (Or.inl rfl) rfl dX6_displaced_34) (
  aSa (s_iload rfl dX6_displaced_37) (
  aSa (s_iald rfl dX6_displaced_39) (
  aSa (s_iload_n rfl rfl dX6_displaced_40) (
  aSa (s_ceq (by decide) rfl dX6_displaced_41) (
  aSa (s_aload_n rfl rfl dX6_displaced_44) (
  aSa (s_getf (T := TX6) rfl (by decide) (by decide) in_X6 q2754 (Or.inl rfl) rfl dX6_displaced_45) (
  aSa (s_iload rfl dX6_displaced_48) (
  aSa (s_iald rfl dX6_displaced_50) (
  aSa (s_goto (n := 0) (by decide) dX6_displaced_51) (
  aSa (s_iconst (v0 := 0) (by decide) rfl dX6_displaced_54) (
  aSa (s_iadd rfl dX6_displaced_55) (
  aSa (s_istore_n rfl (by decide) rfl dX6_displaced_56) (
  aSa (s_iinc (by decide) rfl dX6_displaced_57) (
  aSa (s_goto (n := 0) (by decide) dX6_displaced_60) (
  aSa (s_iload_n rfl rfl dX6_displaced_63) (
  aSa (s_iret (n := 0) rfl dX6_displaced_64) (
  aSn))))))))))))))))))))))))))))))))))))))
theorem sn268 : SndL "SlidingtrayModel" "errors" cX6_errors 7 (Option.some Jvm.ClassFile.FieldType.int) [] T268 := aSa (s_iconst (v0 := 0) (by decide) rfl dX6_errors_0) (
  aSa (s_istore_n rfl (by decide) rfl dX6_errors_1) (
  aSa (s_aload_n rfl rfl dX6_errors_2) (
  aSa (s_aload_n rfl rfl dX6_errors_3) (
  aSa (s_aload_n rfl rfl dX6_errors_4) (
  aSa (s_getf (T := TX6) rfl (by decide) (by decide) in_X6 q2752 (Or.inl rfl) rfl dX6_errors_5) (
  aSa (s_callV (List.forall_mem_cons.mpr ⟨d_V rfl rfl q3029 q3031 qs66 q136 q3032 rfl (by decide +kernel) (by decide) rfl dX6_errors_8, fun _ h => absurd h List.not_mem_nil⟩) aHS0) (
  aSa (s_aload_n rfl rfl dX6_errors_11) (
  aSa (s_getf (T := TX6) rfl (by decide) (by decide) in_X6 q2786 (Or.inl rfl) rfl dX6_errors_12) (
  aSa (s_callV (List.forall_mem_cons.mpr ⟨d_V rfl rfl q3008 q3010 qs63 q136 q3011 rfl (by decide +kernel) (by decide) rfl dX6_errors_15, fun _ h => absurd h List.not_mem_nil⟩) aHS0) (
  aSa (s_iload_n rfl rfl dX6_errors_18) (
  aSa (s_aload_n rfl rfl dX6_errors_19) (
  aSa (s_callV (List.forall_mem_cons.mpr ⟨d_V rfl rfl q3275 q3277 qs100 q136 q3278 rfl (by decide +kernel) (by decide) rfl dX6_errors_20, fun _ h => absurd h List.not_mem_nil⟩) aHS0) (
  aSa (s_ifeq (by decide) rfl dX6_errors_23) (
  aSa (s_iconst (v0 := 0) (by decide) rfl dX6_errors_26) (
  aSa (s_goto (n := 0) (by decide) dX6_errors_27) (
  aSa (s_iconst (v0 := 1) (by decide) rfl dX6_errors_30) (
  aSa (s_iadd rfl dX6_errors_31) (
  aSa (s_istore_n rfl (by decide) rfl dX6_errors_32) (
  aSa (s_iconst (v0 := 0) (by decide) rfl dX6_errors_33) (
  aSa (s_istore_n rfl (by decide) rfl dX6_errors_34) (
  aSa (s_iload_n rfl rfl dX6_errors_35) (
  aSa (s_iconst (v0 := 4) (by decide) rfl dX6_errors_36) (
  aSa (s_cge (by decide) rfl dX6_errors_37) (
  aSa (s_iconst (v0 := 0) (by decide) rfl dX6_errors_40) (
  aSa (s_istore_n rfl (by decide) rfl dX6_errors_41) (
  aSa (s_iload_n rfl rfl dX6_errors_42) (
  aSa (s_iconst (v0 := 4) (by decide) rfl dX6_errors_43) (
  aSa (s_cgt (by decide) rfl dX6_errors_44) (
  aSa (s_aload_n rfl rfl dX6_errors_47) (
  aSa (s_callV (List.forall_mem_cons.mpr ⟨d_V rfl rfl q3149 q3151 qs80 q136 q3152 rfl (by decide +kernel) (by decide) rfl dX6_errors_48, fun _ h => absurd h List.not_mem_nil⟩) aHS0) (
  aSa (s_aload_n rfl rfl dX6_errors_51) (
  aSa (s_aload_n rfl rfl dX6_errors_52) (
  aSa (s_getf (T := TX6) rfl (by decide) (by decide) in_X6 q2786 (Or.inl rfl) rfl dX6_errors_53) (
  aSa (s_iload_n rfl rfl dX6_errors_56) (
  aSa (s_callV (List.forall_mem_cons.mpr ⟨d_V rfl rfl q3121 q3123 qs74 q136 q3124 rfl (by decide +kernel) (by decide) rfl dX6_errors_57, fun _ h => absurd h List.not_mem_nil⟩) aHS0) (
  aSa (s_istore (by decide) rfl dX6_errors_60) (
  aSa (s_aload_n rfl rfl dX6_errors_62) (
  aSa (s_aload_n rfl rfl dX6_errors_63) (
  aSa (s_getf (T := TX6) rfl (by decide) (by decide) in_X6 q2786 (Or.inl rfl) rfl dX6_errors_64) (
  aSa (s_iload_n rfl rfl dX6_errors_67) (
  aSa (s_callV (List.forall_mem_cons.mpr ⟨d_V rfl rfl q3021 q3023 qs65 q136 q3024 rfl (by decide +kernel) (by decide) rfl dX6_errors_68, fun _ h => absurd h List.not_mem_nil⟩) aHS0) (
  aSa (s_istore (by decide) rfl dX6_errors_71) (
  aSa (s_iload_n rfl rfl dX6_errors_73) (
  aSa (s_iload rfl dX6_errors_74) (
  aSa (s_iconst (v0 := (-1)) (by decide) rfl dX6_errors_76) (
  aSa (s_ceq (by decide) rfl dX6_errors_77) (
  aSa (s_iload rfl dX6_errors_80) (
  aSa (s_aload_n rfl rfl dX6_errors_82) (
  aSa (s_aload_n rfl rfl dX6_errors_83) (
  aSa (s_getf (T := TX6) rfl (by decide) (by decide) in_X6 q2786 (Or.inl rfl) rfl dX6_errors_84) (
  aSa (s_iload_n rfl rfl dX6_errors_87) (
  aSa (s_callV (List.forall_mem_cons.mpr ⟨d_V rfl rfl q3121 q3123 qs74 q136 q3124 rfl (by decide +kernel) (by decide) rfl dX6_errors_88, fun _ h => absurd h List.not_mem_nil⟩) aHS0) (
  aSa (s_isub rfl dX6_errors_91) (
  aSa (s_iload rfl dX6_errors_92) (
  aSa (s_cle (by decide) rfl dX6_errors_94) (
  aSa (s_iconst (v0 := 1) (by decide) rfl dX6_errors_97) (
  aSa (s_goto (n := 0) (by decide) dX6_errors_98) (
  aSa (s_iconst (v0 := 0) (by decide) rfl dX6_errors_101) (
  aSa (s_iadd rfl dX6_errors_102) (
  aSa (s_istore_n rfl (by decide) rfl dX6_errors_103) (
  aSa (s_iload rfl dX6_errors_104) (
  aSa (s_iconst (v0 := (-1)) (by decide) rfl dX6_errors_106) (
  aSa (s_cne (by decide) rfl dX6_errors_107) (
  aSa (s_iconst (v0 := (-1)) (by decide) rfl dX6_errors_110) (
  aSa (s_goto (n := 0) (by decide) dX6_errors_111) (
  aSa (s_aload_n rfl rfl dX6_errors_114) (
  aSa (s_aload_n rfl rfl dX6_errors_115) (
  aSa (s_getf (T := TX6) rfl (by decide) (by decide) in_X6 q2786 (Or.inl rfl) rfl dX6_errors_116) (
  aSa (s_iconst (v0 := 3) (by decide) rfl dX6_errors_119) (
  aSa (s_iload_n rfl rfl dX6_errors_120) (
  aSa (s_isub rfl dX6_errors_121) (
  aSa (s_callV (List.forall_mem_cons.mpr ⟨d_V rfl rfl q3021 q3023 qs65 q136 q3024 rfl (by decide +kernel) (by decide) rfl dX6_errors_122, fun _ h => absurd h List.not_mem_nil⟩) aHS0) (
  aSa (s_istore (by decide) rfl dX6_errors_125) (
  aSa (s_iload_n rfl rfl dX6_errors_127) (
  aSa (s_iload rfl dX6_errors_128) (
  aSa (s_iload rfl dX6_errors_130) (
  aSa (s_cne (by decide) rfl dX6_errors_132) (
  aSa (s_aload_n rfl rfl dX6_errors_135) (
  aSa (s_callV (List.forall_mem_cons.mpr ⟨d_V rfl rfl q3275 q3277 qs100 q136 q3278 rfl (by decide +kernel) (by decide) rfl dX6_errors_136, fun _ h => absurd h List.not_mem_nil⟩) aHS0) (
  aSa (s_ifeq (by decide) rfl dX6_errors_139) (
  aSa (s_iconst (v0 := 0) (by decide) rfl dX6_errors_142) (
  aSa (s_goto (n := 0) (by decide) dX6_errors_143) (
  aSa (s_iconst (v0 := 1) (by decide) rfl dX6_errors_146) (
  aSa (s_iadd rfl dX6_errors_147) (
  aSa (s_istore_n rfl (by decide) rfl dX6_errors_148) (
  aSa (s_iinc (by decide) rfl dX6_errors_149) (
  aSa (s_goto (n := 0) (by decide) dX6_errors_152) (
  aSa (s_iinc (by decide) rfl dX6_errors_155) (
  aSa (s_goto (n := 0) (by decide) dX6_errors_158) (
  aSa (s_aload_n rfl rfl dX6_errors_161) (
  aSa (s_getf (T := TX6) rfl (by decide) (by decide) in_X6 q2750 (Or.inl rfl) rfl dX6_errors_162) (
  aSa (s_bipush (v0 := 6) (by decide) rfl dX6_errors_165) (
  aSa (s_cgt (by decide) rfl dX6_errors_167) (
  aSa (s_aload_n rfl rfl dX6_errors_170) (
  aSa (s_callV (List.forall_mem_cons.mpr ⟨d_V rfl rfl q3238 q3240 qs96 q136 q3241 rfl (by decide +kernel) (by decide) rfl dX6_errors_171, fun _ h => absurd h List.not_mem_nil⟩) aHS0) (
  aSa (s_aload_n rfl rfl dX6_errors_174) (
  aSa (s_getf (T := TX6) rfl (by decide) (by decide) in_X6 q2804 (Or.inl rfl) rfl dX6_errors_175) (
  aSa (s_aload_n rfl rfl dX6_errors_178) (
  aSa (s_aload_n rfl rfl dX6_errors_179) (
  aSa (s_getf (T := TX6) rfl (by decide) (by decide) in_X6 q2752 (Or.inl rfl) rfl dX6_errors_180) (
  aSa (s_callV (List.forall_mem_cons.mpr ⟨d_V rfl rfl q3029 q3031 qs66 q136 q3032 rfl (by decide +kernel) (by decide) rfl dX6_errors_183, fun _ h => absurd h List.not_mem_nil⟩) aHS0) (
  aSa (s_l2i rfl dX6_errors_186) (
  aSa (s_iald rfl dX6_errors_187) (
  aSa (s_istore_n rfl (by decide) rfl dX6_errors_188) (
  aSa (s_iload_n rfl rfl dX6_errors_189) (
  aSa (s_ldc q2742 rfl dX6_errors_190) (
  aSa (s_cne (by decide) rfl dX6_errors_192) (
  aSa (s_iconst (v0 := (-1)) (by decide) rfl dX6_errors_195) (
  aSa (s_goto (n := 0) (by decide) dX6_errors_196) (
  aSa (s_iload_n rfl rfl dX6_errors_199) (
  aSa (s_istore_n rfl (by decide) rfl dX6_errors_200) (
  aSa (s_aload_n rfl rfl dX6_errors_201) (
  aSa (s_callV (List.forall_mem_cons.mpr ⟨d_V rfl rfl q3149 q3151 qs80 q136 q3152 rfl (by decide +kernel) (by decide) rfl dX6_errors_202, fun _ h => absurd h List.not_mem_nil⟩) aHS0) (
  aSa (s_aload_n rfl rfl dX6_errors_205) (
  aSa (s_iconst (v0 := 3) (by decide) rfl dX6_errors_206) (
  aSa (s_aload_n rfl rfl dX6_errors_207) (
  aSa (s_getf (T := TX6) rfl (by decide) (by decide) in_X6 q2756 (Or.inl rfl) rfl dX6_errors_208) (
  aSa (s_callV (List.forall_mem_cons.mpr ⟨d_V rfl rfl q3153 q3155 qs81 q136 q3156 rfl (by decide +kernel) (by decide) rfl dX6_errors_211, fun _ h => absurd h List.not_mem_nil⟩) aHS0) (
  aSa (s_istore (by decide) rfl dX6_errors_214) (
  aSa (s_aload_n rfl rfl dX6_errors_216) (
  aSa (s_callV (List.forall_mem_cons.mpr ⟨d_V rfl rfl q3149 q3151 qs80 q136 q3152 rfl (by decide +kernel) (by decide) rfl dX6_errors_217, fun _ h => absurd h List.not_mem_nil⟩) aHS0) (
  aSa (s_aload_n rfl rfl dX6_errors_220) (
  aSa (s_iconst (v0 := 3) (by decide) rfl dX6_errors_221) (
  aSa (s_callV (List.forall_mem_cons.mpr ⟨d_V rfl rfl q3194 q3196 qs90 q136 q3197 rfl (by decide +kernel) (by decide) rfl dX6_errors_222, fun _ h => absurd h List.not_mem_nil⟩) aHS0) (
  aSa (s_istore (by decide) rfl dX6_errors_225) (
  aSa (s_iload_n rfl rfl dX6_errors_227) (
  aSa (s_iload rfl dX6_errors_228) (
  aSa (s_bipush (v0 := (-2)) (by decide) rfl dX6_errors_230) (
  aSa (s_ceq (by decide) rfl dX6_errors_232) (
  aSa (s_iload rfl dX6_errors_235) (
  aSa (s_iload_n rfl rfl dX6_errors_237) (
  aSa (s_cne (by decide) rfl dX6_errors_238) (
  aSa (s_iconst (v0 := 0) (by decide) rfl dX6_errors_241) (
  aSa (s_goto (n := 0) (by decide) dX6_errors_242) (
  aSa (s_iconst (v0 := 1) (by decide) rfl dX6_errors_245) (
  aSa (s_iadd rfl dX6_errors_246) (
  aSa (s_istore_n rfl (by decide) rfl dX6_errors_247) (
  aSa (s_iload_n rfl rfl dX6_errors_248) (
  aSa (s_iload rfl dX6_errors_249) (
  aSa (s_bipush (v0 := (-2)) (by decide) rfl dX6_errors_251) (
  aSa (s_ceq (by decide) rfl dX6_errors_253) (
  aSa (s_iload rfl dX6_errors_256) (
  aSa (s_iload_n rfl rfl dX6_errors_258) (
  aSa (s_cne (by decide) rfl dX6_errors_259) (
  aSa (s_iconst (v0 := 0) (by decide) rfl dX6_errors_262) (
  aSa (s_goto (n := 0) (by decide) dX6_errors_263) (
  aSa (s_iconst (v0 := 1) (by decide) rfl dX6_errors_266) (
  aSa (s_iadd rfl dX6_errors_267) (
  aSa (s_istore_n rfl (by decide) rfl dX6_errors_268) (
  aSa (s_aload_n rfl rfl dX6_errors_269) (
  aSa (s_iload_n rfl rfl dX6_errors_270) (
  aSa (s_callV (List.forall_mem_cons.mpr ⟨d_V rfl rfl q2969 q2971 qs56 q136 q2972 rfl (by decide +kernel) (by decide) rfl dX6_errors_271, fun _ h => absurd h List.not_mem_nil⟩) aHS0) (
  aSa (s_iret (n := 0) rfl dX6_errors_274) (
  aSn))))))))))))))))))))))))))))))))))))))))))))))))))))))))))))))))))))))))))))))))))))))))))))))))))))))))))))))))))))))))))))))))))))))))))))))))))))))))))
theorem sn269 : SndL "SlidingtrayModel" "estimate" cX6_estimate 2 (Option.some Jvm.ClassFile.FieldType.int) [] T269 := aSa (s_iload_n rfl rfl dX6_estimate_0) (
  aSa (s_iconst (v0 := 0) (by decide) rfl dX6_estimate_1) (
  aSa (s_iconst (v0 := 4) (by decide) rfl dX6_estimate_2) (
  aSa (s_callS rfl q2954 q2955 q136 q2956 (by decide +kernel) (by decide) aHS0 rfl dX6_estimate_3) (
  aSa (s_ifeq (by decide) rfl dX6_estimate_6) (
  aSa (s_aload_n rfl rfl dX6_estimate_9) (
  aSa (s_aload_n rfl rfl dX6_estimate_10) (
  aSa (s_aload_n rfl rfl dX6_estimate_11) (
  aSa (s_getf (T := TX6) rfl (by decide) (by decide) in_X6 q2752 (Or.inl rfl) rfl dX6_estimate_12) (
  aSa (s_iload_n rfl rfl dX6_estimate_15) (
  aSa (s_callV (List.forall_mem_cons.mpr ⟨d_V rfl rfl q3121 q3123 qs74 q136 q3124 rfl (by decide +kernel) (by decide) rfl dX6_estimate_16, fun _ h => absurd h List.not_mem_nil⟩) aHS0) (
  aSa (s_callV (List.forall_mem_cons.mpr ⟨d_V rfl rfl q2969 q2971 qs56 q136 q2972 rfl (by decide +kernel) (by decide) rfl dX6_estimate_19, fun _ h => absurd h List.not_mem_nil⟩) aHS0) (
  aSa (s_goto (n := 0) (by decide) dX6_estimate_22) (
  aSa (s_aload_n rfl rfl dX6_estimate_25) (
  aSa (s_iconst (v0 := 1) (by decide) rfl dX6_estimate_26) (
  aSa (s_callV (List.forall_mem_cons.mpr ⟨d_V rfl rfl q2957 q2959 qs53 q136 q2960 rfl (by decide +kernel) (by decide) rfl dX6_estimate_27, fun _ h => absurd h List.not_mem_nil⟩) aHS0) (
  aSa (s_iret (n := 0) rfl dX6_estimate_30) (
  aSn)))))))))))))))))
theorem sn270 : SndL "SlidingtrayModel" "estimates" cX6_estimates 3 (Option.some Jvm.ClassFile.FieldType.int) [] T270 := aSa (s_iload_n rfl rfl dX6_estimates_0) (
  aSa (s_tsw (n := 0) dX6_estimates_1 (by decide) (by decide)) (
  aSa (s_iconst (v0 := 0) (by decide) rfl dX6_estimates_32) (
  aSa (s_iret (n := 0) rfl dX6_estimates_33) (
  aSa (s_aload_n rfl rfl dX6_estimates_34) (
  aSa (s_aload_n rfl rfl dX6_estimates_35) (
  aSa (s_callV (List.forall_mem_cons.mpr ⟨d_V rfl rfl q3125 q3127 qs75 q136 q3128 rfl (by decide +kernel) (by decide) rfl dX6_estimates_36, fun _ h => absurd h List.not_mem_nil⟩) aHS0) (
  aSa (s_iret (n := 0) rfl dX6_estimates_39) (
  aSa (s_aload_n rfl rfl dX6_estimates_40) (
  aSa (s_aload_n rfl rfl dX6_estimates_41) (
  aSa (s_callV (List.forall_mem_cons.mpr ⟨d_V rfl rfl q3129 q3131 qs76 q136 q3132 rfl (by decide +kernel) (by decide) rfl dX6_estimates_42, fun _ h => absurd h List.not_mem_nil⟩) aHS0) (
  aSa (s_iret (n := 0) rfl dX6_estimates_45) (
  aSa (s_aload_n rfl rfl dX6_estimates_46) (
  aSa (s_aload_n rfl rfl dX6_estimates_47) (
  aSa (s_callV (List.forall_mem_cons.mpr ⟨d_V rfl rfl q3133 q3135 qs77 q136 q3136 rfl (by decide +kernel) (by decide) rfl dX6_estimates_48, fun _ h => absurd h List.not_mem_nil⟩) aHS0) (
  aSa (s_iret (n := 0) rfl dX6_estimates_51) (
  aSa (s_aload_n rfl rfl dX6_estimates_52) (
  aSa (s_aload_n rfl rfl dX6_estimates_53) (
  aSa (s_callV (List.forall_mem_cons.mpr ⟨d_V rfl rfl q3141 q3143 qs79 q136 q3144 rfl (by decide +kernel) (by decide) rfl dX6_estimates_54, fun _ h => absurd h List.not_mem_nil⟩) aHS0) (
  aSa (s_iret (n := 0) rfl dX6_estimates_57) (
  aSn))))))))))))))))))))
theorem sn271 : SndL "SlidingtrayModel" "far" cX6_far 8 (Option.some Jvm.ClassFile.FieldType.int) [] T271 := aSa (s_iload_n rfl rfl dX6_far_0) (
  aSa (s_iconst (v0 := 0) (by decide) rfl dX6_far_1) (
  aSa (s_iconst (v0 := 5) (by decide) rfl dX6_far_2) (
  aSa (s_callS rfl q2954 q2955 q136 q2956 (by decide +kernel) (by decide) aHS0 rfl dX6_far_3) (
  aSa (s_ifne (by decide) rfl dX6_far_6) (
  aSa (s_aload_n rfl rfl dX6_far_9) (
  aSa (s_iconst (v0 := 1) (by decide) rfl dX6_far_10) (
  aSa (s_callV (List.forall_mem_cons.mpr ⟨d_V rfl rfl q2957 q2959 qs53 q136 q2960 rfl (by decide +kernel) (by decide) rfl dX6_far_11, fun _ h => absurd h List.not_mem_nil⟩) aHS0) (
  aSa (s_iret (n := 0) rfl dX6_far_14) (
  aSa (s_aload_n rfl rfl dX6_far_15) (
  aSa (s_getf (T := TX6) rfl (by decide) (by decide) in_X6 q2750 (Or.inl rfl) rfl dX6_far_16) (
  aSa (s_bipush (v0 := 6) (by decide) rfl dX6_far_19) (
  aSa (s_cle (by decide) rfl dX6_far_21) (
  aSa (s_aload_n rfl rfl dX6_far_24) (
  aSa (s_iconst (v0 := 2) (by decide) rfl dX6_far_25) (
  aSa (s_callV (List.forall_mem_cons.mpr ⟨d_V rfl rfl q2957 q2959 qs53 q136 q2960 rfl (by decide +kernel) (by decide) rfl dX6_far_26, fun _ h => absurd h List.not_mem_nil⟩) aHS0) (
  aSa (s_iret (n := 0) rfl dX6_far_29) (
  aSa (s_aload_n rfl rfl dX6_far_30) (
  aSa (s_callV (List.forall_mem_cons.mpr ⟨d_V rfl rfl q3238 q3240 qs96 q136 q3241 rfl (by decide +kernel) (by decide) rfl dX6_far_31, fun _ h => absurd h List.not_mem_nil⟩) aHS0) (
  aSa (s_aload_n rfl rfl dX6_far_34) (
  aSa (s_aload_n rfl rfl dX6_far_35) (
  aSa (s_getf (T := TX6) rfl (by decide) (by decide) in_X6 q2752 (Or.inl rfl) rfl dX6_far_36) (
  aSa (s_callV (List.forall_mem_cons.mpr ⟨d_V rfl rfl q3029 q3031 qs66 q136 q3032 rfl (by decide +kernel) (by decide) rfl dX6_far_39, fun _ h => absurd h List.not_mem_nil⟩) aHS0) (
  aSa (s_l2i rfl dX6_far_42) (
  aSa (s_istore_n rfl (by decide) rfl dX6_far_43) (
  aSa (s_iload_n rfl rfl dX6_far_44) (
  aSa (s_iconst (v0 := 4) (by decide) rfl dX6_far_45) (
  aSa (s_cne (by decide) rfl dX6_far_46) (
  aSa (s_aload_n rfl rfl dX6_far_49) (
  aSa (s_aload_n rfl rfl dX6_far_50) (
  aSa (s_getf (T := TX6) rfl (by decide) (by decide) in_X6 q2804 (Or.inl rfl) rfl dX6_far_51) (
  aSa (s_iload_n rfl rfl dX6_far_54) (
  aSa (s_iald rfl dX6_far_55) (
  aSa (s_ldc q2742 rfl dX6_far_56) (
  aSa (s_cne (by decide) rfl dX6_far_58) (
  aSa (s_iconst (v0 := (-1)) (by decide) rfl dX6_far_61) (
  aSa (s_goto (n := 0) (by decide) dX6_far_62) (
  aSa (s_aload_n rfl rfl dX6_far_65) (
  aSa (s_getf (T := TX6) rfl (by decide) (by decide) in_X6 q2804 (Or.inl rfl) rfl dX6_far_66) (
  aSa (s_iload_n rfl rfl dX6_far_69) (
  aSa (s_iald rfl dX6_far_70) (
  aSa (s_callV (List.forall_mem_cons.mpr ⟨d_V rfl rfl q2969 q2971 qs56 q136 q2972 rfl (by decide +kernel) (by decide) rfl dX6_far_71, fun _ h => absurd h List.not_mem_nil⟩) aHS0) (
  aSa (s_iret (n := 0) rfl dX6_far_74) (
  aSa (s_iload_n rfl rfl dX6_far_75) (
  aSa (s_iconst (v0 := 5) (by decide) rfl dX6_far_76) (
  aSa (s_cne (by decide) rfl dX6_far_77) (
  aSa (s_aload_n rfl rfl dX6_far_80) (
  aSa (s_callV (List.forall_mem_cons.mpr ⟨d_V rfl rfl q3242 q3244 qs97 q136 q3245 rfl (by decide +kernel) (by decide) rfl dX6_far_81, fun _ h => absurd h List.not_mem_nil⟩) aHS0) (
  aSa (s_aload_n rfl rfl dX6_far_84) (
  aSa (s_aload_n rfl rfl dX6_far_85) (
  aSa (s_getf (T := TX6) rfl (by decide) (by decide) in_X6 q2804 (Or.inl rfl) rfl dX6_far_86) (
  aSa (s_iload_n rfl rfl dX6_far_89) (
  aSa (s_iald rfl dX6_far_90) (
  aSa (s_ldc q2742 rfl dX6_far_91) (
  aSa (s_cne (by decide) rfl dX6_far_93) (
  aSa (s_iconst (v0 := 0) (by decide) rfl dX6_far_96) (
  aSa (s_goto (n := 0) (by decide) dX6_far_97) (
  aSa (s_aload_n rfl rfl dX6_far_100) (
  aSa (s_getf (T := TX6) rfl (by decide) (by decide) in_X6 q2807 (Or.inl rfl) rfl dX6_far_101) (
  aSa (s_iload_n rfl rfl dX6_far_104) (
  aSa (s_iald rfl dX6_far_105) (
  aSa (s_callV (List.forall_mem_cons.mpr ⟨d_V rfl rfl q2969 q2971 qs56 q136 q2972 rfl (by decide +kernel) (by decide) rfl dX6_far_106, fun _ h => absurd h List.not_mem_nil⟩) aHS0) (
  aSa (s_iret (n := 0) rfl dX6_far_109) (
  aSa (s_aload_n rfl rfl dX6_far_110) (
  aSa (s_callV (List.forall_mem_cons.mpr ⟨d_V rfl rfl q3246 q3248 qs98 q136 q3249 rfl (by decide +kernel) (by decide) rfl dX6_far_111, fun _ h => absurd h List.not_mem_nil⟩) aHS0) (
  aSa (s_istore_n rfl (by decide) rfl dX6_far_114) (
  aSa (s_iconst (v0 := 0) (by decide) rfl dX6_far_115) (
  aSa (s_istore (by decide) rfl dX6_far_116) (
  aSa (s_iconst (v0 := 0) (by decide) rfl dX6_far_118) (
  aSa (s_istore (by decide) rfl dX6_far_119) (
  aSa (s_iconst (v0 := (-1)) (by decide) rfl dX6_far_121) (
  aSa (s_istore (by decide) rfl dX6_far_122) (
  aSa (s_iconst (v0 := 0) (by decide) rfl dX6_far_124) (
  aSa (s_istore (by decide) rfl dX6_far_125) (
  aSa (s_iload rfl dX6_far_127) (
  aSa (s_aload_n rfl rfl dX6_far_129) (
  aSa (s_getf (T := TX6) rfl (by decide) (by decide) in_X6 q2808 (Or.inl rfl) rfl dX6_far_130) (
  aSa (s_cge (by decide) rfl dX6_far_133) (
  aSa (s_iload rfl dX6_far_136) (
  aSa (s_aload_n rfl rfl dX6_far_138) (
  aSa (s_getf (T := TX6) rfl (by decide) (by decide) in_X6 q2804 (Or.inl rfl) rfl dX6_far_139) (
  aSa (s_iload rfl dX6_far_142) (
  aSa (s_iald rfl dX6_far_144) (
  aSa (s_ldc q2742 rfl dX6_far_145) (
  aSa (s_cge (by decide) rfl dX6_far_147) (
  aSa (s_iconst (v0 := 1) (by decide) rfl dX6_far_150) (
  aSa (s_goto (n := 0) (by decide) dX6_far_151) (
  aSa (s_iconst (v0 := 0) (by decide) rfl dX6_far_154) (
  aSa (s_iadd rfl dX6_far_155) (
  aSa (s_istore (by decide) rfl dX6_far_156) (
  aSa (s_aload_n rfl rfl dX6_far_158) (
  aSa (s_getf (T := TX6) rfl (by decide) (by decide) in_X6 q2804 (Or.inl rfl) rfl dX6_far_159) (
  aSa (s_iload rfl dX6_far_162) (
  aSa (s_iald rfl dX6_far_164) (
  aSa (s_iload_n rfl rfl dX6_far_165) (
  aSa (s_cne (by decide) rfl dX6_far_166) (
  aSa (s_iinc (by decide) rfl dX6_far_169) (
  aSa (s_iload rfl dX6_far_172) (
  aSa (s_iconst (v0 := (-1)) (by decide) rfl dX6_far_174) (
  aSa (s_cne (by decide) rfl dX6_far_175) (
  aSa (s_iload rfl dX6_far_178) (
  aSa (s_goto (n := 0) (by decide) dX6_far_180) (
  aSa (s_iload rfl dX6_far_183) (
  aSa (s_istore (by decide) rfl dX6_far_185) (
  aSa (s_iinc (by decide) rfl dX6_far_187) (
  aSa (s_goto (n := 0) (by decide) dX6_far_190) (
  aSa (s_aload_n rfl rfl dX6_far_193) (
  aSa (s_iload_n rfl rfl dX6_far_194) (
  aSa (s_ifne (by decide) rfl dX6_far_195) (
  aSa (s_iload rfl dX6_far_198) (
  aSa (s_goto (n := 0) (by decide) dX6_far_200) (
  aSa (s_iload_n rfl rfl dX6_far_203) (
  aSa (s_iconst (v0 := 1) (by decide) rfl dX6_far_204) (
  aSa (s_cne (by decide) rfl dX6_far_205) (
  aSa (s_iload_n rfl rfl dX6_far_208) (
  aSa (s_goto (n := 0) (by decide) dX6_far_209) (
  aSa (s_iload_n rfl rfl dX6_far_212) (
  aSa (s_iconst (v0 := 2) (by decide) rfl dX6_far_213) (
  aSa (s_cne (by decide) rfl dX6_far_214) (
  aSa (s_iload rfl dX6_far_217) (
  aSa (s_goto (n := 0) (by decide) dX6_far_219) (
  aSa (s_iload rfl dX6_far_222) (
  aSa (s_callV (List.forall_mem_cons.mpr ⟨d_V rfl rfl q2969 q2971 qs56 q136 q2972 rfl (by decide +kernel) (by decide) rfl dX6_far_224, fun _ h => absurd h List.not_mem_nil⟩) aHS0) (
  aSa (s_iret (n := 0) rfl dX6_far_227) (
  aSn))))))))))))))))))))))))))))))))))))))))))))))))))))))))))))))))))))))))))))))))))))))))))))))))))))))))))))))))))))))))))))
theorem sn272 : SndL "SlidingtrayModel" "farthest" cX6_farthest 3 (Option.some Jvm.ClassFile.FieldType.int) [] T272 := aSa (s_iconst (v0 := 0) (by decide) rfl dX6_farthest_0) (
  aSa (s_istore_n rfl (by decide) rfl dX6_farthest_1) (
  aSa (s_iconst (v0 := 0) (by decide) rfl dX6_farthest_2) (
  aSa (s_istore_n rfl (by decide) rfl dX6_farthest_3) (
  aSa (s_iload_n rfl rfl dX6_farthest_4) (
  aSa (s_aload_n rfl rfl dX6_farthest_5) (
  aSa (s_getf (T := TX6) rfl (by decide) (by decide) in_X6 q2808 (Or.inl rfl) rfl dX6_farthest_6) (
  aSa (s_cge (by decide) rfl dX6_farthest_9) (
  aSa (s_aload_n rfl rfl dX6_farthest_12) (
  aSa (s_getf (T := TX6) rfl (by decide) (by decide) in_X6 q2804 (Or.inl rfl) rfl dX6_farthest_13) (
  aSa (s_iload_n rfl rfl dX6_farthest_16) (
  aSa (s_iald rfl dX6_farthest_17) (
  aSa (s_ldc q2742 rfl dX6_farthest_18) (
  aSa (s_cge (by decide) rfl dX6_farthest_20) (
  aSa (s_aload_n rfl rfl dX6_farthest_23) (
  aSa (s_getf (T := TX6) rfl (by decide) (by decide) in_X6 q2804 (Or.inl rfl) rfl dX6_farthest_24) (
  aSa (s_iload_n rfl rfl dX6_farthest_27) (
  aSa (s_iald rfl dX6_farthest_28) (
  aSa (s_iload_n rfl rfl dX6_farthest_29) (
  aSa (s_cle (by decide) rfl dX6_farthest_30) (
  aSa (s_aload_n rfl rfl dX6_farthest_33) (
  aSa (s_getf (T := TX6) rfl (by decide) (by decide) in_X6 q2804 (Or.inl rfl) rfl dX6_farthest_34) (
  aSa (s_iload_n rfl rfl dX6_farthest_37) (
  aSa (s_iald rfl dX6_farthest_38) (
  aSa (s_goto (n := 0) (by decide) dX6_farthest_39) (
  aSa (s_iload_n rfl rfl dX6_farthest_42) (
  aSa (s_istore_n rfl (by decide) rfl dX6_farthest_43) (
  aSa (s_iinc (by decide) rfl dX6_farthest_44) (
  aSa (s_goto (n := 0) (by decide) dX6_farthest_47) (
  aSa (s_iload_n rfl rfl dX6_farthest_50) (
  aSa (s_iret (n := 0) rfl dX6_farthest_51) (
  aSn)))))))))))))))))))))))))))))))
theorem sn273 : SndL "SlidingtrayModel" "fills" cX6_fills 9 (Option.some Jvm.ClassFile.FieldType.int) [] T273 := aSa (s_bipush (v0 := 9) (by decide) rfl dX6_fills_0) (
  aSa (s_istore_n rfl (by decide) rfl dX6_fills_2) (
  aSa (s_iconst (v0 := 0) (by decide) rfl dX6_fills_3) (
  aSa (s_istore_n rfl (by decide) rfl dX6_fills_4) (
  aSa (s_iload_n rfl rfl dX6_fills_5) (
  aSa (s_aload_n rfl rfl dX6_fills_6) (
  aSa (s_getf (T := TX6) rfl (by decide) (by decide) in_X6 q2772 (Or.inl rfl) rfl dX6_fills_7) (
  aSa (s_iload_n rfl rfl dX6_fills_10) (
  aSa (s_iald rfl dX6_fills_11) (
  aSa (s_cge (by decide) rfl dX6_fills_12) (
  aSa (s_iload_n rfl rfl dX6_fills_15) (
  aSa (s_bipush (v0 := 9) (by decide) rfl dX6_fills_16) (
  aSa (s_imul rfl dX6_fills_18) (
  aSa (s_istore_n rfl (by decide) rfl dX6_fills_19) (
  aSa (s_iinc (by decide) rfl dX6_fills_20) (
  aSa (s_goto (n := 0) (by decide) dX6_fills_23) (
  aSa (s_sipush (v0 := 6561) (by decide) rfl dX6_fills_26) (
  aSa (s_iload_n rfl rfl dX6_fills_29) (
  aSa (s_imul rfl dX6_fills_30) (
  aSa (s_istore_n rfl (by decide) rfl dX6_fills_31) (
  aSa (s_iconst (v0 := 0) (by decide) rfl dX6_fills_32) (
  aSa (s_istore (by decide) rfl dX6_fills_33) (
  aSa (s_iload rfl dX6_fills_35) (
  aSa (s_iload_n rfl rfl dX6_fills_37) (
  aSa (s_cge (by decide) rfl dX6_fills_38) (
  aSa (s_aload_n rfl rfl dX6_fills_41) (
  aSa (s_getf (T := TX6) rfl (by decide) (by decide) in_X6 q2773 (Or.inl rfl) rfl dX6_fills_42) (
  aSa (s_iload_n rfl rfl dX6_fills_45) (
  aSa (s_iload rfl dX6_fills_46) (
  aSa (s_iadd rfl dX6_fills_48) (
  aSa (s_aload_n rfl rfl dX6_fills_49) (
  aSa (s_iload_n rfl rfl dX6_fills_50) (
  aSa (s_iload rfl dX6_fills_51) (
  aSa (s_callV (List.forall_mem_cons.mpr ⟨d_V rfl rfl q2984 q2986 qs58 q136 q2987 rfl (by decide +kernel) (by decide) rfl dX6_fills_53, fun _ h => absurd h List.not_mem_nil⟩) aHS0) (
  aSa (s_ifeq (by decide) rfl dX6_fills_56) (
  aSa (s_aload_n rfl rfl dX6_fills_59) (
  aSa (s_iload_n rfl rfl dX6_fills_60) (
  aSa (s_callV (List.forall_mem_cons.mpr ⟨d_V rfl rfl q2988 q2990 qs59 q136 q2991 rfl (by decide +kernel) (by decide) rfl dX6_fills_61, fun _ h => absurd h List.not_mem_nil⟩) aHS0) (
  aSa (s_ifeq (by decide) rfl dX6_fills_64) (
  aSa (s_iconst (v0 := 0) (by decide) rfl dX6_fills_67) (
  aSa (s_goto (n := 0) (by decide) dX6_fills_68) (
  aSa (s_ldc q2742 rfl dX6_fills_71) (
  aSa (s_iast rfl dX6_fills_73) (
  aSa (s_iinc (by decide) rfl dX6_fills_74) (
  aSa (s_goto (n := 0) (by decide) dX6_fills_77) (
  aSa (s_iconst (v0 := 1) (by decide) rfl dX6_fills_80) (
  aSa (s_istore (by decide) rfl dX6_fills_81) (
  aSa (s_iload rfl dX6_fills_83) (
  aSa (s_ifeq (by decide) rfl dX6_fills_85) (
  aSa (s_iconst (v0 := 0) (by decide) rfl dX6_fills_88) (
  aSa (s_istore (by decide) rfl dX6_fills_89) (
  aSa (s_iconst (v0 := 0) (by decide) rfl dX6_fills_91) (
  aSa (s_istore (by decide) rfl dX6_fills_92) (
  aSa (s_iload rfl dX6_fills_94) (
  aSa (s_iload_n rfl rfl dX6_fills_96) (
  aSa (s_cge (by decide) rfl dX6_fills_97) (
  aSa (s_iconst (v0 := 0) (by decide) rfl dX6_fills_100) (
  aSa (s_istore (by decide) rfl dX6_fills_101) (
  aSa (s_iload rfl dX6_fills_103) (
  aSa (s_iconst (v0 := 4) (by decide) rfl dX6_fills_105) (
  aSa (s_cge (by decide) rfl dX6_fills_106) (
  aSa (s_aload_n rfl rfl dX6_fills_109) (
  aSa (s_iload_n rfl rfl dX6_fills_110) (
  aSa (s_iload rfl dX6_fills_111) (
  aSa (s_callV (List.forall_mem_cons.mpr ⟨d_V rfl rfl q2984 q2986 qs58 q136 q2987 rfl (by decide +kernel) (by decide) rfl dX6_fills_113, fun _ h => absurd h List.not_mem_nil⟩) aHS0) (
  aSa (s_ifeq (by decide) rfl dX6_fills_116) (
  aSa (s_aload_n rfl rfl dX6_fills_119) (
  aSa (s_iload_n rfl rfl dX6_fills_120) (
  aSa (s_iload rfl dX6_fills_121) (
  aSa (s_callV (List.forall_mem_cons.mpr ⟨d_V rfl rfl q2992 q2994 qs60 q136 q2995 rfl (by decide +kernel) (by decide) rfl dX6_fills_123, fun _ h => absurd h List.not_mem_nil⟩) aHS0) (
  aSa (s_istore (by decide) rfl dX6_fills_126) (
  aSa (s_iload rfl dX6_fills_128) (
  aSa (s_iconst (v0 := (-1)) (by decide) rfl dX6_fills_130) (
  aSa (s_cne (by decide) rfl dX6_fills_131) (
  aSa (s_ldc q2742 rfl dX6_fills_134) (
  aSa (s_goto (n := 0) (by decide) dX6_fills_136) (
  aSa (s_aload_n rfl rfl dX6_fills_139) (
  aSa (s_getf (T := TX6) rfl (by decide) (by decide) in_X6 q2773 (Or.inl rfl) rfl dX6_fills_140) (
  aSa (s_iload_n rfl rfl dX6_fills_143) (
  aSa (s_aload_n rfl rfl dX6_fills_144) (
  aSa (s_iload_n rfl rfl dX6_fills_145) (
  aSa (s_callV (List.forall_mem_cons.mpr ⟨d_V rfl rfl q2996 q2998 qs61 q136 q2999 rfl (by decide +kernel) (by decide) rfl dX6_fills_146, fun _ h => absurd h List.not_mem_nil⟩) aHS0) (
  aSa (s_iadd rfl dX6_fills_149) (
  aSa (s_iald rfl dX6_fills_150) (
  aSa (s_istore (by decide) rfl dX6_fills_151) (
  aSa (s_iload rfl dX6_fills_153) (
  aSa (s_ldc q2742 rfl dX6_fills_155) (
  aSa (s_cge (by decide) rfl dX6_fills_157) (
  aSa (s_iload rfl dX6_fills_160) (
  aSa (s_iload rfl dX6_fills_162) (
  aSa (s_iadd rfl dX6_fills_164) (
  aSa (s_aload_n rfl rfl dX6_fills_165) (
  aSa (s_getf (T := TX6) rfl (by decide) (by decide) in_X6 q2773 (Or.inl rfl) rfl dX6_fills_166) (
  aSa (s_iload_n rfl rfl dX6_fills_169) (
  aSa (s_iload rfl dX6_fills_170) (
  aSa (s_iadd rfl dX6_fills_172) (
  aSa (s_iald rfl dX6_fills_173) (
  aSa (s_cge (by decide) rfl dX6_fills_174) (
  aSa (s_aload_n rfl rfl dX6_fills_177) (
  aSa (s_getf (T := TX6) rfl (by decide) (by decide) in_X6 q2773 (Or.inl rfl) rfl dX6_fills_178) (
  aSa (s_iload_n rfl rfl dX6_fills_181) (
  aSa (s_iload rfl dX6_fills_182) (
  aSa (s_iadd rfl dX6_fills_184) (
  aSa (s_iload rfl dX6_fills_185) (
  aSa (s_iload rfl dX6_fills_187) (
  aSa (s_iadd rfl dX6_fills_189) (
  aSa (s_iast rfl dX6_fills_190) (
  aSa (s_iconst (v0 := 1) (by decide) rfl dX6_fills_191) (
  aSa (s_istore (by decide) rfl dX6_fills_192) (
  aSa (s_iinc (by decide) rfl dX6_fills_194) (
  aSa (s_goto (n := 0) (by decide) dX6_fills_197) (
  aSa (s_iinc (by decide) rfl dX6_fills_200) (
  aSa (s_goto (n := 0) (by decide) dX6_fills_203) (
  aSa (s_goto (n := 0) (by decide) dX6_fills_206) (
  aSa (s_iconst (v0 := 0) (by decide) rfl dX6_fills_209) (
  aSa (s_istore (by decide) rfl dX6_fills_210) (
  aSa (s_iconst (v0 := 0) (by decide) rfl dX6_fills_212) (
  aSa (s_istore (by decide) rfl dX6_fills_213) (
  aSa (s_iload rfl dX6_fills_215) (
  aSa (s_iload_n rfl rfl dX6_fills_217) (
  aSa (s_cge (by decide) rfl dX6_fills_218) (
  aSa (s_iload rfl dX6_fills_221) (
  aSa (s_aload_n rfl rfl dX6_fills_223) (
  aSa (s_getf (T := TX6) rfl (by decide) (by decide) in_X6 q2773 (Or.inl rfl) rfl dX6_fills_224) (
  aSa (s_iload_n rfl rfl dX6_fills_227) (
  aSa (s_iload rfl dX6_fills_228) (
  aSa (s_iadd rfl dX6_fills_230) (
  aSa (s_iald rfl dX6_fills_231) (
  aSa (s_ldc q2742 rfl dX6_fills_232) (
  aSa (s_cge (by decide) rfl dX6_fills_234) (
  aSa (s_iconst (v0 := 1) (by decide) rfl dX6_fills_237) (
  aSa (s_goto (n := 0) (by decide) dX6_fills_238) (
  aSa (s_iconst (v0 := 0) (by decide) rfl dX6_fills_241) (
  aSa (s_iadd rfl dX6_fills_242) (
  aSa (s_istore (by decide) rfl dX6_fills_243) (
  aSa (s_iinc (by decide) rfl dX6_fills_245) (
  aSa (s_goto (n := 0) (by decide) dX6_fills_248) (
  aSa (s_iload rfl dX6_fills_251) (
  aSa (s_iret (n := 0) rfl dX6_fills_253) (
  aSn)))))))))))))))))))))))))))))))))))))))))))))))))))))))))))))))))))))))))))))))))))))))))))))))))))))))))))))))))))))))))))))))))))))))))))
theorem sn274 : SndL "SlidingtrayModel" "finds" cX6_finds 9 (Option.some Jvm.ClassFile.FieldType.int) [] T274 := aSa (s_aload_n rfl rfl dX6_finds_0) (
  aSa (s_aload_n rfl rfl dX6_finds_1) (
  aSa (s_getf (T := TX6) rfl (by decide) (by decide) in_X6 q2786 (Or.inl rfl) rfl dX6_finds_2) (
  aSa (s_callV (List.forall_mem_cons.mpr ⟨d_V rfl rfl q3029 q3031 qs66 q136 q3032 rfl (by decide +kernel) (by decide) rfl dX6_finds_5, fun _ h => absurd h List.not_mem_nil⟩) aHS0) (
  aSa (s_lstore (by decide) rfl dX6_finds_8) (
  aSa (s_aload_n rfl rfl dX6_finds_10) (
  aSa (s_lload rfl dX6_finds_11) (
  aSa (s_callV (List.forall_mem_cons.mpr ⟨d_V rfl rfl q3165 q3167 qs84 q136 q3168 rfl (by decide +kernel) (by decide) rfl dX6_finds_13, fun _ h => absurd h List.not_mem_nil⟩) aHS0) (
  aSa (s_istore (by decide) rfl dX6_finds_16) (
  aSa (s_aload_n rfl rfl dX6_finds_18) (
  aSa (s_getf (T := TX6) rfl (by decide) (by decide) in_X6 q2782 (Or.inl rfl) rfl dX6_finds_19) (
  aSa (s_iload rfl dX6_finds_22) (
  aSa (s_iald rfl dX6_finds_24) (
  aSa (s_ifne (by decide) rfl dX6_finds_25) (
  aSa (s_aload_n rfl rfl dX6_finds_28) (
  aSa (s_getf (T := TX6) rfl (by decide) (by decide) in_X6 q2783 (Or.inl rfl) rfl dX6_finds_29) (
  aSa (s_aload_n rfl rfl dX6_finds_32) (
  aSa (s_getf (T := TX6) rfl (by decide) (by decide) in_X6 q2785 (Or.inl rfl) rfl dX6_finds_33) (
  aSa (s_lload rfl dX6_finds_36) (
  aSa (s_last rfl dX6_finds_38) (
  aSa (s_iconst (v0 := 0) (by decide) rfl dX6_finds_39) (
  aSa (s_istore (by decide) rfl dX6_finds_40) (
  aSa (s_iload rfl dX6_finds_42) (
  aSa (s_aload_n rfl rfl dX6_finds_44) (
  aSa (s_getf (T := TX6) rfl (by decide) (by decide) in_X6 q2750 (Or.inl rfl) rfl dX6_finds_45) (
  aSa (s_cge (by decide) rfl dX6_finds_48) (
  aSa (s_aload_n rfl rfl dX6_finds_51) (
  aSa (s_getf (T := TX6) rfl (by decide) (by decide) in_X6 q2777 (Or.inl rfl) rfl dX6_finds_52) (
  aSa (s_bipush (v0 := 16) (by decide) rfl dX6_finds_55) (
  aSa (s_aload_n rfl rfl dX6_finds_57) (
  aSa (s_getf (T := TX6) rfl (by decide) (by decide) in_X6 q2785 (Or.inl rfl) rfl dX6_finds_58) (
  aSa (s_imul rfl dX6_finds_61) (
  aSa (s_iload rfl dX6_finds_62) (
  aSa (s_iadd rfl dX6_finds_64) (
  aSa (s_aload_n rfl rfl dX6_finds_65) (
  aSa (s_getf (T := TX6) rfl (by decide) (by decide) in_X6 q2786 (Or.inl rfl) rfl dX6_finds_66) (
  aSa (s_iload rfl dX6_finds_69) (
  aSa (s_iald rfl dX6_finds_71) (
  aSa (s_iast rfl dX6_finds_72) (
  aSa (s_iinc (by decide) rfl dX6_finds_73) (
  aSa (s_goto (n := 0) (by decide) dX6_finds_76) (
  aSa (s_aload_n rfl rfl dX6_finds_79) (
  aSa (s_getf (T := TX6) rfl (by decide) (by decide) in_X6 q2778 (Or.inl rfl) rfl dX6_finds_80) (
  aSa (s_aload_n rfl rfl dX6_finds_83) (
  aSa (s_getf (T := TX6) rfl (by decide) (by decide) in_X6 q2785 (Or.inl rfl) rfl dX6_finds_84) (
  aSa (s_ldc q2742 rfl dX6_finds_87) (
  aSa (s_iast rfl dX6_finds_89) (
  aSa (s_aload_n rfl rfl dX6_finds_90) (
  aSa (s_getf (T := TX6) rfl (by decide) (by decide) in_X6 q2779 (Or.inl rfl) rfl dX6_finds_91) (
  aSa (s_aload_n rfl rfl dX6_finds_94) (
  aSa (s_getf (T := TX6) rfl (by decide) (by decide) in_X6 q2785 (Or.inl rfl) rfl dX6_finds_95) (
  aSa (s_aload_n rfl rfl dX6_finds_98) (
  aSa (s_aload_n rfl rfl dX6_finds_99) (
  aSa (s_getf (T := TX6) rfl (by decide) (by decide) in_X6 q2786 (Or.inl rfl) rfl dX6_finds_100) (
  aSa (s_iload rfl dX6_finds_103) (
  aSa (s_callV (List.forall_mem_cons.mpr ⟨d_V rfl rfl q3121 q3123 qs74 q136 q3124 rfl (by decide +kernel) (by decide) rfl dX6_finds_105, fun _ h => absurd h List.not_mem_nil⟩) aHS0) (
  aSa (s_iast rfl dX6_finds_108) (
  aSa (s_aload_n rfl rfl dX6_finds_109) (
  aSa (s_getf (T := TX6) rfl (by decide) (by decide) in_X6 q2784 (Or.inl rfl) rfl dX6_finds_110) (
  aSa (s_aload_n rfl rfl dX6_finds_113) (
  aSa (s_getf (T := TX6) rfl (by decide) (by decide) in_X6 q2785 (Or.inl rfl) rfl dX6_finds_114) (
  aSa (s_iconst (v0 := 0) (by decide) rfl dX6_finds_117) (
  aSa (s_zast rfl dX6_finds_118) (
  aSa (s_aload_n rfl rfl dX6_finds_119) (
  aSa (s_dup rfl dX6_finds_120) (
  aSa (s_getf (T := TX6) rfl (by decide) (by decide) in_X6 q2785 (Or.inl rfl) rfl dX6_finds_121) (
  aSa (s_iconst (v0 := 1) (by decide) rfl dX6_finds_124) (
  aSa (s_iadd rfl dX6_finds_125) (
  aSa (s_putf (T := TX6) (ty0 := tyX6) tyX6_ok nmX6 rfl (by decide) (by decide) in_X6 q2785 (Or.inl rfl) rfl rfl rfl dX6_finds_126) (
  aSa (s_aload_n rfl rfl dX6_finds_129) (
  aSa (s_getf (T := TX6) rfl (by decide) (by decide) in_X6 q2782 (Or.inl rfl) rfl dX6_finds_130) (
  aSa (s_iload rfl dX6_finds_133) (
  aSa (s_aload_n rfl rfl dX6_finds_135) (
  aSa (s_getf (T := TX6) rfl (by decide) (by decide) in_X6 q2785 (Or.inl rfl) rfl dX6_finds_136) (
  aSa (s_iast rfl dX6_finds_139) (
  aSa (s_aload_n rfl rfl dX6_finds_140) (
  aSa (s_getf (T := TX6) rfl (by decide) (by decide) in_X6 q2782 (Or.inl rfl) rfl dX6_finds_141) (
  aSa (s_iload rfl dX6_finds_144) (
  aSa (s_iald rfl dX6_finds_146) (
  aSa (s_iconst (v0 := 1) (by decide) rfl dX6_finds_147) (
  aSa (s_isub rfl dX6_finds_148) (
  aSa (s_istore (by decide) rfl dX6_finds_149) (
  aSa (s_iload_n rfl rfl dX6_finds_151) (
  aSa (s_aload_n rfl rfl dX6_finds_152) (
  aSa (s_getf (T := TX6) rfl (by decide) (by decide) in_X6 q2778 (Or.inl rfl) rfl dX6_finds_153) (
  aSa (s_iload rfl dX6_finds_156) (
  aSa (s_iald rfl dX6_finds_158) (
  aSa (s_cge (by decide) rfl dX6_finds_159) (
  aSa (s_aload_n rfl rfl dX6_finds_162) (
  aSa (s_getf (T := TX6) rfl (by decide) (by decide) in_X6 q2778 (Or.inl rfl) rfl dX6_finds_163) (
  aSa (s_iload rfl dX6_finds_166) (
  aSa (s_iload_n rfl rfl dX6_finds_168) (
  aSa (s_iast rfl dX6_finds_169) (
  aSa (s_aload_n rfl rfl dX6_finds_170) (
  aSa (s_getf (T := TX6) rfl (by decide) (by decide) in_X6 q2780 (Or.inl rfl) rfl dX6_finds_171) (
  aSa (s_iload rfl dX6_finds_174) (
  aSa (s_iload_n rfl rfl dX6_finds_176) (
  aSa (s_iast rfl dX6_finds_177) (
  aSa (s_aload_n rfl rfl dX6_finds_178) (
  aSa (s_getf (T := TX6) rfl (by decide) (by decide) in_X6 q2781 (Or.inl rfl) rfl dX6_finds_179) (
  aSa (s_iload rfl dX6_finds_182) (
  aSa (s_iload_n rfl rfl dX6_finds_184) (
  aSa (s_iast rfl dX6_finds_185) (
  aSa (s_iload rfl dX6_finds_186) (
  aSa (s_iret (n := 0) rfl dX6_finds_188) (
  aSn)))))))))))))))))))))))))))))))))))))))))))))))))))))))))))))))))))))))))))))))))))))))))))))))))))))))))
theorem sn275 : SndL "SlidingtrayModel" "findsFrom" cX6_findsFrom 5 (Option.some Jvm.ClassFile.FieldType.boolean) [] T275 := aSa (s_aload_n rfl rfl dX6_findsFrom_0) (
  aSa (s_getf (T := TX6) rfl (by decide) (by decide) in_X6 q2785 (Or.inl rfl) rfl dX6_findsFrom_1) (
  aSa (s_istore_n rfl (by decide) rfl dX6_findsFrom_4) (
  aSa (s_aload_n rfl rfl dX6_findsFrom_5) (
  aSa (s_iconst (v0 := 0) (by decide) rfl dX6_findsFrom_6) (
  aSa (s_iconst (v0 := (-1)) (by decide) rfl dX6_findsFrom_7) (
  aSa (s_iconst (v0 := (-1)) (by decide) rfl dX6_findsFrom_8) (
  aSa (s_iconst (v0 := 0) (by decide) rfl dX6_findsFrom_9) (
  aSa (s_callV (List.forall_mem_cons.mpr ⟨d_V rfl rfl q3161 q3163 qs83 q136 q3164 rfl (by decide +kernel) (by decide) rfl dX6_findsFrom_10, fun _ h => absurd h List.not_mem_nil⟩) aHS0) (
  aSa (s_istore (by decide) rfl dX6_findsFrom_13) (
  aSa (s_aload_n rfl rfl dX6_findsFrom_15) (
  aSa (s_getf (T := TX6) rfl (by decide) (by decide) in_X6 q2785 (Or.inl rfl) rfl dX6_findsFrom_16) (
  aSa (s_iload_n rfl rfl dX6_findsFrom_19) (
  aSa (s_cle (by decide) rfl dX6_findsFrom_20) (
  aSa (s_aload_n rfl rfl dX6_findsFrom_23) (
  aSa (s_getf (T := TX6) rfl (by decide) (by decide) in_X6 q2803 (Or.inl rfl) rfl dX6_findsFrom_24) (
  aSa (s_iload rfl dX6_findsFrom_27) (
  aSa (s_iconst (v0 := (-1)) (by decide) rfl dX6_findsFrom_29) (
  aSa (s_iast rfl dX6_findsFrom_30) (
  aSa (s_aload_n rfl rfl dX6_findsFrom_31) (
  aSa (s_getf (T := TX6) rfl (by decide) (by decide) in_X6 q2803 (Or.inl rfl) rfl dX6_findsFrom_32) (
  aSa (s_sipush (v0 := 4101) (by decide) rfl dX6_findsFrom_35) (
  aSa (s_iload rfl dX6_findsFrom_38) (
  aSa (s_iadd rfl dX6_findsFrom_40) (
  aSa (s_iconst (v0 := (-1)) (by decide) rfl dX6_findsFrom_41) (
  aSa (s_iast rfl dX6_findsFrom_42) (
  aSa (s_aload_n rfl rfl dX6_findsFrom_43) (
  aSa (s_iload_n rfl rfl dX6_findsFrom_44) (
  aSa (s_iload rfl dX6_findsFrom_45) (
  aSa (s_callV (List.forall_mem_cons.mpr ⟨d_V rfl rfl q3214 q3216 qs94 q136 q3217 rfl (by decide +kernel) (by decide) rfl dX6_findsFrom_47, fun _ h => absurd h List.not_mem_nil⟩) aHS0) (
  aSa (s_iconst (v0 := (-1)) (by decide) rfl dX6_findsFrom_50) (
  aSa (s_ceq (by decide) rfl dX6_findsFrom_51) (
  aSa (s_iconst (v0 := 0) (by decide) rfl dX6_findsFrom_54) (
  aSa (s_iret (n := 0) rfl dX6_findsFrom_55) (
  aSa (s_aload_n rfl rfl dX6_findsFrom_56) (
  aSa (s_getf (T := TX6) rfl (by decide) (by decide) in_X6 q2803 (Or.inl rfl) rfl dX6_findsFrom_57) (
  aSa (s_sipush (v0 := 4101) (by decide) rfl dX6_findsFrom_60) (
  aSa (s_iload_n rfl rfl dX6_findsFrom_63) (
  aSa (s_imul rfl dX6_findsFrom_64) (
  aSa (s_iload rfl dX6_findsFrom_65) (
  aSa (s_iadd rfl dX6_findsFrom_67) (
  aSa (s_iload_n rfl rfl dX6_findsFrom_68) (
  aSa (s_iast rfl dX6_findsFrom_69) (
  aSa (s_iconst (v0 := 1) (by decide) rfl dX6_findsFrom_70) (
  aSa (s_iret (n := 0) rfl dX6_findsFrom_71) (
  aSn)))))))))))))))))))))))))))))))))))))))))))))
theorem sn276 : SndL "SlidingtrayModel" "fromParts" cX6_fromParts 7 (Option.some Jvm.ClassFile.FieldType.int) [] T276 := aSa (s_iconst (v0 := 0) (by decide) rfl dX6_fromParts_0) (
  aSa (s_istore_n rfl (by decide) rfl dX6_fromParts_1) (
  aSa (s_iconst (v0 := 0) (by decide) rfl dX6_fromParts_2) (
  aSa (s_istore_n rfl (by decide) rfl dX6_fromParts_3) (
  aSa (s_iload_n rfl rfl dX6_fromParts_4) (
  aSa (s_aload_n rfl rfl dX6_fromParts_5) (
  aSa (s_getf (T := TX6) rfl (by decide) (by decide) in_X6 q2775 (Or.inl rfl) rfl dX6_fromParts_6) (
  aSa (s_cge (by decide) rfl dX6_fromParts_9) (
  aSa (s_iconst (v0 := 0) (by decide) rfl dX6_fromParts_12) (
  aSa (s_istore (by decide) rfl dX6_fromParts_13) (
  aSa (s_iconst (v0 := 0) (by decide) rfl dX6_fromParts_15) (
  aSa (s_istore (by decide) rfl dX6_fromParts_16) (
  aSa (s_iload rfl dX6_fromParts_18) (
  aSa (s_aload_n rfl rfl dX6_fromParts_20) (
  aSa (s_getf (T := TX6) rfl (by decide) (by decide) in_X6 q2772 (Or.inl rfl) rfl dX6_fromParts_21) (
  aSa (s_iload_n rfl rfl dX6_fromParts_24) (
  aSa (s_iald rfl dX6_fromParts_25) (
  aSa (s_cge (by decide) rfl dX6_fromParts_26) (
  aSa (s_iconst (v0 := 0) (by decide) rfl dX6_fromParts_29) (
  aSa (s_istore (by decide) rfl dX6_fromParts_30) (
  aSa (s_aload_n rfl rfl dX6_fromParts_32) (
  aSa (s_iload rfl dX6_fromParts_33) (
  aSa (s_iald rfl dX6_fromParts_35) (
  aSa (s_aload_n rfl rfl dX6_fromParts_36) (
  aSa (s_getf (T := TX6) rfl (by decide) (by decide) in_X6 q2771 (Or.inl rfl) rfl dX6_fromParts_37) (
  aSa (s_iconst (v0 := 3) (by decide) rfl dX6_fromParts_40) (
  aSa (s_iload_n rfl rfl dX6_fromParts_41) (
  aSa (s_imul rfl dX6_fromParts_42) (
  aSa (s_iload rfl dX6_fromParts_43) (
  aSa (s_iadd rfl dX6_fromParts_45) (
  aSa (s_iald rfl dX6_fromParts_46) (
  aSa (s_ceq (by decide) rfl dX6_fromParts_47) (
  aSa (s_iinc (by decide) rfl dX6_fromParts_50) (
  aSa (s_goto (n := 0) (by decide) dX6_fromParts_53) (
  aSa (s_bipush (v0 := 9) (by decide) rfl dX6_fromParts_56) (
  aSa (s_iload rfl dX6_fromParts_58) (
  aSa (s_imul rfl dX6_fromParts_60) (
  aSa (s_iload rfl dX6_fromParts_61) (
  aSa (s_iadd rfl dX6_fromParts_63) (
  aSa (s_istore (by decide) rfl dX6_fromParts_64) (
  aSa (s_iinc (by decide) rfl dX6_fromParts_66) (
  aSa (s_goto (n := 0) (by decide) dX6_fromParts_69) (
  aSa (s_aload_n rfl rfl dX6_fromParts_72) (
  aSa (s_getf (T := TX6) rfl (by decide) (by decide) in_X6 q2773 (Or.inl rfl) rfl dX6_fromParts_73) (
  aSa (s_sipush (v0 := 6561) (by decide) rfl dX6_fromParts_76) (
  aSa (s_iload_n rfl rfl dX6_fromParts_79) (
  aSa (s_imul rfl dX6_fromParts_80) (
  aSa (s_bipush (v0 := 9) (by decide) rfl dX6_fromParts_81) (
  aSa (s_iload rfl dX6_fromParts_83) (
  aSa (s_imul rfl dX6_fromParts_85) (
  aSa (s_iadd rfl dX6_fromParts_86) (
  aSa (s_aload_n rfl rfl dX6_fromParts_87) (
  aSa (s_aload_n rfl rfl dX6_fromParts_88) (
  aSa (s_callV (List.forall_mem_cons.mpr ⟨d_V rfl rfl q3012 q3014 qs64 q136 q3015 rfl (by decide +kernel) (by decide) rfl dX6_fromParts_89, fun _ h => absurd h List.not_mem_nil⟩) aHS0) (
  aSa (s_iadd rfl dX6_fromParts_92) (
  aSa (s_iald rfl dX6_fromParts_93) (
  aSa (s_istore (by decide) rfl dX6_fromParts_94) (
  aSa (s_iload_n rfl rfl dX6_fromParts_96) (
  aSa (s_iload rfl dX6_fromParts_97) (
  aSa (s_ldc q2742 rfl dX6_fromParts_99) (
  aSa (s_cne (by decide) rfl dX6_fromParts_101) (
  aSa (s_iconst (v0 := 0) (by decide) rfl dX6_fromParts_104) (
  aSa (s_goto (n := 0) (by decide) dX6_fromParts_105) (
  aSa (s_iload rfl dX6_fromParts_108) (
  aSa (s_iadd rfl dX6_fromParts_110) (
  aSa (s_istore_n rfl (by decide) rfl dX6_fromParts_111) (
  aSa (s_iinc (by decide) rfl dX6_fromParts_112) (
  aSa (s_goto (n := 0) (by decide) dX6_fromParts_115) (
  aSa (s_iload_n rfl rfl dX6_fromParts_118) (
  aSa (s_iret (n := 0) rfl dX6_fromParts_119) (
  aSn))))))))))))))))))))))))))))))))))))))))))))))))))))))))))))))))))))))
theorem sn277 : SndL "SlidingtrayModel" "gapIn" cX6_gapIn 3 (Option.some Jvm.ClassFile.FieldType.int) [] T277 := aSa (s_iconst (v0 := 0) (by decide) rfl dX6_gapIn_0) (
  aSa (s_istore_n rfl (by decide) rfl dX6_gapIn_1) (
  aSa (s_aload_n rfl rfl dX6_gapIn_2) (
  aSa (s_iload_n rfl rfl dX6_gapIn_3) (
  aSa (s_iald rfl dX6_gapIn_4) (
  aSa (s_ifeq (by decide) rfl dX6_gapIn_5) (
  aSa (s_iinc (by decide) rfl dX6_gapIn_8) (
  aSa (s_goto (n := 0) (by decide) dX6_gapIn_11) (
  aSa (s_iload_n rfl rfl dX6_gapIn_14) (
  aSa (s_iret (n := 0) rfl dX6_gapIn_15) (
  aSn))))))))))
theorem sn278 : SndL "SlidingtrayModel" "goes" cX6_goes 6 (Option.some Jvm.ClassFile.FieldType.int) [] T278 := aSa (s_aload_n rfl rfl dX6_goes_0) (
  aSa (s_aload_n rfl rfl dX6_goes_1) (
  aSa (s_callV (List.forall_mem_cons.mpr ⟨d_V rfl rfl q3012 q3014 qs64 q136 q3015 rfl (by decide +kernel) (by decide) rfl dX6_goes_2, fun _ h => absurd h List.not_mem_nil⟩) aHS0) (
  aSa (s_istore_n rfl (by decide) rfl dX6_goes_5) (
  aSa (s_aload_n rfl rfl dX6_goes_6) (
  aSa (s_getf (T := TX6) rfl (by decide) (by decide) in_X6 q2745 (Or.inl rfl) rfl dX6_goes_7) (
  aSa (s_iconst (v0 := 4) (by decide) rfl dX6_goes_10) (
  aSa (s_iload_n rfl rfl dX6_goes_11) (
  aSa (s_imul rfl dX6_goes_12) (
  aSa (s_iload_n rfl rfl dX6_goes_13) (
  aSa (s_iadd rfl dX6_goes_14) (
  aSa (s_iald rfl dX6_goes_15) (
  aSa (s_istore (by decide) rfl dX6_goes_16) (
  aSa (s_iload rfl dX6_goes_18) (
  aSa (s_iconst (v0 := (-1)) (by decide) rfl dX6_goes_20) (
  aSa (s_cne (by decide) rfl dX6_goes_21) (
  aSa (s_iconst (v0 := (-1)) (by decide) rfl dX6_goes_24) (
  aSa (s_iret (n := 0) rfl dX6_goes_25) (
  aSa (s_aload_n rfl rfl dX6_goes_26) (
  aSa (s_iload rfl dX6_goes_27) (
  aSa (s_iald rfl dX6_goes_29) (
  aSa (s_istore (by decide) rfl dX6_goes_30) (
  aSa (s_aload_n rfl rfl dX6_goes_32) (
  aSa (s_iload_n rfl rfl dX6_goes_33) (
  aSa (s_iload rfl dX6_goes_34) (
  aSa (s_iast rfl dX6_goes_36) (
  aSa (s_aload_n rfl rfl dX6_goes_37) (
  aSa (s_iload rfl dX6_goes_38) (
  aSa (s_iconst (v0 := 0) (by decide) rfl dX6_goes_40) (
  aSa (s_iast rfl dX6_goes_41) (
  aSa (s_aload_n rfl rfl dX6_goes_42) (
  aSa (s_getf (T := TX6) rfl (by decide) (by decide) in_X6 q2754 (Or.inl rfl) rfl dX6_goes_43) (
  aSa (s_iload rfl dX6_goes_46) (
  aSa (s_iald rfl dX6_goes_48) (
  aSa (s_iret (n := 0) rfl dX6_goes_49) (
  aSn)))))))))))))))))))))))))))))))))))
theorem sn279 : SndL "SlidingtrayModel" "goesAhead" cX6_goesAhead 5 (Option.some Jvm.ClassFile.FieldType.boolean) [] T279 := aSa (s_aload_n rfl rfl dX6_goesAhead_0) (
  aSa (s_getf (T := TX6) rfl (by decide) (by decide) in_X6 q2778 (Or.inl rfl) rfl dX6_goesAhead_1) (
  aSa (s_iload_n rfl rfl dX6_goesAhead_4) (
  aSa (s_iald rfl dX6_goesAhead_5) (
  aSa (s_aload_n rfl rfl dX6_goesAhead_6) (
  aSa (s_getf (T := TX6) rfl (by decide) (by decide) in_X6 q2779 (Or.inl rfl) rfl dX6_goesAhead_7) (
  aSa (s_iload_n rfl rfl dX6_goesAhead_10) (
  aSa (s_iald rfl dX6_goesAhead_11) (
  aSa (s_iadd rfl dX6_goesAhead_12) (
  aSa (s_istore_n rfl (by decide) rfl dX6_goesAhead_13) (
  aSa (s_aload_n rfl rfl dX6_goesAhead_14) (
  aSa (s_getf (T := TX6) rfl (by decide) (by decide) in_X6 q2778 (Or.inl rfl) rfl dX6_goesAhead_15) (
  aSa (s_iload_n rfl rfl dX6_goesAhead_18) (
  aSa (s_iald rfl dX6_goesAhead_19) (
  aSa (s_aload_n rfl rfl dX6_goesAhead_20) (
  aSa (s_getf (T := TX6) rfl (by decide) (by decide) in_X6 q2779 (Or.inl rfl) rfl dX6_goesAhead_21) (
  aSa (s_iload_n rfl rfl dX6_goesAhead_24) (
  aSa (s_iald rfl dX6_goesAhead_25) (
  aSa (s_iadd rfl dX6_goesAhead_26) (
  aSa (s_istore (by decide) rfl dX6_goesAhead_27) (
  aSa (s_iload_n rfl rfl dX6_goesAhead_29) (
  aSa (s_iload rfl dX6_goesAhead_30) (
  aSa (s_ceq (by decide) rfl dX6_goesAhead_32) (
  aSa (s_iload_n rfl rfl dX6_goesAhead_35) (
  aSa (s_iload rfl dX6_goesAhead_36) (
  aSa (s_cge (by decide) rfl dX6_goesAhead_38) (
  aSa (s_iconst (v0 := 1) (by decide) rfl dX6_goesAhead_41) (
  aSa (s_goto (n := 0) (by decide) dX6_goesAhead_42) (
  aSa (s_iconst (v0 := 0) (by decide) rfl dX6_goesAhead_45) (
  aSa (s_iret (n := 0) rfl dX6_goesAhead_46) (
  aSa (s_aload_n rfl rfl dX6_goesAhead_47) (
  aSa (s_getf (T := TX6) rfl (by decide) (by decide) in_X6 q2779 (Or.inl rfl) rfl dX6_goesAhead_48) (
  aSa (s_iload_n rfl rfl dX6_goesAhead_51) (
  aSa (s_iald rfl dX6_goesAhead_52) (
  aSa (s_aload_n rfl rfl dX6_goesAhead_53) (
  aSa (s_getf (T := TX6) rfl (by decide) (by decide) in_X6 q2779 (Or.inl rfl) rfl dX6_goesAhead_54) (
  aSa (s_iload_n rfl rfl dX6_goesAhead_57) (
  aSa (s_iald rfl dX6_goesAhead_58) (
  aSa (s_clt (by decide) rfl dX6_goesAhead_59) (
  aSa (s_aload_n rfl rfl dX6_goesAhead_62) (
  aSa (s_getf (T := TX6) rfl (by decide) (by decide) in_X6 q2779 (Or.inl rfl) rfl dX6_goesAhead_63) (
  aSa (s_iload_n rfl rfl dX6_goesAhead_66) (
  aSa (s_iald rfl dX6_goesAhead_67) (
  aSa (s_aload_n rfl rfl dX6_goesAhead_68) (
  aSa (s_getf (T := TX6) rfl (by decide) (by decide) in_X6 q2779 (Or.inl rfl) rfl dX6_goesAhead_69) (
  aSa (s_iload_n rfl rfl dX6_goesAhead_72) (
  aSa (s_iald rfl dX6_goesAhead_73) (
  aSa (s_cne (by decide) rfl dX6_goesAhead_74) (
  aSa (s_aload_n rfl rfl dX6_goesAhead_77) (
  aSa (s_getf (T := TX6) rfl (by decide) (by decide) in_X6 q2783 (Or.inl rfl) rfl dX6_goesAhead_78) (
  aSa (s_iload_n rfl rfl dX6_goesAhead_81) (
  aSa (s_lald rfl dX6_goesAhead_82) (
  aSa (s_aload_n rfl rfl dX6_goesAhead_83) (
  aSa (s_getf (T := TX6) rfl (by decide) (by decide) in_X6 q2783 (Or.inl rfl) rfl dX6_goesAhead_84) (
  aSa (s_iload_n rfl rfl dX6_goesAhead_87) (
  aSa (s_lald rfl dX6_goesAhead_88) (
  aSa (s_lcmp rfl dX6_goesAhead_89) (
  aSa (s_ifge (by decide) rfl dX6_goesAhead_90) (
  aSa (s_iconst (v0 := 1) (by decide) rfl dX6_goesAhead_93) (
  aSa (s_goto (n := 0) (by decide) dX6_goesAhead_94) (
  aSa (s_iconst (v0 := 0) (by decide) rfl dX6_goesAhead_97) (
  aSa (s_iret (n := 0) rfl dX6_goesAhead_98) (
  aSn))))))))))))))))))))))))))))))))))))))))))))))))))))))))))))))
theorem sn280 : SndL "SlidingtrayModel" "hint" cX6_hint 5 (Option.some Jvm.ClassFile.FieldType.int) [] T280 := aSa (s_aload_n rfl rfl dX6_hint_0) (
  aSa (s_callV (List.forall_mem_cons.mpr ⟨d_V rfl rfl q3149 q3151 qs80 q136 q3152 rfl (by decide +kernel) (by decide) rfl dX6_hint_1, fun _ h => absurd h List.not_mem_nil⟩) aHS0) (
  aSa (s_aload_n rfl rfl dX6_hint_4) (
  aSa (s_aload_n rfl rfl dX6_hint_5) (
  aSa (s_getf (T := TX6) rfl (by decide) (by decide) in_X6 q2786 (Or.inl rfl) rfl dX6_hint_6) (
  aSa (s_callV (List.forall_mem_cons.mpr ⟨d_V rfl rfl q3178 q3180 qs87 q136 q3181 rfl (by decide +kernel) (by decide) rfl dX6_hint_9, fun _ h => absurd h List.not_mem_nil⟩) aHS0) (
  aSa (s_ifeq (by decide) rfl dX6_hint_12) (
  aSa (s_aload_n rfl rfl dX6_hint_15) (
  aSa (s_iconst (v0 := (-1)) (by decide) rfl dX6_hint_16) (
  aSa (s_callV (List.forall_mem_cons.mpr ⟨d_V rfl rfl q2969 q2971 qs56 q136 q2972 rfl (by decide +kernel) (by decide) rfl dX6_hint_17, fun _ h => absurd h List.not_mem_nil⟩) aHS0) (
  aSa (s_iret (n := 0) rfl dX6_hint_20) (
  aSa (s_aload_n rfl rfl dX6_hint_21) (
  aSa (s_iconst (v0 := 3) (by decide) rfl dX6_hint_22) (
  aSa (s_bipush (v0 := 100) (by decide) rfl dX6_hint_23) (
  aSa (s_callV (List.forall_mem_cons.mpr ⟨d_V rfl rfl q3153 q3155 qs81 q136 q3156 rfl (by decide +kernel) (by decide) rfl dX6_hint_25, fun _ h => absurd h List.not_mem_nil⟩) aHS0) (
  aSa (s_istore_n rfl (by decide) rfl dX6_hint_28) (
  aSa (s_iload_n rfl rfl dX6_hint_29) (
  aSa (s_bipush (v0 := (-2)) (by decide) rfl dX6_hint_30) (
  aSa (s_cne (by decide) rfl dX6_hint_32) (
  aSa (s_aload_n rfl rfl dX6_hint_35) (
  aSa (s_iconst (v0 := 1) (by decide) rfl dX6_hint_36) (
  aSa (s_callV (List.forall_mem_cons.mpr ⟨d_V rfl rfl q2957 q2959 qs53 q136 q2960 rfl (by decide +kernel) (by decide) rfl dX6_hint_37, fun _ h => absurd h List.not_mem_nil⟩) aHS0) (
  aSa (s_iret (n := 0) rfl dX6_hint_40) (
  aSa (s_iload_n rfl rfl dX6_hint_41) (
  aSa (s_iconst (v0 := (-1)) (by decide) rfl dX6_hint_42) (
  aSa (s_cne (by decide) rfl dX6_hint_43) (
  aSa (s_aload_n rfl rfl dX6_hint_46) (
  aSa (s_iconst (v0 := (-1)) (by decide) rfl dX6_hint_47) (
  aSa (s_callV (List.forall_mem_cons.mpr ⟨d_V rfl rfl q2969 q2971 qs56 q136 q2972 rfl (by decide +kernel) (by decide) rfl dX6_hint_48, fun _ h => absurd h List.not_mem_nil⟩) aHS0) (
  aSa (s_iret (n := 0) rfl dX6_hint_51) (
  aSa (s_iconst (v0 := 0) (by decide) rfl dX6_hint_52) (
  aSa (s_istore_n rfl (by decide) rfl dX6_hint_53) (
  aSa (s_iload_n rfl rfl dX6_hint_54) (
  aSa (s_iconst (v0 := 4) (by decide) rfl dX6_hint_55) (
  aSa (s_cge (by decide) rfl dX6_hint_56) (
  aSa (s_aload_n rfl rfl dX6_hint_59) (
  aSa (s_callV (List.forall_mem_cons.mpr ⟨d_V rfl rfl q3149 q3151 qs80 q136 q3152 rfl (by decide +kernel) (by decide) rfl dX6_hint_60, fun _ h => absurd h List.not_mem_nil⟩) aHS0) (
  aSa (s_aload_n rfl rfl dX6_hint_63) (
  aSa (s_aload_n rfl rfl dX6_hint_64) (
  aSa (s_getf (T := TX6) rfl (by decide) (by decide) in_X6 q2786 (Or.inl rfl) rfl dX6_hint_65) (
  aSa (s_iload_n rfl rfl dX6_hint_68) (
  aSa (s_callV (List.forall_mem_cons.mpr ⟨d_V rfl rfl q3021 q3023 qs65 q136 q3024 rfl (by decide +kernel) (by decide) rfl dX6_hint_69, fun _ h => absurd h List.not_mem_nil⟩) aHS0) (
  aSa (s_istore_n rfl (by decide) rfl dX6_hint_72) (
  aSa (s_iload_n rfl rfl dX6_hint_73) (
  aSa (s_iconst (v0 := (-1)) (by decide) rfl dX6_hint_74) (
  aSa (s_cne (by decide) rfl dX6_hint_75) (
  aSa (s_iconst (v0 := (-1)) (by decide) rfl dX6_hint_78) (
  aSa (s_goto (n := 0) (by decide) dX6_hint_79) (
  aSa (s_aload_n rfl rfl dX6_hint_82) (
  aSa (s_iconst (v0 := 3) (by decide) rfl dX6_hint_83) (
  aSa (s_bipush (v0 := 100) (by decide) rfl dX6_hint_84) (
  aSa (s_callV (List.forall_mem_cons.mpr ⟨d_V rfl rfl q3153 q3155 qs81 q136 q3156 rfl (by decide +kernel) (by decide) rfl dX6_hint_86, fun _ h => absurd h List.not_mem_nil⟩) aHS0) (
  aSa (s_istore (by decide) rfl dX6_hint_89) (
  aSa (s_iload rfl dX6_hint_91) (
  aSa (s_bipush (v0 := (-2)) (by decide) rfl dX6_hint_93) (
  aSa (s_cne (by decide) rfl dX6_hint_95) (
  aSa (s_aload_n rfl rfl dX6_hint_98) (
  aSa (s_iconst (v0 := 1) (by decide) rfl dX6_hint_99) (
  aSa (s_callV (List.forall_mem_cons.mpr ⟨d_V rfl rfl q2957 q2959 qs53 q136 q2960 rfl (by decide +kernel) (by decide) rfl dX6_hint_100, fun _ h => absurd h List.not_mem_nil⟩) aHS0) (
  aSa (s_iret (n := 0) rfl dX6_hint_103) (
  aSa (s_iload_n rfl rfl dX6_hint_104) (
  aSa (s_iconst (v0 := (-1)) (by decide) rfl dX6_hint_105) (
  aSa (s_ceq (by decide) rfl dX6_hint_106) (
  aSa (s_iload rfl dX6_hint_109) (
  aSa (s_iload_n rfl rfl dX6_hint_111) (
  aSa (s_iadd rfl dX6_hint_112) (
  aSa (s_iload_n rfl rfl dX6_hint_113) (
  aSa (s_cne (by decide) rfl dX6_hint_114) (
  aSa (s_aload_n rfl rfl dX6_hint_117) (
  aSa (s_iload_n rfl rfl dX6_hint_118) (
  aSa (s_callV (List.forall_mem_cons.mpr ⟨d_V rfl rfl q2969 q2971 qs56 q136 q2972 rfl (by decide +kernel) (by decide) rfl dX6_hint_119, fun _ h => absurd h List.not_mem_nil⟩) aHS0) (
  aSa (s_iret (n := 0) rfl dX6_hint_122) (
  aSa (s_iinc (by decide) rfl dX6_hint_123) (
  aSa (s_goto (n := 0) (by decide) dX6_hint_126) (
  aSa (s_aload_n rfl rfl dX6_hint_129) (
  aSa (s_iconst (v0 := (-1)) (by decide) rfl dX6_hint_130) (
  aSa (s_callV (List.forall_mem_cons.mpr ⟨d_V rfl rfl q2969 q2971 qs56 q136 q2972 rfl (by decide +kernel) (by decide) rfl dX6_hint_131, fun _ h => absurd h List.not_mem_nil⟩) aHS0) (
  aSa (s_iret (n := 0) rfl dX6_hint_134) (
  aSn))))))))))))))))))))))))))))))))))))))))))))))))))))))))))))))))))))))))))))))
theorem sn281 : SndL "SlidingtrayModel" "in" cX6_in 3 (Option.some Jvm.ClassFile.FieldType.boolean) [] T281 := aSa (s_iload_n rfl rfl dX6_in_0) (
  aSa (s_iload_n rfl rfl dX6_in_1) (
  aSa (s_clt (by decide) rfl dX6_in_2) (
  aSa (s_iload_n rfl rfl dX6_in_5) (
  aSa (s_iload_n rfl rfl dX6_in_6) (
  aSa (s_cgt (by decide) rfl dX6_in_7) (
  aSa (s_iconst (v0 := 1) (by decide) rfl dX6_in_10) (
  aSa (s_goto (n := 0) (by decide) dX6_in_11) (
  aSa (s_iconst (v0 := 0) (by decide) rfl dX6_in_14) (
  aSa (s_iret (n := 0) rfl dX6_in_15) (
  aSn))))))))))
theorem sn282 : SndL "SlidingtrayModel" "inversions" cX6_inversions 1 (Option.some Jvm.ClassFile.FieldType.int) [] T282 := aSa (s_aload_n rfl rfl dX6_inversions_0) (
  aSa (s_aload_n rfl rfl dX6_inversions_1) (
  aSa (s_aload_n rfl rfl dX6_inversions_2) (
  aSa (s_getf (T := TX6) rfl (by decide) (by decide) in_X6 q2752 (Or.inl rfl) rfl dX6_inversions_3) (
  aSa (s_callV (List.forall_mem_cons.mpr ⟨d_V rfl rfl q3101 q3103 qs71 q136 q3104 rfl (by decide +kernel) (by decide) rfl dX6_inversions_6, fun _ h => absurd h List.not_mem_nil⟩) aHS0) (
  aSa (s_callV (List.forall_mem_cons.mpr ⟨d_V rfl rfl q2969 q2971 qs56 q136 q2972 rfl (by decide +kernel) (by decide) rfl dX6_inversions_9, fun _ h => absurd h List.not_mem_nil⟩) aHS0) (
  aSa (s_iret (n := 0) rfl dX6_inversions_12) (
  aSn)))))))
theorem sn283 : SndL "SlidingtrayModel" "inversionsOf" cX6_inversionsOf 5 (Option.some Jvm.ClassFile.FieldType.int) [] T283 := aSa (s_iconst (v0 := 0) (by decide) rfl dX6_inversionsOf_0) (
  aSa (s_istore_n rfl (by decide) rfl dX6_inversionsOf_1) (
  aSa (s_iconst (v0 := 0) (by decide) rfl dX6_inversionsOf_2) (
  aSa (s_istore_n rfl (by decide) rfl dX6_inversionsOf_3) (
  aSa (s_iload_n rfl rfl dX6_inversionsOf_4) (
  aSa (s_aload_n rfl rfl dX6_inversionsOf_5) (
  aSa (s_getf (T := TX6) rfl (by decide) (by decide) in_X6 q2750 (Or.inl rfl) rfl dX6_inversionsOf_6) (
  aSa (s_cge (by decide) rfl dX6_inversionsOf_9) (
  aSa (s_iconst (v0 := 0) (by decide) rfl dX6_inversionsOf_12) (
  aSa (s_istore (by decide) rfl dX6_inversionsOf_13) (
  aSa (s_iload rfl dX6_inversionsOf_15) (
  aSa (s_iload_n rfl rfl dX6_inversionsOf_17) (
  aSa (s_cge (by decide) rfl dX6_inversionsOf_18) (
  aSa (s_iload_n rfl rfl dX6_inversionsOf_21) (
  aSa (s_aload_n rfl rfl dX6_inversionsOf_22) (
  aSa (s_aload_n rfl rfl dX6_inversionsOf_23) (
  aSa (s_iload rfl dX6_inversionsOf_24) (
  aSa (s_iald rfl dX6_inversionsOf_26) (
  aSa (s_callV (List.forall_mem_cons.mpr ⟨d_V rfl rfl q3033 q3035 qs67 q136 q3036 rfl (by decide +kernel) (by decide) rfl dX6_inversionsOf_27, fun _ h => absurd h List.not_mem_nil⟩) aHS0) (
  aSa (s_aload_n rfl rfl dX6_inversionsOf_30) (
  aSa (s_aload_n rfl rfl dX6_inversionsOf_31) (
  aSa (s_iload_n rfl rfl dX6_inversionsOf_32) (
  aSa (s_iald rfl dX6_inversionsOf_33) (
  aSa (s_callV (List.forall_mem_cons.mpr ⟨d_V rfl rfl q3033 q3035 qs67 q136 q3036 rfl (by decide +kernel) (by decide) rfl dX6_inversionsOf_34, fun _ h => absurd h List.not_mem_nil⟩) aHS0) (
  aSa (s_cle (by decide) rfl dX6_inversionsOf_37) (
  aSa (s_iconst (v0 := 1) (by decide) rfl dX6_inversionsOf_40) (
  aSa (s_goto (n := 0) (by decide) dX6_inversionsOf_41) (
  aSa (s_iconst (v0 := 0) (by decide) rfl dX6_inversionsOf_44) (
  aSa (s_iadd rfl dX6_inversionsOf_45) (
  aSa (s_istore_n rfl (by decide) rfl dX6_inversionsOf_46) (
  aSa (s_iinc (by decide) rfl dX6_inversionsOf_47) (
  aSa (s_goto (n := 0) (by decide) dX6_inversionsOf_50) (
  aSa (s_iinc (by decide) rfl dX6_inversionsOf_53) (
  aSa (s_goto (n := 0) (by decide) dX6_inversionsOf_56) (
  aSa (s_iload_n rfl rfl dX6_inversionsOf_59) (
  aSa (s_iret (n := 0) rfl dX6_inversionsOf_60) (
  aSn))))))))))))))))))))))))))))))))))))
theorem sn284 : SndL "SlidingtrayModel" "isAnyFree" cX6_isAnyFree 3 (Option.some Jvm.ClassFile.FieldType.boolean) [] T284 := aSa (s_iconst (v0 := 0) (by decide) rfl dX6_isAnyFree_0) (
  aSa (s_istore_n rfl (by decide) rfl dX6_isAnyFree_1) (
  aSa (s_iconst (v0 := 0) (by decide) rfl dX6_isAnyFree_2) (
  aSa (s_istore_n rfl (by decide) rfl dX6_isAnyFree_3) (
  aSa (s_iload_n rfl rfl dX6_isAnyFree_4) (
  aSa (s_aload_n rfl rfl dX6_isAnyFree_5) (
  aSa (s_getf (T := TX6) rfl (by decide) (by decide) in_X6 q2750 (Or.inl rfl) rfl dX6_isAnyFree_6) (
  aSa (s_cge (by decide) rfl dX6_isAnyFree_9) (
  aSa (s_iload_n rfl rfl dX6_isAnyFree_12) (
  aSa (s_ifne (by decide) rfl dX6_isAnyFree_13) (
  aSa (s_aload_n rfl rfl dX6_isAnyFree_16) (
  aSa (s_getf (T := TX6) rfl (by decide) (by decide) in_X6 q2755 (Or.inl rfl) rfl dX6_isAnyFree_17) (
  aSa (s_iload_n rfl rfl dX6_isAnyFree_20) (
  aSa (s_zald rfl dX6_isAnyFree_21) (
  aSa (s_ifeq (by decide) rfl dX6_isAnyFree_22) (
  aSa (s_iconst (v0 := 1) (by decide) rfl dX6_isAnyFree_25) (
  aSa (s_goto (n := 0) (by decide) dX6_isAnyFree_26) (
  aSa (s_iconst (v0 := 0) (by decide) rfl dX6_isAnyFree_29) (
  aSa (s_istore_n rfl (by decide) rfl dX6_isAnyFree_30) (
  aSa (s_iinc (by decide) rfl dX6_isAnyFree_31) (
  aSa (s_goto (n := 0) (by decide) dX6_isAnyFree_34) (
  aSa (s_iload_n rfl rfl dX6_isAnyFree_37) (
  aSa (s_iret (n := 0) rfl dX6_isAnyFree_38) (
  aSn)))))))))))))))))))))))
theorem sn285 : SndL "SlidingtrayModel" "isFair" cX6_isFair 2 (Option.some Jvm.ClassFile.FieldType.boolean) [] T285 := aSa (s_iload_n rfl rfl dX6_isFair_0) (
  aSa (s_iconst (v0 := 0) (by decide) rfl dX6_isFair_1) (
  aSa (s_iconst (v0 := 4) (by decide) rfl dX6_isFair_2) (
  aSa (s_callS rfl q2954 q2955 q136 q2956 (by decide +kernel) (by decide) aHS0 rfl dX6_isFair_3) (
  aSa (s_ifne (by decide) rfl dX6_isFair_6) (
  aSa (s_aload_n rfl rfl dX6_isFair_9) (
  aSa (s_iconst (v0 := 1) (by decide) rfl dX6_isFair_10) (
  aSa (s_callV (List.forall_mem_cons.mpr ⟨d_V rfl rfl q3041 q3043 qs68 q136 q3044 rfl (by decide +kernel) (by decide) rfl dX6_isFair_11, fun _ h => absurd h List.not_mem_nil⟩) aHS0) (
  aSa (s_iret (n := 0) rfl dX6_isFair_14) (
  aSa (s_aload_n rfl rfl dX6_isFair_15) (
  aSa (s_getf (T := TX6) rfl (by decide) (by decide) in_X6 q2750 (Or.inl rfl) rfl dX6_isFair_16) (
  aSa (s_bipush (v0 := 6) (by decide) rfl dX6_isFair_19) (
  aSa (s_cle (by decide) rfl dX6_isFair_21) (
  aSa (s_aload_n rfl rfl dX6_isFair_24) (
  aSa (s_iconst (v0 := 2) (by decide) rfl dX6_isFair_25) (
  aSa (s_callV (List.forall_mem_cons.mpr ⟨d_V rfl rfl q3041 q3043 qs68 q136 q3044 rfl (by decide +kernel) (by decide) rfl dX6_isFair_26, fun _ h => absurd h List.not_mem_nil⟩) aHS0) (
  aSa (s_iret (n := 0) rfl dX6_isFair_29) (
  aSa (s_aload_n rfl rfl dX6_isFair_30) (
  aSa (s_callV (List.forall_mem_cons.mpr ⟨d_V rfl rfl q3238 q3240 qs96 q136 q3241 rfl (by decide +kernel) (by decide) rfl dX6_isFair_31, fun _ h => absurd h List.not_mem_nil⟩) aHS0) (
  aSa (s_aload_n rfl rfl dX6_isFair_34) (
  aSa (s_aload_n rfl rfl dX6_isFair_35) (
  aSa (s_iload_n rfl rfl dX6_isFair_36) (
  aSa (s_callV (List.forall_mem_cons.mpr ⟨d_V rfl rfl q3259 q3261 qs99 q136 q3262 rfl (by decide +kernel) (by decide) rfl dX6_isFair_37, fun _ h => absurd h List.not_mem_nil⟩) aHS0) (
  aSa (s_callV (List.forall_mem_cons.mpr ⟨d_V rfl rfl q3045 q3047 qs69 q136 q3048 rfl (by decide +kernel) (by decide) rfl dX6_isFair_40, fun _ h => absurd h List.not_mem_nil⟩) aHS0) (
  aSa (s_iret (n := 0) rfl dX6_isFair_43) (
  aSn)))))))))))))))))))))))))
theorem sn286 : SndL "SlidingtrayModel" "isFairBy" cX6_isFairBy 6 (Option.some Jvm.ClassFile.FieldType.boolean) [] T286 := aSa (s_iconst (v0 := 0) (by decide) rfl dX6_isFairBy_0) (
  aSa (s_istore_n rfl (by decide) rfl dX6_isFairBy_1) (
  aSa (s_iload_n rfl rfl dX6_isFairBy_2) (
  aSa (s_aload_n rfl rfl dX6_isFairBy_3) (
  aSa (s_getf (T := TX6) rfl (by decide) (by decide) in_X6 q2808 (Or.inl rfl) rfl dX6_isFairBy_4) (
  aSa (s_cge (by decide) rfl dX6_isFairBy_7) (
  aSa (s_aload_n rfl rfl dX6_isFairBy_10) (
  aSa (s_iload_n rfl rfl dX6_isFairBy_11) (
  aSa (s_i2l rfl dX6_isFairBy_12) (
  aSa (s_aload_n rfl rfl dX6_isFairBy_13) (
  aSa (s_getf (T := TX6) rfl (by decide) (by decide) in_X6 q2786 (Or.inl rfl) rfl dX6_isFairBy_14) (
  aSa (s_callV (List.forall_mem_cons.mpr ⟨d_V rfl rfl q3008 q3010 qs63 q136 q3011 rfl (by decide +kernel) (by decide) rfl dX6_isFairBy_17, fun _ h => absurd h List.not_mem_nil⟩) aHS0) (
  aSa (s_aload_n rfl rfl dX6_isFairBy_20) (
  aSa (s_getf (T := TX6) rfl (by decide) (by decide) in_X6 q2809 (Or.inl rfl) rfl dX6_isFairBy_21) (
  aSa (s_iload_n rfl rfl dX6_isFairBy_24) (
  aSa (s_aload_n rfl rfl dX6_isFairBy_25) (
  aSa (s_aload_n rfl rfl dX6_isFairBy_26) (
  aSa (s_getf (T := TX6) rfl (by decide) (by decide) in_X6 q2786 (Or.inl rfl) rfl dX6_isFairBy_27) (
  aSa (s_iload_n rfl rfl dX6_isFairBy_30) (
  aSa (s_callV (List.forall_mem_cons.mpr ⟨d_V rfl rfl q3121 q3123 qs74 q136 q3124 rfl (by decide +kernel) (by decide) rfl dX6_isFairBy_31, fun _ h => absurd h List.not_mem_nil⟩) aHS0) (
  aSa (s_iast rfl dX6_isFairBy_34) (
  aSa (s_iinc (by decide) rfl dX6_isFairBy_35) (
  aSa (s_goto (n := 0) (by decide) dX6_isFairBy_38) (
  aSa (s_iconst (v0 := 1) (by decide) rfl dX6_isFairBy_41) (
  aSa (s_istore_n rfl (by decide) rfl dX6_isFairBy_42) (
  aSa (s_iconst (v0 := 0) (by decide) rfl dX6_isFairBy_43) (
  aSa (s_istore_n rfl (by decide) rfl dX6_isFairBy_44) (
  aSa (s_iload_n rfl rfl dX6_isFairBy_45) (
  aSa (s_iconst (v0 := 4) (by decide) rfl dX6_isFairBy_46) (
  aSa (s_aload_n rfl rfl dX6_isFairBy_47) (
  aSa (s_getf (T := TX6) rfl (by decide) (by decide) in_X6 q2808 (Or.inl rfl) rfl dX6_isFairBy_48) (
  aSa (s_imul rfl dX6_isFairBy_51) (
  aSa (s_cge (by decide) rfl dX6_isFairBy_52) (
  aSa (s_iload_n rfl rfl dX6_isFairBy_55) (
  aSa (s_iconst (v0 := 4) (by decide) rfl dX6_isFairBy_56) (
  aSa (s_idiv rfl dX6_isFairBy_57) (
  aSa (s_istore (by decide) rfl dX6_isFairBy_58) (
  aSa (s_aload_n rfl rfl dX6_isFairBy_60) (
  aSa (s_getf (T := TX6) rfl (by decide) (by decide) in_X6 q2804 (Or.inl rfl) rfl dX6_isFairBy_61) (
  aSa (s_iload rfl dX6_isFairBy_64) (
  aSa (s_iald rfl dX6_isFairBy_66) (
  aSa (s_ldc q2742 rfl dX6_isFairBy_67) (
  aSa (s_cge (by decide) rfl dX6_isFairBy_69) (
  aSa (s_iconst (v0 := 1) (by decide) rfl dX6_isFairBy_72) (
  aSa (s_goto (n := 0) (by decide) dX6_isFairBy_73) (
  aSa (s_iconst (v0 := 0) (by decide) rfl dX6_isFairBy_76) (
  aSa (s_istore (by decide) rfl dX6_isFairBy_77) (
  aSa (s_iload_n rfl rfl dX6_isFairBy_79) (
  aSa (s_ifeq (by decide) rfl dX6_isFairBy_80) (
  aSa (s_iload rfl dX6_isFairBy_83) (
  aSa (s_ifeq (by decide) rfl dX6_isFairBy_85) (
  aSa (s_aload_n rfl rfl dX6_isFairBy_88) (
  aSa (s_getf (T := TX6) rfl (by decide) (by decide) in_X6 q2809 (Or.inl rfl) rfl dX6_isFairBy_89) (
  aSa (s_iload rfl dX6_isFairBy_92) (
  aSa (s_iald rfl dX6_isFairBy_94) (
  aSa (s_aload_n rfl rfl dX6_isFairBy_95) (
  aSa (s_getf (T := TX6) rfl (by decide) (by decide) in_X6 q2804 (Or.inl rfl) rfl dX6_isFairBy_96) (
  aSa (s_iload rfl dX6_isFairBy_99) (
  aSa (s_iald rfl dX6_isFairBy_101) (
  aSa (s_cgt (by decide) rfl dX6_isFairBy_102) (
  aSa (s_iconst (v0 := 1) (by decide) rfl dX6_isFairBy_105) (
  aSa (s_goto (n := 0) (by decide) dX6_isFairBy_106) (
  aSa (s_iconst (v0 := 0) (by decide) rfl dX6_isFairBy_109) (
  aSa (s_istore_n rfl (by decide) rfl dX6_isFairBy_110) (
  aSa (s_iload_n rfl rfl dX6_isFairBy_111) (
  aSa (s_ifeq (by decide) rfl dX6_isFairBy_112) (
  aSa (s_iload rfl dX6_isFairBy_115) (
  aSa (s_ifeq (by decide) rfl dX6_isFairBy_117) (
  aSa (s_aload_n rfl rfl dX6_isFairBy_120) (
  aSa (s_getf (T := TX6) rfl (by decide) (by decide) in_X6 q2805 (Or.inl rfl) rfl dX6_isFairBy_121) (
  aSa (s_iload_n rfl rfl dX6_isFairBy_124) (
  aSa (s_iald rfl dX6_isFairBy_125) (
  aSa (s_iconst (v0 := (-1)) (by decide) rfl dX6_isFairBy_126) (
  aSa (s_ceq (by decide) rfl dX6_isFairBy_127) (
  aSa (s_aload_n rfl rfl dX6_isFairBy_130) (
  aSa (s_getf (T := TX6) rfl (by decide) (by decide) in_X6 q2809 (Or.inl rfl) rfl dX6_isFairBy_131) (
  aSa (s_iload rfl dX6_isFairBy_134) (
  aSa (s_iald rfl dX6_isFairBy_136) (
  aSa (s_aload_n rfl rfl dX6_isFairBy_137) (
  aSa (s_getf (T := TX6) rfl (by decide) (by decide) in_X6 q2809 (Or.inl rfl) rfl dX6_isFairBy_138) (
  aSa (s_aload_n rfl rfl dX6_isFairBy_141) (
  aSa (s_getf (T := TX6) rfl (by decide) (by decide) in_X6 q2805 (Or.inl rfl) rfl dX6_isFairBy_142) (
  aSa (s_iload_n rfl rfl dX6_isFairBy_145) (
  aSa (s_iald rfl dX6_isFairBy_146) (
  aSa (s_iald rfl dX6_isFairBy_147) (
  aSa (s_isub rfl dX6_isFairBy_148) (
  aSa (s_aload_n rfl rfl dX6_isFairBy_149) (
  aSa (s_getf (T := TX6) rfl (by decide) (by decide) in_X6 q2806 (Or.inl rfl) rfl dX6_isFairBy_150) (
  aSa (s_iload_n rfl rfl dX6_isFairBy_153) (
  aSa (s_iald rfl dX6_isFairBy_154) (
  aSa (s_cgt (by decide) rfl dX6_isFairBy_155) (
  aSa (s_iconst (v0 := 1) (by decide) rfl dX6_isFairBy_158) (
  aSa (s_goto (n := 0) (by decide) dX6_isFairBy_159) (
  aSa (s_iconst (v0 := 0) (by decide) rfl dX6_isFairBy_162) (
  aSa (s_istore_n rfl (by decide) rfl dX6_isFairBy_163) (
  aSa (s_iinc (by decide) rfl dX6_isFairBy_164) (
  aSa (s_goto (n := 0) (by decide) dX6_isFairBy_167) (
  aSa (s_iload_n rfl rfl dX6_isFairBy_170) (
  aSa (s_iret (n := 0) rfl dX6_isFairBy_171) (
  aSn)))))))))))))))))))))))))))))))))))))))))))))))))))))))))))))))))))))))))))))))))))))))))))))))))))
theorem sn287 : SndL "SlidingtrayModel" "isGoal" cX6_isGoal 4 (Option.some Jvm.ClassFile.FieldType.boolean) [] T287 := aSa (s_iconst (v0 := 1) (by decide) rfl dX6_isGoal_0) (
  aSa (s_istore_n rfl (by decide) rfl dX6_isGoal_1) (
  aSa (s_iconst (v0 := 0) (by decide) rfl dX6_isGoal_2) (
  aSa (s_istore_n rfl (by decide) rfl dX6_isGoal_3) (
  aSa (s_iload_n rfl rfl dX6_isGoal_4) (
  aSa (s_aload_n rfl rfl dX6_isGoal_5) (
  aSa (s_getf (T := TX6) rfl (by decide) (by decide) in_X6 q2750 (Or.inl rfl) rfl dX6_isGoal_6) (
  aSa (s_cge (by decide) rfl dX6_isGoal_9) (
  aSa (s_iload_n rfl rfl dX6_isGoal_12) (
  aSa (s_ifeq (by decide) rfl dX6_isGoal_13) (
  aSa (s_aload_n rfl rfl dX6_isGoal_16) (
  aSa (s_getf (T := TX6) rfl (by decide) (by decide) in_X6 q2755 (Or.inl rfl) rfl dX6_isGoal_17) (
  aSa (s_aload_n rfl rfl dX6_isGoal_20) (
  aSa (s_iload_n rfl rfl dX6_isGoal_21) (
  aSa (s_iald rfl dX6_isGoal_22) (
  aSa (s_zald rfl dX6_isGoal_23) (
  aSa (s_ifne (by decide) rfl dX6_isGoal_24) (
  aSa (s_aload_n rfl rfl dX6_isGoal_27) (
  aSa (s_getf (T := TX6) rfl (by decide) (by decide) in_X6 q2753 (Or.inl rfl) rfl dX6_isGoal_28) (
  aSa (s_aload_n rfl rfl dX6_isGoal_31) (
  aSa (s_iload_n rfl rfl dX6_isGoal_32) (
  aSa (s_iald rfl dX6_isGoal_33) (
  aSa (s_iald rfl dX6_isGoal_34) (
  aSa (s_iload_n rfl rfl dX6_isGoal_35) (
  aSa (s_cne (by decide) rfl dX6_isGoal_36) (
  aSa (s_iconst (v0 := 1) (by decide) rfl dX6_isGoal_39) (
  aSa (s_goto (n := 0) (by decide) dX6_isGoal_40) (
  aSa (s_iconst (v0 := 0) (by decide) rfl dX6_isGoal_43) (
  aSa (s_istore_n rfl (by decide) rfl dX6_isGoal_44) (
  aSa (s_iinc (by decide) rfl dX6_isGoal_45) (
  aSa (s_goto (n := 0) (by decide) dX6_isGoal_48) (
  aSa (s_iload_n rfl rfl dX6_isGoal_51) (
  aSa (s_iret (n := 0) rfl dX6_isGoal_52) (
  aSn)))))))))))))))))))))))))))))))))
theorem sn288 : SndL "SlidingtrayModel" "isMet" cX6_isMet 4 (Option.some Jvm.ClassFile.FieldType.boolean) [] T288 := aSa (s_iconst (v0 := 0) (by decide) rfl dX6_isMet_0) (
  aSa (s_istore_n rfl (by decide) rfl dX6_isMet_1) (
  aSa (s_iload_n rfl rfl dX6_isMet_2) (
  aSa (s_istore_n rfl (by decide) rfl dX6_isMet_3) (
  aSa (s_iload_n rfl rfl dX6_isMet_4) (
  aSa (s_aload_n rfl rfl dX6_isMet_5) (
  aSa (s_getf (T := TX6) rfl (by decide) (by decide) in_X6 q2785 (Or.inl rfl) rfl dX6_isMet_6) (
  aSa (s_cge (by decide) rfl dX6_isMet_9) (
  aSa (s_iload_n rfl rfl dX6_isMet_12) (
  aSa (s_ifne (by decide) rfl dX6_isMet_13) (
  aSa (s_aload_n rfl rfl dX6_isMet_16) (
  aSa (s_iconst (v0 := 0) (by decide) rfl dX6_isMet_17) (
  aSa (s_iload_n rfl rfl dX6_isMet_18) (
  aSa (s_callV (List.forall_mem_cons.mpr ⟨d_V rfl rfl q3214 q3216 qs94 q136 q3217 rfl (by decide +kernel) (by decide) rfl dX6_isMet_19, fun _ h => absurd h List.not_mem_nil⟩) aHS0) (
  aSa (s_iconst (v0 := (-1)) (by decide) rfl dX6_isMet_22) (
  aSa (s_ceq (by decide) rfl dX6_isMet_23) (
  aSa (s_aload_n rfl rfl dX6_isMet_26) (
  aSa (s_iconst (v0 := 1) (by decide) rfl dX6_isMet_27) (
  aSa (s_iload_n rfl rfl dX6_isMet_28) (
  aSa (s_callV (List.forall_mem_cons.mpr ⟨d_V rfl rfl q3214 q3216 qs94 q136 q3217 rfl (by decide +kernel) (by decide) rfl dX6_isMet_29, fun _ h => absurd h List.not_mem_nil⟩) aHS0) (
  aSa (s_iconst (v0 := (-1)) (by decide) rfl dX6_isMet_32) (
  aSa (s_ceq (by decide) rfl dX6_isMet_33) (
  aSa (s_iconst (v0 := 1) (by decide) rfl dX6_isMet_36) (
  aSa (s_goto (n := 0) (by decide) dX6_isMet_37) (
  aSa (s_iconst (v0 := 0) (by decide) rfl dX6_isMet_40) (
  aSa (s_istore_n rfl (by decide) rfl dX6_isMet_41) (
  aSa (s_iinc (by decide) rfl dX6_isMet_42) (
  aSa (s_goto (n := 0) (by decide) dX6_isMet_45) (
  aSa (s_iload_n rfl rfl dX6_isMet_48) (
  aSa (s_iret (n := 0) rfl dX6_isMet_49) (
  aSn))))))))))))))))))))))))))))))
theorem sn289 : SndL "SlidingtrayModel" "isPartGoal" cX6_isPartGoal 4 (Option.some Jvm.ClassFile.FieldType.boolean) [] T289 := aSa (s_iconst (v0 := 1) (by decide) rfl dX6_isPartGoal_0) (
  aSa (s_istore_n rfl (by decide) rfl dX6_isPartGoal_1) (
  aSa (s_iconst (v0 := 0) (by decide) rfl dX6_isPartGoal_2) (
  aSa (s_istore_n rfl (by decide) rfl dX6_isPartGoal_3) (
  aSa (s_iload_n rfl rfl dX6_isPartGoal_4) (
  aSa (s_aload_n rfl rfl dX6_isPartGoal_5) (
  aSa (s_getf (T := TX6) rfl (by decide) (by decide) in_X6 q2772 (Or.inl rfl) rfl dX6_isPartGoal_6) (
  aSa (s_iload_n rfl rfl dX6_isPartGoal_9) (
  aSa (s_iald rfl dX6_isPartGoal_10) (
  aSa (s_cge (by decide) rfl dX6_isPartGoal_11) (
  aSa (s_iload_n rfl rfl dX6_isPartGoal_14) (
  aSa (s_ifeq (by decide) rfl dX6_isPartGoal_15) (
  aSa (s_aload_n rfl rfl dX6_isPartGoal_18) (
  aSa (s_getf (T := TX6) rfl (by decide) (by decide) in_X6 q2774 (Or.inl rfl) rfl dX6_isPartGoal_19) (
  aSa (s_iload_n rfl rfl dX6_isPartGoal_22) (
  aSa (s_iald rfl dX6_isPartGoal_23) (
  aSa (s_aload_n rfl rfl dX6_isPartGoal_24) (
  aSa (s_getf (T := TX6) rfl (by decide) (by decide) in_X6 q2753 (Or.inl rfl) rfl dX6_isPartGoal_25) (
  aSa (s_aload_n rfl rfl dX6_isPartGoal_28) (
  aSa (s_getf (T := TX6) rfl (by decide) (by decide) in_X6 q2771 (Or.inl rfl) rfl dX6_isPartGoal_29) (
  aSa (s_iconst (v0 := 3) (by decide) rfl dX6_isPartGoal_32) (
  aSa (s_iload_n rfl rfl dX6_isPartGoal_33) (
  aSa (s_imul rfl dX6_isPartGoal_34) (
  aSa (s_iload_n rfl rfl dX6_isPartGoal_35) (
  aSa (s_iadd rfl dX6_isPartGoal_36) (
  aSa (s_iald rfl dX6_isPartGoal_37) (
  aSa (s_iald rfl dX6_isPartGoal_38) (
  aSa (s_cne (by decide) rfl dX6_isPartGoal_39) (
  aSa (s_iconst (v0 := 1) (by decide) rfl dX6_isPartGoal_42) (
  aSa (s_goto (n := 0) (by decide) dX6_isPartGoal_43) (
  aSa (s_iconst (v0 := 0) (by decide) rfl dX6_isPartGoal_46) (
  aSa (s_istore_n rfl (by decide) rfl dX6_isPartGoal_47) (
  aSa (s_iinc (by decide) rfl dX6_isPartGoal_48) (
  aSa (s_goto (n := 0) (by decide) dX6_isPartGoal_51) (
  aSa (s_iload_n rfl rfl dX6_isPartGoal_54) (
  aSa (s_iret (n := 0) rfl dX6_isPartGoal_55) (
  aSn))))))))))))))))))))))))))))))))))))
theorem sn290 : SndL "SlidingtrayModel" "isPlace" cX6_isPlace 7 (Option.some Jvm.ClassFile.FieldType.boolean) [] T290 := aSa (s_iload_n rfl rfl dX6_isPlace_0) (
  aSa (s_istore_n rfl (by decide) rfl dX6_isPlace_1) (
  aSa (s_iconst (v0 := 1) (by decide) rfl dX6_isPlace_2) (
  aSa (s_istore (by decide) rfl dX6_isPlace_3) (
  aSa (s_aload_n rfl rfl dX6_isPlace_5) (
  aSa (s_getf (T := TX6) rfl (by decide) (by decide) in_X6 q2772 (Or.inl rfl) rfl dX6_isPlace_6) (
  aSa (s_iload_n rfl rfl dX6_isPlace_9) (
  aSa (s_iald rfl dX6_isPlace_10) (
  aSa (s_istore (by decide) rfl dX6_isPlace_11) (
  aSa (s_iload rfl dX6_isPlace_13) (
  aSa (s_iflt (by decide) rfl dX6_isPlace_15) (
  aSa (s_aload_n rfl rfl dX6_isPlace_18) (
  aSa (s_getf (T := TX6) rfl (by decide) (by decide) in_X6 q2774 (Or.inl rfl) rfl dX6_isPlace_19) (
  aSa (s_iload rfl dX6_isPlace_22) (
  aSa (s_iload_n rfl rfl dX6_isPlace_24) (
  aSa (s_bipush (v0 := 9) (by decide) rfl dX6_isPlace_25) (
  aSa (s_irem rfl dX6_isPlace_27) (
  aSa (s_iast rfl dX6_isPlace_28) (
  aSa (s_iload_n rfl rfl dX6_isPlace_29) (
  aSa (s_bipush (v0 := 9) (by decide) rfl dX6_isPlace_30) (
  aSa (s_idiv rfl dX6_isPlace_32) (
  aSa (s_istore_n rfl (by decide) rfl dX6_isPlace_33) (
  aSa (s_iload rfl dX6_isPlace_34) (
  aSa (s_ifeq (by decide) rfl dX6_isPlace_36) (
  aSa (s_aload_n rfl rfl dX6_isPlace_39) (
  aSa (s_getf (T := TX6) rfl (by decide) (by decide) in_X6 q2774 (Or.inl rfl) rfl dX6_isPlace_40) (
  aSa (s_iload rfl dX6_isPlace_43) (
  aSa (s_iald rfl dX6_isPlace_45) (
  aSa (s_aload_n rfl rfl dX6_isPlace_46) (
  aSa (s_getf (T := TX6) rfl (by decide) (by decide) in_X6 q2750 (Or.inl rfl) rfl dX6_isPlace_47) (
  aSa (s_cge (by decide) rfl dX6_isPlace_50) (
  aSa (s_iconst (v0 := 1) (by decide) rfl dX6_isPlace_53) (
  aSa (s_goto (n := 0) (by decide) dX6_isPlace_54) (
  aSa (s_iconst (v0 := 0) (by decide) rfl dX6_isPlace_57) (
  aSa (s_istore (by decide) rfl dX6_isPlace_58) (
  aSa (s_iinc (by decide) rfl dX6_isPlace_60) (
  aSa (s_goto (n := 0) (by decide) dX6_isPlace_63) (
  aSa (s_iconst (v0 := 0) (by decide) rfl dX6_isPlace_66) (
  aSa (s_istore (by decide) rfl dX6_isPlace_67) (
  aSa (s_iload rfl dX6_isPlace_69) (
  aSa (s_aload_n rfl rfl dX6_isPlace_71) (
  aSa (s_getf (T := TX6) rfl (by decide) (by decide) in_X6 q2772 (Or.inl rfl) rfl dX6_isPlace_72) (
  aSa (s_iload_n rfl rfl dX6_isPlace_75) (
  aSa (s_iald rfl dX6_isPlace_76) (
  aSa (s_cgt (by decide) rfl dX6_isPlace_77) (
  aSa (s_iconst (v0 := 0) (by decide) rfl dX6_isPlace_80) (
  aSa (s_istore (by decide) rfl dX6_isPlace_81) (
  aSa (s_iload rfl dX6_isPlace_83) (
  aSa (s_iload rfl dX6_isPlace_85) (
  aSa (s_cge (by decide) rfl dX6_isPlace_87) (
  aSa (s_iload rfl dX6_isPlace_90) (
  aSa (s_ifeq (by decide) rfl dX6_isPlace_92) (
  aSa (s_aload_n rfl rfl dX6_isPlace_95) (
  aSa (s_getf (T := TX6) rfl (by decide) (by decide) in_X6 q2774 (Or.inl rfl) rfl dX6_isPlace_96) (
  aSa (s_iload rfl dX6_isPlace_99) (
  aSa (s_iald rfl dX6_isPlace_101) (
  aSa (s_aload_n rfl rfl dX6_isPlace_102) (
  aSa (s_getf (T := TX6) rfl (by decide) (by decide) in_X6 q2774 (Or.inl rfl) rfl dX6_isPlace_103) (
  aSa (s_iload rfl dX6_isPlace_106) (
  aSa (s_iald rfl dX6_isPlace_108) (
  aSa (s_ceq (by decide) rfl dX6_isPlace_109) (
  aSa (s_iconst (v0 := 1) (by decide) rfl dX6_isPlace_112) (
  aSa (s_goto (n := 0) (by decide) dX6_isPlace_113) (
  aSa (s_iconst (v0 := 0) (by decide) rfl dX6_isPlace_116) (
  aSa (s_istore (by decide) rfl dX6_isPlace_117) (
  aSa (s_iinc (by decide) rfl dX6_isPlace_119) (
  aSa (s_goto (n := 0) (by decide) dX6_isPlace_122) (
  aSa (s_iinc (by decide) rfl dX6_isPlace_125) (
  aSa (s_goto (n := 0) (by decide) dX6_isPlace_128) (
  aSa (s_iload rfl dX6_isPlace_131) (
  aSa (s_ifeq (by decide) rfl dX6_isPlace_133) (
  aSa (s_iload_n rfl rfl dX6_isPlace_136) (
  aSa (s_ifne (by decide) rfl dX6_isPlace_137) (
  aSa (s_iconst (v0 := 1) (by decide) rfl dX6_isPlace_140) (
  aSa (s_goto (n := 0) (by decide) dX6_isPlace_141) (
  aSa (s_iconst (v0 := 0) (by decide) rfl dX6_isPlace_144) (
  aSa (s_iret (n := 0) rfl dX6_isPlace_145) (
  aSn)))))))))))))))))))))))))))))))))))))))))))))))))))))))))))))))))))))))))))))
theorem sn291 : SndL "SlidingtrayModel" "isRowAsLies" cX6_isRowAsLies 3 (Option.some Jvm.ClassFile.FieldType.boolean) [] T291 := aSa (s_iconst (v0 := 1) (by decide) rfl dX6_isRowAsLies_0) (
  aSa (s_istore_n rfl (by decide) rfl dX6_isRowAsLies_1) (
  aSa (s_iconst (v0 := 0) (by decide) rfl dX6_isRowAsLies_2) (
  aSa (s_istore_n rfl (by decide) rfl dX6_isRowAsLies_3) (
  aSa (s_iload_n rfl rfl dX6_isRowAsLies_4) (
  aSa (s_aload_n rfl rfl dX6_isRowAsLies_5) (
  aSa (s_getf (T := TX6) rfl (by decide) (by decide) in_X6 q2750 (Or.inl rfl) rfl dX6_isRowAsLies_6) (
  aSa (s_cge (by decide) rfl dX6_isRowAsLies_9) (
  aSa (s_iload_n rfl rfl dX6_isRowAsLies_12) (
  aSa (s_ifeq (by decide) rfl dX6_isRowAsLies_13) (
  aSa (s_aload_n rfl rfl dX6_isRowAsLies_16) (
  aSa (s_getf (T := TX6) rfl (by decide) (by decide) in_X6 q2786 (Or.inl rfl) rfl dX6_isRowAsLies_17) (
  aSa (s_iload_n rfl rfl dX6_isRowAsLies_20) (
  aSa (s_iald rfl dX6_isRowAsLies_21) (
  aSa (s_aload_n rfl rfl dX6_isRowAsLies_22) (
  aSa (s_getf (T := TX6) rfl (by decide) (by decide) in_X6 q2752 (Or.inl rfl) rfl dX6_isRowAsLies_23) (
  aSa (s_iload_n rfl rfl dX6_isRowAsLies_26) (
  aSa (s_iald rfl dX6_isRowAsLies_27) (
  aSa (s_cne (by decide) rfl dX6_isRowAsLies_28) (
  aSa (s_iconst (v0 := 1) (by decide) rfl dX6_isRowAsLies_31) (
  aSa (s_goto (n := 0) (by decide) dX6_isRowAsLies_32) (
  aSa (s_iconst (v0 := 0) (by decide) rfl dX6_isRowAsLies_35) (
  aSa (s_istore_n rfl (by decide) rfl dX6_isRowAsLies_36) (
  aSa (s_iinc (by decide) rfl dX6_isRowAsLies_37) (
  aSa (s_goto (n := 0) (by decide) dX6_isRowAsLies_40) (
  aSa (s_iload_n rfl rfl dX6_isRowAsLies_43) (
  aSa (s_iret (n := 0) rfl dX6_isRowAsLies_44) (
  aSn)))))))))))))))))))))))))))
theorem sn292 : SndL "SlidingtrayModel" "isWhole" cX6_isWhole 8 (Option.some Jvm.ClassFile.FieldType.boolean) [] T292 := aSa (s_iconst (v0 := 0) (by decide) rfl dX6_isWhole_0) (
  aSa (s_istore (by decide) rfl dX6_isWhole_1) (
  aSa (s_aload_n rfl rfl dX6_isWhole_3) (
  aSa (s_getf (T := TX6) rfl (by decide) (by decide) in_X6 q2766 (Or.inl rfl) rfl dX6_isWhole_4) (
  aSa (s_iload rfl dX6_isWhole_7) (
  aSa (s_zald rfl dX6_isWhole_9) (
  aSa (s_ifeq (by decide) rfl dX6_isWhole_10) (
  aSa (s_iinc (by decide) rfl dX6_isWhole_13) (
  aSa (s_goto (n := 0) (by decide) dX6_isWhole_16) (
  aSa (s_iconst (v0 := 0) (by decide) rfl dX6_isWhole_19) (
  aSa (s_istore (by decide) rfl dX6_isWhole_20) (
  aSa (s_iload rfl dX6_isWhole_22) (
  aSa (s_bipush (v0 := 16) (by decide) rfl dX6_isWhole_24) (
  aSa (s_cge (by decide) rfl dX6_isWhole_26) (
  aSa (s_aload_n rfl rfl dX6_isWhole_29) (
  aSa (s_getf (T := TX6) rfl (by decide) (by decide) in_X6 q2767 (Or.inl rfl) rfl dX6_isWhole_30) (
  aSa (s_iload rfl dX6_isWhole_33) (
  aSa (s_iload rfl dX6_isWhole_35) (
  aSa (s_iload rfl dX6_isWhole_37) (
  aSa (s_cne (by decide) rfl dX6_isWhole_39) (
  aSa (s_iconst (v0 := 1) (by decide) rfl dX6_isWhole_42) (
  aSa (s_goto (n := 0) (by decide) dX6_isWhole_43) (
  aSa (s_iconst (v0 := 0) (by decide) rfl dX6_isWhole_46) (
  aSa (s_zast rfl dX6_isWhole_47) (
  aSa (s_iinc (by decide) rfl dX6_isWhole_48) (
  aSa (s_goto (n := 0) (by decide) dX6_isWhole_51) (
  aSa (s_iconst (v0 := 0) (by decide) rfl dX6_isWhole_54) (
  aSa (s_istore (by decide) rfl dX6_isWhole_55) (
  aSa (s_iload rfl dX6_isWhole_57) (
  aSa (s_bipush (v0 := 16) (by decide) rfl dX6_isWhole_59) (
  aSa (s_cge (by decide) rfl dX6_isWhole_61) (
  aSa (s_iconst (v0 := 0) (by decide) rfl dX6_isWhole_64) (
  aSa (s_istore (by decide) rfl dX6_isWhole_65) (
  aSa (s_iload rfl dX6_isWhole_67) (
  aSa (s_iload_n rfl rfl dX6_isWhole_69) (
  aSa (s_iload_n rfl rfl dX6_isWhole_70) (
  aSa (s_imul rfl dX6_isWhole_71) (
  aSa (s_cge (by decide) rfl dX6_isWhole_72) (
  aSa (s_iload rfl dX6_isWhole_75) (
  aSa (s_iload_n rfl rfl dX6_isWhole_77) (
  aSa (s_clt (by decide) rfl dX6_isWhole_78) (
  aSa (s_aload_n rfl rfl dX6_isWhole_81) (
  aSa (s_getf (T := TX6) rfl (by decide) (by decide) in_X6 q2767 (Or.inl rfl) rfl dX6_isWhole_82) (
  aSa (s_iload rfl dX6_isWhole_85) (
  aSa (s_iload_n rfl rfl dX6_isWhole_87) (
  aSa (s_isub rfl dX6_isWhole_88) (
  aSa (s_zald rfl dX6_isWhole_89) (
  aSa (s_ifne (by decide) rfl dX6_isWhole_90) (
  aSa (s_iload rfl dX6_isWhole_93) (
  aSa (s_iload_n rfl rfl dX6_isWhole_95) (
  aSa (s_irem rfl dX6_isWhole_96) (
  aSa (s_ifle (by decide) rfl dX6_isWhole_97) (
  aSa (s_aload_n rfl rfl dX6_isWhole_100) (
  aSa (s_getf (T := TX6) rfl (by decide) (by decide) in_X6 q2767 (Or.inl rfl) rfl dX6_isWhole_101) (
  aSa (s_iload rfl dX6_isWhole_104) (
  aSa (s_iconst (v0 := 1) (by decide) rfl dX6_isWhole_106) (
  aSa (s_isub rfl dX6_isWhole_107) (
  aSa (s_zald rfl dX6_isWhole_108) (
  aSa (s_ifeq (by decide) rfl dX6_isWhole_109) (
  aSa (s_iconst (v0 := 1) (by decide) rfl dX6_isWhole_112) (
  aSa (s_goto (n := 0) (by decide) dX6_isWhole_113) (
  aSa (s_iconst (v0 := 0) (by decide) rfl dX6_isWhole_116) (
  aSa (s_istore (by decide) rfl dX6_isWhole_117) (
  aSa (s_iload rfl dX6_isWhole_119) (
  aSa (s_ifne (by decide) rfl dX6_isWhole_121) (
  aSa (s_iload rfl dX6_isWhole_124) (
  aSa (s_iload_n rfl rfl dX6_isWhole_126) (
  aSa (s_irem rfl dX6_isWhole_127) (
  aSa (s_iconst (v0 := 1) (by decide) rfl dX6_isWhole_128) (
  aSa (s_iadd rfl dX6_isWhole_129) (
  aSa (s_iload_n rfl rfl dX6_isWhole_130) (
  aSa (s_cge (by decide) rfl dX6_isWhole_131) (
  aSa (s_aload_n rfl rfl dX6_isWhole_134) (
  aSa (s_getf (T := TX6) rfl (by decide) (by decide) in_X6 q2767 (Or.inl rfl) rfl dX6_isWhole_135) (
  aSa (s_iload rfl dX6_isWhole_138) (
  aSa (s_iconst (v0 := 1) (by decide) rfl dX6_isWhole_140) (
  aSa (s_iadd rfl dX6_isWhole_141) (
  aSa (s_zald rfl dX6_isWhole_142) (
  aSa (s_ifne (by decide) rfl dX6_isWhole_143) (
  aSa (s_iload rfl dX6_isWhole_146) (
  aSa (s_iload_n rfl rfl dX6_isWhole_148) (
  aSa (s_iadd rfl dX6_isWhole_149) (
  aSa (s_iload_n rfl rfl dX6_isWhole_150) (
  aSa (s_iload_n rfl rfl dX6_isWhole_151) (
  aSa (s_imul rfl dX6_isWhole_152) (
  aSa (s_cge (by decide) rfl dX6_isWhole_153) (
  aSa (s_aload_n rfl rfl dX6_isWhole_156) (
  aSa (s_getf (T := TX6) rfl (by decide) (by decide) in_X6 q2767 (Or.inl rfl) rfl dX6_isWhole_157) (
  aSa (s_iload rfl dX6_isWhole_160) (
  aSa (s_iload_n rfl rfl dX6_isWhole_162) (
  aSa (s_iadd rfl dX6_isWhole_163) (
  aSa (s_zald rfl dX6_isWhole_164) (
  aSa (s_ifeq (by decide) rfl dX6_isWhole_165) (
  aSa (s_iconst (v0 := 1) (by decide) rfl dX6_isWhole_168) (
  aSa (s_goto (n := 0) (by decide) dX6_isWhole_169) (
  aSa (s_iconst (v0 := 0) (by decide) rfl dX6_isWhole_172) (
  aSa (s_istore (by decide) rfl dX6_isWhole_173) (
  aSa (s_aload_n rfl rfl dX6_isWhole_175) (
  aSa (s_getf (T := TX6) rfl (by decide) (by decide) in_X6 q2767 (Or.inl rfl) rfl dX6_isWhole_176) (
  aSa (s_iload rfl dX6_isWhole_179) (
  aSa (s_aload_n rfl rfl dX6_isWhole_181) (
  aSa (s_getf (T := TX6) rfl (by decide) (by decide) in_X6 q2767 (Or.inl rfl) rfl dX6_isWhole_182) (
  aSa (s_iload rfl dX6_isWhole_185) (
  aSa (s_zald rfl dX6_isWhole_187) (
  aSa (s_ifne (by decide) rfl dX6_isWhole_188) (
  aSa (s_iload rfl dX6_isWhole_191) (
  aSa (s_ifeq (by decide) rfl dX6_isWhole_193) (
  aSa (s_aload_n rfl rfl dX6_isWhole_196) (
  aSa (s_getf (T := TX6) rfl (by decide) (by decide) in_X6 q2766 (Or.inl rfl) rfl dX6_isWhole_197) (
  aSa (s_iload rfl dX6_isWhole_200) (
  aSa (s_zald rfl dX6_isWhole_202) (
  aSa (s_ifne (by decide) rfl dX6_isWhole_203) (
  aSa (s_iconst (v0 := 1) (by decide) rfl dX6_isWhole_206) (
  aSa (s_goto (n := 0) (by decide) dX6_isWhole_207) (
  aSa (s_iconst (v0 := 0) (by decide) rfl dX6_isWhole_210) (
  aSa (s_zast rfl dX6_isWhole_211) (
  aSa (s_iinc (by decide) rfl dX6_isWhole_212) (
  aSa (s_goto (n := 0) (by decide) dX6_isWhole_215) (
  aSa (s_iinc (by decide) rfl dX6_isWhole_218) (
  aSa (s_goto (n := 0) (by decide) dX6_isWhole_221) (
  aSa (s_iconst (v0 := 0) (by decide) rfl dX6_isWhole_224) (
  aSa (s_istore (by decide) rfl dX6_isWhole_225) (
  aSa (s_iconst (v0 := 0) (by decide) rfl dX6_isWhole_227) (
  aSa (s_istore (by decide) rfl dX6_isWhole_228) (
  aSa (s_iload rfl dX6_isWhole_230) (
  aSa (s_iload_n rfl rfl dX6_isWhole_232) (
  aSa (s_iload_n rfl rfl dX6_isWhole_233) (
  aSa (s_imul rfl dX6_isWhole_234) (
  aSa (s_cge (by decide) rfl dX6_isWhole_235) (
  aSa (s_iload rfl dX6_isWhole_238) (
  aSa (s_aload_n rfl rfl dX6_isWhole_240) (
  aSa (s_getf (T := TX6) rfl (by decide) (by decide) in_X6 q2767 (Or.inl rfl) rfl dX6_isWhole_241) (
  aSa (s_iload rfl dX6_isWhole_244) (
  aSa (s_zald rfl dX6_isWhole_246) (
  aSa (s_ifeq (by decide) rfl dX6_isWhole_247) (
  aSa (s_iconst (v0 := 1) (by decide) rfl dX6_isWhole_250) (
  aSa (s_goto (n := 0) (by decide) dX6_isWhole_251) (
  aSa (s_iconst (v0 := 0) (by decide) rfl dX6_isWhole_254) (
  aSa (s_iadd rfl dX6_isWhole_255) (
  aSa (s_istore (by decide) rfl dX6_isWhole_256) (
  aSa (s_iinc (by decide) rfl dX6_isWhole_258) (
  aSa (s_goto (n := 0) (by decide) dX6_isWhole_261) (
  aSa (s_iload rfl dX6_isWhole_264) (
  aSa (s_iload_n rfl rfl dX6_isWhole_266) (
  aSa (s_cne (by decide) rfl dX6_isWhole_267) (
  aSa (s_iconst (v0 := 1) (by decide) rfl dX6_isWhole_270) (
  aSa (s_goto (n := 0) (by decide) dX6_isWhole_271) (
  aSa (s_iconst (v0 := 0) (by decide) rfl dX6_isWhole_274) (
  aSa (s_iret (n := 0) rfl dX6_isWhole_275) (
  aSn)))))))))))))))))))))))))))))))))))))))))))))))))))))))))))))))))))))))))))))))))))))))))))))))))))))))))))))))))))))))))))))))))))))))))))))))))))))
theorem sn293 : SndL "SlidingtrayModel" "keep" cX6_keep 3 (Option.some Jvm.ClassFile.FieldType.long) [] T293 := aSa (s_aload_n rfl rfl dX6_keep_0) (
  aSa (s_iload_n rfl rfl dX6_keep_1) (
  aSa (s_iconst (v0 := 0) (by decide) rfl dX6_keep_2) (
  aSa (s_iconst (v0 := 1) (by decide) rfl dX6_keep_3) (
  aSa (s_callS rfl q2954 q2955 q136 q2956 (by decide +kernel) (by decide) aHS0 rfl dX6_keep_4) (
  aSa (s_ifeq (by decide) rfl dX6_keep_7) (
  aSa (s_iconst (v0 := 0) (by decide) rfl dX6_keep_10) (
  aSa (s_goto (n := 0) (by decide) dX6_keep_11) (
  aSa (s_iconst (v0 := 1) (by decide) rfl dX6_keep_14) (
  aSa (s_putf (T := TX6) (ty0 := tyX6) tyX6_ok nmX6 rfl (by decide) (by decide) in_X6 q2751 (Or.inl rfl) rfl rfl rfl dX6_keep_15) (
  aSa (s_aload_n rfl rfl dX6_keep_18) (
  aSa (s_getf (T := TX6) rfl (by decide) (by decide) in_X6 q2751 (Or.inl rfl) rfl dX6_keep_19) (
  aSa (s_ifeq (by decide) rfl dX6_keep_22) (
  aSa (s_lconst (by decide) rfl dX6_keep_25) (
  aSa (s_lret (n := 0) rfl dX6_keep_26) (
  aSa (s_iconst (v0 := 0) (by decide) rfl dX6_keep_27) (
  aSa (s_istore_n rfl (by decide) rfl dX6_keep_28) (
  aSa (s_iload_n rfl rfl dX6_keep_29) (
  aSa (s_bipush (v0 := 16) (by decide) rfl dX6_keep_30) (
  aSa (s_cge (by decide) rfl dX6_keep_32) (
  aSa (s_aload_n rfl rfl dX6_keep_35) (
  aSa (s_getf (T := TX6) rfl (by decide) (by decide) in_X6 q2761 (Or.inl rfl) rfl dX6_keep_36) (
  aSa (s_bipush (v0 := 16) (by decide) rfl dX6_keep_39) (
  aSa (s_iload_n rfl rfl dX6_keep_41) (
  aSa (s_imul rfl dX6_keep_42) (
  aSa (s_iload_n rfl rfl dX6_keep_43) (
  aSa (s_iadd rfl dX6_keep_44) (
  aSa (s_aload_n rfl rfl dX6_keep_45) (
  aSa (s_getf (T := TX6) rfl (by decide) (by decide) in_X6 q2752 (Or.inl rfl) rfl dX6_keep_46) (
  aSa (s_iload_n rfl rfl dX6_keep_49) (
  aSa (s_iald rfl dX6_keep_50) (
  aSa (s_iast rfl dX6_keep_51) (
  aSa (s_aload_n rfl rfl dX6_keep_52) (
  aSa (s_getf (T := TX6) rfl (by decide) (by decide) in_X6 q2762 (Or.inl rfl) rfl dX6_keep_53) (
  aSa (s_bipush (v0 := 16) (by decide) rfl dX6_keep_56) (
  aSa (s_iload_n rfl rfl dX6_keep_58) (
  aSa (s_imul rfl dX6_keep_59) (
  aSa (s_iload_n rfl rfl dX6_keep_60) (
  aSa (s_iadd rfl dX6_keep_61) (
  aSa (s_aload_n rfl rfl dX6_keep_62) (
  aSa (s_getf (T := TX6) rfl (by decide) (by decide) in_X6 q2753 (Or.inl rfl) rfl dX6_keep_63) (
  aSa (s_iload_n rfl rfl dX6_keep_66) (
  aSa (s_iald rfl dX6_keep_67) (
  aSa (s_iast rfl dX6_keep_68) (
  aSa (s_aload_n rfl rfl dX6_keep_69) (
  aSa (s_getf (T := TX6) rfl (by decide) (by decide) in_X6 q2763 (Or.inl rfl) rfl dX6_keep_70) (
  aSa (s_bipush (v0 := 16) (by decide) rfl dX6_keep_73) (
  aSa (s_iload_n rfl rfl dX6_keep_75) (
  aSa (s_imul rfl dX6_keep_76) (
  aSa (s_iload_n rfl rfl dX6_keep_77) (
  aSa (s_iadd rfl dX6_keep_78) (
  aSa (s_aload_n rfl rfl dX6_keep_79) (
  aSa (s_getf (T := TX6) rfl (by decide) (by decide) in_X6 q2754 (Or.inl rfl) rfl dX6_keep_80) (
  aSa (s_iload_n rfl rfl dX6_keep_83) (
  aSa (s_iald rfl dX6_keep_84) (
  aSa (s_iast rfl dX6_keep_85) (
  aSa (s_aload_n rfl rfl dX6_keep_86) (
  aSa (s_getf (T := TX6) rfl (by decide) (by decide) in_X6 q2764 (Or.inl rfl) rfl dX6_keep_87) (
  aSa (s_bipush (v0 := 16) (by decide) rfl dX6_keep_90) (
  aSa (s_iload_n rfl rfl dX6_keep_92) (
  aSa (s_imul rfl dX6_keep_93) (
  aSa (s_iload_n rfl rfl dX6_keep_94) (
  aSa (s_iadd rfl dX6_keep_95) (
  aSa (s_aload_n rfl rfl dX6_keep_96) (
  aSa (s_getf (T := TX6) rfl (by decide) (by decide) in_X6 q2755 (Or.inl rfl) rfl dX6_keep_97) (
  aSa (s_iload_n rfl rfl dX6_keep_100) (
  aSa (s_zald rfl dX6_keep_101) (
  aSa (s_zast rfl dX6_keep_102) (
  aSa (s_iinc (by decide) rfl dX6_keep_103) (
  aSa (s_goto (n := 0) (by decide) dX6_keep_106) (
  aSa (s_aload_n rfl rfl dX6_keep_109) (
  aSa (s_getf (T := TX6) rfl (by decide) (by decide) in_X6 q2765 (Or.inl rfl) rfl dX6_keep_110) (
  aSa (s_iload_n rfl rfl dX6_keep_113) (
  aSa (s_iconst (v0 := 1) (by decide) rfl dX6_keep_114) (
  aSa (s_zast rfl dX6_keep_115) (
  aSa (s_aload_n rfl rfl dX6_keep_116) (
  aSa (s_aload_n rfl rfl dX6_keep_117) (
  aSa (s_getf (T := TX6) rfl (by decide) (by decide) in_X6 q2752 (Or.inl rfl) rfl dX6_keep_118) (
  aSa (s_callV (List.forall_mem_cons.mpr ⟨d_V rfl rfl q3029 q3031 qs66 q136 q3032 rfl (by decide +kernel) (by decide) rfl dX6_keep_121, fun _ h => absurd h List.not_mem_nil⟩) aHS0) (
  aSa (s_lret (n := 0) rfl dX6_keep_124) (
  aSn))))))))))))))))))))))))))))))))))))))))))))))))))))))))))))))))))))))))))))))))
theorem sn294 : SndL "SlidingtrayModel" "lay" cX6_lay 3 (Option.some Jvm.ClassFile.FieldType.int) [] T294 := aSa (s_lload_n rfl rfl dX6_lay_0) (
  aSa (s_lconst (by decide) rfl dX6_lay_1) (
  aSa (s_lcmp rfl dX6_lay_2) (
  aSa (s_iflt (by decide) rfl dX6_lay_3) (
  aSa (s_lload_n rfl rfl dX6_lay_6) (
  aSa (s_aload_n rfl rfl dX6_lay_7) (
  aSa (s_callV (List.forall_mem_cons.mpr ⟨d_V rfl rfl q3004 q3006 qs62 q136 q3007 rfl (by decide +kernel) (by decide) rfl dX6_lay_8, fun _ h => absurd h List.not_mem_nil⟩) aHS0) (
  aSa (s_lcmp rfl dX6_lay_11) (
  aSa (s_iflt (by decide) rfl dX6_lay_12) (
  aSa (s_aload_n rfl rfl dX6_lay_15) (
  aSa (s_iconst (v0 := 1) (by decide) rfl dX6_lay_16) (
  aSa (s_callV (List.forall_mem_cons.mpr ⟨d_V rfl rfl q2957 q2959 qs53 q136 q2960 rfl (by decide +kernel) (by decide) rfl dX6_lay_17, fun _ h => absurd h List.not_mem_nil⟩) aHS0) (
  aSa (s_iret (n := 0) rfl dX6_lay_20) (
  aSa (s_aload_n rfl rfl dX6_lay_21) (
  aSa (s_lload_n rfl rfl dX6_lay_22) (
  aSa (s_aload_n rfl rfl dX6_lay_23) (
  aSa (s_getf (T := TX6) rfl (by decide) (by decide) in_X6 q2752 (Or.inl rfl) rfl dX6_lay_24) (
  aSa (s_callV (List.forall_mem_cons.mpr ⟨d_V rfl rfl q3008 q3010 qs63 q136 q3011 rfl (by decide +kernel) (by decide) rfl dX6_lay_27, fun _ h => absurd h List.not_mem_nil⟩) aHS0) (
  aSa (s_aload_n rfl rfl dX6_lay_30) (
  aSa (s_iconst (v0 := 0) (by decide) rfl dX6_lay_31) (
  aSa (s_putf (T := TX6) (ty0 := tyX6) tyX6_ok nmX6 rfl (by decide) (by decide) in_X6 q2760 (Or.inl rfl) rfl rfl rfl dX6_lay_32) (
  aSa (s_aload_n rfl rfl dX6_lay_35) (
  aSa (s_aload_n rfl rfl dX6_lay_36) (
  aSa (s_getf (T := TX6) rfl (by decide) (by decide) in_X6 q2743 (Or.inl rfl) rfl dX6_lay_37) (
  aSa (s_aload_n rfl rfl dX6_lay_40) (
  aSa (s_aload_n rfl rfl dX6_lay_41) (
  aSa (s_getf (T := TX6) rfl (by decide) (by decide) in_X6 q2752 (Or.inl rfl) rfl dX6_lay_42) (
  aSa (s_callV (List.forall_mem_cons.mpr ⟨d_V rfl rfl q3012 q3014 qs64 q136 q3015 rfl (by decide +kernel) (by decide) rfl dX6_lay_45, fun _ h => absurd h List.not_mem_nil⟩) aHS0) (
  aSa (s_iald rfl dX6_lay_48) (
  aSa (s_callV (List.forall_mem_cons.mpr ⟨d_V rfl rfl q2969 q2971 qs56 q136 q2972 rfl (by decide +kernel) (by decide) rfl dX6_lay_49, fun _ h => absurd h List.not_mem_nil⟩) aHS0) (
  aSa (s_iret (n := 0) rfl dX6_lay_52) (
  aSn)))))))))))))))))))))))))))))))
theorem sn295 : SndL "SlidingtrayModel" "lays" cX6_lays 11 (Option.none : Option Jvm.ClassFile.FieldType) [] T295 := aSa (s_lload_n rfl rfl dX6_lays_0) (
  aSa (s_lstore (by decide) rfl dX6_lays_1) (
  aSa (s_aload_n rfl rfl dX6_lays_3) (
  aSa (s_callV (List.forall_mem_cons.mpr ⟨d_V rfl rfl q3004 q3006 qs62 q136 q3007 rfl (by decide +kernel) (by decide) rfl dX6_lays_4, fun _ h => absurd h List.not_mem_nil⟩) aHS0) (
  aSa (s_lstore (by decide) rfl dX6_lays_7) (
  aSa (s_iconst (v0 := 0) (by decide) rfl dX6_lays_9) (
  aSa (s_istore (by decide) rfl dX6_lays_10) (
  aSa (s_iload rfl dX6_lays_12) (
  aSa (s_aload_n rfl rfl dX6_lays_14) (
  aSa (s_getf (T := TX6) rfl (by decide) (by decide) in_X6 q2750 (Or.inl rfl) rfl dX6_lays_15) (
  aSa (s_cge (by decide) rfl dX6_lays_18) (
  aSa (s_aload_n rfl rfl dX6_lays_21) (
  aSa (s_getf (T := TX6) rfl (by decide) (by decide) in_X6 q2768 (Or.inl rfl) rfl dX6_lays_22) (
  aSa (s_iload rfl dX6_lays_25) (
  aSa (s_iconst (v0 := 0) (by decide) rfl dX6_lays_27) (
  aSa (s_zast rfl dX6_lays_28) (
  aSa (s_iinc (by decide) rfl dX6_lays_29) (
  aSa (s_goto (n := 0) (by decide) dX6_lays_32) (
  aSa (s_iconst (v0 := 0) (by decide) rfl dX6_lays_35) (
  aSa (s_istore (by decide) rfl dX6_lays_36) (
  aSa (s_iload rfl dX6_lays_38) (
  aSa (s_aload_n rfl rfl dX6_lays_40) (
  aSa (s_getf (T := TX6) rfl (by decide) (by decide) in_X6 q2750 (Or.inl rfl) rfl dX6_lays_41) (
  aSa (s_cge (by decide) rfl dX6_lays_44) (
  aSa (s_lload rfl dX6_lays_47) (
  aSa (s_aload_n rfl rfl dX6_lays_49) (
  aSa (s_getf (T := TX6) rfl (by decide) (by decide) in_X6 q2750 (Or.inl rfl) rfl dX6_lays_50) (
  aSa (s_iload rfl dX6_lays_53) (
  aSa (s_isub rfl dX6_lays_55) (
  aSa (s_i2l rfl dX6_lays_56) (
  aSa (s_ldiv rfl dX6_lays_57) (
  aSa (s_lstore (by decide) rfl dX6_lays_58) (
  aSa (s_lload rfl dX6_lays_60) (
  aSa (s_lload rfl dX6_lays_62) (
  aSa (s_ldiv rfl dX6_lays_64) (
  aSa (s_l2i rfl dX6_lays_65) (
  aSa (s_istore (by decide) rfl dX6_lays_66) (
  aSa (s_lload rfl dX6_lays_68) (
  aSa (s_lload rfl dX6_lays_70) (
  aSa (s_lrem rfl dX6_lays_72) (
  aSa (s_lstore (by decide) rfl dX6_lays_73) (
  aSa (s_iconst (v0 := 0) (by decide) rfl dX6_lays_75) (
  aSa (s_istore (by decide) rfl dX6_lays_76) (
  aSa (s_iload rfl dX6_lays_78) (
  aSa (s_iflt (by decide) rfl dX6_lays_80) (
  aSa (s_iinc (by decide) rfl dX6_lays_83) (
  aSa (s_iload rfl dX6_lays_86) (
  aSa (s_aload_n rfl rfl dX6_lays_88) (
  aSa (s_getf (T := TX6) rfl (by decide) (by decide) in_X6 q2768 (Or.inl rfl) rfl dX6_lays_89) (
  aSa (s_iload rfl dX6_lays_92) (
  aSa (s_aload_n rfl rfl dX6_lays_94) (
  aSa (s_getf (T := TX6) rfl (by decide) (by decide) in_X6 q2750 (Or.inl rfl) rfl dX6_lays_95) (
  aSa (s_irem rfl dX6_lays_98) (
  aSa (s_zald rfl dX6_lays_99) (
  aSa (s_ifeq (by decide) rfl dX6_lays_100) (
  aSa (s_iconst (v0 := 0) (by decide) rfl dX6_lays_103) (
  aSa (s_goto (n := 0) (by decide) dX6_lays_104) (
  aSa (s_iconst (v0 := 1) (by decide) rfl dX6_lays_107) (
  aSa (s_isub rfl dX6_lays_108) (
  aSa (s_istore (by decide) rfl dX6_lays_109) (
  aSa (s_goto (n := 0) (by decide) dX6_lays_111) (
  aSa (s_aload_n rfl rfl dX6_lays_114) (
  aSa (s_getf (T := TX6) rfl (by decide) (by decide) in_X6 q2768 (Or.inl rfl) rfl dX6_lays_115) (
  aSa (s_iload rfl dX6_lays_118) (
  aSa (s_aload_n rfl rfl dX6_lays_120) (
  aSa (s_getf (T := TX6) rfl (by decide) (by decide) in_X6 q2750 (Or.inl rfl) rfl dX6_lays_121) (
  aSa (s_irem rfl dX6_lays_124) (
  aSa (s_iconst (v0 := 1) (by decide) rfl dX6_lays_125) (
  aSa (s_zast rfl dX6_lays_126) (
  aSa (s_aload_n rfl rfl dX6_lays_127) (
  aSa (s_iload rfl dX6_lays_128) (
  aSa (s_iload rfl dX6_lays_130) (
  aSa (s_aload_n rfl rfl dX6_lays_132) (
  aSa (s_getf (T := TX6) rfl (by decide) (by decide) in_X6 q2750 (Or.inl rfl) rfl dX6_lays_133) (
  aSa (s_irem rfl dX6_lays_136) (
  aSa (s_iast rfl dX6_lays_137) (
  aSa (s_iinc (by decide) rfl dX6_lays_138) (
  aSa (s_goto (n := 0) (by decide) dX6_lays_141) (
  aSa (s_ret (n := 0) rfl dX6_lays_144) (
  aSn)))))))))))))))))))))))))))))))))))))))))))))))))))))))))))))))))))))))))))))))
theorem sn296 : SndL "SlidingtrayModel" "laysGoal" cX6_laysGoal 2 (Option.none : Option Jvm.ClassFile.FieldType) [] T296 := aSa (s_iconst (v0 := 0) (by decide) rfl dX6_laysGoal_0) (
  aSa (s_istore_n rfl (by decide) rfl dX6_laysGoal_1) (
  aSa (s_iload_n rfl rfl dX6_laysGoal_2) (
  aSa (s_aload_n rfl rfl dX6_laysGoal_3) (
  aSa (s_getf (T := TX6) rfl (by decide) (by decide) in_X6 q2750 (Or.inl rfl) rfl dX6_laysGoal_4) (
  aSa (s_cge (by decide) rfl dX6_laysGoal_7) (
  aSa (s_aload_n rfl rfl dX6_laysGoal_10) (
  aSa (s_getf (T := TX6) rfl (by decide) (by decide) in_X6 q2776 (Or.inl rfl) rfl dX6_laysGoal_11) (
  aSa (s_aload_n rfl rfl dX6_laysGoal_14) (
  aSa (s_getf (T := TX6) rfl (by decide) (by decide) in_X6 q2753 (Or.inl rfl) rfl dX6_laysGoal_15) (
  aSa (s_iload_n rfl rfl dX6_laysGoal_18) (
  aSa (s_iald rfl dX6_laysGoal_19) (
  aSa (s_iload_n rfl rfl dX6_laysGoal_20) (
  aSa (s_iast rfl dX6_laysGoal_21) (
  aSa (s_iinc (by decide) rfl dX6_laysGoal_22) (
  aSa (s_goto (n := 0) (by decide) dX6_laysGoal_25) (
  aSa (s_ret (n := 0) rfl dX6_laysGoal_28) (
  aSn)))))))))))))))))
theorem sn297 : SndL "SlidingtrayModel" "laysRow" cX6_laysRow 2 (Option.none : Option Jvm.ClassFile.FieldType) [] T297 := aSa (s_iconst (v0 := 0) (by decide) rfl dX6_laysRow_0) (
  aSa (s_istore_n rfl (by decide) rfl dX6_laysRow_1) (
  aSa (s_iload_n rfl rfl dX6_laysRow_2) (
  aSa (s_aload_n rfl rfl dX6_laysRow_3) (
  aSa (s_getf (T := TX6) rfl (by decide) (by decide) in_X6 q2750 (Or.inl rfl) rfl dX6_laysRow_4) (
  aSa (s_cge (by decide) rfl dX6_laysRow_7) (
  aSa (s_aload_n rfl rfl dX6_laysRow_10) (
  aSa (s_getf (T := TX6) rfl (by decide) (by decide) in_X6 q2786 (Or.inl rfl) rfl dX6_laysRow_11) (
  aSa (s_iload_n rfl rfl dX6_laysRow_14) (
  aSa (s_aload_n rfl rfl dX6_laysRow_15) (
  aSa (s_getf (T := TX6) rfl (by decide) (by decide) in_X6 q2752 (Or.inl rfl) rfl dX6_laysRow_16) (
  aSa (s_iload_n rfl rfl dX6_laysRow_19) (
  aSa (s_iald rfl dX6_laysRow_20) (
  aSa (s_iast rfl dX6_laysRow_21) (
  aSa (s_iinc (by decide) rfl dX6_laysRow_22) (
  aSa (s_goto (n := 0) (by decide) dX6_laysRow_25) (
  aSa (s_ret (n := 0) rfl dX6_laysRow_28) (
  aSn)))))))))))))))))
theorem sn298 : SndL "SlidingtrayModel" "loads" cX6_loads 3 (Option.none : Option Jvm.ClassFile.FieldType) [] T298 := aSa (s_iconst (v0 := 0) (by decide) rfl dX6_loads_0) (
  aSa (s_istore_n rfl (by decide) rfl dX6_loads_1) (
  aSa (s_iload_n rfl rfl dX6_loads_2) (
  aSa (s_aload_n rfl rfl dX6_loads_3) (
  aSa (s_getf (T := TX6) rfl (by decide) (by decide) in_X6 q2750 (Or.inl rfl) rfl dX6_loads_4) (
  aSa (s_cge (by decide) rfl dX6_loads_7) (
  aSa (s_aload_n rfl rfl dX6_loads_10) (
  aSa (s_getf (T := TX6) rfl (by decide) (by decide) in_X6 q2786 (Or.inl rfl) rfl dX6_loads_11) (
  aSa (s_iload_n rfl rfl dX6_loads_14) (
  aSa (s_aload_n rfl rfl dX6_loads_15) (
  aSa (s_getf (T := TX6) rfl (by decide) (by decide) in_X6 q2777 (Or.inl rfl) rfl dX6_loads_16) (
  aSa (s_bipush (v0 := 16) (by decide) rfl dX6_loads_19) (
  aSa (s_iload_n rfl rfl dX6_loads_21) (
  aSa (s_imul rfl dX6_loads_22) (
  aSa (s_iload_n rfl rfl dX6_loads_23) (
  aSa (s_iadd rfl dX6_loads_24) (
  aSa (s_iald rfl dX6_loads_25) (
  aSa (s_iast rfl dX6_loads_26) (
  aSa (s_iinc (by decide) rfl dX6_loads_27) (
  aSa (s_goto (n := 0) (by decide) dX6_loads_30) (
  aSa (s_ret (n := 0) rfl dX6_loads_33) (
  aSn)))))))))))))))))))))
theorem sn299 : SndL "SlidingtrayModel" "makes" cX6_makes 4 (Option.none : Option Jvm.ClassFile.FieldType) [] T299 := aSa (s_aload_n rfl rfl dX6_makes_0) (
  aSa (s_iconst (v0 := 0) (by decide) rfl dX6_makes_1) (
  aSa (s_putf (T := TX6) (ty0 := tyX6) tyX6_ok nmX6 rfl (by decide) (by decide) in_X6 q2750 (Or.inl rfl) rfl rfl rfl dX6_makes_2) (
  aSa (s_iconst (v0 := 0) (by decide) rfl dX6_makes_5) (
  aSa (s_istore_n rfl (by decide) rfl dX6_makes_6) (
  aSa (s_iload_n rfl rfl dX6_makes_7) (
  aSa (s_aload_n rfl rfl dX6_makes_8) (
  aSa (s_getf (T := TX6) rfl (by decide) (by decide) in_X6 q2748 (Or.inl rfl) rfl dX6_makes_9) (
  aSa (s_aload_n rfl rfl dX6_makes_12) (
  aSa (s_getf (T := TX6) rfl (by decide) (by decide) in_X6 q2749 (Or.inl rfl) rfl dX6_makes_13) (
  aSa (s_imul rfl dX6_makes_16) (
  aSa (s_cge (by decide) rfl dX6_makes_17) (
  aSa (s_aload_n rfl rfl dX6_makes_20) (
  aSa (s_getf (T := TX6) rfl (by decide) (by decide) in_X6 q2744 (Or.inl rfl) rfl dX6_makes_21) (
  aSa (s_iload_n rfl rfl dX6_makes_24) (
  aSa (s_aload_n rfl rfl dX6_makes_25) (
  aSa (s_getf (T := TX6) rfl (by decide) (by decide) in_X6 q2747 (Or.inl rfl) rfl dX6_makes_26) (
  aSa (s_iload_n rfl rfl dX6_makes_29) (
  aSa (s_zald rfl dX6_makes_30) (
  aSa (s_ifeq (by decide) rfl dX6_makes_31) (
  aSa (s_iconst (v0 := (-1)) (by decide) rfl dX6_makes_34) (
  aSa (s_goto (n := 0) (by decide) dX6_makes_35) (
  aSa (s_aload_n rfl rfl dX6_makes_38) (
  aSa (s_getf (T := TX6) rfl (by decide) (by decide) in_X6 q2750 (Or.inl rfl) rfl dX6_makes_39) (
  aSa (s_iast rfl dX6_makes_42) (
  aSa (s_aload_n rfl rfl dX6_makes_43) (
  aSa (s_getf (T := TX6) rfl (by decide) (by decide) in_X6 q2747 (Or.inl rfl) rfl dX6_makes_44) (
  aSa (s_iload_n rfl rfl dX6_makes_47) (
  aSa (s_zald rfl dX6_makes_48) (
  aSa (s_ifne (by decide) rfl dX6_makes_49) (
  aSa (s_aload_n rfl rfl dX6_makes_52) (
  aSa (s_getf (T := TX6) rfl (by decide) (by decide) in_X6 q2743 (Or.inl rfl) rfl dX6_makes_53) (
  aSa (s_aload_n rfl rfl dX6_makes_56) (
  aSa (s_getf (T := TX6) rfl (by decide) (by decide) in_X6 q2750 (Or.inl rfl) rfl dX6_makes_57) (
  aSa (s_iload_n rfl rfl dX6_makes_60) (
  aSa (s_iast rfl dX6_makes_61) (
  aSa (s_aload_n rfl rfl dX6_makes_62) (
  aSa (s_dup rfl dX6_makes_63) (
  aSa (s_getf (T := TX6) rfl (by decide) (by decide) in_X6 q2750 (Or.inl rfl) rfl dX6_makes_64) (
  aSa (s_iconst (v0 := 1) (by decide) rfl dX6_makes_67) (
  aSa (s_iadd rfl dX6_makes_68) (
  aSa (s_putf (T := TX6) (ty0 := tyX6) tyX6_ok nmX6 rfl (by decide) (by decide) in_X6 q2750 (Or.inl rfl) rfl rfl rfl dX6_makes_69) (
  aSa (s_iinc (by decide) rfl dX6_makes_72) (
  aSa (s_goto (n := 0) (by decide) dX6_makes_75) (
  aSa (s_iconst (v0 := 0) (by decide) rfl dX6_makes_78) (
  aSa (s_istore_n rfl (by decide) rfl dX6_makes_79) (
  aSa (s_iload_n rfl rfl dX6_makes_80) (
  aSa (s_aload_n rfl rfl dX6_makes_81) (
  aSa (s_getf (T := TX6) rfl (by decide) (by decide) in_X6 q2750 (Or.inl rfl) rfl dX6_makes_82) (
  aSa (s_cge (by decide) rfl dX6_makes_85) (
  aSa (s_iconst (v0 := 0) (by decide) rfl dX6_makes_88) (
  aSa (s_istore_n rfl (by decide) rfl dX6_makes_89) (
  aSa (s_iload_n rfl rfl dX6_makes_90) (
  aSa (s_iconst (v0 := 4) (by decide) rfl dX6_makes_91) (
  aSa (s_cge (by decide) rfl dX6_makes_92) (
  aSa (s_aload_n rfl rfl dX6_makes_95) (
  aSa (s_aload_n rfl rfl dX6_makes_96) (
  aSa (s_getf (T := TX6) rfl (by decide) (by decide) in_X6 q2743 (Or.inl rfl) rfl dX6_makes_97) (
  aSa (s_iload_n rfl rfl dX6_makes_100) (
  aSa (s_iald rfl dX6_makes_101) (
  aSa (s_iload_n rfl rfl dX6_makes_102) (
  aSa (s_callV (List.forall_mem_cons.mpr ⟨d_V rfl rfl q2734 q2736 qs51 q136 q2737 rfl (by decide +kernel) (by decide) rfl dX6_makes_103, fun _ h => absurd h List.not_mem_nil⟩) aHS0) (
  aSa (s_istore_n rfl (by decide) rfl dX6_makes_106) (
  aSa (s_aload_n rfl rfl dX6_makes_107) (
  aSa (s_getf (T := TX6) rfl (by decide) (by decide) in_X6 q2745 (Or.inl rfl) rfl dX6_makes_108) (
  aSa (s_iconst (v0 := 4) (by decide) rfl dX6_makes_111) (
  aSa (s_iload_n rfl rfl dX6_makes_112) (
  aSa (s_imul rfl dX6_makes_113) (
  aSa (s_iload_n rfl rfl dX6_makes_114) (
  aSa (s_iadd rfl dX6_makes_115) (
  aSa (s_iload_n rfl rfl dX6_makes_116) (
  aSa (s_iconst (v0 := (-1)) (by decide) rfl dX6_makes_117) (
  aSa (s_cne (by decide) rfl dX6_makes_118) (
  aSa (s_iconst (v0 := (-1)) (by decide) rfl dX6_makes_121) (
  aSa (s_goto (n := 0) (by decide) dX6_makes_122) (
  aSa (s_aload_n rfl rfl dX6_makes_125) (
  aSa (s_getf (T := TX6) rfl (by decide) (by decide) in_X6 q2744 (Or.inl rfl) rfl dX6_makes_126) (
  aSa (s_iload_n rfl rfl dX6_makes_129) (
  aSa (s_iald rfl dX6_makes_130) (
  aSa (s_iast rfl dX6_makes_131) (
  aSa (s_iinc (by decide) rfl dX6_makes_132) (
  aSa (s_goto (n := 0) (by decide) dX6_makes_135) (
  aSa (s_iinc (by decide) rfl dX6_makes_138) (
  aSa (s_goto (n := 0) (by decide) dX6_makes_141) (
  aSa (s_iconst (v0 := 0) (by decide) rfl dX6_makes_144) (
  aSa (s_istore_n rfl (by decide) rfl dX6_makes_145) (
  aSa (s_iload_n rfl rfl dX6_makes_146) (
  aSa (s_aload_n rfl rfl dX6_makes_147) (
  aSa (s_getf (T := TX6) rfl (by decide) (by decide) in_X6 q2750 (Or.inl rfl) rfl dX6_makes_148) (
  aSa (s_cge (by decide) rfl dX6_makes_151) (
  aSa (s_aload_n rfl rfl dX6_makes_154) (
  aSa (s_iload_n rfl rfl dX6_makes_155) (
  aSa (s_callV (List.forall_mem_cons.mpr ⟨d_V rfl rfl q2738 q2740 qs52 q136 q2741 rfl (by decide +kernel) (by decide) rfl dX6_makes_156, fun _ h => absurd h List.not_mem_nil⟩) aHS0) (
  aSa (s_iinc (by decide) rfl dX6_makes_159) (
  aSa (s_goto (n := 0) (by decide) dX6_makes_162) (
  aSa (s_iconst (v0 := 0) (by decide) rfl dX6_makes_165) (
  aSa (s_istore_n rfl (by decide) rfl dX6_makes_166) (
  aSa (s_iload_n rfl rfl dX6_makes_167) (
  aSa (s_aload_n rfl rfl dX6_makes_168) (
  aSa (s_getf (T := TX6) rfl (by decide) (by decide) in_X6 q2750 (Or.inl rfl) rfl dX6_makes_169) (
  aSa (s_cge (by decide) rfl dX6_makes_172) (
  aSa (s_iload_n rfl rfl dX6_makes_175) (
  aSa (s_iconst (v0 := 1) (by decide) rfl dX6_makes_176) (
  aSa (s_iadd rfl dX6_makes_177) (
  aSa (s_aload_n rfl rfl dX6_makes_178) (
  aSa (s_getf (T := TX6) rfl (by decide) (by decide) in_X6 q2750 (Or.inl rfl) rfl dX6_makes_179) (
  aSa (s_cge (by decide) rfl dX6_makes_182) (
  aSa (s_iload_n rfl rfl dX6_makes_185) (
  aSa (s_iconst (v0 := 1) (by decide) rfl dX6_makes_186) (
  aSa (s_iadd rfl dX6_makes_187) (
  aSa (s_goto (n := 0) (by decide) dX6_makes_188) (
  aSa (s_iconst (v0 := 0) (by decide) rfl dX6_makes_191) (
  aSa (s_istore_n rfl (by decide) rfl dX6_makes_192) (
  aSa (s_aload_n rfl rfl dX6_makes_193) (
  aSa (s_getf (T := TX6) rfl (by decide) (by decide) in_X6 q2752 (Or.inl rfl) rfl dX6_makes_194) (
  aSa (s_iload_n rfl rfl dX6_makes_197) (
  aSa (s_iload_n rfl rfl dX6_makes_198) (
  aSa (s_iast rfl dX6_makes_199) (
  aSa (s_aload_n rfl rfl dX6_makes_200) (
  aSa (s_getf (T := TX6) rfl (by decide) (by decide) in_X6 q2753 (Or.inl rfl) rfl dX6_makes_201) (
  aSa (s_iload_n rfl rfl dX6_makes_204) (
  aSa (s_iload_n rfl rfl dX6_makes_205) (
  aSa (s_iast rfl dX6_makes_206) (
  aSa (s_aload_n rfl rfl dX6_makes_207) (
  aSa (s_getf (T := TX6) rfl (by decide) (by decide) in_X6 q2754 (Or.inl rfl) rfl dX6_makes_208) (
  aSa (s_iload_n rfl rfl dX6_makes_211) (
  aSa (s_iconst (v0 := 1) (by decide) rfl dX6_makes_212) (
  aSa (s_iast rfl dX6_makes_213) (
  aSa (s_aload_n rfl rfl dX6_makes_214) (
  aSa (s_getf (T := TX6) rfl (by decide) (by decide) in_X6 q2755 (Or.inl rfl) rfl dX6_makes_215) (
  aSa (s_iload_n rfl rfl dX6_makes_218) (
  aSa (s_iconst (v0 := 0) (by decide) rfl dX6_makes_219) (
  aSa (s_zast rfl dX6_makes_220) (
  aSa (s_iinc (by decide) rfl dX6_makes_221) (
  aSa (s_goto (n := 0) (by decide) dX6_makes_224) (
  aSa (s_aload_n rfl rfl dX6_makes_227) (
  aSa (s_iconst (v0 := 0) (by decide) rfl dX6_makes_228) (
  aSa (s_putf (T := TX6) (ty0 := tyX6) tyX6_ok nmX6 rfl (by decide) (by decide) in_X6 q2775 (Or.inl rfl) rfl rfl rfl dX6_makes_229) (
  aSa (s_aload_n rfl rfl dX6_makes_232) (
  aSa (s_iconst (v0 := 0) (by decide) rfl dX6_makes_233) (
  aSa (s_putf (T := TX6) (ty0 := tyX6) tyX6_ok nmX6 rfl (by decide) (by decide) in_X6 q2760 (Or.inl rfl) rfl rfl rfl dX6_makes_234) (
  aSa (s_iconst (v0 := 0) (by decide) rfl dX6_makes_237) (
  aSa (s_istore_n rfl (by decide) rfl dX6_makes_238) (
  aSa (s_iload_n rfl rfl dX6_makes_239) (
  aSa (s_iconst (v0 := 4) (by decide) rfl dX6_makes_240) (
  aSa (s_cge (by decide) rfl dX6_makes_241) (
  aSa (s_aload_n rfl rfl dX6_makes_244) (
  aSa (s_getf (T := TX6) rfl (by decide) (by decide) in_X6 q2758 (Or.inl rfl) rfl dX6_makes_245) (
  aSa (s_iload_n rfl rfl dX6_makes_248) (
  aSa (s_iconst (v0 := 0) (by decide) rfl dX6_makes_249) (
  aSa (s_iast rfl dX6_makes_250) (
  aSa (s_iinc (by decide) rfl dX6_makes_251) (
  aSa (s_goto (n := 0) (by decide) dX6_makes_254) (
  aSa (s_aload_n rfl rfl dX6_makes_257) (
  aSa (s_getf (T := TX6) rfl (by decide) (by decide) in_X6 q2765 (Or.inl rfl) rfl dX6_makes_258) (
  aSa (s_iconst (v0 := 0) (by decide) rfl dX6_makes_261) (
  aSa (s_iconst (v0 := 0) (by decide) rfl dX6_makes_262) (
  aSa (s_zast rfl dX6_makes_263) (
  aSa (s_aload_n rfl rfl dX6_makes_264) (
  aSa (s_getf (T := TX6) rfl (by decide) (by decide) in_X6 q2765 (Or.inl rfl) rfl dX6_makes_265) (
  aSa (s_iconst (v0 := 1) (by decide) rfl dX6_makes_268) (
  aSa (s_iconst (v0 := 0) (by decide) rfl dX6_makes_269) (
  aSa (s_zast rfl dX6_makes_270) (
  aSa (s_aload_n rfl rfl dX6_makes_271) (
  aSa (s_iconst (v0 := 0) (by decide) rfl dX6_makes_272) (
  aSa (s_putf (T := TX6) (ty0 := tyX6) tyX6_ok nmX6 rfl (by decide) (by decide) in_X6 q2790 (Or.inl rfl) rfl rfl rfl dX6_makes_273) (
  aSa (s_aload_n rfl rfl dX6_makes_276) (
  aSa (s_iconst (v0 := 0) (by decide) rfl dX6_makes_277) (
  aSa (s_putf (T := TX6) (ty0 := tyX6) tyX6_ok nmX6 rfl (by decide) (by decide) in_X6 q2791 (Or.inl rfl) rfl rfl rfl dX6_makes_278) (
  aSa (s_aload_n rfl rfl dX6_makes_281) (
  aSa (s_iconst (v0 := 0) (by decide) rfl dX6_makes_282) (
  aSa (s_putf (T := TX6) (ty0 := tyX6) tyX6_ok nmX6 rfl (by decide) (by decide) in_X6 q2792 (Or.inl rfl) rfl rfl rfl dX6_makes_283) (
  aSa (s_aload_n rfl rfl dX6_makes_286) (
  aSa (s_iconst (v0 := 0) (by decide) rfl dX6_makes_287) (
  aSa (s_putf (T := TX6) (ty0 := tyX6) tyX6_ok nmX6 rfl (by decide) (by decide) in_X6 q2789 (Or.inl rfl) rfl rfl rfl dX6_makes_288) (
  aSa (s_ret (n := 0) rfl dX6_makes_291) (
  aSn))))))))))))))))))))))))))))))))))))))))))))))))))))))))))))))))))))))))))))))))))))))))))))))))))))))))))))))))))))))))))))))))))))))))))))))))))))))))))))))))))))))))))))))))
theorem sn300 : SndL "SlidingtrayModel" "makes" cX6_makes_2 4 (Option.some Jvm.ClassFile.FieldType.int) [] T300 := aSa (s_aload_n rfl rfl dX6_makes_2_0) (
  aSa (s_aload_n rfl rfl dX6_makes_2_1) (
  aSa (s_getf (T := TX6) rfl (by decide) (by decide) in_X6 q2752 (Or.inl rfl) rfl dX6_makes_2_2) (
  aSa (s_iload_n rfl rfl dX6_makes_2_5) (
  aSa (s_callV (List.forall_mem_cons.mpr ⟨d_V rfl rfl q3021 q3023 qs65 q136 q3024 rfl (by decide +kernel) (by decide) rfl dX6_makes_2_6, fun _ h => absurd h List.not_mem_nil⟩) aHS0) (
  aSa (s_istore_n rfl (by decide) rfl dX6_makes_2_9) (
  aSa (s_iload_n rfl rfl dX6_makes_2_10) (
  aSa (s_iconst (v0 := (-1)) (by decide) rfl dX6_makes_2_11) (
  aSa (s_cne (by decide) rfl dX6_makes_2_12) (
  aSa (s_iconst (v0 := (-1)) (by decide) rfl dX6_makes_2_15) (
  aSa (s_iret (n := 0) rfl dX6_makes_2_16) (
  aSa (s_aload_n rfl rfl dX6_makes_2_17) (
  aSa (s_getf (T := TX6) rfl (by decide) (by decide) in_X6 q2760 (Or.inl rfl) rfl dX6_makes_2_18) (
  aSa (s_sipush (v0 := 200) (by decide) rfl dX6_makes_2_21) (
  aSa (s_cne (by decide) rfl dX6_makes_2_24) (
  aSa (s_iconst (v0 := 1) (by decide) rfl dX6_makes_2_27) (
  aSa (s_istore_n rfl (by decide) rfl dX6_makes_2_28) (
  aSa (s_iload_n rfl rfl dX6_makes_2_29) (
  aSa (s_sipush (v0 := 200) (by decide) rfl dX6_makes_2_30) (
  aSa (s_cge (by decide) rfl dX6_makes_2_33) (
  aSa (s_aload_n rfl rfl dX6_makes_2_36) (
  aSa (s_getf (T := TX6) rfl (by decide) (by decide) in_X6 q2757 (Or.inl rfl) rfl dX6_makes_2_37) (
  aSa (s_iload_n rfl rfl dX6_makes_2_40) (
  aSa (s_iconst (v0 := 1) (by decide) rfl dX6_makes_2_41) (
  aSa (s_isub rfl dX6_makes_2_42) (
  aSa (s_aload_n rfl rfl dX6_makes_2_43) (
  aSa (s_getf (T := TX6) rfl (by decide) (by decide) in_X6 q2757 (Or.inl rfl) rfl dX6_makes_2_44) (
  aSa (s_iload_n rfl rfl dX6_makes_2_47) (
  aSa (s_iald rfl dX6_makes_2_48) (
  aSa (s_iast rfl dX6_makes_2_49) (
  aSa (s_iinc (by decide) rfl dX6_makes_2_50) (
  aSa (s_goto (n := 0) (by decide) dX6_makes_2_53) (
  aSa (s_aload_n rfl rfl dX6_makes_2_56) (
  aSa (s_dup rfl dX6_makes_2_57) (
  aSa (s_getf (T := TX6) rfl (by decide) (by decide) in_X6 q2760 (Or.inl rfl) rfl dX6_makes_2_58) (
  aSa (s_iconst (v0 := 1) (by decide) rfl dX6_makes_2_61) (
  aSa (s_isub rfl dX6_makes_2_62) (
  aSa (s_putf (T := TX6) (ty0 := tyX6) tyX6_ok nmX6 rfl (by decide) (by decide) in_X6 q2760 (Or.inl rfl) rfl rfl rfl dX6_makes_2_63) (
  aSa (s_aload_n rfl rfl dX6_makes_2_66) (
  aSa (s_getf (T := TX6) rfl (by decide) (by decide) in_X6 q2757 (Or.inl rfl) rfl dX6_makes_2_67) (
  aSa (s_aload_n rfl rfl dX6_makes_2_70) (
  aSa (s_getf (T := TX6) rfl (by decide) (by decide) in_X6 q2760 (Or.inl rfl) rfl dX6_makes_2_71) (
  aSa (s_iconst (v0 := 3) (by decide) rfl dX6_makes_2_74) (
  aSa (s_iload_n rfl rfl dX6_makes_2_75) (
  aSa (s_isub rfl dX6_makes_2_76) (
  aSa (s_iast rfl dX6_makes_2_77) (
  aSa (s_aload_n rfl rfl dX6_makes_2_78) (
  aSa (s_dup rfl dX6_makes_2_79) (
  aSa (s_getf (T := TX6) rfl (by decide) (by decide) in_X6 q2760 (Or.inl rfl) rfl dX6_makes_2_80) (
  aSa (s_iconst (v0 := 1) (by decide) rfl dX6_makes_2_83) (
  aSa (s_iadd rfl dX6_makes_2_84) (
  aSa (s_putf (T := TX6) (ty0 := tyX6) tyX6_ok nmX6 rfl (by decide) (by decide) in_X6 q2760 (Or.inl rfl) rfl rfl rfl dX6_makes_2_85) (
  aSa (s_iload_n rfl rfl dX6_makes_2_88) (
  aSa (s_iret (n := 0) rfl dX6_makes_2_89) (
  aSn))))))))))))))))))))))))))))))))))))))))))))))))))))))
theorem sn301 : SndL "SlidingtrayModel" "meanWeight" cX6_meanWeight 3 (Option.some Jvm.ClassFile.FieldType.double) [] T301 := aSa (s_aload_n rfl rfl dX6_meanWeight_0) (
  aSa (s_iconst (v0 := 0) (by decide) rfl dX6_meanWeight_1) (
  aSa (s_putf (T := TX6) (ty0 := tyX6) tyX6_ok nmX6 rfl (by decide) (by decide) in_X6 q2751 (Or.inl rfl) rfl rfl rfl dX6_meanWeight_2) (
  aSa (s_iconst (v0 := 0) (by decide) rfl dX6_meanWeight_5) (
  aSa (s_istore_n rfl (by decide) rfl dX6_meanWeight_6) (
  aSa (s_iconst (v0 := 1) (by decide) rfl dX6_meanWeight_7) (
  aSa (s_istore_n rfl (by decide) rfl dX6_meanWeight_8) (
  aSa (s_iload_n rfl rfl dX6_meanWeight_9) (
  aSa (s_aload_n rfl rfl dX6_meanWeight_10) (
  aSa (s_getf (T := TX6) rfl (by decide) (by decide) in_X6 q2750 (Or.inl rfl) rfl dX6_meanWeight_11) (
  aSa (s_cge (by decide) rfl dX6_meanWeight_14) (
  aSa (s_iload_n rfl rfl dX6_meanWeight_17) (
  aSa (s_aload_n rfl rfl dX6_meanWeight_18) (
  aSa (s_getf (T := TX6) rfl (by decide) (by decide) in_X6 q2754 (Or.inl rfl) rfl dX6_meanWeight_19) (
  aSa (s_iload_n rfl rfl dX6_meanWeight_22) (
  aSa (s_iald rfl dX6_meanWeight_23) (
  aSa (s_iadd rfl dX6_meanWeight_24) (
  aSa (s_istore_n rfl (by decide) rfl dX6_meanWeight_25) (
  aSa (s_iinc (by decide) rfl dX6_meanWeight_26) (
  aSa (s_goto (n := 0) (by decide) dX6_meanWeight_29) (
  aSa (s_iload_n rfl rfl dX6_meanWeight_32) (
  aSa (s_i2d rfl dX6_meanWeight_33) (
  aSa (s_aload_n rfl rfl dX6_meanWeight_34) (
  aSa (s_callV (List.forall_mem_cons.mpr ⟨d_V rfl rfl q2965 q2967 qs55 q136 q2968 rfl (by decide +kernel) (by decide) rfl dX6_meanWeight_35, fun _ h => absurd h List.not_mem_nil⟩) aHS0) (
  aSa (s_i2d rfl dX6_meanWeight_38) (
  aSa (s_ddiv rfl dX6_meanWeight_39) (
  aSa (s_dret (n := 0) rfl dX6_meanWeight_40) (
  aSn)))))))))))))))))))))))))))
theorem sn302 : SndL "SlidingtrayModel" "mix" cX6_mix 10 (Option.some Jvm.ClassFile.FieldType.int) [] T302 := aSa (s_iload_n rfl rfl dX6_mix_0) (
  aSa (s_iconst (v0 := 0) (by decide) rfl dX6_mix_1) (
  aSa (s_sipush (v0 := 200) (by decide) rfl dX6_mix_2) (
  aSa (s_callS rfl q2954 q2955 q136 q2956 (by decide +kernel) (by decide) aHS0 rfl dX6_mix_5) (
  aSa (s_ifne (by decide) rfl dX6_mix_8) (
  aSa (s_aload_n rfl rfl dX6_mix_11) (
  aSa (s_iconst (v0 := 1) (by decide) rfl dX6_mix_12) (
  aSa (s_callV (List.forall_mem_cons.mpr ⟨d_V rfl rfl q2957 q2959 qs53 q136 q2960 rfl (by decide +kernel) (by decide) rfl dX6_mix_13, fun _ h => absurd h List.not_mem_nil⟩) aHS0) (
  aSa (s_iret (n := 0) rfl dX6_mix_16) (
  aSa (s_iload_n rfl rfl dX6_mix_17) (
  aSa (s_istore_n rfl (by decide) rfl dX6_mix_18) (
  aSa (s_iconst (v0 := 0) (by decide) rfl dX6_mix_19) (
  aSa (s_istore (by decide) rfl dX6_mix_20) (
  aSa (s_iload rfl dX6_mix_22) (
  aSa (s_iload_n rfl rfl dX6_mix_24) (
  aSa (s_cge (by decide) rfl dX6_mix_25) (
  aSa (s_aload_n rfl rfl dX6_mix_28) (
  aSa (s_aload_n rfl rfl dX6_mix_29) (
  aSa (s_getf (T := TX6) rfl (by decide) (by decide) in_X6 q2752 (Or.inl rfl) rfl dX6_mix_30) (
  aSa (s_callV (List.forall_mem_cons.mpr ⟨d_V rfl rfl q3012 q3014 qs64 q136 q3015 rfl (by decide +kernel) (by decide) rfl dX6_mix_33, fun _ h => absurd h List.not_mem_nil⟩) aHS0) (
  aSa (s_istore (by decide) rfl dX6_mix_36) (
  aSa (s_iconst (v0 := 0) (by decide) rfl dX6_mix_38) (
  aSa (s_istore (by decide) rfl dX6_mix_39) (
  aSa (s_iconst (v0 := 0) (by decide) rfl dX6_mix_41) (
  aSa (s_istore (by decide) rfl dX6_mix_42) (
  aSa (s_iload rfl dX6_mix_44) (
  aSa (s_iconst (v0 := 4) (by decide) rfl dX6_mix_46) (
  aSa (s_cge (by decide) rfl dX6_mix_47) (
  aSa (s_iload rfl dX6_mix_50) (
  aSa (s_aload_n rfl rfl dX6_mix_52) (
  aSa (s_getf (T := TX6) rfl (by decide) (by decide) in_X6 q2745 (Or.inl rfl) rfl dX6_mix_53) (
  aSa (s_iconst (v0 := 4) (by decide) rfl dX6_mix_56) (
  aSa (s_iload rfl dX6_mix_57) (
  aSa (s_imul rfl dX6_mix_59) (
  aSa (s_iload rfl dX6_mix_60) (
  aSa (s_iadd rfl dX6_mix_62) (
  aSa (s_iald rfl dX6_mix_63) (
  aSa (s_iconst (v0 := (-1)) (by decide) rfl dX6_mix_64) (
  aSa (s_cne (by decide) rfl dX6_mix_65) (
  aSa (s_iconst (v0 := 0) (by decide) rfl dX6_mix_68) (
  aSa (s_goto (n := 0) (by decide) dX6_mix_69) (
  aSa (s_iconst (v0 := 1) (by decide) rfl dX6_mix_72) (
  aSa (s_iadd rfl dX6_mix_73) (
  aSa (s_istore (by decide) rfl dX6_mix_74) (
  aSa (s_iinc (by decide) rfl dX6_mix_76) (
  aSa (s_goto (n := 0) (by decide) dX6_mix_79) (
  aSa (s_iload_n rfl rfl dX6_mix_82) (
  aSa (s_ldcw q3020 rfl dX6_mix_83) (
  aSa (s_imul rfl dX6_mix_86) (
  aSa (s_sipush (v0 := 12345) (by decide) rfl dX6_mix_87) (
  aSa (s_iadd rfl dX6_mix_90) (
  aSa (s_istore_n rfl (by decide) rfl dX6_mix_91) (
  aSa (s_iload_n rfl rfl dX6_mix_92) (
  aSa (s_bipush (v0 := 16) (by decide) rfl dX6_mix_93) (
  aSa (s_iushr rfl dX6_mix_95) (
  aSa (s_iload rfl dX6_mix_96) (
  aSa (s_irem rfl dX6_mix_98) (
  aSa (s_istore (by decide) rfl dX6_mix_99) (
  aSa (s_iconst (v0 := (-1)) (by decide) rfl dX6_mix_101) (
  aSa (s_istore (by decide) rfl dX6_mix_102) (
  aSa (s_iload rfl dX6_mix_104) (
  aSa (s_iflt (by decide) rfl dX6_mix_106) (
  aSa (s_iinc (by decide) rfl dX6_mix_109) (
  aSa (s_iload rfl dX6_mix_112) (
  aSa (s_aload_n rfl rfl dX6_mix_114) (
  aSa (s_getf (T := TX6) rfl (by decide) (by decide) in_X6 q2745 (Or.inl rfl) rfl dX6_mix_115) (
  aSa (s_iconst (v0 := 4) (by decide) rfl dX6_mix_118) (
  aSa (s_iload rfl dX6_mix_119) (
  aSa (s_imul rfl dX6_mix_121) (
  aSa (s_iload rfl dX6_mix_122) (
  aSa (s_iadd rfl dX6_mix_124) (
  aSa (s_iald rfl dX6_mix_125) (
  aSa (s_iconst (v0 := (-1)) (by decide) rfl dX6_mix_126) (
  aSa (s_cne (by decide) rfl dX6_mix_127) (
  aSa (s_iconst (v0 := 0) (by decide) rfl dX6_mix_130) (
  aSa (s_goto (n := 0) (by decide) dX6_mix_131) (
  aSa (s_iconst (v0 := 1) (by decide) rfl dX6_mix_134) (
  aSa (s_isub rfl dX6_mix_135) (
  aSa (s_istore (by decide) rfl dX6_mix_136) (
  aSa (s_goto (n := 0) (by decide) dX6_mix_138) (
  aSa (s_aload_n rfl rfl dX6_mix_141) (
  aSa (s_aload_n rfl rfl dX6_mix_142) (
  aSa (s_getf (T := TX6) rfl (by decide) (by decide) in_X6 q2752 (Or.inl rfl) rfl dX6_mix_143) (
  aSa (s_iload rfl dX6_mix_146) (
  aSa (s_callV (List.forall_mem_cons.mpr ⟨d_V rfl rfl q3021 q3023 qs65 q136 q3024 rfl (by decide +kernel) (by decide) rfl dX6_mix_148, fun _ h => absurd h List.not_mem_nil⟩) aHS0) (
  aSa (s_istore (by decide) rfl dX6_mix_151) (
  aSa (s_iinc (by decide) rfl dX6_mix_153) (
  aSa (s_goto (n := 0) (by decide) dX6_mix_156) (
  aSa (s_aload_n rfl rfl dX6_mix_159) (
  aSa (s_iconst (v0 := 0) (by decide) rfl dX6_mix_160) (
  aSa (s_putf (T := TX6) (ty0 := tyX6) tyX6_ok nmX6 rfl (by decide) (by decide) in_X6 q2760 (Or.inl rfl) rfl rfl rfl dX6_mix_161) (
  aSa (s_aload_n rfl rfl dX6_mix_164) (
  aSa (s_aload_n rfl rfl dX6_mix_165) (
  aSa (s_getf (T := TX6) rfl (by decide) (by decide) in_X6 q2743 (Or.inl rfl) rfl dX6_mix_166) (
  aSa (s_aload_n rfl rfl dX6_mix_169) (
  aSa (s_aload_n rfl rfl dX6_mix_170) (
  aSa (s_getf (T := TX6) rfl (by decide) (by decide) in_X6 q2752 (Or.inl rfl) rfl dX6_mix_171) (
  aSa (s_callV (List.forall_mem_cons.mpr ⟨d_V rfl rfl q3012 q3014 qs64 q136 q3015 rfl (by decide +kernel) (by decide) rfl dX6_mix_174, fun _ h => absurd h List.not_mem_nil⟩) aHS0) (
  aSa (s_iald rfl dX6_mix_177) (
  aSa (s_callV (List.forall_mem_cons.mpr ⟨d_V rfl rfl q2969 q2971 qs56 q136 q2972 rfl (by decide +kernel) (by decide) rfl dX6_mix_178, fun _ h => absurd h List.not_mem_nil⟩) aHS0) (
  aSa (s_iret (n := 0) rfl dX6_mix_181) (
  aSn)))))))))))))))))))))))))))))))))))))))))))))))))))))))))))))))))))))))))))))))))))))))))))))))))))))
theorem sn303 : SndL "SlidingtrayModel" "move" cX6_move 6 (Option.some Jvm.ClassFile.FieldType.int) [] T303 := aSa (s_iload_n rfl rfl dX6_move_0) (
  aSa (s_iconst (v0 := 0) (by decide) rfl dX6_move_1) (
  aSa (s_iconst (v0 := 3) (by decide) rfl dX6_move_2) (
  aSa (s_callS rfl q2954 q2955 q136 q2956 (by decide +kernel) (by decide) aHS0 rfl dX6_move_3) (
  aSa (s_ifeq (by decide) rfl dX6_move_6) (
  aSa (s_iload_n rfl rfl dX6_move_9) (
  aSa (s_iconst (v0 := 1) (by decide) rfl dX6_move_10) (
  aSa (s_iconst (v0 := 3) (by decide) rfl dX6_move_11) (
  aSa (s_callS rfl q2954 q2955 q136 q2956 (by decide +kernel) (by decide) aHS0 rfl dX6_move_12) (
  aSa (s_ifne (by decide) rfl dX6_move_15) (
  aSa (s_aload_n rfl rfl dX6_move_18) (
  aSa (s_iconst (v0 := 1) (by decide) rfl dX6_move_19) (
  aSa (s_callV (List.forall_mem_cons.mpr ⟨d_V rfl rfl q2957 q2959 qs53 q136 q2960 rfl (by decide +kernel) (by decide) rfl dX6_move_20, fun _ h => absurd h List.not_mem_nil⟩) aHS0) (
  aSa (s_iret (n := 0) rfl dX6_move_23) (
  aSa (s_aload_n rfl rfl dX6_move_24) (
  aSa (s_aload_n rfl rfl dX6_move_25) (
  aSa (s_getf (T := TX6) rfl (by decide) (by decide) in_X6 q2752 (Or.inl rfl) rfl dX6_move_26) (
  aSa (s_callV (List.forall_mem_cons.mpr ⟨d_V rfl rfl q3012 q3014 qs64 q136 q3015 rfl (by decide +kernel) (by decide) rfl dX6_move_29, fun _ h => absurd h List.not_mem_nil⟩) aHS0) (
  aSa (s_istore_n rfl (by decide) rfl dX6_move_32) (
  aSa (s_iconst (v0 := 0) (by decide) rfl dX6_move_33) (
  aSa (s_istore (by decide) rfl dX6_move_34) (
  aSa (s_iload rfl dX6_move_36) (
  aSa (s_iload_n rfl rfl dX6_move_38) (
  aSa (s_cge (by decide) rfl dX6_move_39) (
  aSa (s_iload_n rfl rfl dX6_move_42) (
  aSa (s_iconst (v0 := (-1)) (by decide) rfl dX6_move_43) (
  aSa (s_cne (by decide) rfl dX6_move_44) (
  aSa (s_iconst (v0 := (-1)) (by decide) rfl dX6_move_47) (
  aSa (s_goto (n := 0) (by decide) dX6_move_48) (
  aSa (s_aload_n rfl rfl dX6_move_51) (
  aSa (s_getf (T := TX6) rfl (by decide) (by decide) in_X6 q2745 (Or.inl rfl) rfl dX6_move_52) (
  aSa (s_iconst (v0 := 4) (by decide) rfl dX6_move_55) (
  aSa (s_iload_n rfl rfl dX6_move_56) (
  aSa (s_imul rfl dX6_move_57) (
  aSa (s_iload_n rfl rfl dX6_move_58) (
  aSa (s_iadd rfl dX6_move_59) (
  aSa (s_iald rfl dX6_move_60) (
  aSa (s_istore_n rfl (by decide) rfl dX6_move_61) (
  aSa (s_iinc (by decide) rfl dX6_move_62) (
  aSa (s_goto (n := 0) (by decide) dX6_move_65) (
  aSa (s_iload_n rfl rfl dX6_move_68) (
  aSa (s_iconst (v0 := (-1)) (by decide) rfl dX6_move_69) (
  aSa (s_cne (by decide) rfl dX6_move_70) (
  aSa (s_aload_n rfl rfl dX6_move_73) (
  aSa (s_iconst (v0 := 2) (by decide) rfl dX6_move_74) (
  aSa (s_callV (List.forall_mem_cons.mpr ⟨d_V rfl rfl q2957 q2959 qs53 q136 q2960 rfl (by decide +kernel) (by decide) rfl dX6_move_75, fun _ h => absurd h List.not_mem_nil⟩) aHS0) (
  aSa (s_iret (n := 0) rfl dX6_move_78) (
  aSa (s_iconst (v0 := 0) (by decide) rfl dX6_move_79) (
  aSa (s_istore (by decide) rfl dX6_move_80) (
  aSa (s_iconst (v0 := 0) (by decide) rfl dX6_move_82) (
  aSa (s_istore (by decide) rfl dX6_move_83) (
  aSa (s_iload rfl dX6_move_85) (
  aSa (s_iload_n rfl rfl dX6_move_87) (
  aSa (s_cge (by decide) rfl dX6_move_88) (
  aSa (s_iload rfl dX6_move_91) (
  aSa (s_aload_n rfl rfl dX6_move_93) (
  aSa (s_iload_n rfl rfl dX6_move_94) (
  aSa (s_callV (List.forall_mem_cons.mpr ⟨d_V rfl rfl q3061 q3063 qs70 q136 q3064 rfl (by decide +kernel) (by decide) rfl dX6_move_95, fun _ h => absurd h List.not_mem_nil⟩) aHS0) (
  aSa (s_iadd rfl dX6_move_98) (
  aSa (s_istore (by decide) rfl dX6_move_99) (
  aSa (s_iinc (by decide) rfl dX6_move_101) (
  aSa (s_goto (n := 0) (by decide) dX6_move_104) (
  aSa (s_aload_n rfl rfl dX6_move_107) (
  aSa (s_iload rfl dX6_move_108) (
  aSa (s_callV (List.forall_mem_cons.mpr ⟨d_V rfl rfl q2969 q2971 qs56 q136 q2972 rfl (by decide +kernel) (by decide) rfl dX6_move_110, fun _ h => absurd h List.not_mem_nil⟩) aHS0) (
  aSa (s_iret (n := 0) rfl dX6_move_113) (
  aSn))))))))))))))))))))))))))))))))))))))))))))))))))))))))))))))))))
theorem sn304 : SndL "SlidingtrayModel" "moves" cX6_moves 7 (Option.some Jvm.ClassFile.FieldType.int) [] T304 := aSa (s_aload_n rfl rfl dX6_moves_0) (
  aSa (s_getf (T := TX6) rfl (by decide) (by decide) in_X6 q2772 (Or.inl rfl) rfl dX6_moves_1) (
  aSa (s_iload_n rfl rfl dX6_moves_4) (
  aSa (s_iald rfl dX6_moves_5) (
  aSa (s_istore_n rfl (by decide) rfl dX6_moves_6) (
  aSa (s_aload_n rfl rfl dX6_moves_7) (
  aSa (s_getf (T := TX6) rfl (by decide) (by decide) in_X6 q2745 (Or.inl rfl) rfl dX6_moves_8) (
  aSa (s_iconst (v0 := 4) (by decide) rfl dX6_moves_11) (
  aSa (s_aload_n rfl rfl dX6_moves_12) (
  aSa (s_getf (T := TX6) rfl (by decide) (by decide) in_X6 q2774 (Or.inl rfl) rfl dX6_moves_13) (
  aSa (s_iload_n rfl rfl dX6_moves_16) (
  aSa (s_iald rfl dX6_moves_17) (
  aSa (s_imul rfl dX6_moves_18) (
  aSa (s_iload_n rfl rfl dX6_moves_19) (
  aSa (s_iadd rfl dX6_moves_20) (
  aSa (s_iald rfl dX6_moves_21) (
  aSa (s_istore (by decide) rfl dX6_moves_22) (
  aSa (s_iload rfl dX6_moves_24) (
  aSa (s_iconst (v0 := (-1)) (by decide) rfl dX6_moves_26) (
  aSa (s_cne (by decide) rfl dX6_moves_27) (
  aSa (s_iconst (v0 := (-1)) (by decide) rfl dX6_moves_30) (
  aSa (s_iret (n := 0) rfl dX6_moves_31) (
  aSa (s_iconst (v0 := 0) (by decide) rfl dX6_moves_32) (
  aSa (s_istore (by decide) rfl dX6_moves_33) (
  aSa (s_iconst (v0 := 0) (by decide) rfl dX6_moves_35) (
  aSa (s_istore (by decide) rfl dX6_moves_36) (
  aSa (s_iload rfl dX6_moves_38) (
  aSa (s_iload_n rfl rfl dX6_moves_40) (
  aSa (s_cge (by decide) rfl dX6_moves_41) (
  aSa (s_aload_n rfl rfl dX6_moves_44) (
  aSa (s_getf (T := TX6) rfl (by decide) (by decide) in_X6 q2774 (Or.inl rfl) rfl dX6_moves_45) (
  aSa (s_iload rfl dX6_moves_48) (
  aSa (s_iald rfl dX6_moves_50) (
  aSa (s_iload rfl dX6_moves_51) (
  aSa (s_cne (by decide) rfl dX6_moves_53) (
  aSa (s_aload_n rfl rfl dX6_moves_56) (
  aSa (s_getf (T := TX6) rfl (by decide) (by decide) in_X6 q2754 (Or.inl rfl) rfl dX6_moves_57) (
  aSa (s_aload_n rfl rfl dX6_moves_60) (
  aSa (s_getf (T := TX6) rfl (by decide) (by decide) in_X6 q2771 (Or.inl rfl) rfl dX6_moves_61) (
  aSa (s_iconst (v0 := 3) (by decide) rfl dX6_moves_64) (
  aSa (s_iload_n rfl rfl dX6_moves_65) (
  aSa (s_imul rfl dX6_moves_66) (
  aSa (s_iload rfl dX6_moves_67) (
  aSa (s_iadd rfl dX6_moves_69) (
  aSa (s_iald rfl dX6_moves_70) (
  aSa (s_iald rfl dX6_moves_71) (
  aSa (s_istore (by decide) rfl dX6_moves_72) (
  aSa (s_aload_n rfl rfl dX6_moves_74) (
  aSa (s_getf (T := TX6) rfl (by decide) (by decide) in_X6 q2774 (Or.inl rfl) rfl dX6_moves_75) (
  aSa (s_iload rfl dX6_moves_78) (
  aSa (s_aload_n rfl rfl dX6_moves_80) (
  aSa (s_getf (T := TX6) rfl (by decide) (by decide) in_X6 q2774 (Or.inl rfl) rfl dX6_moves_81) (
  aSa (s_iload_n rfl rfl dX6_moves_84) (
  aSa (s_iald rfl dX6_moves_85) (
  aSa (s_iast rfl dX6_moves_86) (
  aSa (s_iinc (by decide) rfl dX6_moves_87) (
  aSa (s_goto (n := 0) (by decide) dX6_moves_90) (
  aSa (s_aload_n rfl rfl dX6_moves_93) (
  aSa (s_getf (T := TX6) rfl (by decide) (by decide) in_X6 q2774 (Or.inl rfl) rfl dX6_moves_94) (
  aSa (s_iload_n rfl rfl dX6_moves_97) (
  aSa (s_iload rfl dX6_moves_98) (
  aSa (s_iast rfl dX6_moves_100) (
  aSa (s_iload rfl dX6_moves_101) (
  aSa (s_iret (n := 0) rfl dX6_moves_103) (
  aSn))))))))))))))))))))))))))))))))))))))))))))))))))))))))))))))))
theorem sn305 : SndL "SlidingtrayModel" "onlyWay" cX6_onlyWay 3 (Option.some Jvm.ClassFile.FieldType.int) [] T305 := aSa (s_iload_n rfl rfl dX6_onlyWay_0) (
  aSa (s_ifge (by decide) rfl dX6_onlyWay_1) (
  aSa (s_aload_n rfl rfl dX6_onlyWay_4) (
  aSa (s_iconst (v0 := 1) (by decide) rfl dX6_onlyWay_5) (
  aSa (s_callV (List.forall_mem_cons.mpr ⟨d_V rfl rfl q2957 q2959 qs53 q136 q2960 rfl (by decide +kernel) (by decide) rfl dX6_onlyWay_6, fun _ h => absurd h List.not_mem_nil⟩) aHS0) (
  aSa (s_iret (n := 0) rfl dX6_onlyWay_9) (
  aSa (s_aload_n rfl rfl dX6_onlyWay_10) (
  aSa (s_getf (T := TX6) rfl (by decide) (by decide) in_X6 q2750 (Or.inl rfl) rfl dX6_onlyWay_11) (
  aSa (s_bipush (v0 := 6) (by decide) rfl dX6_onlyWay_14) (
  aSa (s_cle (by decide) rfl dX6_onlyWay_16) (
  aSa (s_aload_n rfl rfl dX6_onlyWay_19) (
  aSa (s_iconst (v0 := 2) (by decide) rfl dX6_onlyWay_20) (
  aSa (s_callV (List.forall_mem_cons.mpr ⟨d_V rfl rfl q2957 q2959 qs53 q136 q2960 rfl (by decide +kernel) (by decide) rfl dX6_onlyWay_21, fun _ h => absurd h List.not_mem_nil⟩) aHS0) (
  aSa (s_iret (n := 0) rfl dX6_onlyWay_24) (
  aSa (s_aload_n rfl rfl dX6_onlyWay_25) (
  aSa (s_callV (List.forall_mem_cons.mpr ⟨d_V rfl rfl q3238 q3240 qs96 q136 q3241 rfl (by decide +kernel) (by decide) rfl dX6_onlyWay_26, fun _ h => absurd h List.not_mem_nil⟩) aHS0) (
  aSa (s_aload_n rfl rfl dX6_onlyWay_29) (
  aSa (s_callV (List.forall_mem_cons.mpr ⟨d_V rfl rfl q3242 q3244 qs97 q136 q3245 rfl (by decide +kernel) (by decide) rfl dX6_onlyWay_30, fun _ h => absurd h List.not_mem_nil⟩) aHS0) (
  aSa (s_iconst (v0 := 0) (by decide) rfl dX6_onlyWay_33) (
  aSa (s_istore_n rfl (by decide) rfl dX6_onlyWay_34) (
  aSa (s_iload_n rfl rfl dX6_onlyWay_35) (
  aSa (s_aload_n rfl rfl dX6_onlyWay_36) (
  aSa (s_getf (T := TX6) rfl (by decide) (by decide) in_X6 q2808 (Or.inl rfl) rfl dX6_onlyWay_37) (
  aSa (s_cge (by decide) rfl dX6_onlyWay_40) (
  aSa (s_aload_n rfl rfl dX6_onlyWay_43) (
  aSa (s_getf (T := TX6) rfl (by decide) (by decide) in_X6 q2804 (Or.inl rfl) rfl dX6_onlyWay_44) (
  aSa (s_iload_n rfl rfl dX6_onlyWay_47) (
  aSa (s_iald rfl dX6_onlyWay_48) (
  aSa (s_ldc q2742 rfl dX6_onlyWay_49) (
  aSa (s_cge (by decide) rfl dX6_onlyWay_51) (
  aSa (s_aload_n rfl rfl dX6_onlyWay_54) (
  aSa (s_getf (T := TX6) rfl (by decide) (by decide) in_X6 q2804 (Or.inl rfl) rfl dX6_onlyWay_55) (
  aSa (s_iload_n rfl rfl dX6_onlyWay_58) (
  aSa (s_iald rfl dX6_onlyWay_59) (
  aSa (s_iload_n rfl rfl dX6_onlyWay_60) (
  aSa (s_cne (by decide) rfl dX6_onlyWay_61) (
  aSa (s_aload_n rfl rfl dX6_onlyWay_64) (
  aSa (s_getf (T := TX6) rfl (by decide) (by decide) in_X6 q2807 (Or.inl rfl) rfl dX6_onlyWay_65) (
  aSa (s_iload_n rfl rfl dX6_onlyWay_68) (
  aSa (s_iald rfl dX6_onlyWay_69) (
  aSa (s_iconst (v0 := 1) (by decide) rfl dX6_onlyWay_70) (
  aSa (s_cne (by decide) rfl dX6_onlyWay_71) (
  aSa (s_aload_n rfl rfl dX6_onlyWay_74) (
  aSa (s_iload_n rfl rfl dX6_onlyWay_75) (
  aSa (s_callV (List.forall_mem_cons.mpr ⟨d_V rfl rfl q2969 q2971 qs56 q136 q2972 rfl (by decide +kernel) (by decide) rfl dX6_onlyWay_76, fun _ h => absurd h List.not_mem_nil⟩) aHS0) (
  aSa (s_iret (n := 0) rfl dX6_onlyWay_79) (
  aSa (s_iinc (by decide) rfl dX6_onlyWay_80) (
  aSa (s_goto (n := 0) (by decide) dX6_onlyWay_83) (
  aSa (s_aload_n rfl rfl dX6_onlyWay_86) (
  aSa (s_iconst (v0 := (-1)) (by decide) rfl dX6_onlyWay_87) (
  aSa (s_callV (List.forall_mem_cons.mpr ⟨d_V rfl rfl q2969 q2971 qs56 q136 q2972 rfl (by decide +kernel) (by decide) rfl dX6_onlyWay_88, fun _ h => absurd h List.not_mem_nil⟩) aHS0) (
  aSa (s_iret (n := 0) rfl dX6_onlyWay_91) (
  aSn))))))))))))))))))))))))))))))))))))))))))))))))))))
theorem sn306 : SndL "SlidingtrayModel" "pairs" cX6_pairs 4 (Option.some Jvm.ClassFile.FieldType.int) [] T306 := aSa (s_iconst (v0 := 0) (by decide) rfl dX6_pairs_0) (
  aSa (s_istore_n rfl (by decide) rfl dX6_pairs_1) (
  aSa (s_iconst (v0 := 0) (by decide) rfl dX6_pairs_2) (
  aSa (s_istore_n rfl (by decide) rfl dX6_pairs_3) (
  aSa (s_iload_n rfl rfl dX6_pairs_4) (
  aSa (s_aload_n rfl rfl dX6_pairs_5) (
  aSa (s_getf (T := TX6) rfl (by decide) (by decide) in_X6 q2748 (Or.inl rfl) rfl dX6_pairs_6) (
  aSa (s_cge (by decide) rfl dX6_pairs_9) (
  aSa (s_iload_n rfl rfl dX6_pairs_12) (
  aSa (s_aload_n rfl rfl dX6_pairs_13) (
  aSa (s_aload_n rfl rfl dX6_pairs_14) (
  aSa (s_iconst (v0 := 1) (by decide) rfl dX6_pairs_15) (
  aSa (s_iload_n rfl rfl dX6_pairs_16) (
  aSa (s_callV (List.forall_mem_cons.mpr ⟨d_V rfl rfl q3137 q3139 qs78 q136 q3140 rfl (by decide +kernel) (by decide) rfl dX6_pairs_17, fun _ h => absurd h List.not_mem_nil⟩) aHS0) (
  aSa (s_iadd rfl dX6_pairs_20) (
  aSa (s_istore_n rfl (by decide) rfl dX6_pairs_21) (
  aSa (s_iinc (by decide) rfl dX6_pairs_22) (
  aSa (s_goto (n := 0) (by decide) dX6_pairs_25) (
  aSa (s_iconst (v0 := 0) (by decide) rfl dX6_pairs_28) (
  aSa (s_istore_n rfl (by decide) rfl dX6_pairs_29) (
  aSa (s_iload_n rfl rfl dX6_pairs_30) (
  aSa (s_aload_n rfl rfl dX6_pairs_31) (
  aSa (s_getf (T := TX6) rfl (by decide) (by decide) in_X6 q2749 (Or.inl rfl) rfl dX6_pairs_32) (
  aSa (s_cge (by decide) rfl dX6_pairs_35) (
  aSa (s_iload_n rfl rfl dX6_pairs_38) (
  aSa (s_aload_n rfl rfl dX6_pairs_39) (
  aSa (s_aload_n rfl rfl dX6_pairs_40) (
  aSa (s_iconst (v0 := 0) (by decide) rfl dX6_pairs_41) (
  aSa (s_iload_n rfl rfl dX6_pairs_42) (
  aSa (s_callV (List.forall_mem_cons.mpr ⟨d_V rfl rfl q3137 q3139 qs78 q136 q3140 rfl (by decide +kernel) (by decide) rfl dX6_pairs_43, fun _ h => absurd h List.not_mem_nil⟩) aHS0) (
  aSa (s_iadd rfl dX6_pairs_46) (
  aSa (s_istore_n rfl (by decide) rfl dX6_pairs_47) (
  aSa (s_iinc (by decide) rfl dX6_pairs_48) (
  aSa (s_goto (n := 0) (by decide) dX6_pairs_51) (
  aSa (s_aload_n rfl rfl dX6_pairs_54) (
  aSa (s_aload_n rfl rfl dX6_pairs_55) (
  aSa (s_callV (List.forall_mem_cons.mpr ⟨d_V rfl rfl q3129 q3131 qs76 q136 q3132 rfl (by decide +kernel) (by decide) rfl dX6_pairs_56, fun _ h => absurd h List.not_mem_nil⟩) aHS0) (
  aSa (s_iconst (v0 := 2) (by decide) rfl dX6_pairs_59) (
  aSa (s_iload_n rfl rfl dX6_pairs_60) (
  aSa (s_imul rfl dX6_pairs_61) (
  aSa (s_iadd rfl dX6_pairs_62) (
  aSa (s_iret (n := 0) rfl dX6_pairs_63) (
  aSn))))))))))))))))))))))))))))))))))))))))))
theorem sn307 : SndL "SlidingtrayModel" "part" cX6_part 6 (Option.some Jvm.ClassFile.FieldType.int) [] T307 := aSa (s_iload_n rfl rfl dX6_part_0) (
  aSa (s_ifle (by decide) rfl dX6_part_1) (
  aSa (s_iload_n rfl rfl dX6_part_4) (
  aSa (s_iconst (v0 := 1) (by decide) rfl dX6_part_5) (
  aSa (s_iand rfl dX6_part_6) (
  aSa (s_ifne (by decide) rfl dX6_part_7) (
  aSa (s_iload_n rfl rfl dX6_part_10) (
  aSa (s_iconst (v0 := 1) (by decide) rfl dX6_part_11) (
  aSa (s_aload_n rfl rfl dX6_part_12) (
  aSa (s_getf (T := TX6) rfl (by decide) (by decide) in_X6 q2750 (Or.inl rfl) rfl dX6_part_13) (
  aSa (s_ishl rfl dX6_part_16) (
  aSa (s_cge (by decide) rfl dX6_part_17) (
  aSa (s_iload_n rfl rfl dX6_part_20) (
  aSa (s_callS rfl q2977 q2978 q136 q2979 (by decide +kernel) (by decide) aHS0 rfl dX6_part_21) (
  aSa (s_iconst (v0 := 3) (by decide) rfl dX6_part_24) (
  aSa (s_cgt (by decide) rfl dX6_part_25) (
  aSa (s_iconst (v0 := 1) (by decide) rfl dX6_part_28) (
  aSa (s_goto (n := 0) (by decide) dX6_part_29) (
  aSa (s_iconst (v0 := 0) (by decide) rfl dX6_part_32) (
  aSa (s_istore_n rfl (by decide) rfl dX6_part_33) (
  aSa (s_iconst (v0 := 1) (by decide) rfl dX6_part_34) (
  aSa (s_istore_n rfl (by decide) rfl dX6_part_35) (
  aSa (s_iload_n rfl rfl dX6_part_36) (
  aSa (s_aload_n rfl rfl dX6_part_37) (
  aSa (s_getf (T := TX6) rfl (by decide) (by decide) in_X6 q2750 (Or.inl rfl) rfl dX6_part_38) (
  aSa (s_cge (by decide) rfl dX6_part_41) (
  aSa (s_iload_n rfl rfl dX6_part_44) (
  aSa (s_ifeq (by decide) rfl dX6_part_45) (
  aSa (s_iload_n rfl rfl dX6_part_48) (
  aSa (s_iload_n rfl rfl dX6_part_49) (
  aSa (s_ishr rfl dX6_part_50) (
  aSa (s_iconst (v0 := 1) (by decide) rfl dX6_part_51) (
  aSa (s_iand rfl dX6_part_52) (
  aSa (s_ifeq (by decide) rfl dX6_part_53) (
  aSa (s_aload_n rfl rfl dX6_part_56) (
  aSa (s_getf (T := TX6) rfl (by decide) (by decide) in_X6 q2755 (Or.inl rfl) rfl dX6_part_57) (
  aSa (s_iload_n rfl rfl dX6_part_60) (
  aSa (s_zald rfl dX6_part_61) (
  aSa (s_ifne (by decide) rfl dX6_part_62) (
  aSa (s_iconst (v0 := 1) (by decide) rfl dX6_part_65) (
  aSa (s_goto (n := 0) (by decide) dX6_part_66) (
  aSa (s_iconst (v0 := 0) (by decide) rfl dX6_part_69) (
  aSa (s_istore_n rfl (by decide) rfl dX6_part_70) (
  aSa (s_iinc (by decide) rfl dX6_part_71) (
  aSa (s_goto (n := 0) (by decide) dX6_part_74) (
  aSa (s_iload_n rfl rfl dX6_part_77) (
  aSa (s_ifne (by decide) rfl dX6_part_78) (
  aSa (s_aload_n rfl rfl dX6_part_81) (
  aSa (s_iconst (v0 := 1) (by decide) rfl dX6_part_82) (
  aSa (s_callV (List.forall_mem_cons.mpr ⟨d_V rfl rfl q2957 q2959 qs53 q136 q2960 rfl (by decide +kernel) (by decide) rfl dX6_part_83, fun _ h => absurd h List.not_mem_nil⟩) aHS0) (
  aSa (s_iret (n := 0) rfl dX6_part_86) (
  aSa (s_iconst (v0 := 0) (by decide) rfl dX6_part_87) (
  aSa (s_istore_n rfl (by decide) rfl dX6_part_88) (
  aSa (s_iconst (v0 := 0) (by decide) rfl dX6_part_89) (
  aSa (s_istore (by decide) rfl dX6_part_90) (
  aSa (s_iload rfl dX6_part_92) (
  aSa (s_aload_n rfl rfl dX6_part_94) (
  aSa (s_getf (T := TX6) rfl (by decide) (by decide) in_X6 q2775 (Or.inl rfl) rfl dX6_part_95) (
  aSa (s_cge (by decide) rfl dX6_part_98) (
  aSa (s_iconst (v0 := 0) (by decide) rfl dX6_part_101) (
  aSa (s_istore (by decide) rfl dX6_part_102) (
  aSa (s_iload rfl dX6_part_104) (
  aSa (s_aload_n rfl rfl dX6_part_106) (
  aSa (s_getf (T := TX6) rfl (by decide) (by decide) in_X6 q2772 (Or.inl rfl) rfl dX6_part_107) (
  aSa (s_iload rfl dX6_part_110) (
  aSa (s_iald rfl dX6_part_112) (
  aSa (s_cge (by decide) rfl dX6_part_113) (
  aSa (s_iload_n rfl rfl dX6_part_116) (
  aSa (s_ifne (by decide) rfl dX6_part_117) (
  aSa (s_iload_n rfl rfl dX6_part_120) (
  aSa (s_aload_n rfl rfl dX6_part_121) (
  aSa (s_getf (T := TX6) rfl (by decide) (by decide) in_X6 q2771 (Or.inl rfl) rfl dX6_part_122) (
  aSa (s_iconst (v0 := 3) (by decide) rfl dX6_part_125) (
  aSa (s_iload rfl dX6_part_126) (
  aSa (s_imul rfl dX6_part_128) (
  aSa (s_iload rfl dX6_part_129) (
  aSa (s_iadd rfl dX6_part_131) (
  aSa (s_iald rfl dX6_part_132) (
  aSa (s_ishr rfl dX6_part_133) (
  aSa (s_iconst (v0 := 1) (by decide) rfl dX6_part_134) (
  aSa (s_iand rfl dX6_part_135) (
  aSa (s_iconst (v0 := 1) (by decide) rfl dX6_part_136) (
  aSa (s_cne (by decide) rfl dX6_part_137) (
  aSa (s_iconst (v0 := 1) (by decide) rfl dX6_part_140) (
  aSa (s_goto (n := 0) (by decide) dX6_part_141) (
  aSa (s_iconst (v0 := 0) (by decide) rfl dX6_part_144) (
  aSa (s_istore_n rfl (by decide) rfl dX6_part_145) (
  aSa (s_iinc (by decide) rfl dX6_part_146) (
  aSa (s_goto (n := 0) (by decide) dX6_part_149) (
  aSa (s_iinc (by decide) rfl dX6_part_152) (
  aSa (s_goto (n := 0) (by decide) dX6_part_155) (
  aSa (s_aload_n rfl rfl dX6_part_158) (
  aSa (s_getf (T := TX6) rfl (by decide) (by decide) in_X6 q2775 (Or.inl rfl) rfl dX6_part_159) (
  aSa (s_iconst (v0 := 2) (by decide) rfl dX6_part_162) (
  aSa (s_ceq (by decide) rfl dX6_part_163) (
  aSa (s_iload_n rfl rfl dX6_part_166) (
  aSa (s_ifne (by decide) rfl dX6_part_167) (
  aSa (s_aload_n rfl rfl dX6_part_170) (
  aSa (s_getf (T := TX6) rfl (by decide) (by decide) in_X6 q2750 (Or.inl rfl) rfl dX6_part_171) (
  aSa (s_bipush (v0 := 9) (by decide) rfl dX6_part_174) (
  aSa (s_cle (by decide) rfl dX6_part_176) (
  aSa (s_aload_n rfl rfl dX6_part_179) (
  aSa (s_iconst (v0 := 2) (by decide) rfl dX6_part_180) (
  aSa (s_callV (List.forall_mem_cons.mpr ⟨d_V rfl rfl q2957 q2959 qs53 q136 q2960 rfl (by decide +kernel) (by decide) rfl dX6_part_181, fun _ h => absurd h List.not_mem_nil⟩) aHS0) (
  aSa (s_iret (n := 0) rfl dX6_part_184) (
  aSa (s_aload_n rfl rfl dX6_part_185) (
  aSa (s_getf (T := TX6) rfl (by decide) (by decide) in_X6 q2772 (Or.inl rfl) rfl dX6_part_186) (
  aSa (s_aload_n rfl rfl dX6_part_189) (
  aSa (s_getf (T := TX6) rfl (by decide) (by decide) in_X6 q2775 (Or.inl rfl) rfl dX6_part_190) (
  aSa (s_iconst (v0 := 0) (by decide) rfl dX6_part_193) (
  aSa (s_iast rfl dX6_part_194) (
  aSa (s_iconst (v0 := 1) (by decide) rfl dX6_part_195) (
  aSa (s_istore (by decide) rfl dX6_part_196) (
  aSa (s_iload rfl dX6_part_198) (
  aSa (s_aload_n rfl rfl dX6_part_200) (
  aSa (s_getf (T := TX6) rfl (by decide) (by decide) in_X6 q2750 (Or.inl rfl) rfl dX6_part_201) (
  aSa (s_cge (by decide) rfl dX6_part_204) (
  aSa (s_iload_n rfl rfl dX6_part_207) (
  aSa (s_iload rfl dX6_part_208) (
  aSa (s_ishr rfl dX6_part_210) (
  aSa (s_iconst (v0 := 1) (by decide) rfl dX6_part_211) (
  aSa (s_iand rfl dX6_part_212) (
  aSa (s_iconst (v0 := 1) (by decide) rfl dX6_part_213) (
  aSa (s_cne (by decide) rfl dX6_part_214) (
  aSa (s_aload_n rfl rfl dX6_part_217) (
  aSa (s_getf (T := TX6) rfl (by decide) (by decide) in_X6 q2771 (Or.inl rfl) rfl dX6_part_218) (
  aSa (s_iconst (v0 := 3) (by decide) rfl dX6_part_221) (
  aSa (s_aload_n rfl rfl dX6_part_222) (
  aSa (s_getf (T := TX6) rfl (by decide) (by decide) in_X6 q2775 (Or.inl rfl) rfl dX6_part_223) (
  aSa (s_imul rfl dX6_part_226) (
  aSa (s_aload_n rfl rfl dX6_part_227) (
  aSa (s_getf (T := TX6) rfl (by decide) (by decide) in_X6 q2772 (Or.inl rfl) rfl dX6_part_228) (
  aSa (s_aload_n rfl rfl dX6_part_231) (
  aSa (s_getf (T := TX6) rfl (by decide) (by decide) in_X6 q2775 (Or.inl rfl) rfl dX6_part_232) (
  aSa (s_iald rfl dX6_part_235) (
  aSa (s_iadd rfl dX6_part_236) (
  aSa (s_iload rfl dX6_part_237) (
  aSa (s_iast rfl dX6_part_239) (
  aSa (s_aload_n rfl rfl dX6_part_240) (
  aSa (s_getf (T := TX6) rfl (by decide) (by decide) in_X6 q2772 (Or.inl rfl) rfl dX6_part_241) (
  aSa (s_aload_n rfl rfl dX6_part_244) (
  aSa (s_getf (T := TX6) rfl (by decide) (by decide) in_X6 q2775 (Or.inl rfl) rfl dX6_part_245) (
  aSa (s_dup2 rfl dX6_part_248) (
  aSa (s_iald rfl dX6_part_249) (
  aSa (s_iconst (v0 := 1) (by decide) rfl dX6_part_250) (
  aSa (s_iadd rfl dX6_part_251) (
  aSa (s_iast rfl dX6_part_252) (
  aSa (s_iinc (by decide) rfl dX6_part_253) (
  aSa (s_goto (n := 0) (by decide) dX6_part_256) (
  aSa (s_aload_n rfl rfl dX6_part_259) (
  aSa (s_aload_n rfl rfl dX6_part_260) (
  aSa (s_getf (T := TX6) rfl (by decide) (by decide) in_X6 q2775 (Or.inl rfl) rfl dX6_part_261) (
  aSa (s_callV (List.forall_mem_cons.mpr ⟨d_V rfl rfl q2980 q2982 qs57 q136 q2983 rfl (by decide +kernel) (by decide) rfl dX6_part_264, fun _ h => absurd h List.not_mem_nil⟩) aHS0) (
  aSa (s_istore (by decide) rfl dX6_part_267) (
  aSa (s_aload_n rfl rfl dX6_part_269) (
  aSa (s_dup rfl dX6_part_270) (
  aSa (s_getf (T := TX6) rfl (by decide) (by decide) in_X6 q2775 (Or.inl rfl) rfl dX6_part_271) (
  aSa (s_iconst (v0 := 1) (by decide) rfl dX6_part_274) (
  aSa (s_iadd rfl dX6_part_275) (
  aSa (s_putf (T := TX6) (ty0 := tyX6) tyX6_ok nmX6 rfl (by decide) (by decide) in_X6 q2775 (Or.inl rfl) rfl rfl rfl dX6_part_276) (
  aSa (s_aload_n rfl rfl dX6_part_279) (
  aSa (s_iload rfl dX6_part_280) (
  aSa (s_callV (List.forall_mem_cons.mpr ⟨d_V rfl rfl q2969 q2971 qs56 q136 q2972 rfl (by decide +kernel) (by decide) rfl dX6_part_282, fun _ h => absurd h List.not_mem_nil⟩) aHS0) (
  aSa (s_iret (n := 0) rfl dX6_part_285) (
  aSn))))))))))))))))))))))))))))))))))))))))))))))))))))))))))))))))))))))))))))))))))))))))))))))))))))))))))))))))))))))))))))))))))))))))))))))))))))))))))))))))))))
theorem sn308 : SndL "SlidingtrayModel" "placeAt" cX6_placeAt 4 (Option.some Jvm.ClassFile.FieldType.int) [] T308 := aSa (s_iconst (v0 := 0) (by decide) rfl dX6_placeAt_0) (
  aSa (s_istore_n rfl (by decide) rfl dX6_placeAt_1) (
  aSa (s_iconst (v0 := 0) (by decide) rfl dX6_placeAt_2) (
  aSa (s_istore_n rfl (by decide) rfl dX6_placeAt_3) (
  aSa (s_iload_n rfl rfl dX6_placeAt_4) (
  aSa (s_aload_n rfl rfl dX6_placeAt_5) (
  aSa (s_getf (T := TX6) rfl (by decide) (by decide) in_X6 q2772 (Or.inl rfl) rfl dX6_placeAt_6) (
  aSa (s_iload_n rfl rfl dX6_placeAt_9) (
  aSa (s_iald rfl dX6_placeAt_10) (
  aSa (s_cgt (by decide) rfl dX6_placeAt_11) (
  aSa (s_bipush (v0 := 9) (by decide) rfl dX6_placeAt_14) (
  aSa (s_iload_n rfl rfl dX6_placeAt_16) (
  aSa (s_imul rfl dX6_placeAt_17) (
  aSa (s_aload_n rfl rfl dX6_placeAt_18) (
  aSa (s_getf (T := TX6) rfl (by decide) (by decide) in_X6 q2774 (Or.inl rfl) rfl dX6_placeAt_19) (
  aSa (s_iload_n rfl rfl dX6_placeAt_22) (
  aSa (s_iald rfl dX6_placeAt_23) (
  aSa (s_iadd rfl dX6_placeAt_24) (
  aSa (s_istore_n rfl (by decide) rfl dX6_placeAt_25) (
  aSa (s_iinc (by decide) rfl dX6_placeAt_26) (
  aSa (s_goto (n := 0) (by decide) dX6_placeAt_29) (
  aSa (s_iload_n rfl rfl dX6_placeAt_32) (
  aSa (s_iret (n := 0) rfl dX6_placeAt_33) (
  aSn)))))))))))))))))))))))
theorem sn309 : SndL "SlidingtrayModel" "play" cX6_play 4 (Option.some Jvm.ClassFile.FieldType.int) [] T309 := aSa (s_iload_n rfl rfl dX6_play_0) (
  aSa (s_iconst (v0 := 0) (by decide) rfl dX6_play_1) (
  aSa (s_iconst (v0 := 3) (by decide) rfl dX6_play_2) (
  aSa (s_callS rfl q2954 q2955 q136 q2956 (by decide +kernel) (by decide) aHS0 rfl dX6_play_3) (
  aSa (s_ifne (by decide) rfl dX6_play_6) (
  aSa (s_aload_n rfl rfl dX6_play_9) (
  aSa (s_iconst (v0 := 1) (by decide) rfl dX6_play_10) (
  aSa (s_callV (List.forall_mem_cons.mpr ⟨d_V rfl rfl q2957 q2959 qs53 q136 q2960 rfl (by decide +kernel) (by decide) rfl dX6_play_11, fun _ h => absurd h List.not_mem_nil⟩) aHS0) (
  aSa (s_iret (n := 0) rfl dX6_play_14) (
  aSa (s_iload_n rfl rfl dX6_play_15) (
  aSa (s_iconst (v0 := 1) (by decide) rfl dX6_play_16) (
  aSa (s_bipush (v0 := 20) (by decide) rfl dX6_play_17) (
  aSa (s_callS rfl q2954 q2955 q136 q2956 (by decide +kernel) (by decide) aHS0 rfl dX6_play_19) (
  aSa (s_ifne (by decide) rfl dX6_play_22) (
  aSa (s_aload_n rfl rfl dX6_play_25) (
  aSa (s_iconst (v0 := 2) (by decide) rfl dX6_play_26) (
  aSa (s_callV (List.forall_mem_cons.mpr ⟨d_V rfl rfl q2957 q2959 qs53 q136 q2960 rfl (by decide +kernel) (by decide) rfl dX6_play_27, fun _ h => absurd h List.not_mem_nil⟩) aHS0) (
  aSa (s_iret (n := 0) rfl dX6_play_30) (
  aSa (s_aload_n rfl rfl dX6_play_31) (
  aSa (s_getf (T := TX6) rfl (by decide) (by decide) in_X6 q2758 (Or.inl rfl) rfl dX6_play_32) (
  aSa (s_iload_n rfl rfl dX6_play_35) (
  aSa (s_iald rfl dX6_play_36) (
  aSa (s_ifne (by decide) rfl dX6_play_37) (
  aSa (s_aload_n rfl rfl dX6_play_40) (
  aSa (s_iconst (v0 := 3) (by decide) rfl dX6_play_41) (
  aSa (s_callV (List.forall_mem_cons.mpr ⟨d_V rfl rfl q2957 q2959 qs53 q136 q2960 rfl (by decide +kernel) (by decide) rfl dX6_play_42, fun _ h => absurd h List.not_mem_nil⟩) aHS0) (
  aSa (s_iret (n := 0) rfl dX6_play_45) (
  aSa (s_iconst (v0 := 0) (by decide) rfl dX6_play_46) (
  aSa (s_istore_n rfl (by decide) rfl dX6_play_47) (
  aSa (s_iload_n rfl rfl dX6_play_48) (
  aSa (s_iload_n rfl rfl dX6_play_49) (
  aSa (s_aload_n rfl rfl dX6_play_50) (
  aSa (s_getf (T := TX6) rfl (by decide) (by decide) in_X6 q2758 (Or.inl rfl) rfl dX6_play_51) (
  aSa (s_iload_n rfl rfl dX6_play_54) (
  aSa (s_iald rfl dX6_play_55) (
  aSa (s_imul rfl dX6_play_56) (
  aSa (s_cge (by decide) rfl dX6_play_57) (
  aSa (s_aload_n rfl rfl dX6_play_60) (
  aSa (s_aload_n rfl rfl dX6_play_61) (
  aSa (s_getf (T := TX6) rfl (by decide) (by decide) in_X6 q2759 (Or.inl rfl) rfl dX6_play_62) (
  aSa (s_bipush (v0 := 8) (by decide) rfl dX6_play_65) (
  aSa (s_iload_n rfl rfl dX6_play_67) (
  aSa (s_imul rfl dX6_play_68) (
  aSa (s_iload_n rfl rfl dX6_play_69) (
  aSa (s_aload_n rfl rfl dX6_play_70) (
  aSa (s_getf (T := TX6) rfl (by decide) (by decide) in_X6 q2758 (Or.inl rfl) rfl dX6_play_71) (
  aSa (s_iload_n rfl rfl dX6_play_74) (
  aSa (s_iald rfl dX6_play_75) (
  aSa (s_irem rfl dX6_play_76) (
  aSa (s_iadd rfl dX6_play_77) (
  aSa (s_iald rfl dX6_play_78) (
  aSa (s_callV (List.forall_mem_cons.mpr ⟨d_V rfl rfl q3061 q3063 qs70 q136 q3064 rfl (by decide +kernel) (by decide) rfl dX6_play_79, fun _ h => absurd h List.not_mem_nil⟩) aHS0) (
  aSa (s_iconst (v0 := (-1)) (by decide) rfl dX6_play_82) (
  aSa (s_ceq (by decide) rfl dX6_play_83) (
  aSa (s_iinc (by decide) rfl dX6_play_86) (
  aSa (s_goto (n := 0) (by decide) dX6_play_89) (
  aSa (s_aload_n rfl rfl dX6_play_92) (
  aSa (s_iload_n rfl rfl dX6_play_93) (
  aSa (s_callV (List.forall_mem_cons.mpr ⟨d_V rfl rfl q2969 q2971 qs56 q136 q2972 rfl (by decide +kernel) (by decide) rfl dX6_play_94, fun _ h => absurd h List.not_mem_nil⟩) aHS0) (
  aSa (s_iret (n := 0) rfl dX6_play_97) (
  aSn))))))))))))))))))))))))))))))))))))))))))))))))))))))))))))
theorem sn310 : SndL "SlidingtrayModel" "rank" cX6_rank 1 (Option.some Jvm.ClassFile.FieldType.long) [] T310 := aSa (s_aload_n rfl rfl dX6_rank_0) (
  aSa (s_iconst (v0 := 0) (by decide) rfl dX6_rank_1) (
  aSa (s_putf (T := TX6) (ty0 := tyX6) tyX6_ok nmX6 rfl (by decide) (by decide) in_X6 q2751 (Or.inl rfl) rfl rfl rfl dX6_rank_2) (
  aSa (s_aload_n rfl rfl dX6_rank_5) (
  aSa (s_aload_n rfl rfl dX6_rank_6) (
  aSa (s_getf (T := TX6) rfl (by decide) (by decide) in_X6 q2752 (Or.inl rfl) rfl dX6_rank_7) (
  aSa (s_callV (List.forall_mem_cons.mpr ⟨d_V rfl rfl q3029 q3031 qs66 q136 q3032 rfl (by decide +kernel) (by decide) rfl dX6_rank_10, fun _ h => absurd h List.not_mem_nil⟩) aHS0) (
  aSa (s_lret (n := 0) rfl dX6_rank_13) (
  aSn))))))))
theorem sn311 : SndL "SlidingtrayModel" "rankOf" cX6_rankOf 7 (Option.some Jvm.ClassFile.FieldType.long) [] T311 := aSa (s_lconst (by decide) rfl dX6_rankOf_0) (
  aSa (s_lstore_n rfl (by decide) rfl dX6_rankOf_1) (
  aSa (s_iconst (v0 := 0) (by decide) rfl dX6_rankOf_2) (
  aSa (s_istore (by decide) rfl dX6_rankOf_3) (
  aSa (s_iload rfl dX6_rankOf_5) (
  aSa (s_aload_n rfl rfl dX6_rankOf_7) (
  aSa (s_getf (T := TX6) rfl (by decide) (by decide) in_X6 q2750 (Or.inl rfl) rfl dX6_rankOf_8) (
  aSa (s_cge (by decide) rfl dX6_rankOf_11) (
  aSa (s_iconst (v0 := 0) (by decide) rfl dX6_rankOf_14) (
  aSa (s_istore (by decide) rfl dX6_rankOf_15) (
  aSa (s_iload rfl dX6_rankOf_17) (
  aSa (s_iconst (v0 := 1) (by decide) rfl dX6_rankOf_19) (
  aSa (s_iadd rfl dX6_rankOf_20) (
  aSa (s_istore (by decide) rfl dX6_rankOf_21) (
  aSa (s_iload rfl dX6_rankOf_23) (
  aSa (s_aload_n rfl rfl dX6_rankOf_25) (
  aSa (s_getf (T := TX6) rfl (by decide) (by decide) in_X6 q2750 (Or.inl rfl) rfl dX6_rankOf_26) (
  aSa (s_cge (by decide) rfl dX6_rankOf_29) (
  aSa (s_iload rfl dX6_rankOf_32) (
  aSa (s_aload_n rfl rfl dX6_rankOf_34) (
  aSa (s_aload_n rfl rfl dX6_rankOf_35) (
  aSa (s_iload rfl dX6_rankOf_36) (
  aSa (s_iald rfl dX6_rankOf_38) (
  aSa (s_callV (List.forall_mem_cons.mpr ⟨d_V rfl rfl q3033 q3035 qs67 q136 q3036 rfl (by decide +kernel) (by decide) rfl dX6_rankOf_39, fun _ h => absurd h List.not_mem_nil⟩) aHS0) (
  aSa (s_aload_n rfl rfl dX6_rankOf_42) (
  aSa (s_aload_n rfl rfl dX6_rankOf_43) (
  aSa (s_iload rfl dX6_rankOf_44) (
  aSa (s_iald rfl dX6_rankOf_46) (
  aSa (s_callV (List.forall_mem_cons.mpr ⟨d_V rfl rfl q3033 q3035 qs67 q136 q3036 rfl (by decide +kernel) (by decide) rfl dX6_rankOf_47, fun _ h => absurd h List.not_mem_nil⟩) aHS0) (
  aSa (s_cge (by decide) rfl dX6_rankOf_50) (
  aSa (s_iconst (v0 := 1) (by decide) rfl dX6_rankOf_53) (
  aSa (s_goto (n := 0) (by decide) dX6_rankOf_54) (
  aSa (s_iconst (v0 := 0) (by decide) rfl dX6_rankOf_57) (
  aSa (s_iadd rfl dX6_rankOf_58) (
  aSa (s_istore (by decide) rfl dX6_rankOf_59) (
  aSa (s_iinc (by decide) rfl dX6_rankOf_61) (
  aSa (s_goto (n := 0) (by decide) dX6_rankOf_64) (
  aSa (s_lload_n rfl rfl dX6_rankOf_67) (
  aSa (s_aload_n rfl rfl dX6_rankOf_68) (
  aSa (s_getf (T := TX6) rfl (by decide) (by decide) in_X6 q2750 (Or.inl rfl) rfl dX6_rankOf_69) (
  aSa (s_iload rfl dX6_rankOf_72) (
  aSa (s_isub rfl dX6_rankOf_74) (
  aSa (s_i2l rfl dX6_rankOf_75) (
  aSa (s_lmul rfl dX6_rankOf_76) (
  aSa (s_iload rfl dX6_rankOf_77) (
  aSa (s_i2l rfl dX6_rankOf_79) (
  aSa (s_ladd rfl dX6_rankOf_80) (
  aSa (s_lstore_n rfl (by decide) rfl dX6_rankOf_81) (
  aSa (s_iinc (by decide) rfl dX6_rankOf_82) (
  aSa (s_goto (n := 0) (by decide) dX6_rankOf_85) (
  aSa (s_lload_n rfl rfl dX6_rankOf_88) (
  aSa (s_lret (n := 0) rfl dX6_rankOf_89) (
  aSn))))))))))))))))))))))))))))))))))))))))))))))))))))
theorem sn312 : SndL "SlidingtrayModel" "reaches" cX6_reaches 4 (Option.some Jvm.ClassFile.FieldType.boolean) [] T312 := aSa (s_aload_n rfl rfl dX6_reaches_0) (
  aSa (s_getf (T := TX6) rfl (by decide) (by decide) in_X6 q2750 (Or.inl rfl) rfl dX6_reaches_1) (
  aSa (s_aload_n rfl rfl dX6_reaches_4) (
  aSa (s_getf (T := TX6) rfl (by decide) (by decide) in_X6 q2748 (Or.inl rfl) rfl dX6_reaches_5) (
  aSa (s_aload_n rfl rfl dX6_reaches_8) (
  aSa (s_getf (T := TX6) rfl (by decide) (by decide) in_X6 q2749 (Or.inl rfl) rfl dX6_reaches_9) (
  aSa (s_imul rfl dX6_reaches_12) (
  aSa (s_clt (by decide) rfl dX6_reaches_13) (
  aSa (s_aload_n rfl rfl dX6_reaches_16) (
  aSa (s_callV (List.forall_mem_cons.mpr ⟨d_V rfl rfl q3109 q3111 qs72 q136 q3112 rfl (by decide +kernel) (by decide) rfl dX6_reaches_17, fun _ h => absurd h List.not_mem_nil⟩) aHS0) (
  aSa (s_ifeq (by decide) rfl dX6_reaches_20) (
  aSa (s_aload_n rfl rfl dX6_reaches_23) (
  aSa (s_iconst (v0 := 1) (by decide) rfl dX6_reaches_24) (
  aSa (s_callV (List.forall_mem_cons.mpr ⟨d_V rfl rfl q3041 q3043 qs68 q136 q3044 rfl (by decide +kernel) (by decide) rfl dX6_reaches_25, fun _ h => absurd h List.not_mem_nil⟩) aHS0) (
  aSa (s_iret (n := 0) rfl dX6_reaches_28) (
  aSa (s_aload_n rfl rfl dX6_reaches_29) (
  aSa (s_callV (List.forall_mem_cons.mpr ⟨d_V rfl rfl q3113 q3115 qs73 q136 q3116 rfl (by decide +kernel) (by decide) rfl dX6_reaches_30, fun _ h => absurd h List.not_mem_nil⟩) aHS0) (
  aSa (s_aload_n rfl rfl dX6_reaches_33) (
  aSa (s_getf (T := TX6) rfl (by decide) (by decide) in_X6 q2743 (Or.inl rfl) rfl dX6_reaches_34) (
  aSa (s_aload_n rfl rfl dX6_reaches_37) (
  aSa (s_aload_n rfl rfl dX6_reaches_38) (
  aSa (s_getf (T := TX6) rfl (by decide) (by decide) in_X6 q2752 (Or.inl rfl) rfl dX6_reaches_39) (
  aSa (s_callV (List.forall_mem_cons.mpr ⟨d_V rfl rfl q3012 q3014 qs64 q136 q3015 rfl (by decide +kernel) (by decide) rfl dX6_reaches_42, fun _ h => absurd h List.not_mem_nil⟩) aHS0) (
  aSa (s_iald rfl dX6_reaches_45) (
  aSa (s_istore_n rfl (by decide) rfl dX6_reaches_46) (
  aSa (s_aload_n rfl rfl dX6_reaches_47) (
  aSa (s_getf (T := TX6) rfl (by decide) (by decide) in_X6 q2743 (Or.inl rfl) rfl dX6_reaches_48) (
  aSa (s_aload_n rfl rfl dX6_reaches_51) (
  aSa (s_aload_n rfl rfl dX6_reaches_52) (
  aSa (s_getf (T := TX6) rfl (by decide) (by decide) in_X6 q2776 (Or.inl rfl) rfl dX6_reaches_53) (
  aSa (s_callV (List.forall_mem_cons.mpr ⟨d_V rfl rfl q3012 q3014 qs64 q136 q3015 rfl (by decide +kernel) (by decide) rfl dX6_reaches_56, fun _ h => absurd h List.not_mem_nil⟩) aHS0) (
  aSa (s_iald rfl dX6_reaches_59) (
  aSa (s_istore_n rfl (by decide) rfl dX6_reaches_60) (
  aSa (s_iload_n rfl rfl dX6_reaches_61) (
  aSa (s_aload_n rfl rfl dX6_reaches_62) (
  aSa (s_getf (T := TX6) rfl (by decide) (by decide) in_X6 q2749 (Or.inl rfl) rfl dX6_reaches_63) (
  aSa (s_idiv rfl dX6_reaches_66) (
  aSa (s_iload_n rfl rfl dX6_reaches_67) (
  aSa (s_aload_n rfl rfl dX6_reaches_68) (
  aSa (s_getf (T := TX6) rfl (by decide) (by decide) in_X6 q2749 (Or.inl rfl) rfl dX6_reaches_69) (
  aSa (s_idiv rfl dX6_reaches_72) (
  aSa (s_iadd rfl dX6_reaches_73) (
  aSa (s_iload_n rfl rfl dX6_reaches_74) (
  aSa (s_aload_n rfl rfl dX6_reaches_75) (
  aSa (s_getf (T := TX6) rfl (by decide) (by decide) in_X6 q2749 (Or.inl rfl) rfl dX6_reaches_76) (
  aSa (s_irem rfl dX6_reaches_79) (
  aSa (s_iadd rfl dX6_reaches_80) (
  aSa (s_iload_n rfl rfl dX6_reaches_81) (
  aSa (s_aload_n rfl rfl dX6_reaches_82) (
  aSa (s_getf (T := TX6) rfl (by decide) (by decide) in_X6 q2749 (Or.inl rfl) rfl dX6_reaches_83) (
  aSa (s_irem rfl dX6_reaches_86) (
  aSa (s_iadd rfl dX6_reaches_87) (
  aSa (s_istore_n rfl (by decide) rfl dX6_reaches_88) (
  aSa (s_aload_n rfl rfl dX6_reaches_89) (
  aSa (s_aload_n rfl rfl dX6_reaches_90) (
  aSa (s_aload_n rfl rfl dX6_reaches_91) (
  aSa (s_getf (T := TX6) rfl (by decide) (by decide) in_X6 q2752 (Or.inl rfl) rfl dX6_reaches_92) (
  aSa (s_callV (List.forall_mem_cons.mpr ⟨d_V rfl rfl q3101 q3103 qs71 q136 q3104 rfl (by decide +kernel) (by decide) rfl dX6_reaches_95, fun _ h => absurd h List.not_mem_nil⟩) aHS0) (
  aSa (s_aload_n rfl rfl dX6_reaches_98) (
  aSa (s_aload_n rfl rfl dX6_reaches_99) (
  aSa (s_getf (T := TX6) rfl (by decide) (by decide) in_X6 q2776 (Or.inl rfl) rfl dX6_reaches_100) (
  aSa (s_callV (List.forall_mem_cons.mpr ⟨d_V rfl rfl q3101 q3103 qs71 q136 q3104 rfl (by decide +kernel) (by decide) rfl dX6_reaches_103, fun _ h => absurd h List.not_mem_nil⟩) aHS0) (
  aSa (s_iadd rfl dX6_reaches_106) (
  aSa (s_iload_n rfl rfl dX6_reaches_107) (
  aSa (s_iadd rfl dX6_reaches_108) (
  aSa (s_iconst (v0 := 2) (by decide) rfl dX6_reaches_109) (
  aSa (s_irem rfl dX6_reaches_110) (
  aSa (s_ifne (by decide) rfl dX6_reaches_111) (
  aSa (s_iconst (v0 := 1) (by decide) rfl dX6_reaches_114) (
  aSa (s_goto (n := 0) (by decide) dX6_reaches_115) (
  aSa (s_iconst (v0 := 0) (by decide) rfl dX6_reaches_118) (
  aSa (s_callV (List.forall_mem_cons.mpr ⟨d_V rfl rfl q3045 q3047 qs69 q136 q3048 rfl (by decide +kernel) (by decide) rfl dX6_reaches_119, fun _ h => absurd h List.not_mem_nil⟩) aHS0) (
  aSa (s_iret (n := 0) rfl dX6_reaches_122) (
  aSn)))))))))))))))))))))))))))))))))))))))))))))))))))))))))))))))))))))))))
theorem sn313 : SndL "SlidingtrayModel" "reckons" cX6_reckons 4 (Option.none : Option Jvm.ClassFile.FieldType) [] T313 := aSa (s_aload_n rfl rfl dX6_reckons_0) (
  aSa (s_aload_n rfl rfl dX6_reckons_1) (
  aSa (s_callV (List.forall_mem_cons.mpr ⟨d_V rfl rfl q3004 q3006 qs62 q136 q3007 rfl (by decide +kernel) (by decide) rfl dX6_reckons_2, fun _ h => absurd h List.not_mem_nil⟩) aHS0) (
  aSa (s_l2i rfl dX6_reckons_5) (
  aSa (s_putf (T := TX6) (ty0 := tyX6) tyX6_ok nmX6 rfl (by decide) (by decide) in_X6 q2808 (Or.inl rfl) rfl rfl rfl dX6_reckons_6) (
  aSa (s_iconst (v0 := 0) (by decide) rfl dX6_reckons_9) (
  aSa (s_istore_n rfl (by decide) rfl dX6_reckons_10) (
  aSa (s_iload_n rfl rfl dX6_reckons_11) (
  aSa (s_aload_n rfl rfl dX6_reckons_12) (
  aSa (s_getf (T := TX6) rfl (by decide) (by decide) in_X6 q2808 (Or.inl rfl) rfl dX6_reckons_13) (
  aSa (s_cge (by decide) rfl dX6_reckons_16) (
  aSa (s_aload_n rfl rfl dX6_reckons_19) (
  aSa (s_iload_n rfl rfl dX6_reckons_20) (
  aSa (s_i2l rfl dX6_reckons_21) (
  aSa (s_aload_n rfl rfl dX6_reckons_22) (
  aSa (s_getf (T := TX6) rfl (by decide) (by decide) in_X6 q2786 (Or.inl rfl) rfl dX6_reckons_23) (
  aSa (s_callV (List.forall_mem_cons.mpr ⟨d_V rfl rfl q3008 q3010 qs63 q136 q3011 rfl (by decide +kernel) (by decide) rfl dX6_reckons_26, fun _ h => absurd h List.not_mem_nil⟩) aHS0) (
  aSa (s_aload_n rfl rfl dX6_reckons_29) (
  aSa (s_getf (T := TX6) rfl (by decide) (by decide) in_X6 q2804 (Or.inl rfl) rfl dX6_reckons_30) (
  aSa (s_iload_n rfl rfl dX6_reckons_33) (
  aSa (s_aload_n rfl rfl dX6_reckons_34) (
  aSa (s_aload_n rfl rfl dX6_reckons_35) (
  aSa (s_getf (T := TX6) rfl (by decide) (by decide) in_X6 q2786 (Or.inl rfl) rfl dX6_reckons_36) (
  aSa (s_callV (List.forall_mem_cons.mpr ⟨d_V rfl rfl q3178 q3180 qs87 q136 q3181 rfl (by decide +kernel) (by decide) rfl dX6_reckons_39, fun _ h => absurd h List.not_mem_nil⟩) aHS0) (
  aSa (s_ifeq (by decide) rfl dX6_reckons_42) (
  aSa (s_iconst (v0 := 0) (by decide) rfl dX6_reckons_45) (
  aSa (s_goto (n := 0) (by decide) dX6_reckons_46) (
  aSa (s_ldc q2742 rfl dX6_reckons_49) (
  aSa (s_iast rfl dX6_reckons_51) (
  aSa (s_iconst (v0 := 0) (by decide) rfl dX6_reckons_52) (
  aSa (s_istore_n rfl (by decide) rfl dX6_reckons_53) (
  aSa (s_iload_n rfl rfl dX6_reckons_54) (
  aSa (s_iconst (v0 := 4) (by decide) rfl dX6_reckons_55) (
  aSa (s_cge (by decide) rfl dX6_reckons_56) (
  aSa (s_aload_n rfl rfl dX6_reckons_59) (
  aSa (s_iload_n rfl rfl dX6_reckons_60) (
  aSa (s_i2l rfl dX6_reckons_61) (
  aSa (s_aload_n rfl rfl dX6_reckons_62) (
  aSa (s_getf (T := TX6) rfl (by decide) (by decide) in_X6 q2786 (Or.inl rfl) rfl dX6_reckons_63) (
  aSa (s_callV (List.forall_mem_cons.mpr ⟨d_V rfl rfl q3008 q3010 qs63 q136 q3011 rfl (by decide +kernel) (by decide) rfl dX6_reckons_66, fun _ h => absurd h List.not_mem_nil⟩) aHS0) (
  aSa (s_aload_n rfl rfl dX6_reckons_69) (
  aSa (s_aload_n rfl rfl dX6_reckons_70) (
  aSa (s_getf (T := TX6) rfl (by decide) (by decide) in_X6 q2786 (Or.inl rfl) rfl dX6_reckons_71) (
  aSa (s_iload_n rfl rfl dX6_reckons_74) (
  aSa (s_callV (List.forall_mem_cons.mpr ⟨d_V rfl rfl q3021 q3023 qs65 q136 q3024 rfl (by decide +kernel) (by decide) rfl dX6_reckons_75, fun _ h => absurd h List.not_mem_nil⟩) aHS0) (
  aSa (s_istore_n rfl (by decide) rfl dX6_reckons_78) (
  aSa (s_aload_n rfl rfl dX6_reckons_79) (
  aSa (s_getf (T := TX6) rfl (by decide) (by decide) in_X6 q2806 (Or.inl rfl) rfl dX6_reckons_80) (
  aSa (s_iconst (v0 := 4) (by decide) rfl dX6_reckons_83) (
  aSa (s_iload_n rfl rfl dX6_reckons_84) (
  aSa (s_imul rfl dX6_reckons_85) (
  aSa (s_iload_n rfl rfl dX6_reckons_86) (
  aSa (s_iadd rfl dX6_reckons_87) (
  aSa (s_iload_n rfl rfl dX6_reckons_88) (
  aSa (s_iast rfl dX6_reckons_89) (
  aSa (s_aload_n rfl rfl dX6_reckons_90) (
  aSa (s_getf (T := TX6) rfl (by decide) (by decide) in_X6 q2805 (Or.inl rfl) rfl dX6_reckons_91) (
  aSa (s_iconst (v0 := 4) (by decide) rfl dX6_reckons_94) (
  aSa (s_iload_n rfl rfl dX6_reckons_95) (
  aSa (s_imul rfl dX6_reckons_96) (
  aSa (s_iload_n rfl rfl dX6_reckons_97) (
  aSa (s_iadd rfl dX6_reckons_98) (
  aSa (s_iload_n rfl rfl dX6_reckons_99) (
  aSa (s_iconst (v0 := (-1)) (by decide) rfl dX6_reckons_100) (
  aSa (s_cne (by decide) rfl dX6_reckons_101) (
  aSa (s_iconst (v0 := (-1)) (by decide) rfl dX6_reckons_104) (
  aSa (s_goto (n := 0) (by decide) dX6_reckons_105) (
  aSa (s_aload_n rfl rfl dX6_reckons_108) (
  aSa (s_aload_n rfl rfl dX6_reckons_109) (
  aSa (s_getf (T := TX6) rfl (by decide) (by decide) in_X6 q2786 (Or.inl rfl) rfl dX6_reckons_110) (
  aSa (s_callV (List.forall_mem_cons.mpr ⟨d_V rfl rfl q3029 q3031 qs66 q136 q3032 rfl (by decide +kernel) (by decide) rfl dX6_reckons_113, fun _ h => absurd h List.not_mem_nil⟩) aHS0) (
  aSa (s_l2i rfl dX6_reckons_116) (
  aSa (s_iast rfl dX6_reckons_117) (
  aSa (s_iinc (by decide) rfl dX6_reckons_118) (
  aSa (s_goto (n := 0) (by decide) dX6_reckons_121) (
  aSa (s_iinc (by decide) rfl dX6_reckons_124) (
  aSa (s_goto (n := 0) (by decide) dX6_reckons_127) (
  aSa (s_iconst (v0 := 1) (by decide) rfl dX6_reckons_130) (
  aSa (s_istore_n rfl (by decide) rfl dX6_reckons_131) (
  aSa (s_iload_n rfl rfl dX6_reckons_132) (
  aSa (s_ifeq (by decide) rfl dX6_reckons_133) (
  aSa (s_iconst (v0 := 0) (by decide) rfl dX6_reckons_136) (
  aSa (s_istore_n rfl (by decide) rfl dX6_reckons_137) (
  aSa (s_iconst (v0 := 0) (by decide) rfl dX6_reckons_138) (
  aSa (s_istore_n rfl (by decide) rfl dX6_reckons_139) (
  aSa (s_iload_n rfl rfl dX6_reckons_140) (
  aSa (s_iconst (v0 := 4) (by decide) rfl dX6_reckons_141) (
  aSa (s_aload_n rfl rfl dX6_reckons_142) (
  aSa (s_getf (T := TX6) rfl (by decide) (by decide) in_X6 q2808 (Or.inl rfl) rfl dX6_reckons_143) (
  aSa (s_imul rfl dX6_reckons_146) (
  aSa (s_cge (by decide) rfl dX6_reckons_147) (
  aSa (s_aload_n rfl rfl dX6_reckons_150) (
  aSa (s_getf (T := TX6) rfl (by decide) (by decide) in_X6 q2805 (Or.inl rfl) rfl dX6_reckons_151) (
  aSa (s_iload_n rfl rfl dX6_reckons_154) (
  aSa (s_iald rfl dX6_reckons_155) (
  aSa (s_iconst (v0 := (-1)) (by decide) rfl dX6_reckons_156) (
  aSa (s_ceq (by decide) rfl dX6_reckons_157) (
  aSa (s_aload_n rfl rfl dX6_reckons_160) (
  aSa (s_getf (T := TX6) rfl (by decide) (by decide) in_X6 q2804 (Or.inl rfl) rfl dX6_reckons_161) (
  aSa (s_aload_n rfl rfl dX6_reckons_164) (
  aSa (s_getf (T := TX6) rfl (by decide) (by decide) in_X6 q2805 (Or.inl rfl) rfl dX6_reckons_165) (
  aSa (s_iload_n rfl rfl dX6_reckons_168) (
  aSa (s_iald rfl dX6_reckons_169) (
  aSa (s_iald rfl dX6_reckons_170) (
  aSa (s_aload_n rfl rfl dX6_reckons_171) (
  aSa (s_getf (T := TX6) rfl (by decide) (by decide) in_X6 q2806 (Or.inl rfl) rfl dX6_reckons_172) (
  aSa (s_iload_n rfl rfl dX6_reckons_175) (
  aSa (s_iald rfl dX6_reckons_176) (
  aSa (s_iadd rfl dX6_reckons_177) (
  aSa (s_aload_n rfl rfl dX6_reckons_178) (
  aSa (s_getf (T := TX6) rfl (by decide) (by decide) in_X6 q2804 (Or.inl rfl) rfl dX6_reckons_179) (
  aSa (s_iload_n rfl rfl dX6_reckons_182) (
  aSa (s_iconst (v0 := 4) (by decide) rfl dX6_reckons_183) (
  aSa (s_idiv rfl dX6_reckons_184) (
  aSa (s_iald rfl dX6_reckons_185) (
  aSa (s_cge (by decide) rfl dX6_reckons_186) (
  aSa (s_aload_n rfl rfl dX6_reckons_189) (
  aSa (s_getf (T := TX6) rfl (by decide) (by decide) in_X6 q2804 (Or.inl rfl) rfl dX6_reckons_190) (
  aSa (s_iload_n rfl rfl dX6_reckons_193) (
  aSa (s_iconst (v0 := 4) (by decide) rfl dX6_reckons_194) (
  aSa (s_idiv rfl dX6_reckons_195) (
  aSa (s_aload_n rfl rfl dX6_reckons_196) (
  aSa (s_getf (T := TX6) rfl (by decide) (by decide) in_X6 q2804 (Or.inl rfl) rfl dX6_reckons_197) (
  aSa (s_aload_n rfl rfl dX6_reckons_200) (
  aSa (s_getf (T := TX6) rfl (by decide) (by decide) in_X6 q2805 (Or.inl rfl) rfl dX6_reckons_201) (
  aSa (s_iload_n rfl rfl dX6_reckons_204) (
  aSa (s_iald rfl dX6_reckons_205) (
  aSa (s_iald rfl dX6_reckons_206) (
  aSa (s_aload_n rfl rfl dX6_reckons_207) (
  aSa (s_getf (T := TX6) rfl (by decide) (by decide) in_X6 q2806 (Or.inl rfl) rfl dX6_reckons_208) (
  aSa (s_iload_n rfl rfl dX6_reckons_211) (
  aSa (s_iald rfl dX6_reckons_212) (
  aSa (s_iadd rfl dX6_reckons_213) (
  aSa (s_iast rfl dX6_reckons_214) (
  aSa (s_iconst (v0 := 1) (by decide) rfl dX6_reckons_215) (
  aSa (s_istore_n rfl (by decide) rfl dX6_reckons_216) (
  aSa (s_iinc (by decide) rfl dX6_reckons_217) (
  aSa (s_goto (n := 0) (by decide) dX6_reckons_220) (
  aSa (s_goto (n := 0) (by decide) dX6_reckons_223) (
  aSa (s_ret (n := 0) rfl dX6_reckons_226) (
  aSn))))))))))))))))))))))))))))))))))))))))))))))))))))))))))))))))))))))))))))))))))))))))))))))))))))))))))))))))))))))))))))))))))))))))))))
theorem sn314 : SndL "SlidingtrayModel" "refuse" cX6_refuse 2 (Option.some Jvm.ClassFile.FieldType.int) [] T314 := aSa (s_aload_n rfl rfl dX6_refuse_0) (
  aSa (s_iload_n rfl rfl dX6_refuse_1) (
  aSa (s_putf (T := TX6) (ty0 := tyX6) tyX6_ok nmX6 rfl (by decide) (by decide) in_X6 q2751 (Or.inl rfl) rfl rfl rfl dX6_refuse_2) (
  aSa (s_iconst (v0 := 0) (by decide) rfl dX6_refuse_5) (
  aSa (s_iret (n := 0) rfl dX6_refuse_6) (
  aSn)))))
theorem sn315 : SndL "SlidingtrayModel" "restore" cX6_restore 3 (Option.some Jvm.ClassFile.FieldType.int) [] T315 := aSa (s_iload_n rfl rfl dX6_restore_0) (
  aSa (s_iconst (v0 := 0) (by decide) rfl dX6_restore_1) (
  aSa (s_iconst (v0 := 1) (by decide) rfl dX6_restore_2) (
  aSa (s_callS rfl q2954 q2955 q136 q2956 (by decide +kernel) (by decide) aHS0 rfl dX6_restore_3) (
  aSa (s_ifne (by decide) rfl dX6_restore_6) (
  aSa (s_aload_n rfl rfl dX6_restore_9) (
  aSa (s_iconst (v0 := 1) (by decide) rfl dX6_restore_10) (
  aSa (s_callV (List.forall_mem_cons.mpr ⟨d_V rfl rfl q2957 q2959 qs53 q136 q2960 rfl (by decide +kernel) (by decide) rfl dX6_restore_11, fun _ h => absurd h List.not_mem_nil⟩) aHS0) (
  aSa (s_iret (n := 0) rfl dX6_restore_14) (
  aSa (s_aload_n rfl rfl dX6_restore_15) (
  aSa (s_getf (T := TX6) rfl (by decide) (by decide) in_X6 q2765 (Or.inl rfl) rfl dX6_restore_16) (
  aSa (s_iload_n rfl rfl dX6_restore_19) (
  aSa (s_zald rfl dX6_restore_20) (
  aSa (s_ifne (by decide) rfl dX6_restore_21) (
  aSa (s_aload_n rfl rfl dX6_restore_24) (
  aSa (s_iconst (v0 := 2) (by decide) rfl dX6_restore_25) (
  aSa (s_callV (List.forall_mem_cons.mpr ⟨d_V rfl rfl q2957 q2959 qs53 q136 q2960 rfl (by decide +kernel) (by decide) rfl dX6_restore_26, fun _ h => absurd h List.not_mem_nil⟩) aHS0) (
  aSa (s_iret (n := 0) rfl dX6_restore_29) (
  aSa (s_iconst (v0 := 0) (by decide) rfl dX6_restore_30) (
  aSa (s_istore_n rfl (by decide) rfl dX6_restore_31) (
  aSa (s_iload_n rfl rfl dX6_restore_32) (
  aSa (s_bipush (v0 := 16) (by decide) rfl dX6_restore_33) (
  aSa (s_cge (by decide) rfl dX6_restore_35) (
  aSa (s_aload_n rfl rfl dX6_restore_38) (
  aSa (s_getf (T := TX6) rfl (by decide) (by decide) in_X6 q2752 (Or.inl rfl) rfl dX6_restore_39) (
  aSa (s_iload_n rfl rfl dX6_restore_42) (
  aSa (s_aload_n rfl rfl dX6_restore_43) (
  aSa (s_getf (T := TX6) rfl (by decide) (by decide) in_X6 q2761 (Or.inl rfl) rfl dX6_restore_44) (
  aSa (s_bipush (v0 := 16) (by decide) rfl dX6_restore_47) (
  aSa (s_iload_n rfl rfl dX6_restore_49) (
  aSa (s_imul rfl dX6_restore_50) (
  aSa (s_iload_n rfl rfl dX6_restore_51) (
  aSa (s_iadd rfl dX6_restore_52) (
  aSa (s_iald rfl dX6_restore_53) (
  aSa (s_iast rfl dX6_restore_54) (
  aSa (s_aload_n rfl rfl dX6_restore_55) (
  aSa (s_getf (T := TX6) rfl (by decide) (by decide) in_X6 q2753 (Or.inl rfl) rfl dX6_restore_56) (
  aSa (s_iload_n rfl rfl dX6_restore_59) (
  aSa (s_aload_n rfl rfl dX6_restore_60) (
  aSa (s_getf (T := TX6) rfl (by decide) (by decide) in_X6 q2762 (Or.inl rfl) rfl dX6_restore_61) (
  aSa (s_bipush (v0 := 16) (by decide) rfl dX6_restore_64) (
  aSa (s_iload_n rfl rfl dX6_restore_66) (
  aSa (s_imul rfl dX6_restore_67) (
  aSa (s_iload_n rfl rfl dX6_restore_68) (
  aSa (s_iadd rfl dX6_restore_69) (
  aSa (s_iald rfl dX6_restore_70) (
  aSa (s_iast rfl dX6_restore_71) (
  aSa (s_aload_n rfl rfl dX6_restore_72) (
  aSa (s_getf (T := TX6) rfl (by decide) (by decide) in_X6 q2754 (Or.inl rfl) rfl dX6_restore_73) (
  aSa (s_iload_n rfl rfl dX6_restore_76) (
  aSa (s_aload_n rfl rfl dX6_restore_77) (
  aSa (s_getf (T := TX6) rfl (by decide) (by decide) in_X6 q2763 (Or.inl rfl) rfl dX6_restore_78) (
  aSa (s_bipush (v0 := 16) (by decide) rfl dX6_restore_81) (
  aSa (s_iload_n rfl rfl dX6_restore_83) (
  aSa (s_imul rfl dX6_restore_84) (
  aSa (s_iload_n rfl rfl dX6_restore_85) (
  aSa (s_iadd rfl dX6_restore_86) (
  aSa (s_iald rfl dX6_restore_87) (
  aSa (s_iast rfl dX6_restore_88) (
  aSa (s_aload_n rfl rfl dX6_restore_89) (
  aSa (s_getf (T := TX6) rfl (by decide) (by decide) in_X6 q2755 (Or.inl rfl) rfl dX6_restore_90) (
  aSa (s_iload_n rfl rfl dX6_restore_93) (
  aSa (s_aload_n rfl rfl dX6_restore_94) (
  aSa (s_getf (T := TX6) rfl (by decide) (by decide) in_X6 q2764 (Or.inl rfl) rfl dX6_restore_95) (
  aSa (s_bipush (v0 := 16) (by decide) rfl dX6_restore_98) (
  aSa (s_iload_n rfl rfl dX6_restore_100) (
  aSa (s_imul rfl dX6_restore_101) (
  aSa (s_iload_n rfl rfl dX6_restore_102) (
  aSa (s_iadd rfl dX6_restore_103) (
  aSa (s_zald rfl dX6_restore_104) (
  aSa (s_zast rfl dX6_restore_105) (
  aSa (s_iinc (by decide) rfl dX6_restore_106) (
  aSa (s_goto (n := 0) (by decide) dX6_restore_109) (
  aSa (s_aload_n rfl rfl dX6_restore_112) (
  aSa (s_iconst (v0 := 0) (by decide) rfl dX6_restore_113) (
  aSa (s_putf (T := TX6) (ty0 := tyX6) tyX6_ok nmX6 rfl (by decide) (by decide) in_X6 q2775 (Or.inl rfl) rfl rfl rfl dX6_restore_114) (
  aSa (s_aload_n rfl rfl dX6_restore_117) (
  aSa (s_iconst (v0 := 0) (by decide) rfl dX6_restore_118) (
  aSa (s_putf (T := TX6) (ty0 := tyX6) tyX6_ok nmX6 rfl (by decide) (by decide) in_X6 q2760 (Or.inl rfl) rfl rfl rfl dX6_restore_119) (
  aSa (s_aload_n rfl rfl dX6_restore_122) (
  aSa (s_aload_n rfl rfl dX6_restore_123) (
  aSa (s_getf (T := TX6) rfl (by decide) (by decide) in_X6 q2743 (Or.inl rfl) rfl dX6_restore_124) (
  aSa (s_aload_n rfl rfl dX6_restore_127) (
  aSa (s_aload_n rfl rfl dX6_restore_128) (
  aSa (s_getf (T := TX6) rfl (by decide) (by decide) in_X6 q2752 (Or.inl rfl) rfl dX6_restore_129) (
  aSa (s_callV (List.forall_mem_cons.mpr ⟨d_V rfl rfl q3012 q3014 qs64 q136 q3015 rfl (by decide +kernel) (by decide) rfl dX6_restore_132, fun _ h => absurd h List.not_mem_nil⟩) aHS0) (
  aSa (s_iald rfl dX6_restore_135) (
  aSa (s_callV (List.forall_mem_cons.mpr ⟨d_V rfl rfl q2969 q2971 qs56 q136 q2972 rfl (by decide +kernel) (by decide) rfl dX6_restore_136, fun _ h => absurd h List.not_mem_nil⟩) aHS0) (
  aSa (s_iret (n := 0) rfl dX6_restore_139) (
  aSn)))))))))))))))))))))))))))))))))))))))))))))))))))))))))))))))))))))))))))))))))))))))))
theorem sn316 : SndL "SlidingtrayModel" "says" cX6_says 2 (Option.some Jvm.ClassFile.FieldType.boolean) [] T316 := aSa (s_aload_n rfl rfl dX6_says_0) (
  aSa (s_iconst (v0 := 0) (by decide) rfl dX6_says_1) (
  aSa (s_putf (T := TX6) (ty0 := tyX6) tyX6_ok nmX6 rfl (by decide) (by decide) in_X6 q2751 (Or.inl rfl) rfl rfl rfl dX6_says_2) (
  aSa (s_iload_n rfl rfl dX6_says_5) (
  aSa (s_iret (n := 0) rfl dX6_says_6) (
  aSn)))))
theorem sn317 : SndL "SlidingtrayModel" "searched" cX6_searched 2 (Option.some Jvm.ClassFile.FieldType.int) [] T317 := aSa (s_iload_n rfl rfl dX6_searched_0) (
  aSa (s_tsw (n := 0) dX6_searched_1 (by decide) (by decide)) (
  aSa (s_aload_n rfl rfl dX6_searched_28) (
  aSa (s_aload_n rfl rfl dX6_searched_29) (
  aSa (s_getf (T := TX6) rfl (by decide) (by decide) in_X6 q2790 (Or.inl rfl) rfl dX6_searched_30) (
  aSa (s_callV (List.forall_mem_cons.mpr ⟨d_V rfl rfl q2969 q2971 qs56 q136 q2972 rfl (by decide +kernel) (by decide) rfl dX6_searched_33, fun _ h => absurd h List.not_mem_nil⟩) aHS0) (
  aSa (s_iret (n := 0) rfl dX6_searched_36) (
  aSa (s_aload_n rfl rfl dX6_searched_37) (
  aSa (s_aload_n rfl rfl dX6_searched_38) (
  aSa (s_getf (T := TX6) rfl (by decide) (by decide) in_X6 q2791 (Or.inl rfl) rfl dX6_searched_39) (
  aSa (s_callV (List.forall_mem_cons.mpr ⟨d_V rfl rfl q2969 q2971 qs56 q136 q2972 rfl (by decide +kernel) (by decide) rfl dX6_searched_42, fun _ h => absurd h List.not_mem_nil⟩) aHS0) (
  aSa (s_iret (n := 0) rfl dX6_searched_45) (
  aSa (s_aload_n rfl rfl dX6_searched_46) (
  aSa (s_aload_n rfl rfl dX6_searched_47) (
  aSa (s_getf (T := TX6) rfl (by decide) (by decide) in_X6 q2792 (Or.inl rfl) rfl dX6_searched_48) (
  aSa (s_callV (List.forall_mem_cons.mpr ⟨d_V rfl rfl q2969 q2971 qs56 q136 q2972 rfl (by decide +kernel) (by decide) rfl dX6_searched_51, fun _ h => absurd h List.not_mem_nil⟩) aHS0) (
  aSa (s_iret (n := 0) rfl dX6_searched_54) (
  aSa (s_aload_n rfl rfl dX6_searched_55) (
  aSa (s_iconst (v0 := 1) (by decide) rfl dX6_searched_56) (
  aSa (s_callV (List.forall_mem_cons.mpr ⟨d_V rfl rfl q2957 q2959 qs53 q136 q2960 rfl (by decide +kernel) (by decide) rfl dX6_searched_57, fun _ h => absurd h List.not_mem_nil⟩) aHS0) (
  aSa (s_iret (n := 0) rfl dX6_searched_60) (
  aSn)))))))))))))))))))))
theorem sn318 : SndL "SlidingtrayModel" "searches" cX6_searches 8 (Option.some Jvm.ClassFile.FieldType.int) [] T318 := aSa (s_aload_n rfl rfl dX6_searches_0) (
  aSa (s_callV (List.forall_mem_cons.mpr ⟨d_V rfl rfl q3157 q3159 qs82 q136 q3160 rfl (by decide +kernel) (by decide) rfl dX6_searches_1, fun _ h => absurd h List.not_mem_nil⟩) aHS0) (
  aSa (s_aload_n rfl rfl dX6_searches_4) (
  aSa (s_iconst (v0 := 0) (by decide) rfl dX6_searches_5) (
  aSa (s_putf (T := TX6) (ty0 := tyX6) tyX6_ok nmX6 rfl (by decide) (by decide) in_X6 q2793 (Or.inl rfl) rfl rfl rfl dX6_searches_6) (
  aSa (s_aload_n rfl rfl dX6_searches_9) (
  aSa (s_iconst (v0 := 0) (by decide) rfl dX6_searches_10) (
  aSa (s_putf (T := TX6) (ty0 := tyX6) tyX6_ok nmX6 rfl (by decide) (by decide) in_X6 q2794 (Or.inl rfl) rfl rfl rfl dX6_searches_11) (
  aSa (s_aload_n rfl rfl dX6_searches_14) (
  aSa (s_iconst (v0 := 0) (by decide) rfl dX6_searches_15) (
  aSa (s_putf (T := TX6) (ty0 := tyX6) tyX6_ok nmX6 rfl (by decide) (by decide) in_X6 q2795 (Or.inl rfl) rfl rfl rfl dX6_searches_16) (
  aSa (s_aload_n rfl rfl dX6_searches_19) (
  aSa (s_iconst (v0 := 0) (by decide) rfl dX6_searches_20) (
  aSa (s_iconst (v0 := (-1)) (by decide) rfl dX6_searches_21) (
  aSa (s_iconst (v0 := (-1)) (by decide) rfl dX6_searches_22) (
  aSa (s_iload_n rfl rfl dX6_searches_23) (
  aSa (s_callV (List.forall_mem_cons.mpr ⟨d_V rfl rfl q3161 q3163 qs83 q136 q3164 rfl (by decide +kernel) (by decide) rfl dX6_searches_24, fun _ h => absurd h List.not_mem_nil⟩) aHS0) (
  aSa (s_istore_n rfl (by decide) rfl dX6_searches_27) (
  aSa (s_iconst (v0 := (-1)) (by decide) rfl dX6_searches_28) (
  aSa (s_istore (by decide) rfl dX6_searches_29) (
  aSa (s_iload_n rfl rfl dX6_searches_31) (
  aSa (s_istore (by decide) rfl dX6_searches_32) (
  aSa (s_iload rfl dX6_searches_34) (
  aSa (s_aload_n rfl rfl dX6_searches_36) (
  aSa (s_getf (T := TX6) rfl (by decide) (by decide) in_X6 q2785 (Or.inl rfl) rfl dX6_searches_37) (
  aSa (s_cge (by decide) rfl dX6_searches_40) (
  aSa (s_aload_n rfl rfl dX6_searches_43) (
  aSa (s_getf (T := TX6) rfl (by decide) (by decide) in_X6 q2784 (Or.inl rfl) rfl dX6_searches_44) (
  aSa (s_iload rfl dX6_searches_47) (
  aSa (s_zald rfl dX6_searches_49) (
  aSa (s_ifne (by decide) rfl dX6_searches_50) (
  aSa (s_iload rfl dX6_searches_53) (
  aSa (s_iconst (v0 := (-1)) (by decide) rfl dX6_searches_55) (
  aSa (s_ceq (by decide) rfl dX6_searches_56) (
  aSa (s_aload_n rfl rfl dX6_searches_59) (
  aSa (s_iload rfl dX6_searches_60) (
  aSa (s_iload rfl dX6_searches_62) (
  aSa (s_callV (List.forall_mem_cons.mpr ⟨d_V rfl rfl q3170 q3172 qs85 q136 q3173 rfl (by decide +kernel) (by decide) rfl dX6_searches_64, fun _ h => absurd h List.not_mem_nil⟩) aHS0) (
  aSa (s_ifeq (by decide) rfl dX6_searches_67) (
  aSa (s_iload rfl dX6_searches_70) (
  aSa (s_istore (by decide) rfl dX6_searches_72) (
  aSa (s_iinc (by decide) rfl dX6_searches_74) (
  aSa (s_goto (n := 0) (by decide) dX6_searches_77) (
  aSa (s_iload rfl dX6_searches_80) (
  aSa (s_iconst (v0 := (-1)) (by decide) rfl dX6_searches_82) (
  aSa (s_cne (by decide) rfl dX6_searches_83) (
  aSa (s_iconst (v0 := (-1)) (by decide) rfl dX6_searches_86) (
  aSa (s_iret (n := 0) rfl dX6_searches_87) (
  aSa (s_aload_n rfl rfl dX6_searches_88) (
  aSa (s_getf (T := TX6) rfl (by decide) (by decide) in_X6 q2794 (Or.inl rfl) rfl dX6_searches_89) (
  aSa (s_iload_n rfl rfl dX6_searches_92) (
  aSa (s_cne (by decide) rfl dX6_searches_93) (
  aSa (s_bipush (v0 := (-2)) (by decide) rfl dX6_searches_96) (
  aSa (s_iret (n := 0) rfl dX6_searches_98) (
  aSa (s_aload_n rfl rfl dX6_searches_99) (
  aSa (s_getf (T := TX6) rfl (by decide) (by decide) in_X6 q2784 (Or.inl rfl) rfl dX6_searches_100) (
  aSa (s_iload rfl dX6_searches_103) (
  aSa (s_iconst (v0 := 1) (by decide) rfl dX6_searches_105) (
  aSa (s_zast rfl dX6_searches_106) (
  aSa (s_aload_n rfl rfl dX6_searches_107) (
  aSa (s_dup rfl dX6_searches_108) (
  aSa (s_getf (T := TX6) rfl (by decide) (by decide) in_X6 q2794 (Or.inl rfl) rfl dX6_searches_109) (
  aSa (s_iconst (v0 := 1) (by decide) rfl dX6_searches_112) (
  aSa (s_iadd rfl dX6_searches_113) (
  aSa (s_putf (T := TX6) (ty0 := tyX6) tyX6_ok nmX6 rfl (by decide) (by decide) in_X6 q2794 (Or.inl rfl) rfl rfl rfl dX6_searches_114) (
  aSa (s_aload_n rfl rfl dX6_searches_117) (
  aSa (s_iload rfl dX6_searches_118) (
  aSa (s_callV (List.forall_mem_cons.mpr ⟨d_V rfl rfl q3174 q3176 qs86 q136 q3177 rfl (by decide +kernel) (by decide) rfl dX6_searches_120, fun _ h => absurd h List.not_mem_nil⟩) aHS0) (
  aSa (s_aload_n rfl rfl dX6_searches_123) (
  aSa (s_aload_n rfl rfl dX6_searches_124) (
  aSa (s_getf (T := TX6) rfl (by decide) (by decide) in_X6 q2786 (Or.inl rfl) rfl dX6_searches_125) (
  aSa (s_callV (List.forall_mem_cons.mpr ⟨d_V rfl rfl q3178 q3180 qs87 q136 q3181 rfl (by decide +kernel) (by decide) rfl dX6_searches_128, fun _ h => absurd h List.not_mem_nil⟩) aHS0) (
  aSa (s_ifeq (by decide) rfl dX6_searches_131) (
  aSa (s_aload_n rfl rfl dX6_searches_134) (
  aSa (s_iload rfl dX6_searches_135) (
  aSa (s_callV (List.forall_mem_cons.mpr ⟨d_V rfl rfl q3182 q3184 qs88 q136 q3185 rfl (by decide +kernel) (by decide) rfl dX6_searches_137, fun _ h => absurd h List.not_mem_nil⟩) aHS0) (
  aSa (s_aload_n rfl rfl dX6_searches_140) (
  aSa (s_getf (T := TX6) rfl (by decide) (by decide) in_X6 q2778 (Or.inl rfl) rfl dX6_searches_141) (
  aSa (s_iload rfl dX6_searches_144) (
  aSa (s_iald rfl dX6_searches_146) (
  aSa (s_iret (n := 0) rfl dX6_searches_147) (
  aSa (s_iconst (v0 := 0) (by decide) rfl dX6_searches_148) (
  aSa (s_istore (by decide) rfl dX6_searches_149) (
  aSa (s_iload rfl dX6_searches_151) (
  aSa (s_iconst (v0 := 4) (by decide) rfl dX6_searches_153) (
  aSa (s_cge (by decide) rfl dX6_searches_154) (
  aSa (s_aload_n rfl rfl dX6_searches_157) (
  aSa (s_iload rfl dX6_searches_158) (
  aSa (s_callV (List.forall_mem_cons.mpr ⟨d_V rfl rfl q3174 q3176 qs86 q136 q3177 rfl (by decide +kernel) (by decide) rfl dX6_searches_160, fun _ h => absurd h List.not_mem_nil⟩) aHS0) (
  aSa (s_aload_n rfl rfl dX6_searches_163) (
  aSa (s_aload_n rfl rfl dX6_searches_164) (
  aSa (s_getf (T := TX6) rfl (by decide) (by decide) in_X6 q2786 (Or.inl rfl) rfl dX6_searches_165) (
  aSa (s_iload rfl dX6_searches_168) (
  aSa (s_callV (List.forall_mem_cons.mpr ⟨d_V rfl rfl q3021 q3023 qs65 q136 q3024 rfl (by decide +kernel) (by decide) rfl dX6_searches_170, fun _ h => absurd h List.not_mem_nil⟩) aHS0) (
  aSa (s_istore (by decide) rfl dX6_searches_173) (
  aSa (s_iload rfl dX6_searches_175) (
  aSa (s_iconst (v0 := (-1)) (by decide) rfl dX6_searches_177) (
  aSa (s_ceq (by decide) rfl dX6_searches_178) (
  aSa (s_aload_n rfl rfl dX6_searches_181) (
  aSa (s_aload_n rfl rfl dX6_searches_182) (
  aSa (s_getf (T := TX6) rfl (by decide) (by decide) in_X6 q2778 (Or.inl rfl) rfl dX6_searches_183) (
  aSa (s_iload rfl dX6_searches_186) (
  aSa (s_iald rfl dX6_searches_188) (
  aSa (s_iload rfl dX6_searches_189) (
  aSa (s_iadd rfl dX6_searches_191) (
  aSa (s_iload rfl dX6_searches_192) (
  aSa (s_iload rfl dX6_searches_194) (
  aSa (s_iload_n rfl rfl dX6_searches_196) (
  aSa (s_callV (List.forall_mem_cons.mpr ⟨d_V rfl rfl q3161 q3163 qs83 q136 q3164 rfl (by decide +kernel) (by decide) rfl dX6_searches_197, fun _ h => absurd h List.not_mem_nil⟩) aHS0) (
  aSa (s_istore (by decide) rfl dX6_searches_200) (
  aSa (s_iinc (by decide) rfl dX6_searches_202) (
  aSa (s_goto (n := 0) (by decide) dX6_searches_205) (
  aSa (s_goto (n := 0) (by decide) dX6_searches_208) (
  aSn)))))))))))))))))))))))))))))))))))))))))))))))))))))))))))))))))))))))))))))))))))))))))))))))))))))))))))))))))
theorem sn319 : SndL "SlidingtrayModel" "searchesDeeper" cX6_searchesDeeper 4 (Option.some Jvm.ClassFile.FieldType.int) [] T319 := aSa (s_aload_n rfl rfl dX6_searchesDeeper_0) (
  aSa (s_iconst (v0 := 0) (by decide) rfl dX6_searchesDeeper_1) (
  aSa (s_putf (T := TX6) (ty0 := tyX6) tyX6_ok nmX6 rfl (by decide) (by decide) in_X6 q2793 (Or.inl rfl) rfl rfl rfl dX6_searchesDeeper_2) (
  aSa (s_aload_n rfl rfl dX6_searchesDeeper_5) (
  aSa (s_iconst (v0 := 0) (by decide) rfl dX6_searchesDeeper_6) (
  aSa (s_putf (T := TX6) (ty0 := tyX6) tyX6_ok nmX6 rfl (by decide) (by decide) in_X6 q2794 (Or.inl rfl) rfl rfl rfl dX6_searchesDeeper_7) (
  aSa (s_aload_n rfl rfl dX6_searchesDeeper_10) (
  aSa (s_iconst (v0 := 0) (by decide) rfl dX6_searchesDeeper_11) (
  aSa (s_putf (T := TX6) (ty0 := tyX6) tyX6_ok nmX6 rfl (by decide) (by decide) in_X6 q2795 (Or.inl rfl) rfl rfl rfl dX6_searchesDeeper_12) (
  aSa (s_aload_n rfl rfl dX6_searchesDeeper_15) (
  aSa (s_iload_n rfl rfl dX6_searchesDeeper_16) (
  aSa (s_putf (T := TX6) (ty0 := tyX6) tyX6_ok nmX6 rfl (by decide) (by decide) in_X6 q2798 (Or.inl rfl) rfl rfl rfl dX6_searchesDeeper_17) (
  aSa (s_aload_n rfl rfl dX6_searchesDeeper_20) (
  aSa (s_iconst (v0 := 0) (by decide) rfl dX6_searchesDeeper_21) (
  aSa (s_putf (T := TX6) (ty0 := tyX6) tyX6_ok nmX6 rfl (by decide) (by decide) in_X6 q2799 (Or.inl rfl) rfl rfl rfl dX6_searchesDeeper_22) (
  aSa (s_aload_n rfl rfl dX6_searchesDeeper_25) (
  aSa (s_aload_n rfl rfl dX6_searchesDeeper_26) (
  aSa (s_aload_n rfl rfl dX6_searchesDeeper_27) (
  aSa (s_getf (T := TX6) rfl (by decide) (by decide) in_X6 q2786 (Or.inl rfl) rfl dX6_searchesDeeper_28) (
  aSa (s_iload_n rfl rfl dX6_searchesDeeper_31) (
  aSa (s_callV (List.forall_mem_cons.mpr ⟨d_V rfl rfl q3121 q3123 qs74 q136 q3124 rfl (by decide +kernel) (by decide) rfl dX6_searchesDeeper_32, fun _ h => absurd h List.not_mem_nil⟩) aHS0) (
  aSa (s_putf (T := TX6) (ty0 := tyX6) tyX6_ok nmX6 rfl (by decide) (by decide) in_X6 q2796 (Or.inl rfl) rfl rfl rfl dX6_searchesDeeper_35) (
  aSa (s_iconst (v0 := (-1)) (by decide) rfl dX6_searchesDeeper_38) (
  aSa (s_istore_n rfl (by decide) rfl dX6_searchesDeeper_39) (
  aSa (s_iconst (v0 := 1) (by decide) rfl dX6_searchesDeeper_40) (
  aSa (s_istore_n rfl (by decide) rfl dX6_searchesDeeper_41) (
  aSa (s_iload_n rfl rfl dX6_searchesDeeper_42) (
  aSa (s_ifeq (by decide) rfl dX6_searchesDeeper_43) (
  aSa (s_aload_n rfl rfl dX6_searchesDeeper_46) (
  aSa (s_ldc q2742 rfl dX6_searchesDeeper_47) (
  aSa (s_putf (T := TX6) (ty0 := tyX6) tyX6_ok nmX6 rfl (by decide) (by decide) in_X6 q2797 (Or.inl rfl) rfl rfl rfl dX6_searchesDeeper_49) (
  aSa (s_aload_n rfl rfl dX6_searchesDeeper_52) (
  aSa (s_dup rfl dX6_searchesDeeper_53) (
  aSa (s_getf (T := TX6) rfl (by decide) (by decide) in_X6 q2795 (Or.inl rfl) rfl dX6_searchesDeeper_54) (
  aSa (s_iconst (v0 := 1) (by decide) rfl dX6_searchesDeeper_57) (
  aSa (s_iadd rfl dX6_searchesDeeper_58) (
  aSa (s_putf (T := TX6) (ty0 := tyX6) tyX6_ok nmX6 rfl (by decide) (by decide) in_X6 q2795 (Or.inl rfl) rfl rfl rfl dX6_searchesDeeper_59) (
  aSa (s_aload_n rfl rfl dX6_searchesDeeper_62) (
  aSa (s_callV (List.forall_mem_cons.mpr ⟨d_V rfl rfl q3198 q3200 qs91 q136 q3201 rfl (by decide +kernel) (by decide) rfl dX6_searchesDeeper_63, fun _ h => absurd h List.not_mem_nil⟩) aHS0) (
  aSa (s_istore_n rfl (by decide) rfl dX6_searchesDeeper_66) (
  aSa (s_aload_n rfl rfl dX6_searchesDeeper_67) (
  aSa (s_getf (T := TX6) rfl (by decide) (by decide) in_X6 q2799 (Or.inl rfl) rfl dX6_searchesDeeper_68) (
  aSa (s_ifeq (by decide) rfl dX6_searchesDeeper_71) (
  aSa (s_bipush (v0 := (-2)) (by decide) rfl dX6_searchesDeeper_74) (
  aSa (s_iret (n := 0) rfl dX6_searchesDeeper_76) (
  aSa (s_iload_n rfl rfl dX6_searchesDeeper_77) (
  aSa (s_iconst (v0 := (-1)) (by decide) rfl dX6_searchesDeeper_78) (
  aSa (s_cne (by decide) rfl dX6_searchesDeeper_79) (
  aSa (s_aload_n rfl rfl dX6_searchesDeeper_82) (
  aSa (s_getf (T := TX6) rfl (by decide) (by decide) in_X6 q2797 (Or.inl rfl) rfl dX6_searchesDeeper_83) (
  aSa (s_ldc q2742 rfl dX6_searchesDeeper_86) (
  aSa (s_cge (by decide) rfl dX6_searchesDeeper_88) (
  aSa (s_iconst (v0 := 1) (by decide) rfl dX6_searchesDeeper_91) (
  aSa (s_goto (n := 0) (by decide) dX6_searchesDeeper_92) (
  aSa (s_iconst (v0 := 0) (by decide) rfl dX6_searchesDeeper_95) (
  aSa (s_istore_n rfl (by decide) rfl dX6_searchesDeeper_96) (
  aSa (s_aload_n rfl rfl dX6_searchesDeeper_97) (
  aSa (s_aload_n rfl rfl dX6_searchesDeeper_98) (
  aSa (s_getf (T := TX6) rfl (by decide) (by decide) in_X6 q2797 (Or.inl rfl) rfl dX6_searchesDeeper_99) (
  aSa (s_putf (T := TX6) (ty0 := tyX6) tyX6_ok nmX6 rfl (by decide) (by decide) in_X6 q2796 (Or.inl rfl) rfl rfl rfl dX6_searchesDeeper_102) (
  aSa (s_goto (n := 0) (by decide) dX6_searchesDeeper_105) (
  aSa (s_iload_n rfl rfl dX6_searchesDeeper_108) (
  aSa (s_iret (n := 0) rfl dX6_searchesDeeper_109) (
  aSn)))))))))))))))))))))))))))))))))))))))))))))))))))))))))))))))
theorem sn320 : SndL "SlidingtrayModel" "seek" cX6_seek 4 (Option.some Jvm.ClassFile.FieldType.int) [] T320 := aSa (s_lload_n rfl rfl dX6_seek_0) (
  aSa (s_ldc2 q3169 rfl dX6_seek_1) (
  aSa (s_lrem rfl dX6_seek_4) (
  aSa (s_l2i rfl dX6_seek_5) (
  aSa (s_istore_n rfl (by decide) rfl dX6_seek_6) (
  aSa (s_aload_n rfl rfl dX6_seek_7) (
  aSa (s_getf (T := TX6) rfl (by decide) (by decide) in_X6 q2782 (Or.inl rfl) rfl dX6_seek_8) (
  aSa (s_iload_n rfl rfl dX6_seek_11) (
  aSa (s_iald rfl dX6_seek_12) (
  aSa (s_ifeq (by decide) rfl dX6_seek_13) (
  aSa (s_aload_n rfl rfl dX6_seek_16) (
  aSa (s_getf (T := TX6) rfl (by decide) (by decide) in_X6 q2783 (Or.inl rfl) rfl dX6_seek_17) (
  aSa (s_aload_n rfl rfl dX6_seek_20) (
  aSa (s_getf (T := TX6) rfl (by decide) (by decide) in_X6 q2782 (Or.inl rfl) rfl dX6_seek_21) (
  aSa (s_iload_n rfl rfl dX6_seek_24) (
  aSa (s_iald rfl dX6_seek_25) (
  aSa (s_iconst (v0 := 1) (by decide) rfl dX6_seek_26) (
  aSa (s_isub rfl dX6_seek_27) (
  aSa (s_lald rfl dX6_seek_28) (
  aSa (s_lload_n rfl rfl dX6_seek_29) (
  aSa (s_lcmp rfl dX6_seek_30) (
  aSa (s_ifeq (by decide) rfl dX6_seek_31) (
  aSa (s_iload_n rfl rfl dX6_seek_34) (
  aSa (s_sipush (v0 := 16383) (by decide) rfl dX6_seek_35) (
  aSa (s_cne (by decide) rfl dX6_seek_38) (
  aSa (s_iconst (v0 := 0) (by decide) rfl dX6_seek_41) (
  aSa (s_goto (n := 0) (by decide) dX6_seek_42) (
  aSa (s_iload_n rfl rfl dX6_seek_45) (
  aSa (s_iconst (v0 := 1) (by decide) rfl dX6_seek_46) (
  aSa (s_iadd rfl dX6_seek_47) (
  aSa (s_istore_n rfl (by decide) rfl dX6_seek_48) (
  aSa (s_goto (n := 0) (by decide) dX6_seek_49) (
  aSa (s_iload_n rfl rfl dX6_seek_52) (
  aSa (s_iret (n := 0) rfl dX6_seek_53) (
  aSn))))))))))))))))))))))))))))))))))
theorem sn321 : SndL "SlidingtrayModel" "setFree" cX6_setFree 4 (Option.some Jvm.ClassFile.FieldType.boolean) [] T321 := aSa (s_iload_n rfl rfl dX6_setFree_0) (
  aSa (s_iconst (v0 := 0) (by decide) rfl dX6_setFree_1) (
  aSa (s_aload_n rfl rfl dX6_setFree_2) (
  aSa (s_callV (List.forall_mem_cons.mpr ⟨d_V rfl rfl q2965 q2967 qs55 q136 q2968 rfl (by decide +kernel) (by decide) rfl dX6_setFree_3, fun _ h => absurd h List.not_mem_nil⟩) aHS0) (
  aSa (s_callS rfl q2954 q2955 q136 q2956 (by decide +kernel) (by decide) aHS0 rfl dX6_setFree_6) (
  aSa (s_ifne (by decide) rfl dX6_setFree_9) (
  aSa (s_aload_n rfl rfl dX6_setFree_12) (
  aSa (s_iconst (v0 := 1) (by decide) rfl dX6_setFree_13) (
  aSa (s_callV (List.forall_mem_cons.mpr ⟨d_V rfl rfl q3041 q3043 qs68 q136 q3044 rfl (by decide +kernel) (by decide) rfl dX6_setFree_14, fun _ h => absurd h List.not_mem_nil⟩) aHS0) (
  aSa (s_iret (n := 0) rfl dX6_setFree_17) (
  aSa (s_aload_n rfl rfl dX6_setFree_18) (
  aSa (s_getf (T := TX6) rfl (by decide) (by decide) in_X6 q2755 (Or.inl rfl) rfl dX6_setFree_19) (
  aSa (s_iload_n rfl rfl dX6_setFree_22) (
  aSa (s_zald rfl dX6_setFree_23) (
  aSa (s_istore_n rfl (by decide) rfl dX6_setFree_24) (
  aSa (s_aload_n rfl rfl dX6_setFree_25) (
  aSa (s_getf (T := TX6) rfl (by decide) (by decide) in_X6 q2755 (Or.inl rfl) rfl dX6_setFree_26) (
  aSa (s_iload_n rfl rfl dX6_setFree_29) (
  aSa (s_iload_n rfl rfl dX6_setFree_30) (
  aSa (s_zast rfl dX6_setFree_31) (
  aSa (s_aload_n rfl rfl dX6_setFree_32) (
  aSa (s_iconst (v0 := 0) (by decide) rfl dX6_setFree_33) (
  aSa (s_putf (T := TX6) (ty0 := tyX6) tyX6_ok nmX6 rfl (by decide) (by decide) in_X6 q2775 (Or.inl rfl) rfl rfl rfl dX6_setFree_34) (
  aSa (s_aload_n rfl rfl dX6_setFree_37) (
  aSa (s_iload_n rfl rfl dX6_setFree_38) (
  aSa (s_callV (List.forall_mem_cons.mpr ⟨d_V rfl rfl q3045 q3047 qs69 q136 q3048 rfl (by decide +kernel) (by decide) rfl dX6_setFree_39, fun _ h => absurd h List.not_mem_nil⟩) aHS0) (
  aSa (s_iret (n := 0) rfl dX6_setFree_42) (
  aSn)))))))))))))))))))))))))))
theorem sn322 : SndL "SlidingtrayModel" "setGoal" cX6_setGoal 2 (Option.some Jvm.ClassFile.FieldType.long) [] T322 := aSa (s_aload_n rfl rfl dX6_setGoal_0) (
  aSa (s_iconst (v0 := 0) (by decide) rfl dX6_setGoal_1) (
  aSa (s_putf (T := TX6) (ty0 := tyX6) tyX6_ok nmX6 rfl (by decide) (by decide) in_X6 q2751 (Or.inl rfl) rfl rfl rfl dX6_setGoal_2) (
  aSa (s_iconst (v0 := 0) (by decide) rfl dX6_setGoal_5) (
  aSa (s_istore_n rfl (by decide) rfl dX6_setGoal_6) (
  aSa (s_iload_n rfl rfl dX6_setGoal_7) (
  aSa (s_aload_n rfl rfl dX6_setGoal_8) (
  aSa (s_getf (T := TX6) rfl (by decide) (by decide) in_X6 q2750 (Or.inl rfl) rfl dX6_setGoal_9) (
  aSa (s_cge (by decide) rfl dX6_setGoal_12) (
  aSa (s_aload_n rfl rfl dX6_setGoal_15) (
  aSa (s_getf (T := TX6) rfl (by decide) (by decide) in_X6 q2753 (Or.inl rfl) rfl dX6_setGoal_16) (
  aSa (s_aload_n rfl rfl dX6_setGoal_19) (
  aSa (s_getf (T := TX6) rfl (by decide) (by decide) in_X6 q2752 (Or.inl rfl) rfl dX6_setGoal_20) (
  aSa (s_iload_n rfl rfl dX6_setGoal_23) (
  aSa (s_iald rfl dX6_setGoal_24) (
  aSa (s_iload_n rfl rfl dX6_setGoal_25) (
  aSa (s_iast rfl dX6_setGoal_26) (
  aSa (s_iinc (by decide) rfl dX6_setGoal_27) (
  aSa (s_goto (n := 0) (by decide) dX6_setGoal_30) (
  aSa (s_aload_n rfl rfl dX6_setGoal_33) (
  aSa (s_iconst (v0 := 0) (by decide) rfl dX6_setGoal_34) (
  aSa (s_putf (T := TX6) (ty0 := tyX6) tyX6_ok nmX6 rfl (by decide) (by decide) in_X6 q2775 (Or.inl rfl) rfl rfl rfl dX6_setGoal_35) (
  aSa (s_aload_n rfl rfl dX6_setGoal_38) (
  aSa (s_aload_n rfl rfl dX6_setGoal_39) (
  aSa (s_getf (T := TX6) rfl (by decide) (by decide) in_X6 q2752 (Or.inl rfl) rfl dX6_setGoal_40) (
  aSa (s_callV (List.forall_mem_cons.mpr ⟨d_V rfl rfl q3029 q3031 qs66 q136 q3032 rfl (by decide +kernel) (by decide) rfl dX6_setGoal_43, fun _ h => absurd h List.not_mem_nil⟩) aHS0) (
  aSa (s_lret (n := 0) rfl dX6_setGoal_46) (
  aSn)))))))))))))))))))))))))))
theorem sn323 : SndL "SlidingtrayModel" "setLimit" cX6_setLimit 3 (Option.some Jvm.ClassFile.FieldType.int) [] T323 := aSa (s_iload_n rfl rfl dX6_setLimit_0) (
  aSa (s_iconst (v0 := 1) (by decide) rfl dX6_setLimit_1) (
  aSa (s_sipush (v0 := 1000) (by decide) rfl dX6_setLimit_2) (
  aSa (s_callS rfl q2954 q2955 q136 q2956 (by decide +kernel) (by decide) aHS0 rfl dX6_setLimit_5) (
  aSa (s_ifne (by decide) rfl dX6_setLimit_8) (
  aSa (s_aload_n rfl rfl dX6_setLimit_11) (
  aSa (s_iconst (v0 := 1) (by decide) rfl dX6_setLimit_12) (
  aSa (s_callV (List.forall_mem_cons.mpr ⟨d_V rfl rfl q2957 q2959 qs53 q136 q2960 rfl (by decide +kernel) (by decide) rfl dX6_setLimit_13, fun _ h => absurd h List.not_mem_nil⟩) aHS0) (
  aSa (s_iret (n := 0) rfl dX6_setLimit_16) (
  aSa (s_aload_n rfl rfl dX6_setLimit_17) (
  aSa (s_getf (T := TX6) rfl (by decide) (by decide) in_X6 q2756 (Or.inl rfl) rfl dX6_setLimit_18) (
  aSa (s_istore_n rfl (by decide) rfl dX6_setLimit_21) (
  aSa (s_aload_n rfl rfl dX6_setLimit_22) (
  aSa (s_iload_n rfl rfl dX6_setLimit_23) (
  aSa (s_putf (T := TX6) (ty0 := tyX6) tyX6_ok nmX6 rfl (by decide) (by decide) in_X6 q2756 (Or.inl rfl) rfl rfl rfl dX6_setLimit_24) (
  aSa (s_aload_n rfl rfl dX6_setLimit_27) (
  aSa (s_iload_n rfl rfl dX6_setLimit_28) (
  aSa (s_callV (List.forall_mem_cons.mpr ⟨d_V rfl rfl q2969 q2971 qs56 q136 q2972 rfl (by decide +kernel) (by decide) rfl dX6_setLimit_29, fun _ h => absurd h List.not_mem_nil⟩) aHS0) (
  aSa (s_iret (n := 0) rfl dX6_setLimit_32) (
  aSn)))))))))))))))))))
theorem sn324 : SndL "SlidingtrayModel" "setMacro" cX6_setMacro 8 (Option.some Jvm.ClassFile.FieldType.int) [] T324 := aSa (s_iload_n rfl rfl dX6_setMacro_0) (
  aSa (s_iconst (v0 := 0) (by decide) rfl dX6_setMacro_1) (
  aSa (s_iconst (v0 := 3) (by decide) rfl dX6_setMacro_2) (
  aSa (s_callS rfl q2954 q2955 q136 q2956 (by decide +kernel) (by decide) aHS0 rfl dX6_setMacro_3) (
  aSa (s_ifne (by decide) rfl dX6_setMacro_6) (
  aSa (s_aload_n rfl rfl dX6_setMacro_9) (
  aSa (s_iconst (v0 := 1) (by decide) rfl dX6_setMacro_10) (
  aSa (s_callV (List.forall_mem_cons.mpr ⟨d_V rfl rfl q2957 q2959 qs53 q136 q2960 rfl (by decide +kernel) (by decide) rfl dX6_setMacro_11, fun _ h => absurd h List.not_mem_nil⟩) aHS0) (
  aSa (s_iret (n := 0) rfl dX6_setMacro_14) (
  aSa (s_iconst (v0 := 1) (by decide) rfl dX6_setMacro_15) (
  aSa (s_istore (by decide) rfl dX6_setMacro_16) (
  aSa (s_iconst (v0 := 0) (by decide) rfl dX6_setMacro_18) (
  aSa (s_istore (by decide) rfl dX6_setMacro_19) (
  aSa (s_iload rfl dX6_setMacro_21) (
  aSa (s_bipush (v0 := 8) (by decide) rfl dX6_setMacro_23) (
  aSa (s_cge (by decide) rfl dX6_setMacro_25) (
  aSa (s_lload_n rfl rfl dX6_setMacro_28) (
  aSa (s_bipush (v0 := 8) (by decide) rfl dX6_setMacro_29) (
  aSa (s_iload rfl dX6_setMacro_31) (
  aSa (s_imul rfl dX6_setMacro_33) (
  aSa (s_lushr rfl dX6_setMacro_34) (
  aSa (s_ldc2 q3073 rfl dX6_setMacro_35) (
  aSa (s_land rfl dX6_setMacro_38) (
  aSa (s_l2i rfl dX6_setMacro_39) (
  aSa (s_istore (by decide) rfl dX6_setMacro_40) (
  aSa (s_iload rfl dX6_setMacro_42) (
  aSa (s_ifeq (by decide) rfl dX6_setMacro_44) (
  aSa (s_iload rfl dX6_setMacro_47) (
  aSa (s_ifeq (by decide) rfl dX6_setMacro_49) (
  aSa (s_iload rfl dX6_setMacro_52) (
  aSa (s_callS rfl q3074 q3075 q136 q3076 (by decide +kernel) (by decide) aHS0 rfl dX6_setMacro_54) (
  aSa (s_iconst (v0 := (-1)) (by decide) rfl dX6_setMacro_57) (
  aSa (s_ceq (by decide) rfl dX6_setMacro_58) (
  aSa (s_iconst (v0 := 1) (by decide) rfl dX6_setMacro_61) (
  aSa (s_goto (n := 0) (by decide) dX6_setMacro_62) (
  aSa (s_iconst (v0 := 0) (by decide) rfl dX6_setMacro_65) (
  aSa (s_istore (by decide) rfl dX6_setMacro_66) (
  aSa (s_iinc (by decide) rfl dX6_setMacro_68) (
  aSa (s_goto (n := 0) (by decide) dX6_setMacro_71) (
  aSa (s_iload rfl dX6_setMacro_74) (
  aSa (s_ifne (by decide) rfl dX6_setMacro_76) (
  aSa (s_aload_n rfl rfl dX6_setMacro_79) (
  aSa (s_iconst (v0 := 2) (by decide) rfl dX6_setMacro_80) (
  aSa (s_callV (List.forall_mem_cons.mpr ⟨d_V rfl rfl q2957 q2959 qs53 q136 q2960 rfl (by decide +kernel) (by decide) rfl dX6_setMacro_81, fun _ h => absurd h List.not_mem_nil⟩) aHS0) (
  aSa (s_iret (n := 0) rfl dX6_setMacro_84) (
  aSa (s_iconst (v0 := 0) (by decide) rfl dX6_setMacro_85) (
  aSa (s_istore (by decide) rfl dX6_setMacro_86) (
  aSa (s_bipush (v0 := 7) (by decide) rfl dX6_setMacro_88) (
  aSa (s_istore (by decide) rfl dX6_setMacro_90) (
  aSa (s_iload rfl dX6_setMacro_92) (
  aSa (s_iflt (by decide) rfl dX6_setMacro_94) (
  aSa (s_lload_n rfl rfl dX6_setMacro_97) (
  aSa (s_bipush (v0 := 8) (by decide) rfl dX6_setMacro_98) (
  aSa (s_iload rfl dX6_setMacro_100) (
  aSa (s_imul rfl dX6_setMacro_102) (
  aSa (s_lushr rfl dX6_setMacro_103) (
  aSa (s_ldc2 q3073 rfl dX6_setMacro_104) (
  aSa (s_land rfl dX6_setMacro_107) (
  aSa (s_l2i rfl dX6_setMacro_108) (
  aSa (s_istore (by decide) rfl dX6_setMacro_109) (
  aSa (s_iload rfl dX6_setMacro_111) (
  aSa (s_ifeq (by decide) rfl dX6_setMacro_113) (
  aSa (s_aload_n rfl rfl dX6_setMacro_116) (
  aSa (s_getf (T := TX6) rfl (by decide) (by decide) in_X6 q2759 (Or.inl rfl) rfl dX6_setMacro_117) (
  aSa (s_bipush (v0 := 8) (by decide) rfl dX6_setMacro_120) (
  aSa (s_iload_n rfl rfl dX6_setMacro_122) (
  aSa (s_imul rfl dX6_setMacro_123) (
  aSa (s_iload rfl dX6_setMacro_124) (
  aSa (s_iadd rfl dX6_setMacro_126) (
  aSa (s_iload rfl dX6_setMacro_127) (
  aSa (s_callS rfl q3074 q3075 q136 q3076 (by decide +kernel) (by decide) aHS0 rfl dX6_setMacro_129) (
  aSa (s_iast rfl dX6_setMacro_132) (
  aSa (s_iinc (by decide) rfl dX6_setMacro_133) (
  aSa (s_iinc (by decide) rfl dX6_setMacro_136) (
  aSa (s_goto (n := 0) (by decide) dX6_setMacro_139) (
  aSa (s_aload_n rfl rfl dX6_setMacro_142) (
  aSa (s_getf (T := TX6) rfl (by decide) (by decide) in_X6 q2758 (Or.inl rfl) rfl dX6_setMacro_143) (
  aSa (s_iload_n rfl rfl dX6_setMacro_146) (
  aSa (s_iload rfl dX6_setMacro_147) (
  aSa (s_iast rfl dX6_setMacro_149) (
  aSa (s_aload_n rfl rfl dX6_setMacro_150) (
  aSa (s_iload rfl dX6_setMacro_151) (
  aSa (s_callV (List.forall_mem_cons.mpr ⟨d_V rfl rfl q2969 q2971 qs56 q136 q2972 rfl (by decide +kernel) (by decide) rfl dX6_setMacro_153, fun _ h => absurd h List.not_mem_nil⟩) aHS0) (
  aSa (s_iret (n := 0) rfl dX6_setMacro_156) (
  aSn))))))))))))))))))))))))))))))))))))))))))))))))))))))))))))))))))))))))))))))))))))
theorem sn325 : SndL "SlidingtrayModel" "setWeight" cX6_setWeight 4 (Option.some Jvm.ClassFile.FieldType.int) [] T325 := aSa (s_iload_n rfl rfl dX6_setWeight_0) (
  aSa (s_iconst (v0 := 1) (by decide) rfl dX6_setWeight_1) (
  aSa (s_aload_n rfl rfl dX6_setWeight_2) (
  aSa (s_callV (List.forall_mem_cons.mpr ⟨d_V rfl rfl q2965 q2967 qs55 q136 q2968 rfl (by decide +kernel) (by decide) rfl dX6_setWeight_3, fun _ h => absurd h List.not_mem_nil⟩) aHS0) (
  aSa (s_callS rfl q2954 q2955 q136 q2956 (by decide +kernel) (by decide) aHS0 rfl dX6_setWeight_6) (
  aSa (s_ifne (by decide) rfl dX6_setWeight_9) (
  aSa (s_aload_n rfl rfl dX6_setWeight_12) (
  aSa (s_iconst (v0 := 1) (by decide) rfl dX6_setWeight_13) (
  aSa (s_callV (List.forall_mem_cons.mpr ⟨d_V rfl rfl q2957 q2959 qs53 q136 q2960 rfl (by decide +kernel) (by decide) rfl dX6_setWeight_14, fun _ h => absurd h List.not_mem_nil⟩) aHS0) (
  aSa (s_iret (n := 0) rfl dX6_setWeight_17) (
  aSa (s_iload_n rfl rfl dX6_setWeight_18) (
  aSa (s_iconst (v0 := 1) (by decide) rfl dX6_setWeight_19) (
  aSa (s_bipush (v0 := 9) (by decide) rfl dX6_setWeight_20) (
  aSa (s_callS rfl q2954 q2955 q136 q2956 (by decide +kernel) (by decide) aHS0 rfl dX6_setWeight_22) (
  aSa (s_ifne (by decide) rfl dX6_setWeight_25) (
  aSa (s_aload_n rfl rfl dX6_setWeight_28) (
  aSa (s_iconst (v0 := 2) (by decide) rfl dX6_setWeight_29) (
  aSa (s_callV (List.forall_mem_cons.mpr ⟨d_V rfl rfl q2957 q2959 qs53 q136 q2960 rfl (by decide +kernel) (by decide) rfl dX6_setWeight_30, fun _ h => absurd h List.not_mem_nil⟩) aHS0) (
  aSa (s_iret (n := 0) rfl dX6_setWeight_33) (
  aSa (s_aload_n rfl rfl dX6_setWeight_34) (
  aSa (s_getf (T := TX6) rfl (by decide) (by decide) in_X6 q2754 (Or.inl rfl) rfl dX6_setWeight_35) (
  aSa (s_iload_n rfl rfl dX6_setWeight_38) (
  aSa (s_iald rfl dX6_setWeight_39) (
  aSa (s_istore_n rfl (by decide) rfl dX6_setWeight_40) (
  aSa (s_aload_n rfl rfl dX6_setWeight_41) (
  aSa (s_getf (T := TX6) rfl (by decide) (by decide) in_X6 q2754 (Or.inl rfl) rfl dX6_setWeight_42) (
  aSa (s_iload_n rfl rfl dX6_setWeight_45) (
  aSa (s_iload_n rfl rfl dX6_setWeight_46) (
  aSa (s_iast rfl dX6_setWeight_47) (
  aSa (s_aload_n rfl rfl dX6_setWeight_48) (
  aSa (s_iconst (v0 := 0) (by decide) rfl dX6_setWeight_49) (
  aSa (s_putf (T := TX6) (ty0 := tyX6) tyX6_ok nmX6 rfl (by decide) (by decide) in_X6 q2775 (Or.inl rfl) rfl rfl rfl dX6_setWeight_50) (
  aSa (s_aload_n rfl rfl dX6_setWeight_53) (
  aSa (s_iload_n rfl rfl dX6_setWeight_54) (
  aSa (s_callV (List.forall_mem_cons.mpr ⟨d_V rfl rfl q2969 q2971 qs56 q136 q2972 rfl (by decide +kernel) (by decide) rfl dX6_setWeight_55, fun _ h => absurd h List.not_mem_nil⟩) aHS0) (
  aSa (s_iret (n := 0) rfl dX6_setWeight_58) (
  aSn))))))))))))))))))))))))))))))))))))
theorem sn326 : SndL "SlidingtrayModel" "settled" cX6_settled 6 (Option.some Jvm.ClassFile.FieldType.float) [] T326 := aSa (s_aload_n rfl rfl dX6_settled_0) (
  aSa (s_iconst (v0 := 0) (by decide) rfl dX6_settled_1) (
  aSa (s_putf (T := TX6) (ty0 := tyX6) tyX6_ok nmX6 rfl (by decide) (by decide) in_X6 q2751 (Or.inl rfl) rfl rfl rfl dX6_settled_2) (
  aSa (s_iconst (v0 := 0) (by decide) rfl dX6_settled_5) (
  aSa (s_istore_n rfl (by decide) rfl dX6_settled_6) (
  aSa (s_iconst (v0 := 0) (by decide) rfl dX6_settled_7) (
  aSa (s_istore_n rfl (by decide) rfl dX6_settled_8) (
  aSa (s_iconst (v0 := 0) (by decide) rfl dX6_settled_9) (
  aSa (s_istore_n rfl (by decide) rfl dX6_settled_10) (
  aSa (s_iload_n rfl rfl dX6_settled_11) (
  aSa (s_aload_n rfl rfl dX6_settled_12) (
  aSa (s_getf (T := TX6) rfl (by decide) (by decide) in_X6 q2750 (Or.inl rfl) rfl dX6_settled_13) (
  aSa (s_cge (by decide) rfl dX6_settled_16) (
  aSa (s_aload_n rfl rfl dX6_settled_19) (
  aSa (s_getf (T := TX6) rfl (by decide) (by decide) in_X6 q2752 (Or.inl rfl) rfl dX6_settled_20) (
  aSa (s_iload_n rfl rfl dX6_settled_23) (
  aSa (s_iald rfl dX6_settled_24) (
  aSa (s_istore (by decide) rfl dX6_settled_25) (
  aSa (s_iload rfl dX6_settled_27) (
  aSa (s_ifle (by decide) rfl dX6_settled_29) (
  aSa (s_aload_n rfl rfl dX6_settled_32) (
  aSa (s_getf (T := TX6) rfl (by decide) (by decide) in_X6 q2755 (Or.inl rfl) rfl dX6_settled_33) (
  aSa (s_iload rfl dX6_settled_36) (
  aSa (s_zald rfl dX6_settled_38) (
  aSa (s_ifne (by decide) rfl dX6_settled_39) (
  aSa (s_iconst (v0 := 1) (by decide) rfl dX6_settled_42) (
  aSa (s_goto (n := 0) (by decide) dX6_settled_43) (
  aSa (s_iconst (v0 := 0) (by decide) rfl dX6_settled_46) (
  aSa (s_istore (by decide) rfl dX6_settled_47) (
  aSa (s_iload_n rfl rfl dX6_settled_49) (
  aSa (s_iload rfl dX6_settled_50) (
  aSa (s_ifeq (by decide) rfl dX6_settled_52) (
  aSa (s_iconst (v0 := 1) (by decide) rfl dX6_settled_55) (
  aSa (s_goto (n := 0) (by decide) dX6_settled_56) (
  aSa (s_iconst (v0 := 0) (by decide) rfl dX6_settled_59) (
  aSa (s_iadd rfl dX6_settled_60) (
  aSa (s_istore_n rfl (by decide) rfl dX6_settled_61) (
  aSa (s_iload_n rfl rfl dX6_settled_62) (
  aSa (s_iload rfl dX6_settled_63) (
  aSa (s_ifeq (by decide) rfl dX6_settled_65) (
  aSa (s_aload_n rfl rfl dX6_settled_68) (
  aSa (s_getf (T := TX6) rfl (by decide) (by decide) in_X6 q2753 (Or.inl rfl) rfl dX6_settled_69) (
  aSa (s_iload rfl dX6_settled_72) (
  aSa (s_iald rfl dX6_settled_74) (
  aSa (s_iload_n rfl rfl dX6_settled_75) (
  aSa (s_cne (by decide) rfl dX6_settled_76) (
  aSa (s_iconst (v0 := 1) (by decide) rfl dX6_settled_79) (
  aSa (s_goto (n := 0) (by decide) dX6_settled_80) (
  aSa (s_iconst (v0 := 0) (by decide) rfl dX6_settled_83) (
  aSa (s_iadd rfl dX6_settled_84) (
  aSa (s_istore_n rfl (by decide) rfl dX6_settled_85) (
  aSa (s_iinc (by decide) rfl dX6_settled_86) (
  aSa (s_goto (n := 0) (by decide) dX6_settled_89) (
  aSa (s_iload_n rfl rfl dX6_settled_92) (
  aSa (s_ifne (by decide) rfl dX6_settled_93) (
  aSa (s_fconst0 rfl dX6_settled_96) (
  aSa (s_goto (n := 0) (by decide) dX6_settled_97) (
  aSa (s_iload_n rfl rfl dX6_settled_100) (
  aSa (s_i2f rfl dX6_settled_101) (
  aSa (s_iload_n rfl rfl dX6_settled_102) (
  aSa (s_i2f rfl dX6_settled_103) (
  aSa (s_fdiv rfl dX6_settled_104) (
  aSa (s_fret (n := 0) rfl dX6_settled_105) (
  aSn)))))))))))))))))))))))))))))))))))))))))))))))))))))))))))))))
theorem sn327 : SndL "SlidingtrayModel" "solve" cX6_solve 3 (Option.some Jvm.ClassFile.FieldType.int) [] T327 := aSa (s_iload_n rfl rfl dX6_solve_0) (
  aSa (s_iconst (v0 := 0) (by decide) rfl dX6_solve_1) (
  aSa (s_iconst (v0 := 4) (by decide) rfl dX6_solve_2) (
  aSa (s_callS rfl q2954 q2955 q136 q2956 (by decide +kernel) (by decide) aHS0 rfl dX6_solve_3) (
  aSa (s_ifne (by decide) rfl dX6_solve_6) (
  aSa (s_aload_n rfl rfl dX6_solve_9) (
  aSa (s_iconst (v0 := 1) (by decide) rfl dX6_solve_10) (
  aSa (s_callV (List.forall_mem_cons.mpr ⟨d_V rfl rfl q2957 q2959 qs53 q136 q2960 rfl (by decide +kernel) (by decide) rfl dX6_solve_11, fun _ h => absurd h List.not_mem_nil⟩) aHS0) (
  aSa (s_iret (n := 0) rfl dX6_solve_14) (
  aSa (s_aload_n rfl rfl dX6_solve_15) (
  aSa (s_callV (List.forall_mem_cons.mpr ⟨d_V rfl rfl q3149 q3151 qs80 q136 q3152 rfl (by decide +kernel) (by decide) rfl dX6_solve_16, fun _ h => absurd h List.not_mem_nil⟩) aHS0) (
  aSa (s_aload_n rfl rfl dX6_solve_19) (
  aSa (s_iload_n rfl rfl dX6_solve_20) (
  aSa (s_aload_n rfl rfl dX6_solve_21) (
  aSa (s_getf (T := TX6) rfl (by decide) (by decide) in_X6 q2756 (Or.inl rfl) rfl dX6_solve_22) (
  aSa (s_callV (List.forall_mem_cons.mpr ⟨d_V rfl rfl q3153 q3155 qs81 q136 q3156 rfl (by decide +kernel) (by decide) rfl dX6_solve_25, fun _ h => absurd h List.not_mem_nil⟩) aHS0) (
  aSa (s_istore_n rfl (by decide) rfl dX6_solve_28) (
  aSa (s_iload_n rfl rfl dX6_solve_29) (
  aSa (s_bipush (v0 := (-2)) (by decide) rfl dX6_solve_30) (
  aSa (s_cne (by decide) rfl dX6_solve_32) (
  aSa (s_aload_n rfl rfl dX6_solve_35) (
  aSa (s_iconst (v0 := 2) (by decide) rfl dX6_solve_36) (
  aSa (s_callV (List.forall_mem_cons.mpr ⟨d_V rfl rfl q2957 q2959 qs53 q136 q2960 rfl (by decide +kernel) (by decide) rfl dX6_solve_37, fun _ h => absurd h List.not_mem_nil⟩) aHS0) (
  aSa (s_iret (n := 0) rfl dX6_solve_40) (
  aSa (s_aload_n rfl rfl dX6_solve_41) (
  aSa (s_callV (List.forall_mem_cons.mpr ⟨d_V rfl rfl q3186 q3188 qs89 q136 q3189 rfl (by decide +kernel) (by decide) rfl dX6_solve_42, fun _ h => absurd h List.not_mem_nil⟩) aHS0) (
  aSa (s_aload_n rfl rfl dX6_solve_45) (
  aSa (s_iload_n rfl rfl dX6_solve_46) (
  aSa (s_callV (List.forall_mem_cons.mpr ⟨d_V rfl rfl q2969 q2971 qs56 q136 q2972 rfl (by decide +kernel) (by decide) rfl dX6_solve_47, fun _ h => absurd h List.not_mem_nil⟩) aHS0) (
  aSa (s_iret (n := 0) rfl dX6_solve_50) (
  aSn))))))))))))))))))))))))))))))
theorem sn328 : SndL "SlidingtrayModel" "tells" cX6_tells 2 (Option.none : Option Jvm.ClassFile.FieldType) [] T328 := aSa (s_aload_n rfl rfl dX6_tells_0) (
  aSa (s_aload_n rfl rfl dX6_tells_1) (
  aSa (s_getf (T := TX6) rfl (by decide) (by decide) in_X6 q2793 (Or.inl rfl) rfl dX6_tells_2) (
  aSa (s_putf (T := TX6) (ty0 := tyX6) tyX6_ok nmX6 rfl (by decide) (by decide) in_X6 q2789 (Or.inl rfl) rfl rfl rfl dX6_tells_5) (
  aSa (s_aload_n rfl rfl dX6_tells_8) (
  aSa (s_aload_n rfl rfl dX6_tells_9) (
  aSa (s_getf (T := TX6) rfl (by decide) (by decide) in_X6 q2793 (Or.inl rfl) rfl dX6_tells_10) (
  aSa (s_putf (T := TX6) (ty0 := tyX6) tyX6_ok nmX6 rfl (by decide) (by decide) in_X6 q2792 (Or.inl rfl) rfl rfl rfl dX6_tells_13) (
  aSa (s_aload_n rfl rfl dX6_tells_16) (
  aSa (s_aload_n rfl rfl dX6_tells_17) (
  aSa (s_getf (T := TX6) rfl (by decide) (by decide) in_X6 q2794 (Or.inl rfl) rfl dX6_tells_18) (
  aSa (s_putf (T := TX6) (ty0 := tyX6) tyX6_ok nmX6 rfl (by decide) (by decide) in_X6 q2790 (Or.inl rfl) rfl rfl rfl dX6_tells_21) (
  aSa (s_aload_n rfl rfl dX6_tells_24) (
  aSa (s_aload_n rfl rfl dX6_tells_25) (
  aSa (s_getf (T := TX6) rfl (by decide) (by decide) in_X6 q2795 (Or.inl rfl) rfl dX6_tells_26) (
  aSa (s_putf (T := TX6) (ty0 := tyX6) tyX6_ok nmX6 rfl (by decide) (by decide) in_X6 q2791 (Or.inl rfl) rfl rfl rfl dX6_tells_29) (
  aSa (s_iconst (v0 := 0) (by decide) rfl dX6_tells_32) (
  aSa (s_istore_n rfl (by decide) rfl dX6_tells_33) (
  aSa (s_iload_n rfl rfl dX6_tells_34) (
  aSa (s_aload_n rfl rfl dX6_tells_35) (
  aSa (s_getf (T := TX6) rfl (by decide) (by decide) in_X6 q2789 (Or.inl rfl) rfl dX6_tells_36) (
  aSa (s_cge (by decide) rfl dX6_tells_39) (
  aSa (s_aload_n rfl rfl dX6_tells_42) (
  aSa (s_getf (T := TX6) rfl (by decide) (by decide) in_X6 q2787 (Or.inl rfl) rfl dX6_tells_43) (
  aSa (s_iload_n rfl rfl dX6_tells_46) (
  aSa (s_aload_n rfl rfl dX6_tells_47) (
  aSa (s_getf (T := TX6) rfl (by decide) (by decide) in_X6 q2788 (Or.inl rfl) rfl dX6_tells_48) (
  aSa (s_iload_n rfl rfl dX6_tells_51) (
  aSa (s_iald rfl dX6_tells_52) (
  aSa (s_iast rfl dX6_tells_53) (
  aSa (s_iinc (by decide) rfl dX6_tells_54) (
  aSa (s_goto (n := 0) (by decide) dX6_tells_57) (
  aSa (s_ret (n := 0) rfl dX6_tells_60) (
  aSn)))))))))))))))))))))))))))))))))
theorem sn329 : SndL "SlidingtrayModel" "thrown" cX6_thrown 1 (Option.some Jvm.ClassFile.FieldType.int) [] T329 := aSa (s_aload_n rfl rfl dX6_thrown_0) (
  aSa (s_getf (T := TX6) rfl (by decide) (by decide) in_X6 q2751 (Or.inl rfl) rfl dX6_thrown_1) (
  aSa (s_iret (n := 0) rfl dX6_thrown_4) (
  aSn)))
theorem sn330 : SndL "SlidingtrayModel" "tileAt" cX6_tileAt 2 (Option.some Jvm.ClassFile.FieldType.int) [] T330 := aSa (s_iload_n rfl rfl dX6_tileAt_0) (
  aSa (s_iconst (v0 := 0) (by decide) rfl dX6_tileAt_1) (
  aSa (s_aload_n rfl rfl dX6_tileAt_2) (
  aSa (s_getf (T := TX6) rfl (by decide) (by decide) in_X6 q2748 (Or.inl rfl) rfl dX6_tileAt_3) (
  aSa (s_aload_n rfl rfl dX6_tileAt_6) (
  aSa (s_getf (T := TX6) rfl (by decide) (by decide) in_X6 q2749 (Or.inl rfl) rfl dX6_tileAt_7) (
  aSa (s_imul rfl dX6_tileAt_10) (
  aSa (s_iconst (v0 := 1) (by decide) rfl dX6_tileAt_11) (
  aSa (s_isub rfl dX6_tileAt_12) (
  aSa (s_callS rfl q2954 q2955 q136 q2956 (by decide +kernel) (by decide) aHS0 rfl dX6_tileAt_13) (
  aSa (s_ifne (by decide) rfl dX6_tileAt_16) (
  aSa (s_aload_n rfl rfl dX6_tileAt_19) (
  aSa (s_iconst (v0 := 1) (by decide) rfl dX6_tileAt_20) (
  aSa (s_callV (List.forall_mem_cons.mpr ⟨d_V rfl rfl q2957 q2959 qs53 q136 q2960 rfl (by decide +kernel) (by decide) rfl dX6_tileAt_21, fun _ h => absurd h List.not_mem_nil⟩) aHS0) (
  aSa (s_iret (n := 0) rfl dX6_tileAt_24) (
  aSa (s_aload_n rfl rfl dX6_tileAt_25) (
  aSa (s_aload_n rfl rfl dX6_tileAt_26) (
  aSa (s_getf (T := TX6) rfl (by decide) (by decide) in_X6 q2747 (Or.inl rfl) rfl dX6_tileAt_27) (
  aSa (s_iload_n rfl rfl dX6_tileAt_30) (
  aSa (s_zald rfl dX6_tileAt_31) (
  aSa (s_ifeq (by decide) rfl dX6_tileAt_32) (
  aSa (s_iconst (v0 := (-1)) (by decide) rfl dX6_tileAt_35) (
  aSa (s_goto (n := 0) (by decide) dX6_tileAt_36) (
  aSa (s_aload_n rfl rfl dX6_tileAt_39) (
  aSa (s_getf (T := TX6) rfl (by decide) (by decide) in_X6 q2752 (Or.inl rfl) rfl dX6_tileAt_40) (
  aSa (s_aload_n rfl rfl dX6_tileAt_43) (
  aSa (s_getf (T := TX6) rfl (by decide) (by decide) in_X6 q2744 (Or.inl rfl) rfl dX6_tileAt_44) (
  aSa (s_iload_n rfl rfl dX6_tileAt_47) (
  aSa (s_iald rfl dX6_tileAt_48) (
  aSa (s_iald rfl dX6_tileAt_49) (
  aSa (s_callV (List.forall_mem_cons.mpr ⟨d_V rfl rfl q2969 q2971 qs56 q136 q2972 rfl (by decide +kernel) (by decide) rfl dX6_tileAt_50, fun _ h => absurd h List.not_mem_nil⟩) aHS0) (
  aSa (s_iret (n := 0) rfl dX6_tileAt_53) (
  aSn))))))))))))))))))))))))))))))))
theorem sn331 : SndL "SlidingtrayModel" "tiles" cX6_tiles 1 (Option.some Jvm.ClassFile.FieldType.int) [] T331 := aSa (s_aload_n rfl rfl dX6_tiles_0) (
  aSa (s_getf (T := TX6) rfl (by decide) (by decide) in_X6 q2750 (Or.inl rfl) rfl dX6_tiles_1) (
  aSa (s_iconst (v0 := 1) (by decide) rfl dX6_tiles_4) (
  aSa (s_isub rfl dX6_tiles_5) (
  aSa (s_iret (n := 0) rfl dX6_tiles_6) (
  aSn)))))
theorem sn332 : SndL "SlidingtrayModel" "told" cX6_told 2 (Option.some Jvm.ClassFile.FieldType.int) [] T332 := aSa (s_aload_n rfl rfl dX6_told_0) (
  aSa (s_iconst (v0 := 0) (by decide) rfl dX6_told_1) (
  aSa (s_putf (T := TX6) (ty0 := tyX6) tyX6_ok nmX6 rfl (by decide) (by decide) in_X6 q2751 (Or.inl rfl) rfl rfl rfl dX6_told_2) (
  aSa (s_iload_n rfl rfl dX6_told_5) (
  aSa (s_iret (n := 0) rfl dX6_told_6) (
  aSn)))))
theorem sn333 : SndL "SlidingtrayModel" "tracks" cX6_tracks 4 (Option.none : Option Jvm.ClassFile.FieldType) [] T333 := aSa (s_iload_n rfl rfl dX6_tracks_0) (
  aSa (s_istore_n rfl (by decide) rfl dX6_tracks_1) (
  aSa (s_aload_n rfl rfl dX6_tracks_2) (
  aSa (s_getf (T := TX6) rfl (by decide) (by decide) in_X6 q2780 (Or.inl rfl) rfl dX6_tracks_3) (
  aSa (s_iload_n rfl rfl dX6_tracks_6) (
  aSa (s_iald rfl dX6_tracks_7) (
  aSa (s_iconst (v0 := (-1)) (by decide) rfl dX6_tracks_8) (
  aSa (s_ceq (by decide) rfl dX6_tracks_9) (
  aSa (s_aload_n rfl rfl dX6_tracks_12) (
  aSa (s_dup rfl dX6_tracks_13) (
  aSa (s_getf (T := TX6) rfl (by decide) (by decide) in_X6 q2793 (Or.inl rfl) rfl dX6_tracks_14) (
  aSa (s_iconst (v0 := 1) (by decide) rfl dX6_tracks_17) (
  aSa (s_iadd rfl dX6_tracks_18) (
  aSa (s_putf (T := TX6) (ty0 := tyX6) tyX6_ok nmX6 rfl (by decide) (by decide) in_X6 q2793 (Or.inl rfl) rfl rfl rfl dX6_tracks_19) (
  aSa (s_aload_n rfl rfl dX6_tracks_22) (
  aSa (s_getf (T := TX6) rfl (by decide) (by decide) in_X6 q2780 (Or.inl rfl) rfl dX6_tracks_23) (
  aSa (s_iload_n rfl rfl dX6_tracks_26) (
  aSa (s_iald rfl dX6_tracks_27) (
  aSa (s_istore_n rfl (by decide) rfl dX6_tracks_28) (
  aSa (s_goto (n := 0) (by decide) dX6_tracks_29) (
  aSa (s_aload_n rfl rfl dX6_tracks_32) (
  aSa (s_getf (T := TX6) rfl (by decide) (by decide) in_X6 q2793 (Or.inl rfl) rfl dX6_tracks_33) (
  aSa (s_istore_n rfl (by decide) rfl dX6_tracks_36) (
  aSa (s_iload_n rfl rfl dX6_tracks_37) (
  aSa (s_istore_n rfl (by decide) rfl dX6_tracks_38) (
  aSa (s_aload_n rfl rfl dX6_tracks_39) (
  aSa (s_getf (T := TX6) rfl (by decide) (by decide) in_X6 q2780 (Or.inl rfl) rfl dX6_tracks_40) (
  aSa (s_iload_n rfl rfl dX6_tracks_43) (
  aSa (s_iald rfl dX6_tracks_44) (
  aSa (s_iconst (v0 := (-1)) (by decide) rfl dX6_tracks_45) (
  aSa (s_ceq (by decide) rfl dX6_tracks_46) (
  aSa (s_iinc (by decide) rfl dX6_tracks_49) (
  aSa (s_aload_n rfl rfl dX6_tracks_52) (
  aSa (s_getf (T := TX6) rfl (by decide) (by decide) in_X6 q2788 (Or.inl rfl) rfl dX6_tracks_53) (
  aSa (s_iload_n rfl rfl dX6_tracks_56) (
  aSa (s_aload_n rfl rfl dX6_tracks_57) (
  aSa (s_getf (T := TX6) rfl (by decide) (by decide) in_X6 q2781 (Or.inl rfl) rfl dX6_tracks_58) (
  aSa (s_iload_n rfl rfl dX6_tracks_61) (
  aSa (s_iald rfl dX6_tracks_62) (
  aSa (s_iast rfl dX6_tracks_63) (
  aSa (s_aload_n rfl rfl dX6_tracks_64) (
  aSa (s_getf (T := TX6) rfl (by decide) (by decide) in_X6 q2780 (Or.inl rfl) rfl dX6_tracks_65) (
  aSa (s_iload_n rfl rfl dX6_tracks_68) (
  aSa (s_iald rfl dX6_tracks_69) (
  aSa (s_istore_n rfl (by decide) rfl dX6_tracks_70) (
  aSa (s_goto (n := 0) (by decide) dX6_tracks_71) (
  aSa (s_ret (n := 0) rfl dX6_tracks_74) (
  aSn)))))))))))))))))))))))))))))))))))))))))))))))
theorem sn334 : SndL "SlidingtrayModel" "tray" cX6_tray 6 (Option.some Jvm.ClassFile.FieldType.int) [] T334 := aSa (s_iload_n rfl rfl dX6_tray_0) (
  aSa (s_iconst (v0 := 2) (by decide) rfl dX6_tray_1) (
  aSa (s_iconst (v0 := 4) (by decide) rfl dX6_tray_2) (
  aSa (s_callS rfl q2954 q2955 q136 q2956 (by decide +kernel) (by decide) aHS0 rfl dX6_tray_3) (
  aSa (s_ifeq (by decide) rfl dX6_tray_6) (
  aSa (s_iload_n rfl rfl dX6_tray_9) (
  aSa (s_iconst (v0 := 2) (by decide) rfl dX6_tray_10) (
  aSa (s_iconst (v0 := 4) (by decide) rfl dX6_tray_11) (
  aSa (s_callS rfl q2954 q2955 q136 q2956 (by decide +kernel) (by decide) aHS0 rfl dX6_tray_12) (
  aSa (s_ifeq (by decide) rfl dX6_tray_15) (
  aSa (s_iload_n rfl rfl dX6_tray_18) (
  aSa (s_iflt (by decide) rfl dX6_tray_19) (
  aSa (s_iload_n rfl rfl dX6_tray_22) (
  aSa (s_iconst (v0 := 1) (by decide) rfl dX6_tray_23) (
  aSa (s_iload_n rfl rfl dX6_tray_24) (
  aSa (s_iload_n rfl rfl dX6_tray_25) (
  aSa (s_imul rfl dX6_tray_26) (
  aSa (s_ishl rfl dX6_tray_27) (
  aSa (s_clt (by decide) rfl dX6_tray_28) (
  aSa (s_aload_n rfl rfl dX6_tray_31) (
  aSa (s_iconst (v0 := 1) (by decide) rfl dX6_tray_32) (
  aSa (s_callV (List.forall_mem_cons.mpr ⟨d_V rfl rfl q2957 q2959 qs53 q136 q2960 rfl (by decide +kernel) (by decide) rfl dX6_tray_33, fun _ h => absurd h List.not_mem_nil⟩) aHS0) (
  aSa (s_iret (n := 0) rfl dX6_tray_36) (
  aSa (s_iconst (v0 := 0) (by decide) rfl dX6_tray_37) (
  aSa (s_istore (by decide) rfl dX6_tray_38) (
  aSa (s_iconst (v0 := 0) (by decide) rfl dX6_tray_40) (
  aSa (s_istore (by decide) rfl dX6_tray_41) (
  aSa (s_iload rfl dX6_tray_43) (
  aSa (s_iload_n rfl rfl dX6_tray_45) (
  aSa (s_iload_n rfl rfl dX6_tray_46) (
  aSa (s_imul rfl dX6_tray_47) (
  aSa (s_cge (by decide) rfl dX6_tray_48) (
  aSa (s_aload_n rfl rfl dX6_tray_51) (
  aSa (s_getf (T := TX6) rfl (by decide) (by decide) in_X6 q2766 (Or.inl rfl) rfl dX6_tray_52) (
  aSa (s_iload rfl dX6_tray_55) (
  aSa (s_iload_n rfl rfl dX6_tray_57) (
  aSa (s_iload rfl dX6_tray_58) (
  aSa (s_ishr rfl dX6_tray_60) (
  aSa (s_iconst (v0 := 1) (by decide) rfl dX6_tray_61) (
  aSa (s_iand rfl dX6_tray_62) (
  aSa (s_iconst (v0 := 1) (by decide) rfl dX6_tray_63) (
  aSa (s_cne (by decide) rfl dX6_tray_64) (
  aSa (s_iconst (v0 := 1) (by decide) rfl dX6_tray_67) (
  aSa (s_goto (n := 0) (by decide) dX6_tray_68) (
  aSa (s_iconst (v0 := 0) (by decide) rfl dX6_tray_71) (
  aSa (s_zast rfl dX6_tray_72) (
  aSa (s_iload rfl dX6_tray_73) (
  aSa (s_aload_n rfl rfl dX6_tray_75) (
  aSa (s_getf (T := TX6) rfl (by decide) (by decide) in_X6 q2766 (Or.inl rfl) rfl dX6_tray_76) (
  aSa (s_iload rfl dX6_tray_79) (
  aSa (s_zald rfl dX6_tray_81) (
  aSa (s_ifeq (by decide) rfl dX6_tray_82) (
  aSa (s_iconst (v0 := 0) (by decide) rfl dX6_tray_85) (
  aSa (s_goto (n := 0) (by decide) dX6_tray_86) (
  aSa (s_iconst (v0 := 1) (by decide) rfl dX6_tray_89) (
  aSa (s_iadd rfl dX6_tray_90) (
  aSa (s_istore (by decide) rfl dX6_tray_91) (
  aSa (s_iinc (by decide) rfl dX6_tray_93) (
  aSa (s_goto (n := 0) (by decide) dX6_tray_96) (
  aSa (s_iload rfl dX6_tray_99) (
  aSa (s_iconst (v0 := 3) (by decide) rfl dX6_tray_101) (
  aSa (s_clt (by decide) rfl dX6_tray_102) (
  aSa (s_aload_n rfl rfl dX6_tray_105) (
  aSa (s_iload_n rfl rfl dX6_tray_106) (
  aSa (s_iload_n rfl rfl dX6_tray_107) (
  aSa (s_iload rfl dX6_tray_108) (
  aSa (s_callV (List.forall_mem_cons.mpr ⟨d_V rfl rfl q2961 q2963 qs54 q136 q2964 rfl (by decide +kernel) (by decide) rfl dX6_tray_110, fun _ h => absurd h List.not_mem_nil⟩) aHS0) (
  aSa (s_ifne (by decide) rfl dX6_tray_113) (
  aSa (s_aload_n rfl rfl dX6_tray_116) (
  aSa (s_iconst (v0 := 1) (by decide) rfl dX6_tray_117) (
  aSa (s_callV (List.forall_mem_cons.mpr ⟨d_V rfl rfl q2957 q2959 qs53 q136 q2960 rfl (by decide +kernel) (by decide) rfl dX6_tray_118, fun _ h => absurd h List.not_mem_nil⟩) aHS0) (
  aSa (s_iret (n := 0) rfl dX6_tray_121) (
  aSa (s_aload_n rfl rfl dX6_tray_122) (
  aSa (s_iload_n rfl rfl dX6_tray_123) (
  aSa (s_putf (T := TX6) (ty0 := tyX6) tyX6_ok nmX6 rfl (by decide) (by decide) in_X6 q2748 (Or.inl rfl) rfl rfl rfl dX6_tray_124) (
  aSa (s_aload_n rfl rfl dX6_tray_127) (
  aSa (s_iload_n rfl rfl dX6_tray_128) (
  aSa (s_putf (T := TX6) (ty0 := tyX6) tyX6_ok nmX6 rfl (by decide) (by decide) in_X6 q2749 (Or.inl rfl) rfl rfl rfl dX6_tray_129) (
  aSa (s_iconst (v0 := 0) (by decide) rfl dX6_tray_132) (
  aSa (s_istore (by decide) rfl dX6_tray_133) (
  aSa (s_iload rfl dX6_tray_135) (
  aSa (s_bipush (v0 := 16) (by decide) rfl dX6_tray_137) (
  aSa (s_cge (by decide) rfl dX6_tray_139) (
  aSa (s_aload_n rfl rfl dX6_tray_142) (
  aSa (s_getf (T := TX6) rfl (by decide) (by decide) in_X6 q2747 (Or.inl rfl) rfl dX6_tray_143) (
  aSa (s_iload rfl dX6_tray_146) (
  aSa (s_iload rfl dX6_tray_148) (
  aSa (s_iload_n rfl rfl dX6_tray_150) (
  aSa (s_iload_n rfl rfl dX6_tray_151) (
  aSa (s_imul rfl dX6_tray_152) (
  aSa (s_cge (by decide) rfl dX6_tray_153) (
  aSa (s_aload_n rfl rfl dX6_tray_156) (
  aSa (s_getf (T := TX6) rfl (by decide) (by decide) in_X6 q2766 (Or.inl rfl) rfl dX6_tray_157) (
  aSa (s_iload rfl dX6_tray_160) (
  aSa (s_zald rfl dX6_tray_162) (
  aSa (s_ifeq (by decide) rfl dX6_tray_163) (
  aSa (s_iconst (v0 := 1) (by decide) rfl dX6_tray_166) (
  aSa (s_goto (n := 0) (by decide) dX6_tray_167) (
  aSa (s_iconst (v0 := 0) (by decide) rfl dX6_tray_170) (
  aSa (s_zast rfl dX6_tray_171) (
  aSa (s_iinc (by decide) rfl dX6_tray_172) (
  aSa (s_goto (n := 0) (by decide) dX6_tray_175) (
  aSa (s_aload_n rfl rfl dX6_tray_178) (
  aSa (s_callV (List.forall_mem_cons.mpr ⟨d_V rfl rfl q2730 q2732 qs50 q136 q2733 rfl (by decide +kernel) (by decide) rfl dX6_tray_179, fun _ h => absurd h List.not_mem_nil⟩) aHS0) (
  aSa (s_aload_n rfl rfl dX6_tray_182) (
  aSa (s_aload_n rfl rfl dX6_tray_183) (
  aSa (s_callV (List.forall_mem_cons.mpr ⟨d_V rfl rfl q2965 q2967 qs55 q136 q2968 rfl (by decide +kernel) (by decide) rfl dX6_tray_184, fun _ h => absurd h List.not_mem_nil⟩) aHS0) (
  aSa (s_callV (List.forall_mem_cons.mpr ⟨d_V rfl rfl q2969 q2971 qs56 q136 q2972 rfl (by decide +kernel) (by decide) rfl dX6_tray_187, fun _ h => absurd h List.not_mem_nil⟩) aHS0) (
  aSa (s_iret (n := 0) rfl dX6_tray_190) (
  aSn)))))))))))))))))))))))))))))))))))))))))))))))))))))))))))))))))))))))))))))))))))))))))))))))))))))))))))))
theorem sn335 : SndL "SlidingtrayModel" "undo" cX6_undo 4 (Option.some Jvm.ClassFile.FieldType.int) [] T335 := aSa (s_iload_n rfl rfl dX6_undo_0) (
  aSa (s_iconst (v0 := 1) (by decide) rfl dX6_undo_1) (
  aSa (s_sipush (v0 := 200) (by decide) rfl dX6_undo_2) (
  aSa (s_callS rfl q2954 q2955 q136 q2956 (by decide +kernel) (by decide) aHS0 rfl dX6_undo_5) (
  aSa (s_ifne (by decide) rfl dX6_undo_8) (
  aSa (s_aload_n rfl rfl dX6_undo_11) (
  aSa (s_iconst (v0 := 1) (by decide) rfl dX6_undo_12) (
  aSa (s_callV (List.forall_mem_cons.mpr ⟨d_V rfl rfl q2957 q2959 qs53 q136 q2960 rfl (by decide +kernel) (by decide) rfl dX6_undo_13, fun _ h => absurd h List.not_mem_nil⟩) aHS0) (
  aSa (s_iret (n := 0) rfl dX6_undo_16) (
  aSa (s_iconst (v0 := 0) (by decide) rfl dX6_undo_17) (
  aSa (s_istore_n rfl (by decide) rfl dX6_undo_18) (
  aSa (s_iload_n rfl rfl dX6_undo_19) (
  aSa (s_iload_n rfl rfl dX6_undo_20) (
  aSa (s_cge (by decide) rfl dX6_undo_21) (
  aSa (s_aload_n rfl rfl dX6_undo_24) (
  aSa (s_getf (T := TX6) rfl (by decide) (by decide) in_X6 q2760 (Or.inl rfl) rfl dX6_undo_25) (
  aSa (s_ifle (by decide) rfl dX6_undo_28) (
  aSa (s_aload_n rfl rfl dX6_undo_31) (
  aSa (s_dup rfl dX6_undo_32) (
  aSa (s_getf (T := TX6) rfl (by decide) (by decide) in_X6 q2760 (Or.inl rfl) rfl dX6_undo_33) (
  aSa (s_iconst (v0 := 1) (by decide) rfl dX6_undo_36) (
  aSa (s_isub rfl dX6_undo_37) (
  aSa (s_putf (T := TX6) (ty0 := tyX6) tyX6_ok nmX6 rfl (by decide) (by decide) in_X6 q2760 (Or.inl rfl) rfl rfl rfl dX6_undo_38) (
  aSa (s_aload_n rfl rfl dX6_undo_41) (
  aSa (s_aload_n rfl rfl dX6_undo_42) (
  aSa (s_getf (T := TX6) rfl (by decide) (by decide) in_X6 q2752 (Or.inl rfl) rfl dX6_undo_43) (
  aSa (s_aload_n rfl rfl dX6_undo_46) (
  aSa (s_getf (T := TX6) rfl (by decide) (by decide) in_X6 q2757 (Or.inl rfl) rfl dX6_undo_47) (
  aSa (s_aload_n rfl rfl dX6_undo_50) (
  aSa (s_getf (T := TX6) rfl (by decide) (by decide) in_X6 q2760 (Or.inl rfl) rfl dX6_undo_51) (
  aSa (s_iald rfl dX6_undo_54) (
  aSa (s_callV (List.forall_mem_cons.mpr ⟨d_V rfl rfl q3021 q3023 qs65 q136 q3024 rfl (by decide +kernel) (by decide) rfl dX6_undo_55, fun _ h => absurd h List.not_mem_nil⟩) aHS0) (
  aSa (s_istore_n rfl (by decide) rfl dX6_undo_58) (
  aSa (s_iinc (by decide) rfl dX6_undo_59) (
  aSa (s_goto (n := 0) (by decide) dX6_undo_62) (
  aSa (s_aload_n rfl rfl dX6_undo_65) (
  aSa (s_iload_n rfl rfl dX6_undo_66) (
  aSa (s_callV (List.forall_mem_cons.mpr ⟨d_V rfl rfl q2969 q2971 qs56 q136 q2972 rfl (by decide +kernel) (by decide) rfl dX6_undo_67, fun _ h => absurd h List.not_mem_nil⟩) aHS0) (
  aSa (s_iret (n := 0) rfl dX6_undo_70) (
  aSn)))))))))))))))))))))))))))))))))))))))
theorem sn336 : SndL "SlidingtrayModel" "valueOf" cX6_valueOf 2 (Option.some Jvm.ClassFile.FieldType.int) [] T336 := aSa (s_iload_n rfl rfl dX6_valueOf_0) (
  aSa (s_ifne (by decide) rfl dX6_valueOf_1) (
  aSa (s_aload_n rfl rfl dX6_valueOf_4) (
  aSa (s_getf (T := TX6) rfl (by decide) (by decide) in_X6 q2750 (Or.inl rfl) rfl dX6_valueOf_5) (
  aSa (s_goto (n := 0) (by decide) dX6_valueOf_8) (
  aSa (s_iload_n rfl rfl dX6_valueOf_11) (
  aSa (s_iret (n := 0) rfl dX6_valueOf_12) (
  aSn)))))))
theorem sn337 : SndL "SlidingtrayModel" "walksFrom" cX6_walksFrom 6 (Option.none : Option Jvm.ClassFile.FieldType) [] T337 := aSa (s_iconst (v0 := 0) (by decide) rfl dX6_walksFrom_0) (
  aSa (s_istore_n rfl (by decide) rfl dX6_walksFrom_1) (
  aSa (s_iload_n rfl rfl dX6_walksFrom_2) (
  aSa (s_aload_n rfl rfl dX6_walksFrom_3) (
  aSa (s_getf (T := TX6) rfl (by decide) (by decide) in_X6 q2750 (Or.inl rfl) rfl dX6_walksFrom_4) (
  aSa (s_cge (by decide) rfl dX6_walksFrom_7) (
  aSa (s_aload_n rfl rfl dX6_walksFrom_10) (
  aSa (s_getf (T := TX6) rfl (by decide) (by decide) in_X6 q2746 (Or.inl rfl) rfl dX6_walksFrom_11) (
  aSa (s_bipush (v0 := 16) (by decide) rfl dX6_walksFrom_14) (
  aSa (s_iload_n rfl rfl dX6_walksFrom_16) (
  aSa (s_imul rfl dX6_walksFrom_17) (
  aSa (s_iload_n rfl rfl dX6_walksFrom_18) (
  aSa (s_iadd rfl dX6_walksFrom_19) (
  aSa (s_ldc q2742 rfl dX6_walksFrom_20) (
  aSa (s_iast rfl dX6_walksFrom_22) (
  aSa (s_iinc (by decide) rfl dX6_walksFrom_23) (
  aSa (s_goto (n := 0) (by decide) dX6_walksFrom_26) (
  aSa (s_aload_n rfl rfl dX6_walksFrom_29) (
  aSa (s_getf (T := TX6) rfl (by decide) (by decide) in_X6 q2746 (Or.inl rfl) rfl dX6_walksFrom_30) (
  aSa (s_bipush (v0 := 16) (by decide) rfl dX6_walksFrom_33) (
  aSa (s_iload_n rfl rfl dX6_walksFrom_35) (
  aSa (s_imul rfl dX6_walksFrom_36) (
  aSa (s_iload_n rfl rfl dX6_walksFrom_37) (
  aSa (s_iadd rfl dX6_walksFrom_38) (
  aSa (s_iconst (v0 := 0) (by decide) rfl dX6_walksFrom_39) (
  aSa (s_iast rfl dX6_walksFrom_40) (
  aSa (s_iconst (v0 := 0) (by decide) rfl dX6_walksFrom_41) (
  aSa (s_istore_n rfl (by decide) rfl dX6_walksFrom_42) (
  aSa (s_iload_n rfl rfl dX6_walksFrom_43) (
  aSa (s_aload_n rfl rfl dX6_walksFrom_44) (
  aSa (s_getf (T := TX6) rfl (by decide) (by decide) in_X6 q2750 (Or.inl rfl) rfl dX6_walksFrom_45) (
  aSa (s_cge (by decide) rfl dX6_walksFrom_48) (
  aSa (s_iconst (v0 := 0) (by decide) rfl dX6_walksFrom_51) (
  aSa (s_istore_n rfl (by decide) rfl dX6_walksFrom_52) (
  aSa (s_iload_n rfl rfl dX6_walksFrom_53) (
  aSa (s_aload_n rfl rfl dX6_walksFrom_54) (
  aSa (s_getf (T := TX6) rfl (by decide) (by decide) in_X6 q2750 (Or.inl rfl) rfl dX6_walksFrom_55) (
  aSa (s_cge (by decide) rfl dX6_walksFrom_58) (
  aSa (s_iconst (v0 := 0) (by decide) rfl dX6_walksFrom_61) (
  aSa (s_istore (by decide) rfl dX6_walksFrom_62) (
  aSa (s_iload rfl dX6_walksFrom_64) (
  aSa (s_iconst (v0 := 4) (by decide) rfl dX6_walksFrom_66) (
  aSa (s_cge (by decide) rfl dX6_walksFrom_67) (
  aSa (s_aload_n rfl rfl dX6_walksFrom_70) (
  aSa (s_getf (T := TX6) rfl (by decide) (by decide) in_X6 q2745 (Or.inl rfl) rfl dX6_walksFrom_71) (
  aSa (s_iconst (v0 := 4) (by decide) rfl dX6_walksFrom_74) (
  aSa (s_iload_n rfl rfl dX6_walksFrom_75) (
  aSa (s_imul rfl dX6_walksFrom_76) (
  aSa (s_iload rfl dX6_walksFrom_77) (
  aSa (s_iadd rfl dX6_walksFrom_79) (
  aSa (s_iald rfl dX6_walksFrom_80) (
  aSa (s_istore (by decide) rfl dX6_walksFrom_81) (
  aSa (s_iload rfl dX6_walksFrom_83) (
  aSa (s_iconst (v0 := (-1)) (by decide) rfl dX6_walksFrom_85) (
  aSa (s_ceq (by decide) rfl dX6_walksFrom_86) (
  aSa (s_aload_n rfl rfl dX6_walksFrom_89) (
  aSa (s_getf (T := TX6) rfl (by decide) (by decide) in_X6 q2746 (Or.inl rfl) rfl dX6_walksFrom_90) (
  aSa (s_bipush (v0 := 16) (by decide) rfl dX6_walksFrom_93) (
  aSa (s_iload_n rfl rfl dX6_walksFrom_95) (
  aSa (s_imul rfl dX6_walksFrom_96) (
  aSa (s_iload_n rfl rfl dX6_walksFrom_97) (
  aSa (s_iadd rfl dX6_walksFrom_98) (
  aSa (s_iald rfl dX6_walksFrom_99) (
  aSa (s_iconst (v0 := 1) (by decide) rfl dX6_walksFrom_100) (
  aSa (s_iadd rfl dX6_walksFrom_101) (
  aSa (s_aload_n rfl rfl dX6_walksFrom_102) (
  aSa (s_getf (T := TX6) rfl (by decide) (by decide) in_X6 q2746 (Or.inl rfl) rfl dX6_walksFrom_103) (
  aSa (s_bipush (v0 := 16) (by decide) rfl dX6_walksFrom_106) (
  aSa (s_iload_n rfl rfl dX6_walksFrom_108) (
  aSa (s_imul rfl dX6_walksFrom_109) (
  aSa (s_iload rfl dX6_walksFrom_110) (
  aSa (s_iadd rfl dX6_walksFrom_112) (
  aSa (s_iald rfl dX6_walksFrom_113) (
  aSa (s_cge (by decide) rfl dX6_walksFrom_114) (
  aSa (s_aload_n rfl rfl dX6_walksFrom_117) (
  aSa (s_getf (T := TX6) rfl (by decide) (by decide) in_X6 q2746 (Or.inl rfl) rfl dX6_walksFrom_118) (
  aSa (s_bipush (v0 := 16) (by decide) rfl dX6_walksFrom_121) (
  aSa (s_iload_n rfl rfl dX6_walksFrom_123) (
  aSa (s_imul rfl dX6_walksFrom_124) (
  aSa (s_iload rfl dX6_walksFrom_125) (
  aSa (s_iadd rfl dX6_walksFrom_127) (
  aSa (s_aload_n rfl rfl dX6_walksFrom_128) (
  aSa (s_getf (T := TX6) rfl (by decide) (by decide) in_X6 q2746 (Or.inl rfl) rfl dX6_walksFrom_129) (
  aSa (s_bipush (v0 := 16) (by decide) rfl dX6_walksFrom_132) (
  aSa (s_iload_n rfl rfl dX6_walksFrom_134) (
  aSa (s_imul rfl dX6_walksFrom_135) (
  aSa (s_iload_n rfl rfl dX6_walksFrom_136) (
  aSa (s_iadd rfl dX6_walksFrom_137) (
  aSa (s_iald rfl dX6_walksFrom_138) (
  aSa (s_iconst (v0 := 1) (by decide) rfl dX6_walksFrom_139) (
  aSa (s_iadd rfl dX6_walksFrom_140) (
  aSa (s_iast rfl dX6_walksFrom_141) (
  aSa (s_iinc (by decide) rfl dX6_walksFrom_142) (
  aSa (s_goto (n := 0) (by decide) dX6_walksFrom_145) (
  aSa (s_iinc (by decide) rfl dX6_walksFrom_148) (
  aSa (s_goto (n := 0) (by decide) dX6_walksFrom_151) (
  aSa (s_iinc (by decide) rfl dX6_walksFrom_154) (
  aSa (s_goto (n := 0) (by decide) dX6_walksFrom_157) (
  aSa (s_ret (n := 0) rfl dX6_walksFrom_160) (
  aSn)))))))))))))))))))))))))))))))))))))))))))))))))))))))))))))))))))))))))))))))))))))))))))))))))))
theorem sn338 : SndL "SlidingtrayModel" "wayAt" cX6_wayAt 2 (Option.some Jvm.ClassFile.FieldType.int) [] T338 := aSa (s_iload_n rfl rfl dX6_wayAt_0) (
  aSa (s_iconst (v0 := 0) (by decide) rfl dX6_wayAt_1) (
  aSa (s_aload_n rfl rfl dX6_wayAt_2) (
  aSa (s_getf (T := TX6) rfl (by decide) (by decide) in_X6 q2789 (Or.inl rfl) rfl dX6_wayAt_3) (
  aSa (s_iconst (v0 := 1) (by decide) rfl dX6_wayAt_6) (
  aSa (s_isub rfl dX6_wayAt_7) (
  aSa (s_callS rfl q2954 q2955 q136 q2956 (by decide +kernel) (by decide) aHS0 rfl dX6_wayAt_8) (
  aSa (s_ifeq (by decide) rfl dX6_wayAt_11) (
  aSa (s_aload_n rfl rfl dX6_wayAt_14) (
  aSa (s_aload_n rfl rfl dX6_wayAt_15) (
  aSa (s_getf (T := TX6) rfl (by decide) (by decide) in_X6 q2787 (Or.inl rfl) rfl dX6_wayAt_16) (
  aSa (s_iload_n rfl rfl dX6_wayAt_19) (
  aSa (s_iald rfl dX6_wayAt_20) (
  aSa (s_callV (List.forall_mem_cons.mpr ⟨d_V rfl rfl q2969 q2971 qs56 q136 q2972 rfl (by decide +kernel) (by decide) rfl dX6_wayAt_21, fun _ h => absurd h List.not_mem_nil⟩) aHS0) (
  aSa (s_goto (n := 0) (by decide) dX6_wayAt_24) (
  aSa (s_aload_n rfl rfl dX6_wayAt_27) (
  aSa (s_iconst (v0 := 1) (by decide) rfl dX6_wayAt_28) (
  aSa (s_callV (List.forall_mem_cons.mpr ⟨d_V rfl rfl q2957 q2959 qs53 q136 q2960 rfl (by decide +kernel) (by decide) rfl dX6_wayAt_29, fun _ h => absurd h List.not_mem_nil⟩) aHS0) (
  aSa (s_iret (n := 0) rfl dX6_wayAt_32) (
  aSn)))))))))))))))))))
theorem sn339 : SndL "SlidingtrayModel" "ways" cX6_ways 5 (Option.some Jvm.ClassFile.FieldType.int) [] T339 := aSa (s_iconst (v0 := 0) (by decide) rfl dX6_ways_0) (
  aSa (s_istore_n rfl (by decide) rfl dX6_ways_1) (
  aSa (s_iconst (v0 := 0) (by decide) rfl dX6_ways_2) (
  aSa (s_istore_n rfl (by decide) rfl dX6_ways_3) (
  aSa (s_iload_n rfl rfl dX6_ways_4) (
  aSa (s_aload_n rfl rfl dX6_ways_5) (
  aSa (s_getf (T := TX6) rfl (by decide) (by decide) in_X6 q2750 (Or.inl rfl) rfl dX6_ways_6) (
  aSa (s_cge (by decide) rfl dX6_ways_9) (
  aSa (s_aload_n rfl rfl dX6_ways_12) (
  aSa (s_iload_n rfl rfl dX6_ways_13) (
  aSa (s_iald rfl dX6_ways_14) (
  aSa (s_istore (by decide) rfl dX6_ways_15) (
  aSa (s_iload_n rfl rfl dX6_ways_17) (
  aSa (s_iload rfl dX6_ways_18) (
  aSa (s_ifle (by decide) rfl dX6_ways_20) (
  aSa (s_aload_n rfl rfl dX6_ways_23) (
  aSa (s_getf (T := TX6) rfl (by decide) (by decide) in_X6 q2755 (Or.inl rfl) rfl dX6_ways_24) (
  aSa (s_iload rfl dX6_ways_27) (
  aSa (s_zald rfl dX6_ways_29) (
  aSa (s_ifne (by decide) rfl dX6_ways_30) (
  aSa (s_aload_n rfl rfl dX6_ways_33) (
  aSa (s_getf (T := TX6) rfl (by decide) (by decide) in_X6 q2754 (Or.inl rfl) rfl dX6_ways_34) (
  aSa (s_iload rfl dX6_ways_37) (
  aSa (s_iald rfl dX6_ways_39) (
  aSa (s_aload_n rfl rfl dX6_ways_40) (
  aSa (s_getf (T := TX6) rfl (by decide) (by decide) in_X6 q2746 (Or.inl rfl) rfl dX6_ways_41) (
  aSa (s_bipush (v0 := 16) (by decide) rfl dX6_ways_44) (
  aSa (s_iload_n rfl rfl dX6_ways_46) (
  aSa (s_imul rfl dX6_ways_47) (
  aSa (s_aload_n rfl rfl dX6_ways_48) (
  aSa (s_getf (T := TX6) rfl (by decide) (by decide) in_X6 q2753 (Or.inl rfl) rfl dX6_ways_49) (
  aSa (s_iload rfl dX6_ways_52) (
  aSa (s_iald rfl dX6_ways_54) (
  aSa (s_iadd rfl dX6_ways_55) (
  aSa (s_iald rfl dX6_ways_56) (
  aSa (s_imul rfl dX6_ways_57) (
  aSa (s_goto (n := 0) (by decide) dX6_ways_58) (
  aSa (s_iconst (v0 := 0) (by decide) rfl dX6_ways_61) (
  aSa (s_iadd rfl dX6_ways_62) (
  aSa (s_istore_n rfl (by decide) rfl dX6_ways_63) (
  aSa (s_iinc (by decide) rfl dX6_ways_64) (
  aSa (s_goto (n := 0) (by decide) dX6_ways_67) (
  aSa (s_iload_n rfl rfl dX6_ways_70) (
  aSa (s_iret (n := 0) rfl dX6_ways_71) (
  aSn))))))))))))))))))))))))))))))))))))))))))))
