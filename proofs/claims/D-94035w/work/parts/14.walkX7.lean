set_option maxRecDepth 100000
section WALK
variable {l : Launch} {E : VE} {X : VX} {b : Nat → Nat}
/-! X0_count -/
abbrev r_X0_count : Room := { frames := 3, cells := 0, slots := 0, locals := 64 }
theorem n_X0_count : vdn yX0_count 1 := ⟨by decide +kernel, by decide +kernel, by decide +kernel⟩
def w_X0_count (post : (Int32) → Prop) (b0 : Nat) (x1 : Int32) (h : AH) : Prop :=
 ((x1 = (nI 0) → (∃ (fs_5 : List Value) (r_8 : Option Nat), h b0 = some (.inr (0, fs_5)) ∧ fs_5[1]? = some (va_rf r_8) ∧ (∃ a_9 : Nat, r_8 = some a_9 ∧ (∃ (fs_10 : List Value) (r_13 : Option Nat), h a_9 = some (.inr (1, fs_10)) ∧ fs_10[3]? = some (va_rf r_13) ∧ (∃ a_14 : Nat, r_13 = some a_14 ∧ (∃ fs_16 : List Value, h a_14 = some (.inr (2, fs_16)) ∧ (w_J2_size (fun (z_15 : Int32) => (post z_15)) a_14 h))))))) ∧ (¬ x1 = (nI 0) → ((x1 = (nI 1) → (∃ (fs_22 : List Value) (r_25 : Option Nat), h b0 = some (.inr (0, fs_22)) ∧ fs_22[1]? = some (va_rf r_25) ∧ (∃ a_26 : Nat, r_25 = some a_26 ∧ (∃ (fs_27 : List Value) (r_30 : Option Nat), h a_26 = some (.inr (1, fs_27)) ∧ fs_27[4]? = some (va_rf r_30) ∧ (∃ a_31 : Nat, r_30 = some a_31 ∧ (∃ fs_33 : List Value, h a_31 = some (.inr (2, fs_33)) ∧ (w_J2_size (fun (z_32 : Int32) => (post z_32)) a_31 h))))))) ∧ (¬ x1 = (nI 1) → ((x1 = (nI 2) → (∃ (fs_39 : List Value) (r_42 : Option Nat), h b0 = some (.inr (0, fs_39)) ∧ fs_39[1]? = some (va_rf r_42) ∧ (∃ a_43 : Nat, r_42 = some a_43 ∧ (∃ (fs_44 : List Value) (r_47 : Option Nat), h a_43 = some (.inr (1, fs_44)) ∧ fs_44[5]? = some (va_rf r_47) ∧ (∃ a_48 : Nat, r_47 = some a_48 ∧ (∃ fs_50 : List Value, h a_48 = some (.inr (2, fs_50)) ∧ (w_J2_size (fun (z_49 : Int32) => (post z_49)) a_48 h))))))) ∧ (¬ x1 = (nI 2) → ((x1 = (nI 3) → (∃ (fs_56 : List Value) (r_59 : Option Nat), h b0 = some (.inr (0, fs_56)) ∧ fs_56[1]? = some (va_rf r_59) ∧ (∃ a_60 : Nat, r_59 = some a_60 ∧ (∃ (fs_61 : List Value) (r_64 : Option Nat), h a_60 = some (.inr (1, fs_61)) ∧ fs_61[7]? = some (va_rf r_64) ∧ (∃ a_65 : Nat, r_64 = some a_65 ∧ (∃ fs_67 : List Value, h a_65 = some (.inr (2, fs_67)) ∧ (w_J2_size (fun (z_66 : Int32) => (post z_66)) a_65 h))))))) ∧ (¬ x1 = (nI 3) → ((x1 = (nI 4) → (∃ (fs_73 : List Value) (r_76 : Option Nat), h b0 = some (.inr (0, fs_73)) ∧ fs_73[1]? = some (va_rf r_76) ∧ (∃ a_77 : Nat, r_76 = some a_77 ∧ (∃ (fs_78 : List Value) (r_81 : Option Nat), h a_77 = some (.inr (1, fs_78)) ∧ fs_78[6]? = some (va_rf r_81) ∧ (∃ a_82 : Nat, r_81 = some a_82 ∧ (∃ fs_84 : List Value, h a_82 = some (.inr (2, fs_84)) ∧ (w_J2_size (fun (z_83 : Int32) => (post z_83)) a_82 h))))))) ∧ (¬ x1 = (nI 4) → ((x1 = (nI 5) → (∃ (fs_90 : List Value) (r_93 : Option Nat), h b0 = some (.inr (0, fs_90)) ∧ fs_90[1]? = some (va_rf r_93) ∧ (∃ a_94 : Nat, r_93 = some a_94 ∧ (∃ (fs_95 : List Value) (r_98 : Option Nat), h a_94 = some (.inr (1, fs_95)) ∧ fs_95[8]? = some (va_rf r_98) ∧ (∃ a_99 : Nat, r_98 = some a_99 ∧ (∃ fs_101 : List Value, h a_99 = some (.inr (2, fs_101)) ∧ (w_J2_size (fun (z_100 : Int32) => (post z_100)) a_99 h))))))) ∧ (¬ x1 = (nI 5) → ((x1 = (nI 6) → (∃ (fs_107 : List Value) (r_110 : Option Nat), h b0 = some (.inr (0, fs_107)) ∧ fs_107[1]? = some (va_rf r_110) ∧ (∃ a_111 : Nat, r_110 = some a_111 ∧ (∃ (fs_112 : List Value) (r_115 : Option Nat), h a_111 = some (.inr (1, fs_112)) ∧ fs_112[9]? = some (va_rf r_115) ∧ (∃ a_116 : Nat, r_115 = some a_116 ∧ (∃ fs_118 : List Value, h a_116 = some (.inr (2, fs_118)) ∧ (w_J2_size (fun (z_117 : Int32) => (post z_117)) a_116 h))))))) ∧ (¬ x1 = (nI 6) → ((x1 = (nI 7) → (∃ (fs_124 : List Value) (r_127 : Option Nat), h b0 = some (.inr (0, fs_124)) ∧ fs_124[1]? = some (va_rf r_127) ∧ (∃ a_128 : Nat, r_127 = some a_128 ∧ (∃ (fs_129 : List Value) (r_132 : Option Nat), h a_128 = some (.inr (1, fs_129)) ∧ fs_129[10]? = some (va_rf r_132) ∧ (∃ a_133 : Nat, r_132 = some a_133 ∧ (∃ fs_135 : List Value, h a_133 = some (.inr (2, fs_135)) ∧ (w_J2_size (fun (z_134 : Int32) => (post z_134)) a_133 h))))))) ∧ (¬ x1 = (nI 7) → ((x1 = (nI 8) → (∃ (fs_141 : List Value) (r_144 : Option Nat), h b0 = some (.inr (0, fs_141)) ∧ fs_141[1]? = some (va_rf r_144) ∧ (∃ a_145 : Nat, r_144 = some a_145 ∧ (∃ (fs_146 : List Value) (z_149 : Int32), h a_145 = some (.inr (1, fs_146)) ∧ fs_146[14]? = some (.int z_149) ∧ (post z_149))))) ∧ (¬ x1 = (nI 8) → ((x1 = (nI 9) → (∃ (fs_154 : List Value) (r_157 : Option Nat), h b0 = some (.inr (0, fs_154)) ∧ fs_154[1]? = some (va_rf r_157) ∧ (∃ a_158 : Nat, r_157 = some a_158 ∧ (∃ (fs_159 : List Value) (r_162 : Option Nat), h a_158 = some (.inr (1, fs_159)) ∧ fs_159[15]? = some (va_rf r_162) ∧ (∃ a_163 : Nat, r_162 = some a_163 ∧ (∃ fs_165 : List Value, h a_163 = some (.inr (2, fs_165)) ∧ (w_J2_size (fun (z_164 : Int32) => (post z_164)) a_163 h))))))) ∧ (¬ x1 = (nI 9) → ((x1 = (nI 10) → (∃ (fs_171 : List Value) (r_174 : Option Nat), h b0 = some (.inr (0, fs_171)) ∧ fs_171[1]? = some (va_rf r_174) ∧ (∃ a_175 : Nat, r_174 = some a_175 ∧ (∃ (fs_176 : List Value) (r_179 : Option Nat), h a_175 = some (.inr (1, fs_176)) ∧ fs_176[16]? = some (va_rf r_179) ∧ (∃ a_180 : Nat, r_179 = some a_180 ∧ (∃ (fs_181 : List Value) (z_184 : Int32), h a_180 = some (.inr (3, fs_181)) ∧ fs_181[3]? = some (.int z_184) ∧ (post z_184))))))) ∧ (¬ x1 = (nI 10) → ((x1 = (nI 11) → (∃ (fs_189 : List Value) (z_192 : Int32), h b0 = some (.inr (0, fs_189)) ∧ fs_189[5]? = some (.int z_192) ∧ (post z_192))) ∧ (¬ x1 = (nI 11) → ((x1 = (nI 12) → (∃ (fs_197 : List Value) (r_200 : Option Nat), h b0 = some (.inr (0, fs_197)) ∧ fs_197[1]? = some (va_rf r_200) ∧ (∃ a_201 : Nat, r_200 = some a_201 ∧ (∃ (fs_202 : List Value) (z_205 : Int32), h a_201 = some (.inr (1, fs_202)) ∧ fs_202[0]? = some (.int z_205) ∧ (post z_205))))) ∧ (¬ x1 = (nI 12) → (∃ fs_266 : List Value, h b0 = some (.inr (0, fs_266)) ∧ (w_X0_isSong (fun (z_206 : Int32) => ((z_206 = 0 → (∃ fs_240 : List Value, h b0 = some (.inr (0, fs_240)) ∧ (w_X0_isBook (fun (z_211 : Int32) => ((z_211 = 0 → (post (-1))) ∧ (¬ z_211 = 0 → (∃ (fs_216 : List Value) (r_219 : Option Nat), h b0 = some (.inr (0, fs_216)) ∧ fs_216[1]? = some (va_rf r_219) ∧ (∃ a_220 : Nat, r_219 = some a_220 ∧ (∃ (fs_221 : List Value) (r_224 : Option Nat), h a_220 = some (.inr (1, fs_221)) ∧ fs_221[4]? = some (va_rf r_224) ∧ (∃ a_225 : Nat, r_224 = some a_225 ∧ (∃ fs_238 : List Value, h a_225 = some (.inr (2, fs_238)) ∧ (w_J2_get (fun (r_226 : Option Nat) => (∃ a_227 : Nat, r_226 = some a_227 ∧ (∃ fs_228 : List Value, h a_227 = some (.inr (8, fs_228)) ∧ (∃ (fs_230 : List Value) (r_233 : Option Nat), h a_227 = some (.inr (8, fs_230)) ∧ fs_230[4]? = some (va_rf r_233) ∧ (∃ a_234 : Nat, r_233 = some a_234 ∧ (∃ fs_236 : List Value, h a_234 = some (.inr (2, fs_236)) ∧ (w_J2_size (fun (z_235 : Int32) => (post z_235)) a_234 h))))))) a_225 (x1 - (nI 200)) h))))))))) b0 (x1 - (nI 200)) h))) ∧ (¬ z_206 = 0 → (∃ (fs_242 : List Value) (r_245 : Option Nat), h b0 = some (.inr (0, fs_242)) ∧ fs_242[1]? = some (va_rf r_245) ∧ (∃ a_246 : Nat, r_245 = some a_246 ∧ (∃ (fs_247 : List Value) (r_250 : Option Nat), h a_246 = some (.inr (1, fs_247)) ∧ fs_247[3]? = some (va_rf r_250) ∧ (∃ a_251 : Nat, r_250 = some a_251 ∧ (∃ fs_264 : List Value, h a_251 = some (.inr (2, fs_264)) ∧ (w_J2_get (fun (r_252 : Option Nat) => (∃ a_253 : Nat, r_252 = some a_253 ∧ (∃ fs_254 : List Value, h a_253 = some (.inr (8, fs_254)) ∧ (∃ (fs_256 : List Value) (r_259 : Option Nat), h a_253 = some (.inr (8, fs_256)) ∧ fs_256[4]? = some (va_rf r_259) ∧ (∃ a_260 : Nat, r_259 = some a_260 ∧ (∃ fs_262 : List Value, h a_260 = some (.inr (2, fs_262)) ∧ (w_J2_size (fun (z_261 : Int32) => (post z_261)) a_260 h))))))) a_251 (x1 - (nI 100)) h))))))))) b0 (x1 - (nI 100)) h))))))))))))))))))))))))))))
theorem e_X0_count {post : (Int32) → Prop}   {b0 : Nat} {x1 : Int32} {h : AH}  (hw : w_X0_count post  b0 x1 h) : VV l E X cX0_count RX0 "count" 2 r_X0_count (some .int) (vpi (fun (r : Int32) (h' : AH) => h' = h ∧ post r)) h 0 0 0 [(0, va_rf (some b0)), (1, .int x1)] [] := by
  refine v_iload_n (q := 1) dX0_count_0 rfl rfl ?_
  obtain ⟨hw_3, hw_4⟩ := hw
  by_cases c_1 : x1 = (nI 0)
  · have hw := hw_3 c_1
    refine v_tswIn (off := 67) (tgt := 68) dX0_count_1 (by rw [c_1]; decide) (by rw [c_1]; decide) (by rw [c_1]; rfl) (by decide) ?_
    refine v_aload_n (q := 0) dX0_count_68 rfl rfl ?_
    obtain ⟨fs_5, r_8, e_6, e_7, hw⟩ := hw
    refine v_get in_X0 (ci := 0) rfl 1 (Nat.le_of_ble_eq_true rfl) q319 rfl dX0_count_69 e_6 e_7 ?_
    obtain ⟨a_9, ea_9, hw⟩ := hw
    subst ea_9
    obtain ⟨fs_10, r_13, e_11, e_12, hw⟩ := hw
    refine v_getN in_X1 (ci := 1) rfl 3 (Nat.le_of_ble_eq_true rfl) q226 rfl dX0_count_72 e_11 e_12 ?_
    obtain ⟨a_14, ea_14, hw⟩ := hw
    subst ea_14
    obtain ⟨fs_16, e_17, hw⟩ := hw
    refine v_callV q413 q414 q415 q108 q416 (ci := 2) rfl e_17 n_J2_size ⟨Nat.le_of_ble_eq_true rfl, Nat.le_of_ble_eq_true rfl⟩ [] [] (met_J2_size hw) rfl (Nat.zero_le _) ⟨Nat.le_refl _, Nat.le_refl _⟩ dX0_count_75 rfl (v_ki (fun z_15 h1 hv => ?_))
    clear hw
    obtain ⟨e9, hw⟩ := hv
    refine v_heap e9 ?_
    clear e9
    exact v_iret dX0_count_78 rfl ⟨_, rfl, rfl, hw⟩
  have hw := hw_4 c_1
  obtain ⟨hw_20, hw_21⟩ := hw
  by_cases c_18 : x1 = (nI 1)
  · have hw := hw_20 c_18
    refine v_tswIn (off := 78) (tgt := 79) dX0_count_1 (by rw [c_18]; decide) (by rw [c_18]; decide) (by rw [c_18]; rfl) (by decide) ?_
    refine v_aload_n (q := 0) dX0_count_79 rfl rfl ?_
    obtain ⟨fs_22, r_25, e_23, e_24, hw⟩ := hw
    refine v_get in_X0 (ci := 0) rfl 1 (Nat.le_of_ble_eq_true rfl) q319 rfl dX0_count_80 e_23 e_24 ?_
    obtain ⟨a_26, ea_26, hw⟩ := hw
    subst ea_26
    obtain ⟨fs_27, r_30, e_28, e_29, hw⟩ := hw
    refine v_getN in_X1 (ci := 1) rfl 4 (Nat.le_of_ble_eq_true rfl) q228 rfl dX0_count_83 e_28 e_29 ?_
    obtain ⟨a_31, ea_31, hw⟩ := hw
    subst ea_31
    obtain ⟨fs_33, e_34, hw⟩ := hw
    refine v_callV q413 q414 q415 q108 q416 (ci := 2) rfl e_34 n_J2_size ⟨Nat.le_of_ble_eq_true rfl, Nat.le_of_ble_eq_true rfl⟩ [] [] (met_J2_size hw) rfl (Nat.zero_le _) ⟨Nat.le_refl _, Nat.le_refl _⟩ dX0_count_86 rfl (v_ki (fun z_32 h1 hv => ?_))
    clear hw
    obtain ⟨e9, hw⟩ := hv
    refine v_heap e9 ?_
    clear e9
    exact v_iret dX0_count_89 rfl ⟨_, rfl, rfl, hw⟩
  have hw := hw_21 c_18
  obtain ⟨hw_37, hw_38⟩ := hw
  by_cases c_35 : x1 = (nI 2)
  · have hw := hw_37 c_35
    refine v_tswIn (off := 89) (tgt := 90) dX0_count_1 (by rw [c_35]; decide) (by rw [c_35]; decide) (by rw [c_35]; rfl) (by decide) ?_
    refine v_aload_n (q := 0) dX0_count_90 rfl rfl ?_
    obtain ⟨fs_39, r_42, e_40, e_41, hw⟩ := hw
    refine v_get in_X0 (ci := 0) rfl 1 (Nat.le_of_ble_eq_true rfl) q319 rfl dX0_count_91 e_40 e_41 ?_
    obtain ⟨a_43, ea_43, hw⟩ := hw
    subst ea_43
    obtain ⟨fs_44, r_47, e_45, e_46, hw⟩ := hw
    refine v_getN in_X1 (ci := 1) rfl 5 (Nat.le_of_ble_eq_true rfl) q230 rfl dX0_count_94 e_45 e_46 ?_
    obtain ⟨a_48, ea_48, hw⟩ := hw
    subst ea_48
    obtain ⟨fs_50, e_51, hw⟩ := hw
    refine v_callV q413 q414 q415 q108 q416 (ci := 2) rfl e_51 n_J2_size ⟨Nat.le_of_ble_eq_true rfl, Nat.le_of_ble_eq_true rfl⟩ [] [] (met_J2_size hw) rfl (Nat.zero_le _) ⟨Nat.le_refl _, Nat.le_refl _⟩ dX0_count_97 rfl (v_ki (fun z_49 h1 hv => ?_))
    clear hw
    obtain ⟨e9, hw⟩ := hv
    refine v_heap e9 ?_
    clear e9
    exact v_iret dX0_count_100 rfl ⟨_, rfl, rfl, hw⟩
  have hw := hw_38 c_35
  obtain ⟨hw_54, hw_55⟩ := hw
  by_cases c_52 : x1 = (nI 3)
  · have hw := hw_54 c_52
    refine v_tswIn (off := 100) (tgt := 101) dX0_count_1 (by rw [c_52]; decide) (by rw [c_52]; decide) (by rw [c_52]; rfl) (by decide) ?_
    refine v_aload_n (q := 0) dX0_count_101 rfl rfl ?_
    obtain ⟨fs_56, r_59, e_57, e_58, hw⟩ := hw
    refine v_get in_X0 (ci := 0) rfl 1 (Nat.le_of_ble_eq_true rfl) q319 rfl dX0_count_102 e_57 e_58 ?_
    obtain ⟨a_60, ea_60, hw⟩ := hw
    subst ea_60
    obtain ⟨fs_61, r_64, e_62, e_63, hw⟩ := hw
    refine v_getN in_X1 (ci := 1) rfl 7 (Nat.le_of_ble_eq_true rfl) q234 rfl dX0_count_105 e_62 e_63 ?_
    obtain ⟨a_65, ea_65, hw⟩ := hw
    subst ea_65
    obtain ⟨fs_67, e_68, hw⟩ := hw
    refine v_callV q413 q414 q415 q108 q416 (ci := 2) rfl e_68 n_J2_size ⟨Nat.le_of_ble_eq_true rfl, Nat.le_of_ble_eq_true rfl⟩ [] [] (met_J2_size hw) rfl (Nat.zero_le _) ⟨Nat.le_refl _, Nat.le_refl _⟩ dX0_count_108 rfl (v_ki (fun z_66 h1 hv => ?_))
    clear hw
    obtain ⟨e9, hw⟩ := hv
    refine v_heap e9 ?_
    clear e9
    exact v_iret dX0_count_111 rfl ⟨_, rfl, rfl, hw⟩
  have hw := hw_55 c_52
  obtain ⟨hw_71, hw_72⟩ := hw
  by_cases c_69 : x1 = (nI 4)
  · have hw := hw_71 c_69
    refine v_tswIn (off := 111) (tgt := 112) dX0_count_1 (by rw [c_69]; decide) (by rw [c_69]; decide) (by rw [c_69]; rfl) (by decide) ?_
    refine v_aload_n (q := 0) dX0_count_112 rfl rfl ?_
    obtain ⟨fs_73, r_76, e_74, e_75, hw⟩ := hw
    refine v_get in_X0 (ci := 0) rfl 1 (Nat.le_of_ble_eq_true rfl) q319 rfl dX0_count_113 e_74 e_75 ?_
    obtain ⟨a_77, ea_77, hw⟩ := hw
    subst ea_77
    obtain ⟨fs_78, r_81, e_79, e_80, hw⟩ := hw
    refine v_getN in_X1 (ci := 1) rfl 6 (Nat.le_of_ble_eq_true rfl) q232 rfl dX0_count_116 e_79 e_80 ?_
    obtain ⟨a_82, ea_82, hw⟩ := hw
    subst ea_82
    obtain ⟨fs_84, e_85, hw⟩ := hw
    refine v_callV q413 q414 q415 q108 q416 (ci := 2) rfl e_85 n_J2_size ⟨Nat.le_of_ble_eq_true rfl, Nat.le_of_ble_eq_true rfl⟩ [] [] (met_J2_size hw) rfl (Nat.zero_le _) ⟨Nat.le_refl _, Nat.le_refl _⟩ dX0_count_119 rfl (v_ki (fun z_83 h1 hv => ?_))
    clear hw
    obtain ⟨e9, hw⟩ := hv
    refine v_heap e9 ?_
    clear e9
    exact v_iret dX0_count_122 rfl ⟨_, rfl, rfl, hw⟩
  have hw := hw_72 c_69
  obtain ⟨hw_88, hw_89⟩ := hw
  by_cases c_86 : x1 = (nI 5)
  · have hw := hw_88 c_86
    refine v_tswIn (off := 122) (tgt := 123) dX0_count_1 (by rw [c_86]; decide) (by rw [c_86]; decide) (by rw [c_86]; rfl) (by decide) ?_
    refine v_aload_n (q := 0) dX0_count_123 rfl rfl ?_
    obtain ⟨fs_90, r_93, e_91, e_92, hw⟩ := hw
    refine v_get in_X0 (ci := 0) rfl 1 (Nat.le_of_ble_eq_true rfl) q319 rfl dX0_count_124 e_91 e_92 ?_
    obtain ⟨a_94, ea_94, hw⟩ := hw
    subst ea_94
    obtain ⟨fs_95, r_98, e_96, e_97, hw⟩ := hw
    refine v_getN in_X1 (ci := 1) rfl 8 (Nat.le_of_ble_eq_true rfl) q236 rfl dX0_count_127 e_96 e_97 ?_
    obtain ⟨a_99, ea_99, hw⟩ := hw
    subst ea_99
    obtain ⟨fs_101, e_102, hw⟩ := hw
    refine v_callV q413 q414 q415 q108 q416 (ci := 2) rfl e_102 n_J2_size ⟨Nat.le_of_ble_eq_true rfl, Nat.le_of_ble_eq_true rfl⟩ [] [] (met_J2_size hw) rfl (Nat.zero_le _) ⟨Nat.le_refl _, Nat.le_refl _⟩ dX0_count_130 rfl (v_ki (fun z_100 h1 hv => ?_))
    clear hw
    obtain ⟨e9, hw⟩ := hv
    refine v_heap e9 ?_
    clear e9
    exact v_iret dX0_count_133 rfl ⟨_, rfl, rfl, hw⟩
  have hw := hw_89 c_86
  obtain ⟨hw_105, hw_106⟩ := hw
  by_cases c_103 : x1 = (nI 6)
  · have hw := hw_105 c_103
    refine v_tswIn (off := 133) (tgt := 134) dX0_count_1 (by rw [c_103]; decide) (by rw [c_103]; decide) (by rw [c_103]; rfl) (by decide) ?_
    refine v_aload_n (q := 0) dX0_count_134 rfl rfl ?_
    obtain ⟨fs_107, r_110, e_108, e_109, hw⟩ := hw
    refine v_get in_X0 (ci := 0) rfl 1 (Nat.le_of_ble_eq_true rfl) q319 rfl dX0_count_135 e_108 e_109 ?_
    obtain ⟨a_111, ea_111, hw⟩ := hw
    subst ea_111
    obtain ⟨fs_112, r_115, e_113, e_114, hw⟩ := hw
    refine v_getN in_X1 (ci := 1) rfl 9 (Nat.le_of_ble_eq_true rfl) q238 rfl dX0_count_138 e_113 e_114 ?_
    obtain ⟨a_116, ea_116, hw⟩ := hw
    subst ea_116
    obtain ⟨fs_118, e_119, hw⟩ := hw
    refine v_callV q413 q414 q415 q108 q416 (ci := 2) rfl e_119 n_J2_size ⟨Nat.le_of_ble_eq_true rfl, Nat.le_of_ble_eq_true rfl⟩ [] [] (met_J2_size hw) rfl (Nat.zero_le _) ⟨Nat.le_refl _, Nat.le_refl _⟩ dX0_count_141 rfl (v_ki (fun z_117 h1 hv => ?_))
    clear hw
    obtain ⟨e9, hw⟩ := hv
    refine v_heap e9 ?_
    clear e9
    exact v_iret dX0_count_144 rfl ⟨_, rfl, rfl, hw⟩
  have hw := hw_106 c_103
  obtain ⟨hw_122, hw_123⟩ := hw
  by_cases c_120 : x1 = (nI 7)
  · have hw := hw_122 c_120
    refine v_tswIn (off := 144) (tgt := 145) dX0_count_1 (by rw [c_120]; decide) (by rw [c_120]; decide) (by rw [c_120]; rfl) (by decide) ?_
    refine v_aload_n (q := 0) dX0_count_145 rfl rfl ?_
    obtain ⟨fs_124, r_127, e_125, e_126, hw⟩ := hw
    refine v_get in_X0 (ci := 0) rfl 1 (Nat.le_of_ble_eq_true rfl) q319 rfl dX0_count_146 e_125 e_126 ?_
    obtain ⟨a_128, ea_128, hw⟩ := hw
    subst ea_128
    obtain ⟨fs_129, r_132, e_130, e_131, hw⟩ := hw
    refine v_getN in_X1 (ci := 1) rfl 10 (Nat.le_of_ble_eq_true rfl) q240 rfl dX0_count_149 e_130 e_131 ?_
    obtain ⟨a_133, ea_133, hw⟩ := hw
    subst ea_133
    obtain ⟨fs_135, e_136, hw⟩ := hw
    refine v_callV q413 q414 q415 q108 q416 (ci := 2) rfl e_136 n_J2_size ⟨Nat.le_of_ble_eq_true rfl, Nat.le_of_ble_eq_true rfl⟩ [] [] (met_J2_size hw) rfl (Nat.zero_le _) ⟨Nat.le_refl _, Nat.le_refl _⟩ dX0_count_152 rfl (v_ki (fun z_134 h1 hv => ?_))
    clear hw
    obtain ⟨e9, hw⟩ := hv
    refine v_heap e9 ?_
    clear e9
    exact v_iret dX0_count_155 rfl ⟨_, rfl, rfl, hw⟩
  have hw := hw_123 c_120
  obtain ⟨hw_139, hw_140⟩ := hw
  by_cases c_137 : x1 = (nI 8)
  · have hw := hw_139 c_137
    refine v_tswIn (off := 155) (tgt := 156) dX0_count_1 (by rw [c_137]; decide) (by rw [c_137]; decide) (by rw [c_137]; rfl) (by decide) ?_
    refine v_aload_n (q := 0) dX0_count_156 rfl rfl ?_
    obtain ⟨fs_141, r_144, e_142, e_143, hw⟩ := hw
    refine v_get in_X0 (ci := 0) rfl 1 (Nat.le_of_ble_eq_true rfl) q319 rfl dX0_count_157 e_142 e_143 ?_
    obtain ⟨a_145, ea_145, hw⟩ := hw
    subst ea_145
    obtain ⟨fs_146, z_149, e_147, e_148, hw⟩ := hw
    refine v_getN in_X1 (ci := 1) rfl 14 (Nat.le_of_ble_eq_true rfl) q248 rfl dX0_count_160 e_147 e_148 ?_
    exact v_iret dX0_count_163 rfl ⟨_, rfl, rfl, hw⟩
  have hw := hw_140 c_137
  obtain ⟨hw_152, hw_153⟩ := hw
  by_cases c_150 : x1 = (nI 9)
  · have hw := hw_152 c_150
    refine v_tswIn (off := 163) (tgt := 164) dX0_count_1 (by rw [c_150]; decide) (by rw [c_150]; decide) (by rw [c_150]; rfl) (by decide) ?_
    refine v_aload_n (q := 0) dX0_count_164 rfl rfl ?_
    obtain ⟨fs_154, r_157, e_155, e_156, hw⟩ := hw
    refine v_get in_X0 (ci := 0) rfl 1 (Nat.le_of_ble_eq_true rfl) q319 rfl dX0_count_165 e_155 e_156 ?_
    obtain ⟨a_158, ea_158, hw⟩ := hw
    subst ea_158
    obtain ⟨fs_159, r_162, e_160, e_161, hw⟩ := hw
    refine v_getN in_X1 (ci := 1) rfl 15 (Nat.le_of_ble_eq_true rfl) q250 rfl dX0_count_168 e_160 e_161 ?_
    obtain ⟨a_163, ea_163, hw⟩ := hw
    subst ea_163
    obtain ⟨fs_165, e_166, hw⟩ := hw
    refine v_callV q413 q414 q415 q108 q416 (ci := 2) rfl e_166 n_J2_size ⟨Nat.le_of_ble_eq_true rfl, Nat.le_of_ble_eq_true rfl⟩ [] [] (met_J2_size hw) rfl (Nat.zero_le _) ⟨Nat.le_refl _, Nat.le_refl _⟩ dX0_count_171 rfl (v_ki (fun z_164 h1 hv => ?_))
    clear hw
    obtain ⟨e9, hw⟩ := hv
    refine v_heap e9 ?_
    clear e9
    exact v_iret dX0_count_174 rfl ⟨_, rfl, rfl, hw⟩
  have hw := hw_153 c_150
  obtain ⟨hw_169, hw_170⟩ := hw
  by_cases c_167 : x1 = (nI 10)
  · have hw := hw_169 c_167
    refine v_tswIn (off := 174) (tgt := 175) dX0_count_1 (by rw [c_167]; decide) (by rw [c_167]; decide) (by rw [c_167]; rfl) (by decide) ?_
    refine v_aload_n (q := 0) dX0_count_175 rfl rfl ?_
    obtain ⟨fs_171, r_174, e_172, e_173, hw⟩ := hw
    refine v_get in_X0 (ci := 0) rfl 1 (Nat.le_of_ble_eq_true rfl) q319 rfl dX0_count_176 e_172 e_173 ?_
    obtain ⟨a_175, ea_175, hw⟩ := hw
    subst ea_175
    obtain ⟨fs_176, r_179, e_177, e_178, hw⟩ := hw
    refine v_getN in_X1 (ci := 1) rfl 16 (Nat.le_of_ble_eq_true rfl) q252 rfl dX0_count_179 e_177 e_178 ?_
    obtain ⟨a_180, ea_180, hw⟩ := hw
    subst ea_180
    obtain ⟨fs_181, z_184, e_182, e_183, hw⟩ := hw
    refine v_getN in_X2 (ci := 3) rfl 3 (Nat.le_of_ble_eq_true rfl) q204 rfl dX0_count_182 e_182 e_183 ?_
    exact v_iret dX0_count_185 rfl ⟨_, rfl, rfl, hw⟩
  have hw := hw_170 c_167
  obtain ⟨hw_187, hw_188⟩ := hw
  by_cases c_185 : x1 = (nI 11)
  · have hw := hw_187 c_185
    refine v_tswIn (off := 185) (tgt := 186) dX0_count_1 (by rw [c_185]; decide) (by rw [c_185]; decide) (by rw [c_185]; rfl) (by decide) ?_
    refine v_aload_n (q := 0) dX0_count_186 rfl rfl ?_
    obtain ⟨fs_189, z_192, e_190, e_191, hw⟩ := hw
    refine v_get in_X0 (ci := 0) rfl 5 (Nat.le_of_ble_eq_true rfl) q324 rfl dX0_count_187 e_190 e_191 ?_
    exact v_iret dX0_count_190 rfl ⟨_, rfl, rfl, hw⟩
  have hw := hw_188 c_185
  obtain ⟨hw_195, hw_196⟩ := hw
  by_cases c_193 : x1 = (nI 12)
  · have hw := hw_195 c_193
    refine v_tswIn (off := 190) (tgt := 191) dX0_count_1 (by rw [c_193]; decide) (by rw [c_193]; decide) (by rw [c_193]; rfl) (by decide) ?_
    refine v_aload_n (q := 0) dX0_count_191 rfl rfl ?_
    obtain ⟨fs_197, r_200, e_198, e_199, hw⟩ := hw
    refine v_get in_X0 (ci := 0) rfl 1 (Nat.le_of_ble_eq_true rfl) q319 rfl dX0_count_192 e_198 e_199 ?_
    obtain ⟨a_201, ea_201, hw⟩ := hw
    subst ea_201
    obtain ⟨fs_202, z_205, e_203, e_204, hw⟩ := hw
    refine v_getN in_X1 (ci := 1) rfl 0 (Nat.le_of_ble_eq_true rfl) q220 rfl dX0_count_195 e_203 e_204 ?_
    exact v_iret dX0_count_198 rfl ⟨_, rfl, rfl, hw⟩
  have hw := hw_196 c_193
  refine v_tswOut (tgt := 199) dX0_count_1 (by have := v_swn 0 c_1 (by decide); have := v_swn 1 c_18 (by decide); have := v_swn 2 c_35 (by decide); have := v_swn 3 c_52 (by decide); have := v_swn 4 c_69 (by decide); have := v_swn 5 c_86 (by decide); have := v_swn 6 c_103 (by decide); have := v_swn 7 c_120 (by decide); have := v_swn 8 c_137 (by decide); have := v_swn 9 c_150 (by decide); have := v_swn 10 c_167 (by decide); have := v_swn 11 c_185 (by decide); have := v_swn 12 c_193 (by decide); omega) (by decide) ?_
  refine v_aload_n (q := 0) dX0_count_199 rfl rfl ?_
  refine v_iload_n (q := 1) dX0_count_200 rfl rfl ?_
  refine v_bipush dX0_count_201 bp_100 ?_
  refine v_isub dX0_count_203 ?_
  obtain ⟨fs_266, e_267, hw⟩ := hw
  refine v_callV q525 q527 qs4 q104 q528 (ci := 0) rfl e_267 n_X0_isSong ⟨Nat.le_of_ble_eq_true rfl, Nat.le_of_ble_eq_true rfl⟩ [.int (x1 - (nI 100))] [] (met_X0_isSong hw) rfl (Nat.zero_le _) ⟨Nat.le_refl _, Nat.le_refl _⟩ dX0_count_204 rfl (v_ki (fun z_206 h1 hv => ?_))
  clear hw
  obtain ⟨e9, hw⟩ := hv
  refine v_heap e9 ?_
  clear e9
  obtain ⟨hw_209, hw_210⟩ := hw
  refine v_if_eq (tgt := 236) dX0_count_207 (by decide) (fun c_207 => ?_) (fun c_208 => ?_)
  · have hw := hw_209 c_207
    refine v_aload_n (q := 0) dX0_count_236 rfl rfl ?_
    refine v_iload_n (q := 1) dX0_count_237 rfl rfl ?_
    refine v_sipush dX0_count_238 sp_200 ?_
    refine v_isub dX0_count_241 ?_
    obtain ⟨fs_240, e_241, hw⟩ := hw
    refine v_callV q529 q531 qs5 q104 q532 (ci := 0) rfl e_241 n_X0_isBook ⟨Nat.le_of_ble_eq_true rfl, Nat.le_of_ble_eq_true rfl⟩ [.int (x1 - (nI 200))] [] (met_X0_isBook hw) rfl (Nat.zero_le _) ⟨Nat.le_refl _, Nat.le_refl _⟩ dX0_count_242 rfl (v_ki (fun z_211 h1 hv => ?_))
    clear hw
    obtain ⟨e9, hw⟩ := hv
    refine v_heap e9 ?_
    clear e9
    obtain ⟨hw_214, hw_215⟩ := hw
    refine v_if_eq (tgt := 275) dX0_count_245 (by decide) (fun c_212 => ?_) (fun c_213 => ?_)
    · have hw := hw_214 c_212
      refine v_iconst dX0_count_275 ic_m1 ?_
      exact v_iret dX0_count_276 rfl ⟨_, rfl, rfl, hw⟩
    · have hw := hw_215 c_213
      refine v_aload_n (q := 0) dX0_count_248 rfl rfl ?_
      obtain ⟨fs_216, r_219, e_217, e_218, hw⟩ := hw
      refine v_get in_X0 (ci := 0) rfl 1 (Nat.le_of_ble_eq_true rfl) q319 rfl dX0_count_249 e_217 e_218 ?_
      obtain ⟨a_220, ea_220, hw⟩ := hw
      subst ea_220
      obtain ⟨fs_221, r_224, e_222, e_223, hw⟩ := hw
      refine v_getN in_X1 (ci := 1) rfl 4 (Nat.le_of_ble_eq_true rfl) q228 rfl dX0_count_252 e_222 e_223 ?_
      refine v_iload_n (q := 1) dX0_count_255 rfl rfl ?_
      refine v_sipush dX0_count_256 sp_200 ?_
      refine v_isub dX0_count_259 ?_
      obtain ⟨a_225, ea_225, hw⟩ := hw
      subst ea_225
      obtain ⟨fs_238, e_239, hw⟩ := hw
      refine v_callV q577 q578 q579 q108 q580 (ci := 2) rfl e_239 n_J2_get ⟨Nat.le_of_ble_eq_true rfl, Nat.le_of_ble_eq_true rfl⟩ [.int (x1 - (nI 200))] [] (met_J2_get hw) rfl (Nat.zero_le _) ⟨Nat.le_refl _, Nat.le_refl _⟩ dX0_count_260 rfl (v_kq (fun r_226 h1 hv => ?_))
      clear hw
      obtain ⟨e9, hw⟩ := hv
      refine v_heap e9 ?_
      clear e9
      obtain ⟨a_227, ea_227, hw⟩ := hw
      subst ea_227
      obtain ⟨fs_228, e_229, hw⟩ := hw
      refine v_cast (ci := 8) rfl q417 dX0_count_263 e_229 ?_
      obtain ⟨fs_230, r_233, e_231, e_232, hw⟩ := hw
      refine v_getN in_X7 (ci := 8) rfl 4 (Nat.le_of_ble_eq_true rfl) q433 rfl dX0_count_266 e_231 e_232 ?_
      obtain ⟨a_234, ea_234, hw⟩ := hw
      subst ea_234
      obtain ⟨fs_236, e_237, hw⟩ := hw
      refine v_callV q413 q414 q415 q108 q416 (ci := 2) rfl e_237 n_J2_size ⟨Nat.le_of_ble_eq_true rfl, Nat.le_of_ble_eq_true rfl⟩ [] [] (met_J2_size hw) rfl (Nat.zero_le _) ⟨Nat.le_refl _, Nat.le_refl _⟩ dX0_count_269 rfl (v_ki (fun z_235 h1 hv => ?_))
      clear hw
      obtain ⟨e9, hw⟩ := hv
      refine v_heap e9 ?_
      clear e9
      refine v_goto (tgt := 276) dX0_count_272 (by decide) ?_
      exact v_iret dX0_count_276 rfl ⟨_, rfl, rfl, hw⟩
  · have hw := hw_210 c_208
    refine v_aload_n (q := 0) dX0_count_210 rfl rfl ?_
    obtain ⟨fs_242, r_245, e_243, e_244, hw⟩ := hw
    refine v_get in_X0 (ci := 0) rfl 1 (Nat.le_of_ble_eq_true rfl) q319 rfl dX0_count_211 e_243 e_244 ?_
    obtain ⟨a_246, ea_246, hw⟩ := hw
    subst ea_246
    obtain ⟨fs_247, r_250, e_248, e_249, hw⟩ := hw
    refine v_getN in_X1 (ci := 1) rfl 3 (Nat.le_of_ble_eq_true rfl) q226 rfl dX0_count_214 e_248 e_249 ?_
    refine v_iload_n (q := 1) dX0_count_217 rfl rfl ?_
    refine v_bipush dX0_count_218 bp_100 ?_
    refine v_isub dX0_count_220 ?_
    obtain ⟨a_251, ea_251, hw⟩ := hw
    subst ea_251
    obtain ⟨fs_264, e_265, hw⟩ := hw
    refine v_callV q577 q578 q579 q108 q580 (ci := 2) rfl e_265 n_J2_get ⟨Nat.le_of_ble_eq_true rfl, Nat.le_of_ble_eq_true rfl⟩ [.int (x1 - (nI 100))] [] (met_J2_get hw) rfl (Nat.zero_le _) ⟨Nat.le_refl _, Nat.le_refl _⟩ dX0_count_221 rfl (v_kq (fun r_252 h1 hv => ?_))
    clear hw
    obtain ⟨e9, hw⟩ := hv
    refine v_heap e9 ?_
    clear e9
    obtain ⟨a_253, ea_253, hw⟩ := hw
    subst ea_253
    obtain ⟨fs_254, e_255, hw⟩ := hw
    refine v_cast (ci := 8) rfl q417 dX0_count_224 e_255 ?_
    obtain ⟨fs_256, r_259, e_257, e_258, hw⟩ := hw
    refine v_getN in_X7 (ci := 8) rfl 4 (Nat.le_of_ble_eq_true rfl) q433 rfl dX0_count_227 e_257 e_258 ?_
    obtain ⟨a_260, ea_260, hw⟩ := hw
    subst ea_260
    obtain ⟨fs_262, e_263, hw⟩ := hw
    refine v_callV q413 q414 q415 q108 q416 (ci := 2) rfl e_263 n_J2_size ⟨Nat.le_of_ble_eq_true rfl, Nat.le_of_ble_eq_true rfl⟩ [] [] (met_J2_size hw) rfl (Nat.zero_le _) ⟨Nat.le_refl _, Nat.le_refl _⟩ dX0_count_230 rfl (v_ki (fun z_261 h1 hv => ?_))
    clear hw
    obtain ⟨e9, hw⟩ := hv
    refine v_heap e9 ?_
    clear e9
    refine v_goto (tgt := 276) dX0_count_233 (by decide) ?_
    exact v_iret dX0_count_276 rfl ⟨_, rfl, rfl, hw⟩
theorem met_X0_count {post : (Int32) → Prop}   {b0 : Nat} {x1 : Int32} {h : AH}  (hw : w_X0_count post  b0 x1 h) : Mt l E yX0_count (ws_ yX0_count cX0_count 2 (some .int)) r_X0_count [va_rf (some b0), .int x1] h (vpi (fun (r : Int32) (h' : AH) => h' = h ∧ post r)) := v_entry (by decide +kernel) (Nat.le_of_ble_eq_true rfl) rfl (fun _ => e_X0_count hw)
/-! X8_has -/
abbrev r_X8_has : Room := { frames := 0, cells := 0, slots := 0, locals := 0 }
theorem n_X8_has : vdn yX8_has 1 := ⟨by decide +kernel, by decide +kernel, by decide +kernel⟩
def w_X8_has_2 (post : (Int32) → Prop) (b0 : Nat) (x1 : Int32) (h : AH) : Nat → (Int32) → Prop
 | 0, _ => False
 | n0 + 1, x2 =>
 (∃ (fs_1 : List Value) (z_4 : Int32), h b0 = some (.inr (9, fs_1)) ∧ fs_1[1]? = some (.int z_4) ∧ ((z_4 ≤ x2 → (post (nI 0))) ∧ (¬ z_4 ≤ x2 → (∃ (fs_9 : List Value) (r_12 : Option Nat), h b0 = some (.inr (9, fs_9)) ∧ fs_9[0]? = some (va_rf r_12) ∧ (∃ a_13 : Nat, r_12 = some a_13 ∧ (∃ (N_14 : Nat) (g_15 : Nat → Int32), h a_13 = some (.inl (0, N_14, .inl g_15)) ∧ vp_in x2 N_14 ∧ ((¬ (g_15 (x2).toNatClampNeg) = x1 → (∀ z_22 : Int32, z_22 = x2 + (nI 1) → (w_X8_has_2 post b0 x1 h n0 z_22))) ∧ ((g_15 (x2).toNatClampNeg) = x1 → (post (nI 1))))))))))
def w_X8_has (post : (Int32) → Prop) (b0 : Nat) (x1 : Int32) (h : AH) : Prop :=
 (∃ n1 : Nat, (w_X8_has_2 post b0 x1 h n1 (nI 0)))
theorem b_X8_has_2 {post : (Int32) → Prop}   {b0 : Nat} {x1 : Int32} {h : AH}    : ∀ (n0 : Nat) (x2 : Int32), w_X8_has_2 post b0 x1 h n0 x2 → VV l E X cX8_has RX8 "has" 3 r_X8_has (some .boolean) (vpi (fun (r : Int32) (h' : AH) => h' = h ∧ post r)) h 0 0 2 [(0, va_rf (some b0)), (1, .int x1), (2, .int x2)] [] := by
  intro n0
  induction n0 with
  | zero =>
    intro x2 hw
    exact hw.elim
  | succ n0 ih =>
    intro x2 hw
    refine v_iload_n (q := 2) dX8_has_2 rfl rfl ?_
    refine v_aload_n (q := 0) dX8_has_3 rfl rfl ?_
    obtain ⟨fs_1, z_4, e_2, e_3, hw⟩ := hw
    refine v_get in_X8 (ci := 9) rfl 1 (Nat.le_of_ble_eq_true rfl) q551 rfl dX8_has_4 e_2 e_3 ?_
    obtain ⟨hw_7, hw_8⟩ := hw
    refine v_icmp_ge (tgt := 28) dX8_has_7 (by decide) (fun c_5 => ?_) (fun c_6 => ?_)
    · have hw := hw_7 c_5
      refine v_iconst dX8_has_28 ic_0 ?_
      exact v_zret dX8_has_29 rfl rfl ⟨_, rfl, rfl, hw⟩
    · have hw := hw_8 c_6
      refine v_aload_n (q := 0) dX8_has_10 rfl rfl ?_
      obtain ⟨fs_9, r_12, e_10, e_11, hw⟩ := hw
      refine v_get in_X8 (ci := 9) rfl 0 (Nat.le_of_ble_eq_true rfl) q545 rfl dX8_has_11 e_10 e_11 ?_
      refine v_iload_n (q := 2) dX8_has_14 rfl rfl ?_
      obtain ⟨a_13, ea_13, hw⟩ := hw
      subst ea_13
      obtain ⟨N_14, g_15, e_16, hi_17, hw⟩ := hw
      refine v_iald dX8_has_15 e_16 hi_17 ?_
      refine v_iload_n (q := 1) dX8_has_16 rfl rfl ?_
      obtain ⟨hw_20, hw_21⟩ := hw
      refine v_icmp_ne (tgt := 22) dX8_has_17 (by decide) (fun c_18 => ?_) (fun c_19 => ?_)
      · have hw := hw_20 c_18
        obtain ⟨z_22, e_22⟩ : ∃ z9 : Int32, z9 = x2 + (nI 1) := ⟨_, rfl⟩
        replace hw := hw z_22 e_22
        refine v_iinc (q := 2) (v := z_22) (lv1 := [(2, .int z_22), (0, va_rf (some b0)), (1, .int x1)]) dX8_has_22 rfl (by rw [e_22, ic_1]) (Nat.le_of_ble_eq_true rfl) rfl ?_
        refine v_goto (tgt := 2) dX8_has_25 (by decide) ?_
        refine v_sub [1, 2, 0] rfl ?_
        exact ih z_22 hw
      · have hw := hw_21 c_19
        refine v_iconst dX8_has_20 ic_1 ?_
        exact v_zret dX8_has_21 rfl rfl ⟨_, rfl, rfl, hw⟩
theorem e_X8_has {post : (Int32) → Prop}   {b0 : Nat} {x1 : Int32} {h : AH}  (hw : w_X8_has post  b0 x1 h) : VV l E X cX8_has RX8 "has" 3 r_X8_has (some .boolean) (vpi (fun (r : Int32) (h' : AH) => h' = h ∧ post r)) h 0 0 0 [(0, va_rf (some b0)), (1, .int x1)] [] := by
  refine v_iconst dX8_has_0 ic_0 ?_
  refine v_istore_n (lv1 := [(2, .int (nI 0)), (0, va_rf (some b0)), (1, .int x1)]) dX8_has_1 rfl (Nat.le_of_ble_eq_true rfl) rfl ?_
  obtain ⟨n_23, hw⟩ := hw
  refine v_sub [1, 2, 0] rfl ?_
  exact b_X8_has_2 n_23 (nI 0) hw
theorem met_X8_has {post : (Int32) → Prop}   {b0 : Nat} {x1 : Int32} {h : AH}  (hw : w_X8_has post  b0 x1 h) : Mt l E yX8_has (ws_ yX8_has cX8_has 3 (some .boolean)) r_X8_has [va_rf (some b0), .int x1] h (vpi (fun (r : Int32) (h' : AH) => h' = h ∧ post r)) := v_entry (by decide +kernel) (Nat.le_of_ble_eq_true rfl) rfl (fun _ => e_X8_has hw)
/-! X13_is -/
abbrev r_X13_is : Room := { frames := 1, cells := 0, slots := 0, locals := 22 }
theorem n_X13_is : vdn yX13_is 2 := ⟨by decide +kernel, by decide +kernel, by decide +kernel⟩
def w_X13_is (post : (Int32) → Prop) (b0 : Nat) (x1 : Option Nat) (x2 : Int32) (h : AH) : Prop :=
 (∃ (fs_1 : List Value) (z_4 : Int32), h b0 = some (.inr (14, fs_1)) ∧ fs_1[0]? = some (.int z_4) ∧ (∃ a_5 : Nat, x1 = some a_5 ∧ (∃ fs_8 : List Value, h a_5 = some (.inr (9, fs_8)) ∧ (w_X8_has (fun (z_6 : Int32) => ((z_6 = nI 0 ∨ z_6 = nI 1) ∧ post z_6)) a_5 z_4 h))))
theorem e_X13_is {post : (Int32) → Prop}   {b0 : Nat} {x1 : Option Nat} {x2 : Int32} {h : AH}  (hw : w_X13_is post  b0 x1 x2 h) : VV l E X cX13_is RX13 "is" 3 r_X13_is (some .boolean) (vpi (fun (r : Int32) (h' : AH) => h' = h ∧ post r)) h 0 0 0 [(0, va_rf (some b0)), (1, va_rf x1), (2, .int x2)] [] := by
  refine v_aload_n (q := 1) dX13_is_0 rfl rfl ?_
  refine v_aload_n (q := 0) dX13_is_1 rfl rfl ?_
  obtain ⟨fs_1, z_4, e_2, e_3, hw⟩ := hw
  refine v_get in_X13 (ci := 14) rfl 0 (Nat.le_of_ble_eq_true rfl) q841 rfl dX13_is_2 e_2 e_3 ?_
  obtain ⟨a_5, ea_5, hw⟩ := hw
  subst ea_5
  obtain ⟨fs_8, e_9, hw⟩ := hw
  refine v_callV q948 q949 q950 q119 q951 (ci := 9) rfl e_9 n_X8_has ⟨Nat.le_of_ble_eq_true rfl, Nat.le_of_ble_eq_true rfl⟩ [.int z_4] [] (met_X8_has hw) rfl (Nat.zero_le _) ⟨Nat.le_refl _, Nat.le_refl _⟩ dX13_is_5 rfl (v_ki (fun z_6 h1 hv => ?_))
  clear hw
  obtain ⟨e9, hw⟩ := hv
  refine v_heap e9 ?_
  clear e9
  obtain ⟨hn_7, hw⟩ := hw
  exact v_zret dX13_is_8 rfl (v_z1 hn_7).1 ⟨_, rfl, rfl, hw⟩
theorem met_X13_is {post : (Int32) → Prop}   {b0 : Nat} {x1 : Option Nat} {x2 : Int32} {h : AH}  (hw : w_X13_is post  b0 x1 x2 h) : Mt l E yX13_is (ws_ yX13_is cX13_is 3 (some .boolean)) r_X13_is [va_rf (some b0), va_rf x1, .int x2] h (vpi (fun (r : Int32) (h' : AH) => h' = h ∧ post r)) := v_entry (by decide +kernel) (by cases x1 <;> exact (Nat.le_of_ble_eq_true rfl)) (by cases x1 <;> exact rfl) (fun _ => e_X13_is hw)
/-! X14_is -/
abbrev r_X14_is : Room := { frames := 0, cells := 0, slots := 0, locals := 0 }
theorem n_X14_is : vdn yX14_is 2 := ⟨by decide +kernel, by decide +kernel, by decide +kernel⟩
def w_X14_is (post : (Int32) → Prop) (b0 : Nat) (x1 : Option Nat) (x2 : Int32) (h : AH) : Prop :=
 (∃ a_1 : Nat, x1 = some a_1 ∧ (∃ (fs_2 : List Value) (z_5 : Int32), h a_1 = some (.inr (9, fs_2)) ∧ fs_2[1]? = some (.int z_5) ∧ (∃ (fs_6 : List Value) (z_9 : Int32), h b0 = some (.inr (15, fs_6)) ∧ fs_6[0]? = some (.int z_9) ∧ ((z_5 < z_9 → (post (nI 0))) ∧ (¬ z_5 < z_9 → (post (nI 1)))))))
theorem e_X14_is {post : (Int32) → Prop}   {b0 : Nat} {x1 : Option Nat} {x2 : Int32} {h : AH}  (hw : w_X14_is post  b0 x1 x2 h) : VV l E X cX14_is RX14 "is" 3 r_X14_is (some .boolean) (vpi (fun (r : Int32) (h' : AH) => h' = h ∧ post r)) h 0 0 0 [(0, va_rf (some b0)), (1, va_rf x1), (2, .int x2)] [] := by
  refine v_aload_n (q := 1) dX14_is_0 rfl rfl ?_
  obtain ⟨a_1, ea_1, hw⟩ := hw
  subst ea_1
  obtain ⟨fs_2, z_5, e_3, e_4, hw⟩ := hw
  refine v_getN in_X8 (ci := 9) rfl 1 (Nat.le_of_ble_eq_true rfl) q549 rfl dX14_is_1 e_3 e_4 ?_
  refine v_aload_n (q := 0) dX14_is_4 rfl rfl ?_
  obtain ⟨fs_6, z_9, e_7, e_8, hw⟩ := hw
  refine v_get in_X14 (ci := 15) rfl 0 (Nat.le_of_ble_eq_true rfl) q852 rfl dX14_is_5 e_7 e_8 ?_
  obtain ⟨hw_12, hw_13⟩ := hw
  refine v_icmp_lt (tgt := 15) dX14_is_8 (by decide) (fun c_10 => ?_) (fun c_11 => ?_)
  · have hw := hw_12 c_10
    refine v_iconst dX14_is_15 ic_0 ?_
    exact v_zret dX14_is_16 rfl rfl ⟨_, rfl, rfl, hw⟩
  · have hw := hw_13 c_11
    refine v_iconst dX14_is_11 ic_1 ?_
    refine v_goto (tgt := 16) dX14_is_12 (by decide) ?_
    exact v_zret dX14_is_16 rfl rfl ⟨_, rfl, rfl, hw⟩
theorem met_X14_is {post : (Int32) → Prop}   {b0 : Nat} {x1 : Option Nat} {x2 : Int32} {h : AH}  (hw : w_X14_is post  b0 x1 x2 h) : Mt l E yX14_is (ws_ yX14_is cX14_is 3 (some .boolean)) r_X14_is [va_rf (some b0), va_rf x1, .int x2] h (vpi (fun (r : Int32) (h' : AH) => h' = h ∧ post r)) := v_entry (by decide +kernel) (by cases x1 <;> exact (Nat.le_of_ble_eq_true rfl)) (by cases x1 <;> exact rfl) (fun _ => e_X14_is hw)
/-! X15_is -/
abbrev r_X15_is : Room := { frames := 0, cells := 0, slots := 0, locals := 0 }
theorem n_X15_is : vdn yX15_is 2 := ⟨by decide +kernel, by decide +kernel, by decide +kernel⟩
def w_X15_is (post : (Int32) → Prop) (b0 : Nat) (x1 : Option Nat) (x2 : Int32) (h : AH) : Prop :=
 (∃ (fs_1 : List Value) (z_4 : Int32), h b0 = some (.inr (16, fs_1)) ∧ fs_1[0]? = some (.int z_4) ∧ ((¬ x2 = z_4 → (post (nI 0))) ∧ (x2 = z_4 → (post (nI 1)))))
theorem e_X15_is {post : (Int32) → Prop}   {b0 : Nat} {x1 : Option Nat} {x2 : Int32} {h : AH}  (hw : w_X15_is post  b0 x1 x2 h) : VV l E X cX15_is RX15 "is" 3 r_X15_is (some .boolean) (vpi (fun (r : Int32) (h' : AH) => h' = h ∧ post r)) h 0 0 0 [(0, va_rf (some b0)), (1, va_rf x1), (2, .int x2)] [] := by
  refine v_iload_n (q := 2) dX15_is_0 rfl rfl ?_
  refine v_aload_n (q := 0) dX15_is_1 rfl rfl ?_
  obtain ⟨fs_1, z_4, e_2, e_3, hw⟩ := hw
  refine v_get in_X15 (ci := 16) rfl 0 (Nat.le_of_ble_eq_true rfl) q863 rfl dX15_is_2 e_2 e_3 ?_
  obtain ⟨hw_7, hw_8⟩ := hw
  refine v_icmp_ne (tgt := 12) dX15_is_5 (by decide) (fun c_5 => ?_) (fun c_6 => ?_)
  · have hw := hw_7 c_5
    refine v_iconst dX15_is_12 ic_0 ?_
    exact v_zret dX15_is_13 rfl rfl ⟨_, rfl, rfl, hw⟩
  · have hw := hw_8 c_6
    refine v_iconst dX15_is_8 ic_1 ?_
    refine v_goto (tgt := 13) dX15_is_9 (by decide) ?_
    exact v_zret dX15_is_13 rfl rfl ⟨_, rfl, rfl, hw⟩
theorem met_X15_is {post : (Int32) → Prop}   {b0 : Nat} {x1 : Option Nat} {x2 : Int32} {h : AH}  (hw : w_X15_is post  b0 x1 x2 h) : Mt l E yX15_is (ws_ yX15_is cX15_is 3 (some .boolean)) r_X15_is [va_rf (some b0), va_rf x1, .int x2] h (vpi (fun (r : Int32) (h' : AH) => h' = h ∧ post r)) := v_entry (by decide +kernel) (by cases x1 <;> exact (Nat.le_of_ble_eq_true rfl)) (by cases x1 <;> exact rfl) (fun _ => e_X15_is hw)
/-! X18_kind -/
abbrev r_X18_kind : Room := { frames := 0, cells := 0, slots := 0, locals := 0 }
theorem n_X18_kind : vdn yX18_kind 0 := ⟨by decide +kernel, by decide +kernel, by decide +kernel⟩
def w_X18_kind (post : (Int32) → Prop) (b0 : Nat) (h : AH) : Prop :=
 (post (nI 0))
theorem e_X18_kind {post : (Int32) → Prop}   {b0 : Nat} {h : AH}  (hw : w_X18_kind post  b0 h) : VV l E X cX18_kind RX18 "kind" 1 r_X18_kind (some .int) (vpi (fun (r : Int32) (h' : AH) => h' = h ∧ post r)) h 0 0 0 [(0, va_rf (some b0))] [] := by
  refine v_iconst dX18_kind_0 ic_0 ?_
  exact v_iret dX18_kind_1 rfl ⟨_, rfl, rfl, hw⟩
theorem met_X18_kind {post : (Int32) → Prop}   {b0 : Nat} {h : AH}  (hw : w_X18_kind post  b0 h) : Mt l E yX18_kind (ws_ yX18_kind cX18_kind 1 (some .int)) r_X18_kind [va_rf (some b0)] h (vpi (fun (r : Int32) (h' : AH) => h' = h ∧ post r)) := v_entry (by decide +kernel) (Nat.le_of_ble_eq_true rfl) rfl (fun _ => e_X18_kind hw)
/-! X19_kind -/
abbrev r_X19_kind : Room := { frames := 0, cells := 0, slots := 0, locals := 0 }
theorem n_X19_kind : vdn yX19_kind 0 := ⟨by decide +kernel, by decide +kernel, by decide +kernel⟩
def w_X19_kind (post : (Int32) → Prop) (b0 : Nat) (h : AH) : Prop :=
 (post (nI 1))
theorem e_X19_kind {post : (Int32) → Prop}   {b0 : Nat} {h : AH}  (hw : w_X19_kind post  b0 h) : VV l E X cX19_kind RX19 "kind" 1 r_X19_kind (some .int) (vpi (fun (r : Int32) (h' : AH) => h' = h ∧ post r)) h 0 0 0 [(0, va_rf (some b0))] [] := by
  refine v_iconst dX19_kind_0 ic_1 ?_
  exact v_iret dX19_kind_1 rfl ⟨_, rfl, rfl, hw⟩
theorem met_X19_kind {post : (Int32) → Prop}   {b0 : Nat} {h : AH}  (hw : w_X19_kind post  b0 h) : Mt l E yX19_kind (ws_ yX19_kind cX19_kind 1 (some .int)) r_X19_kind [va_rf (some b0)] h (vpi (fun (r : Int32) (h' : AH) => h' = h ∧ post r)) := v_entry (by decide +kernel) (Nat.le_of_ble_eq_true rfl) rfl (fun _ => e_X19_kind hw)
/-! X20_kind -/
abbrev r_X20_kind : Room := { frames := 0, cells := 0, slots := 0, locals := 0 }
theorem n_X20_kind : vdn yX20_kind 0 := ⟨by decide +kernel, by decide +kernel, by decide +kernel⟩
def w_X20_kind (post : (Int32) → Prop) (b0 : Nat) (h : AH) : Prop :=
 (post (nI 2))
theorem e_X20_kind {post : (Int32) → Prop}   {b0 : Nat} {h : AH}  (hw : w_X20_kind post  b0 h) : VV l E X cX20_kind RX20 "kind" 1 r_X20_kind (some .int) (vpi (fun (r : Int32) (h' : AH) => h' = h ∧ post r)) h 0 0 0 [(0, va_rf (some b0))] [] := by
  refine v_iconst dX20_kind_0 ic_2 ?_
  exact v_iret dX20_kind_1 rfl ⟨_, rfl, rfl, hw⟩
theorem met_X20_kind {post : (Int32) → Prop}   {b0 : Nat} {h : AH}  (hw : w_X20_kind post  b0 h) : Mt l E yX20_kind (ws_ yX20_kind cX20_kind 1 (some .int)) r_X20_kind [va_rf (some b0)] h (vpi (fun (r : Int32) (h' : AH) => h' = h ∧ post r)) := v_entry (by decide +kernel) (Nat.le_of_ble_eq_true rfl) rfl (fun _ => e_X20_kind hw)
/-! X21_kind -/
abbrev r_X21_kind : Room := { frames := 0, cells := 0, slots := 0, locals := 0 }
theorem n_X21_kind : vdn yX21_kind 0 := ⟨by decide +kernel, by decide +kernel, by decide +kernel⟩
def w_X21_kind (post : (Int32) → Prop) (b0 : Nat) (h : AH) : Prop :=
 (post (nI 3))
theorem e_X21_kind {post : (Int32) → Prop}   {b0 : Nat} {h : AH}  (hw : w_X21_kind post  b0 h) : VV l E X cX21_kind RX21 "kind" 1 r_X21_kind (some .int) (vpi (fun (r : Int32) (h' : AH) => h' = h ∧ post r)) h 0 0 0 [(0, va_rf (some b0))] [] := by
  refine v_iconst dX21_kind_0 ic_3 ?_
  exact v_iret dX21_kind_1 rfl ⟨_, rfl, rfl, hw⟩
theorem met_X21_kind {post : (Int32) → Prop}   {b0 : Nat} {h : AH}  (hw : w_X21_kind post  b0 h) : Mt l E yX21_kind (ws_ yX21_kind cX21_kind 1 (some .int)) r_X21_kind [va_rf (some b0)] h (vpi (fun (r : Int32) (h' : AH) => h' = h ∧ post r)) := v_entry (by decide +kernel) (Nat.le_of_ble_eq_true rfl) rfl (fun _ => e_X21_kind hw)
/-! X3_kind -/
abbrev r_X3_kind : Room := { frames := 0, cells := 0, slots := 0, locals := 0 }
theorem n_X3_kind : vdn yX3_kind 0 := ⟨by decide +kernel, by decide +kernel, by decide +kernel⟩
def w_X3_kind (post : (Int32) → Prop) (b0 : Nat) (h : AH) : Prop :=
 (post (nI 4))
theorem e_X3_kind {post : (Int32) → Prop}   {b0 : Nat} {h : AH}  (hw : w_X3_kind post  b0 h) : VV l E X cX3_kind RX3 "kind" 1 r_X3_kind (some .int) (vpi (fun (r : Int32) (h' : AH) => h' = h ∧ post r)) h 0 0 0 [(0, va_rf (some b0))] [] := by
  refine v_iconst dX3_kind_0 ic_4 ?_
  exact v_iret dX3_kind_1 rfl ⟨_, rfl, rfl, hw⟩
theorem met_X3_kind {post : (Int32) → Prop}   {b0 : Nat} {h : AH}  (hw : w_X3_kind post  b0 h) : Mt l E yX3_kind (ws_ yX3_kind cX3_kind 1 (some .int)) r_X3_kind [va_rf (some b0)] h (vpi (fun (r : Int32) (h' : AH) => h' = h ∧ post r)) := v_entry (by decide +kernel) (Nat.le_of_ble_eq_true rfl) rfl (fun _ => e_X3_kind hw)
/-! X4_kind -/
abbrev r_X4_kind : Room := { frames := 0, cells := 0, slots := 0, locals := 0 }
theorem n_X4_kind : vdn yX4_kind 0 := ⟨by decide +kernel, by decide +kernel, by decide +kernel⟩
def w_X4_kind (post : (Int32) → Prop) (b0 : Nat) (h : AH) : Prop :=
 (post (nI 5))
theorem e_X4_kind {post : (Int32) → Prop}   {b0 : Nat} {h : AH}  (hw : w_X4_kind post  b0 h) : VV l E X cX4_kind RX4 "kind" 1 r_X4_kind (some .int) (vpi (fun (r : Int32) (h' : AH) => h' = h ∧ post r)) h 0 0 0 [(0, va_rf (some b0))] [] := by
  refine v_iconst dX4_kind_0 ic_5 ?_
  exact v_iret dX4_kind_1 rfl ⟨_, rfl, rfl, hw⟩
theorem met_X4_kind {post : (Int32) → Prop}   {b0 : Nat} {h : AH}  (hw : w_X4_kind post  b0 h) : Mt l E yX4_kind (ws_ yX4_kind cX4_kind 1 (some .int)) r_X4_kind [va_rf (some b0)] h (vpi (fun (r : Int32) (h' : AH) => h' = h ∧ post r)) := v_entry (by decide +kernel) (Nat.le_of_ble_eq_true rfl) rfl (fun _ => e_X4_kind hw)
/-! X17_init_X18 -/
abbrev r_X17_init_X18 : Room := { frames := 1, cells := 0, slots := 0, locals := 20 }
theorem n_X17_init_X18 : vdn yX17_init 2 := ⟨by decide +kernel, by decide +kernel, by decide +kernel⟩
def w_X17_init_X18 (post : (AH) → Prop) (b0 : Nat) (x1 : Int32) (x2 : Int32) (h : AH) : Prop :=
 (∃ fs_1 : List Value, h b0 = some (.inr (18, fs_1)) ∧ 0 < fs_1.length ∧ ∀ h_4 : AH, h_4 = va_up h b0 (some (.inr (18, fs_1.set 0 (.int (((nI 100) * x1) + x2))))) → (post h_4))
theorem e_X17_init_X18 {post : (AH) → Prop}   {b0 : Nat} {x1 : Int32} {x2 : Int32} {h : AH}  (hw : w_X17_init_X18 post  b0 x1 x2 h) : VV l E X cX17_init RX17 "<init>" 3 r_X17_init_X18 none (vpv (fun (h' : AH) => post h')) h 0 0 0 [(0, va_rf (some b0)), (1, .int x1), (2, .int x2)] [] := by
  refine v_aload_n (q := 0) dX17_init_0 rfl rfl ?_
  refine v_objInit q1039 q154 q155 (Nat.zero_le _) (Nat.le_of_ble_eq_true rfl) (Nat.le_of_ble_eq_true rfl) dX17_init_1 ?_
  refine v_aload_n (q := 0) dX17_init_4 rfl rfl ?_
  refine v_bipush dX17_init_5 bp_100 ?_
  refine v_iload_n (q := 1) dX17_init_7 rfl rfl ?_
  refine v_imul dX17_init_8 ?_
  refine v_iload_n (q := 2) dX17_init_9 rfl rfl ?_
  refine v_iadd dX17_init_10 ?_
  obtain ⟨fs_1, e_2, e_3, hw⟩ := hw
  obtain ⟨h_4, eh_4⟩ : ∃ z9 : AH, z9 = va_up h b0 (some (.inr (18, fs_1.set 0 (.int (((nI 100) * x1) + x2))))) := ⟨_, rfl⟩
  replace hw := hw h_4 eh_4
  refine v_putF in_X18 (ci := 18) rfl 0 (Nat.le_of_ble_eq_true rfl) tyX18 tyX18_ok nmX18 q1040 rfl rfl rfl rfl rfl rfl rfl dX17_init_11 e_2 e_3 ?_
  rw [← eh_4]
  exact v_vret dX17_init_14 rfl ⟨rfl, hw⟩
theorem met_X17_init_X18 {post : (AH) → Prop}   {b0 : Nat} {x1 : Int32} {x2 : Int32} {h : AH}  (hw : w_X17_init_X18 post  b0 x1 x2 h) : Mt l E yX17_init (ws_ yX17_init cX17_init 3 none) r_X17_init_X18 [va_rf (some b0), .int x1, .int x2] h (vpv (fun (h' : AH) => post h')) := v_entry (by decide +kernel) (Nat.le_of_ble_eq_true rfl) rfl (fun _ => e_X17_init_X18 hw)
/-! X17_from_X18 -/
abbrev r_X17_from_X18 : Room := { frames := 0, cells := 0, slots := 0, locals := 0 }
theorem n_X17_from_X18 : vdn yX17_from 0 := ⟨by decide +kernel, by decide +kernel, by decide +kernel⟩
def w_X17_from_X18 (post : (Int32) → Prop) (b0 : Nat) (h : AH) : Prop :=
 (∃ (fs_1 : List Value) (z_4 : Int32), h b0 = some (.inr (18, fs_1)) ∧ fs_1[0]? = some (.int z_4) ∧ (post z_4))
theorem e_X17_from_X18 {post : (Int32) → Prop}   {b0 : Nat} {h : AH}  (hw : w_X17_from_X18 post  b0 h) : VV l E X cX17_from RX17 "from" 1 r_X17_from_X18 (some .int) (vpi (fun (r : Int32) (h' : AH) => h' = h ∧ post r)) h 0 0 0 [(0, va_rf (some b0))] [] := by
  refine v_aload_n (q := 0) dX17_from_0 rfl rfl ?_
  obtain ⟨fs_1, z_4, e_2, e_3, hw⟩ := hw
  refine v_get in_X18 (ci := 18) rfl 0 (Nat.le_of_ble_eq_true rfl) q1040 rfl dX17_from_1 e_2 e_3 ?_
  exact v_iret dX17_from_4 rfl ⟨_, rfl, rfl, hw⟩
theorem met_X17_from_X18 {post : (Int32) → Prop}   {b0 : Nat} {h : AH}  (hw : w_X17_from_X18 post  b0 h) : Mt l E yX17_from (ws_ yX17_from cX17_from 1 (some .int)) r_X17_from_X18 [va_rf (some b0)] h (vpi (fun (r : Int32) (h' : AH) => h' = h ∧ post r)) := v_entry (by decide +kernel) (Nat.le_of_ble_eq_true rfl) rfl (fun _ => e_X17_from_X18 hw)
/-! X17_init_X19 -/
abbrev r_X17_init_X19 : Room := { frames := 1, cells := 0, slots := 0, locals := 20 }
theorem n_X17_init_X19 : vdn yX17_init 2 := ⟨by decide +kernel, by decide +kernel, by decide +kernel⟩
def w_X17_init_X19 (post : (AH) → Prop) (b0 : Nat) (x1 : Int32) (x2 : Int32) (h : AH) : Prop :=
 (∃ fs_1 : List Value, h b0 = some (.inr (19, fs_1)) ∧ 0 < fs_1.length ∧ ∀ h_4 : AH, h_4 = va_up h b0 (some (.inr (19, fs_1.set 0 (.int (((nI 100) * x1) + x2))))) → (post h_4))
theorem e_X17_init_X19 {post : (AH) → Prop}   {b0 : Nat} {x1 : Int32} {x2 : Int32} {h : AH}  (hw : w_X17_init_X19 post  b0 x1 x2 h) : VV l E X cX17_init RX17 "<init>" 3 r_X17_init_X19 none (vpv (fun (h' : AH) => post h')) h 0 0 0 [(0, va_rf (some b0)), (1, .int x1), (2, .int x2)] [] := by
  refine v_aload_n (q := 0) dX17_init_0 rfl rfl ?_
  refine v_objInit q1039 q154 q155 (Nat.zero_le _) (Nat.le_of_ble_eq_true rfl) (Nat.le_of_ble_eq_true rfl) dX17_init_1 ?_
  refine v_aload_n (q := 0) dX17_init_4 rfl rfl ?_
  refine v_bipush dX17_init_5 bp_100 ?_
  refine v_iload_n (q := 1) dX17_init_7 rfl rfl ?_
  refine v_imul dX17_init_8 ?_
  refine v_iload_n (q := 2) dX17_init_9 rfl rfl ?_
  refine v_iadd dX17_init_10 ?_
  obtain ⟨fs_1, e_2, e_3, hw⟩ := hw
  obtain ⟨h_4, eh_4⟩ : ∃ z9 : AH, z9 = va_up h b0 (some (.inr (19, fs_1.set 0 (.int (((nI 100) * x1) + x2))))) := ⟨_, rfl⟩
  replace hw := hw h_4 eh_4
  refine v_putF in_X19 (ci := 19) rfl 0 (Nat.le_of_ble_eq_true rfl) tyX19 tyX19_ok nmX19 q1040 rfl rfl rfl rfl rfl rfl rfl dX17_init_11 e_2 e_3 ?_
  rw [← eh_4]
  exact v_vret dX17_init_14 rfl ⟨rfl, hw⟩
theorem met_X17_init_X19 {post : (AH) → Prop}   {b0 : Nat} {x1 : Int32} {x2 : Int32} {h : AH}  (hw : w_X17_init_X19 post  b0 x1 x2 h) : Mt l E yX17_init (ws_ yX17_init cX17_init 3 none) r_X17_init_X19 [va_rf (some b0), .int x1, .int x2] h (vpv (fun (h' : AH) => post h')) := v_entry (by decide +kernel) (Nat.le_of_ble_eq_true rfl) rfl (fun _ => e_X17_init_X19 hw)
/-! X17_from_X19 -/
abbrev r_X17_from_X19 : Room := { frames := 0, cells := 0, slots := 0, locals := 0 }
theorem n_X17_from_X19 : vdn yX17_from 0 := ⟨by decide +kernel, by decide +kernel, by decide +kernel⟩
def w_X17_from_X19 (post : (Int32) → Prop) (b0 : Nat) (h : AH) : Prop :=
 (∃ (fs_1 : List Value) (z_4 : Int32), h b0 = some (.inr (19, fs_1)) ∧ fs_1[0]? = some (.int z_4) ∧ (post z_4))
theorem e_X17_from_X19 {post : (Int32) → Prop}   {b0 : Nat} {h : AH}  (hw : w_X17_from_X19 post  b0 h) : VV l E X cX17_from RX17 "from" 1 r_X17_from_X19 (some .int) (vpi (fun (r : Int32) (h' : AH) => h' = h ∧ post r)) h 0 0 0 [(0, va_rf (some b0))] [] := by
  refine v_aload_n (q := 0) dX17_from_0 rfl rfl ?_
  obtain ⟨fs_1, z_4, e_2, e_3, hw⟩ := hw
  refine v_get in_X19 (ci := 19) rfl 0 (Nat.le_of_ble_eq_true rfl) q1040 rfl dX17_from_1 e_2 e_3 ?_
  exact v_iret dX17_from_4 rfl ⟨_, rfl, rfl, hw⟩
theorem met_X17_from_X19 {post : (Int32) → Prop}   {b0 : Nat} {h : AH}  (hw : w_X17_from_X19 post  b0 h) : Mt l E yX17_from (ws_ yX17_from cX17_from 1 (some .int)) r_X17_from_X19 [va_rf (some b0)] h (vpi (fun (r : Int32) (h' : AH) => h' = h ∧ post r)) := v_entry (by decide +kernel) (Nat.le_of_ble_eq_true rfl) rfl (fun _ => e_X17_from_X19 hw)
/-! X17_init_X20 -/
abbrev r_X17_init_X20 : Room := { frames := 1, cells := 0, slots := 0, locals := 20 }
theorem n_X17_init_X20 : vdn yX17_init 2 := ⟨by decide +kernel, by decide +kernel, by decide +kernel⟩
def w_X17_init_X20 (post : (AH) → Prop) (b0 : Nat) (x1 : Int32) (x2 : Int32) (h : AH) : Prop :=
 (∃ fs_1 : List Value, h b0 = some (.inr (20, fs_1)) ∧ 0 < fs_1.length ∧ ∀ h_4 : AH, h_4 = va_up h b0 (some (.inr (20, fs_1.set 0 (.int (((nI 100) * x1) + x2))))) → (post h_4))
theorem e_X17_init_X20 {post : (AH) → Prop}   {b0 : Nat} {x1 : Int32} {x2 : Int32} {h : AH}  (hw : w_X17_init_X20 post  b0 x1 x2 h) : VV l E X cX17_init RX17 "<init>" 3 r_X17_init_X20 none (vpv (fun (h' : AH) => post h')) h 0 0 0 [(0, va_rf (some b0)), (1, .int x1), (2, .int x2)] [] := by
  refine v_aload_n (q := 0) dX17_init_0 rfl rfl ?_
  refine v_objInit q1039 q154 q155 (Nat.zero_le _) (Nat.le_of_ble_eq_true rfl) (Nat.le_of_ble_eq_true rfl) dX17_init_1 ?_
  refine v_aload_n (q := 0) dX17_init_4 rfl rfl ?_
  refine v_bipush dX17_init_5 bp_100 ?_
  refine v_iload_n (q := 1) dX17_init_7 rfl rfl ?_
  refine v_imul dX17_init_8 ?_
  refine v_iload_n (q := 2) dX17_init_9 rfl rfl ?_
  refine v_iadd dX17_init_10 ?_
  obtain ⟨fs_1, e_2, e_3, hw⟩ := hw
  obtain ⟨h_4, eh_4⟩ : ∃ z9 : AH, z9 = va_up h b0 (some (.inr (20, fs_1.set 0 (.int (((nI 100) * x1) + x2))))) := ⟨_, rfl⟩
  replace hw := hw h_4 eh_4
  refine v_putF in_X20 (ci := 20) rfl 0 (Nat.le_of_ble_eq_true rfl) tyX20 tyX20_ok nmX20 q1040 rfl rfl rfl rfl rfl rfl rfl dX17_init_11 e_2 e_3 ?_
  rw [← eh_4]
  exact v_vret dX17_init_14 rfl ⟨rfl, hw⟩
theorem met_X17_init_X20 {post : (AH) → Prop}   {b0 : Nat} {x1 : Int32} {x2 : Int32} {h : AH}  (hw : w_X17_init_X20 post  b0 x1 x2 h) : Mt l E yX17_init (ws_ yX17_init cX17_init 3 none) r_X17_init_X20 [va_rf (some b0), .int x1, .int x2] h (vpv (fun (h' : AH) => post h')) := v_entry (by decide +kernel) (Nat.le_of_ble_eq_true rfl) rfl (fun _ => e_X17_init_X20 hw)
/-! X17_from_X20 -/
abbrev r_X17_from_X20 : Room := { frames := 0, cells := 0, slots := 0, locals := 0 }
theorem n_X17_from_X20 : vdn yX17_from 0 := ⟨by decide +kernel, by decide +kernel, by decide +kernel⟩
def w_X17_from_X20 (post : (Int32) → Prop) (b0 : Nat) (h : AH) : Prop :=
 (∃ (fs_1 : List Value) (z_4 : Int32), h b0 = some (.inr (20, fs_1)) ∧ fs_1[0]? = some (.int z_4) ∧ (post z_4))
theorem e_X17_from_X20 {post : (Int32) → Prop}   {b0 : Nat} {h : AH}  (hw : w_X17_from_X20 post  b0 h) : VV l E X cX17_from RX17 "from" 1 r_X17_from_X20 (some .int) (vpi (fun (r : Int32) (h' : AH) => h' = h ∧ post r)) h 0 0 0 [(0, va_rf (some b0))] [] := by
  refine v_aload_n (q := 0) dX17_from_0 rfl rfl ?_
  obtain ⟨fs_1, z_4, e_2, e_3, hw⟩ := hw
  refine v_get in_X20 (ci := 20) rfl 0 (Nat.le_of_ble_eq_true rfl) q1040 rfl dX17_from_1 e_2 e_3 ?_
  exact v_iret dX17_from_4 rfl ⟨_, rfl, rfl, hw⟩
theorem met_X17_from_X20 {post : (Int32) → Prop}   {b0 : Nat} {h : AH}  (hw : w_X17_from_X20 post  b0 h) : Mt l E yX17_from (ws_ yX17_from cX17_from 1 (some .int)) r_X17_from_X20 [va_rf (some b0)] h (vpi (fun (r : Int32) (h' : AH) => h' = h ∧ post r)) := v_entry (by decide +kernel) (Nat.le_of_ble_eq_true rfl) rfl (fun _ => e_X17_from_X20 hw)
/-! X17_init_X21 -/
abbrev r_X17_init_X21 : Room := { frames := 1, cells := 0, slots := 0, locals := 20 }
theorem n_X17_init_X21 : vdn yX17_init 2 := ⟨by decide +kernel, by decide +kernel, by decide +kernel⟩
def w_X17_init_X21 (post : (AH) → Prop) (b0 : Nat) (x1 : Int32) (x2 : Int32) (h : AH) : Prop :=
 (∃ fs_1 : List Value, h b0 = some (.inr (21, fs_1)) ∧ 0 < fs_1.length ∧ ∀ h_4 : AH, h_4 = va_up h b0 (some (.inr (21, fs_1.set 0 (.int (((nI 100) * x1) + x2))))) → (post h_4))
theorem e_X17_init_X21 {post : (AH) → Prop}   {b0 : Nat} {x1 : Int32} {x2 : Int32} {h : AH}  (hw : w_X17_init_X21 post  b0 x1 x2 h) : VV l E X cX17_init RX17 "<init>" 3 r_X17_init_X21 none (vpv (fun (h' : AH) => post h')) h 0 0 0 [(0, va_rf (some b0)), (1, .int x1), (2, .int x2)] [] := by
  refine v_aload_n (q := 0) dX17_init_0 rfl rfl ?_
  refine v_objInit q1039 q154 q155 (Nat.zero_le _) (Nat.le_of_ble_eq_true rfl) (Nat.le_of_ble_eq_true rfl) dX17_init_1 ?_
  refine v_aload_n (q := 0) dX17_init_4 rfl rfl ?_
  refine v_bipush dX17_init_5 bp_100 ?_
  refine v_iload_n (q := 1) dX17_init_7 rfl rfl ?_
  refine v_imul dX17_init_8 ?_
  refine v_iload_n (q := 2) dX17_init_9 rfl rfl ?_
  refine v_iadd dX17_init_10 ?_
  obtain ⟨fs_1, e_2, e_3, hw⟩ := hw
  obtain ⟨h_4, eh_4⟩ : ∃ z9 : AH, z9 = va_up h b0 (some (.inr (21, fs_1.set 0 (.int (((nI 100) * x1) + x2))))) := ⟨_, rfl⟩
  replace hw := hw h_4 eh_4
  refine v_putF in_X21 (ci := 21) rfl 0 (Nat.le_of_ble_eq_true rfl) tyX21 tyX21_ok nmX21 q1040 rfl rfl rfl rfl rfl rfl rfl dX17_init_11 e_2 e_3 ?_
  rw [← eh_4]
  exact v_vret dX17_init_14 rfl ⟨rfl, hw⟩
theorem met_X17_init_X21 {post : (AH) → Prop}   {b0 : Nat} {x1 : Int32} {x2 : Int32} {h : AH}  (hw : w_X17_init_X21 post  b0 x1 x2 h) : Mt l E yX17_init (ws_ yX17_init cX17_init 3 none) r_X17_init_X21 [va_rf (some b0), .int x1, .int x2] h (vpv (fun (h' : AH) => post h')) := v_entry (by decide +kernel) (Nat.le_of_ble_eq_true rfl) rfl (fun _ => e_X17_init_X21 hw)
/-! X17_from_X21 -/
abbrev r_X17_from_X21 : Room := { frames := 0, cells := 0, slots := 0, locals := 0 }
theorem n_X17_from_X21 : vdn yX17_from 0 := ⟨by decide +kernel, by decide +kernel, by decide +kernel⟩
def w_X17_from_X21 (post : (Int32) → Prop) (b0 : Nat) (h : AH) : Prop :=
 (∃ (fs_1 : List Value) (z_4 : Int32), h b0 = some (.inr (21, fs_1)) ∧ fs_1[0]? = some (.int z_4) ∧ (post z_4))
theorem e_X17_from_X21 {post : (Int32) → Prop}   {b0 : Nat} {h : AH}  (hw : w_X17_from_X21 post  b0 h) : VV l E X cX17_from RX17 "from" 1 r_X17_from_X21 (some .int) (vpi (fun (r : Int32) (h' : AH) => h' = h ∧ post r)) h 0 0 0 [(0, va_rf (some b0))] [] := by
  refine v_aload_n (q := 0) dX17_from_0 rfl rfl ?_
  obtain ⟨fs_1, z_4, e_2, e_3, hw⟩ := hw
  refine v_get in_X21 (ci := 21) rfl 0 (Nat.le_of_ble_eq_true rfl) q1040 rfl dX17_from_1 e_2 e_3 ?_
  exact v_iret dX17_from_4 rfl ⟨_, rfl, rfl, hw⟩
theorem met_X17_from_X21 {post : (Int32) → Prop}   {b0 : Nat} {h : AH}  (hw : w_X17_from_X21 post  b0 h) : Mt l E yX17_from (ws_ yX17_from cX17_from 1 (some .int)) r_X17_from_X21 [va_rf (some b0)] h (vpi (fun (r : Int32) (h' : AH) => h' = h ∧ post r)) := v_entry (by decide +kernel) (Nat.le_of_ble_eq_true rfl) rfl (fun _ => e_X17_from_X21 hw)
/-! X18_init_X19 -/
abbrev r_X18_init_X19 : Room := { frames := 2, cells := 0, slots := 0, locals := 42 }
theorem n_X18_init_X19 : vdn yX18_init 2 := ⟨by decide +kernel, by decide +kernel, by decide +kernel⟩
def w_X18_init_X19 (post : (AH) → Prop) (b0 : Nat) (x1 : Int32) (x2 : Int32) (h : AH) : Prop :=
 (w_X17_init_X19 (fun (h_1 : AH) => (post h_1)) b0 x1 x2 h)
theorem e_X18_init_X19 {post : (AH) → Prop}   {b0 : Nat} {x1 : Int32} {x2 : Int32} {h : AH}  (hw : w_X18_init_X19 post  b0 x1 x2 h) : VV l E X cX18_init RX18 "<init>" 3 r_X18_init_X19 none (vpv (fun (h' : AH) => post h')) h 0 0 0 [(0, va_rf (some b0)), (1, .int x1), (2, .int x2)] [] := by
  refine v_aload_n (q := 0) dX18_init_0 rfl rfl ?_
  refine v_iload_n (q := 1) dX18_init_1 rfl rfl ?_
  refine v_iload_n (q := 2) dX18_init_2 rfl rfl ?_
  refine v_callI q1036 q1037 q133 q1038 rfl n_X17_init_X19 ⟨Nat.le_of_ble_eq_true rfl, Nat.le_of_ble_eq_true rfl⟩ [.int x1, .int x2] [] (met_X17_init_X19 hw) rfl (Nat.zero_le _) ⟨Nat.le_refl _, Nat.le_refl _⟩ dX18_init_3 rfl (v_kv (fun h_1 hv => ?_))
  clear hw
  have hw := hv
  clear hv
  exact v_vret dX18_init_6 rfl ⟨rfl, hw⟩
theorem met_X18_init_X19 {post : (AH) → Prop}   {b0 : Nat} {x1 : Int32} {x2 : Int32} {h : AH}  (hw : w_X18_init_X19 post  b0 x1 x2 h) : Mt l E yX18_init (ws_ yX18_init cX18_init 3 none) r_X18_init_X19 [va_rf (some b0), .int x1, .int x2] h (vpv (fun (h' : AH) => post h')) := v_entry (by decide +kernel) (Nat.le_of_ble_eq_true rfl) rfl (fun _ => e_X18_init_X19 hw)
/-! X18_init_X20 -/
abbrev r_X18_init_X20 : Room := { frames := 2, cells := 0, slots := 0, locals := 42 }
theorem n_X18_init_X20 : vdn yX18_init 2 := ⟨by decide +kernel, by decide +kernel, by decide +kernel⟩
def w_X18_init_X20 (post : (AH) → Prop) (b0 : Nat) (x1 : Int32) (x2 : Int32) (h : AH) : Prop :=
 (w_X17_init_X20 (fun (h_1 : AH) => (post h_1)) b0 x1 x2 h)
theorem e_X18_init_X20 {post : (AH) → Prop}   {b0 : Nat} {x1 : Int32} {x2 : Int32} {h : AH}  (hw : w_X18_init_X20 post  b0 x1 x2 h) : VV l E X cX18_init RX18 "<init>" 3 r_X18_init_X20 none (vpv (fun (h' : AH) => post h')) h 0 0 0 [(0, va_rf (some b0)), (1, .int x1), (2, .int x2)] [] := by
  refine v_aload_n (q := 0) dX18_init_0 rfl rfl ?_
  refine v_iload_n (q := 1) dX18_init_1 rfl rfl ?_
  refine v_iload_n (q := 2) dX18_init_2 rfl rfl ?_
  refine v_callI q1036 q1037 q133 q1038 rfl n_X17_init_X20 ⟨Nat.le_of_ble_eq_true rfl, Nat.le_of_ble_eq_true rfl⟩ [.int x1, .int x2] [] (met_X17_init_X20 hw) rfl (Nat.zero_le _) ⟨Nat.le_refl _, Nat.le_refl _⟩ dX18_init_3 rfl (v_kv (fun h_1 hv => ?_))
  clear hw
  have hw := hv
  clear hv
  exact v_vret dX18_init_6 rfl ⟨rfl, hw⟩
theorem met_X18_init_X20 {post : (AH) → Prop}   {b0 : Nat} {x1 : Int32} {x2 : Int32} {h : AH}  (hw : w_X18_init_X20 post  b0 x1 x2 h) : Mt l E yX18_init (ws_ yX18_init cX18_init 3 none) r_X18_init_X20 [va_rf (some b0), .int x1, .int x2] h (vpv (fun (h' : AH) => post h')) := v_entry (by decide +kernel) (Nat.le_of_ble_eq_true rfl) rfl (fun _ => e_X18_init_X20 hw)
end WALK
