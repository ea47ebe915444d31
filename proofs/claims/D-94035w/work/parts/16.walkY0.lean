set_option maxRecDepth 100000
section WALK
variable {l : Launch} {E : VE} {X : VX} {b : Nat → Nat}
/-! X11_done -/
abbrev r_X11_done : Room := { frames := 205, cells := 2, slots := 10, locals := 8200 }
theorem n_X11_done : vdn yX11_done 2 := ⟨by decide +kernel, by decide +kernel, by decide +kernel⟩
def w_X11_done_204 (post : (Option Nat) → (AH) → Prop) (b0 : Nat) (x1 : Option Nat) (x2 : Int32) : Nat → (Option Nat) → (Int32) → (AH) → (Nat) → (Nat) → Prop
 | 0, _, _, _, _, _ => False
 | n0 + 1, x5, x6, h, k, n =>
 (∃ a_1 : Nat, x1 = some a_1 ∧ (∃ (fs_2 : List Value) (z_5 : Int32), h a_1 = some (.inr (9, fs_2)) ∧ fs_2[1]? = some (.int z_5) ∧ ((z_5 ≤ x6 → (post x5 h)) ∧ (¬ z_5 ≤ x6 → (∃ (fs_10 : List Value) (r_13 : Option Nat), h a_1 = some (.inr (9, fs_10)) ∧ fs_10[0]? = some (va_rf r_13) ∧ (∃ a_14 : Nat, r_13 = some a_14 ∧ (∃ (N_15 : Nat) (g_16 : Nat → Int32), h a_14 = some (.inl (0, N_15, .inl g_16)) ∧ vp_in x6 N_15 ∧ (∃ a_19 : Nat, x5 = some a_19 ∧ (∃ fs_22 : List Value, h a_19 = some (.inr (9, fs_22)) ∧ (w_X8_adds (fun (h_20 : AH) => (∀ z_21 : Int32, z_21 = x6 + (nI 1) → (w_X11_done_204 post b0 x1 x2 n0 (some a_19) z_21 h_20 k n))) a_19 (g_16 (x6).toNatClampNeg) h))))))))))
def w_X11_done_159 (post : (Option Nat) → (AH) → Prop) (b0 : Nat) (x1 : Option Nat) (x2 : Int32) : Nat → (Int32) → (Option Nat) → (Int32) → (AH) → (Nat) → (Nat) → Prop
 | 0, _, _, _, _, _, _ => False
 | n0 + 1, x4, x5, x6, h, k, n =>
 (∃ (fs_24 : List Value) (r_27 : Option Nat), h b0 = some (.inr (12, fs_24)) ∧ fs_24[1]? = some (va_rf r_27) ∧ (∃ a_28 : Nat, r_27 = some a_28 ∧ (∃ (fs_29 : List Value) (z_32 : Int32), h a_28 = some (.inr (9, fs_29)) ∧ fs_29[1]? = some (.int z_32) ∧ ((z_32 ≤ x6 → (∃ (fs_37 : List Value) (r_40 : Option Nat), h b0 = some (.inr (12, fs_37)) ∧ fs_37[0]? = some (va_rf r_40) ∧ (∃ a_41 : Nat, r_40 = some a_41 ∧ (∃ (fs_42 : List Value) (z_45 : Int32), h a_41 = some (.inr (9, fs_42)) ∧ fs_42[1]? = some (.int z_45) ∧ (∀ z_46 : Int32, z_46 = (x4 + z_45) → (∃ n1 : Nat, (w_X11_done_204 post b0 x1 x2 n1 x5 z_46 h k n))))))) ∧ (¬ z_32 ≤ x6 → (∃ (fs_48 : List Value) (r_51 : Option Nat), h b0 = some (.inr (12, fs_48)) ∧ fs_48[1]? = some (va_rf r_51) ∧ (∃ a_52 : Nat, r_51 = some a_52 ∧ (∃ (fs_53 : List Value) (r_56 : Option Nat), h a_52 = some (.inr (9, fs_53)) ∧ fs_53[0]? = some (va_rf r_56) ∧ (∃ a_57 : Nat, r_56 = some a_57 ∧ (∃ (N_58 : Nat) (g_59 : Nat → Int32), h a_57 = some (.inl (0, N_58, .inl g_59)) ∧ vp_in x6 N_58 ∧ (∃ a_62 : Nat, x5 = some a_62 ∧ (∃ fs_65 : List Value, h a_62 = some (.inr (9, fs_65)) ∧ (w_X8_adds (fun (h_63 : AH) => (∀ z_64 : Int32, z_64 = x6 + (nI 1) → (w_X11_done_159 post b0 x1 x2 n0 x4 (some a_62) z_64 h_63 k n))) a_62 (g_59 (x6).toNatClampNeg) h)))))))))))))
def w_X11_done_131 (post : (Option Nat) → (AH) → Prop) (b0 : Nat) (x1 : Option Nat) (x2 : Int32) : Nat → (Int32) → (Option Nat) → (Int32) → (AH) → (Nat) → (Nat) → Prop
 | 0, _, _, _, _, _, _ => False
 | n0 + 1, x4, x5, x6, h, k, n =>
 ((x4 ≤ x6 → (∃ n1 : Nat, (w_X11_done_159 post b0 x1 x2 n1 x4 x5 (nI 0) h k n))) ∧ (¬ x4 ≤ x6 → (∃ a_72 : Nat, x1 = some a_72 ∧ (∃ (fs_73 : List Value) (r_76 : Option Nat), h a_72 = some (.inr (9, fs_73)) ∧ fs_73[0]? = some (va_rf r_76) ∧ (∃ a_77 : Nat, r_76 = some a_77 ∧ (∃ (N_78 : Nat) (g_79 : Nat → Int32), h a_77 = some (.inl (0, N_78, .inl g_79)) ∧ vp_in x6 N_78 ∧ (∃ a_82 : Nat, x5 = some a_82 ∧ (∃ fs_85 : List Value, h a_82 = some (.inr (9, fs_85)) ∧ (w_X8_adds (fun (h_83 : AH) => (∀ z_84 : Int32, z_84 = x6 + (nI 1) → (w_X11_done_131 post b0 x1 x2 n0 x4 (some a_82) z_84 h_83 k n))) a_82 (g_79 (x6).toNatClampNeg) h)))))))))
def w_X11_done_100 (post : (Option Nat) → (AH) → Prop) (b0 : Nat) (x1 : Option Nat) (x2 : Int32) (x4 : Int32) (h : AH) (k : Nat) (n : Nat) : Prop :=
 (∃ (fs_87 : List Value) (r_90 : Option Nat), h b0 = some (.inr (12, fs_87)) ∧ fs_87[0]? = some (va_rf r_90) ∧ (∃ a_91 : Nat, r_90 = some a_91 ∧ (∃ (fs_92 : List Value) (z_95 : Int32), h a_91 = some (.inr (9, fs_92)) ∧ fs_92[1]? = some (.int z_95) ∧ (∃ a_96 : Nat, x1 = some a_96 ∧ (∃ (fs_97 : List Value) (z_100 : Int32), h a_96 = some (.inr (9, fs_97)) ∧ fs_97[1]? = some (.int z_100) ∧ (((x4 + z_95) ≤ z_100 → (k + 1 ≤ 2 ∧ n + 2 ≤ 10 ∧ ∀ a_105 : Nat, h a_105 = none → ∀ h_107 : AH, h_107 = va_up h a_105 (some (.inr (9, dfX8))) → ((k + 1) + 1 ≤ 2 ∧ (n + 2) + 8 ≤ 10 ∧ (w_X8_init (fun (h_112 : AH) => (∃ n1 : Nat, (w_X11_done_131 post b0 x1 x2 n1 x4 (some a_105) (nI 0) h_112 ((k + 1) + 1) ((n + 2) + 8)))) a_105 h_107)))) ∧ (¬ (x4 + z_95) ≤ z_100 → (post none h))))))))
def w_X11_done_67 (post : (Option Nat) → (AH) → Prop) (b0 : Nat) (x1 : Option Nat) (x2 : Int32) : Nat → (Int32) → (AH) → (Nat) → (Nat) → Prop
 | 0, _, _, _, _ => False
 | n0 + 1, x4, h, k, n =>
 (∃ (fs_116 : List Value) (r_119 : Option Nat), h b0 = some (.inr (12, fs_116)) ∧ fs_116[0]? = some (va_rf r_119) ∧ (∃ a_120 : Nat, r_119 = some a_120 ∧ (∃ (fs_121 : List Value) (z_124 : Int32), h a_120 = some (.inr (9, fs_121)) ∧ fs_121[1]? = some (.int z_124) ∧ (∃ a_125 : Nat, x1 = some a_125 ∧ (∃ (fs_126 : List Value) (z_129 : Int32), h a_125 = some (.inr (9, fs_126)) ∧ fs_126[1]? = some (.int z_129) ∧ ((z_129 < (x4 + z_124) → (w_X11_done_100 post b0 x1 x2 x4 h k n)) ∧ (¬ z_129 < (x4 + z_124) → (∃ fs_140 : List Value, h b0 = some (.inr (12, fs_140)) ∧ (w_X11_standsAt (fun (z_134 : Int32) => ((¬ z_134 = 0 → (w_X11_done_100 post b0 x1 x2 x4 h k n)) ∧ (z_134 = 0 → (∀ z_139 : Int32, z_139 = x4 + (nI 1) → (w_X11_done_67 post b0 x1 x2 n0 z_139 h k n))))) b0 (some a_125) x4 h)))))))))
def w_X11_done_64 (post : (Option Nat) → (AH) → Prop) (b0 : Nat) (x1 : Option Nat) (x2 : Int32) (h : AH) (k : Nat) (n : Nat) : Prop :=
 (∃ n1 : Nat, (w_X11_done_67 post b0 x1 x2 n1 (nI 0) h k n))
def w_X11_done (post : (Option Nat) → (AH) → Prop) (b0 : Nat) (x1 : Option Nat) (x2 : Int32) (h : AH) : Prop :=
 (∃ a_143 : Nat, x1 = some a_143 ∧ (∃ (fs_144 : List Value) (z_147 : Int32), h a_143 = some (.inr (9, fs_144)) ∧ fs_144[1]? = some (.int z_147) ∧ (∃ (fs_148 : List Value) (r_151 : Option Nat), h b0 = some (.inr (12, fs_148)) ∧ fs_148[0]? = some (va_rf r_151) ∧ (∃ a_152 : Nat, r_151 = some a_152 ∧ (∃ (fs_153 : List Value) (z_156 : Int32), h a_152 = some (.inr (9, fs_153)) ∧ fs_153[1]? = some (.int z_156) ∧ (∃ (fs_157 : List Value) (r_160 : Option Nat), h b0 = some (.inr (12, fs_157)) ∧ fs_157[1]? = some (va_rf r_160) ∧ (∃ a_161 : Nat, r_160 = some a_161 ∧ (∃ (fs_162 : List Value) (z_165 : Int32), h a_161 = some (.inr (9, fs_162)) ∧ fs_162[1]? = some (.int z_165) ∧ (∀ z_166 : Int32, z_166 = ((z_147 - z_156) + z_165) → (((nI 8) < z_166 → (post none h)) ∧ (¬ (nI 8) < z_166 → (∃ (fs_171 : List Value) (r_174 : Option Nat), h b0 = some (.inr (12, fs_171)) ∧ fs_171[0]? = some (va_rf r_174) ∧ (∃ (fs_175 : List Value) (r_178 : Option Nat), h b0 = some (.inr (12, fs_175)) ∧ fs_175[1]? = some (va_rf r_178) ∧ (∃ a_179 : Nat, r_174 = some a_179 ∧ (∃ fs_204 : List Value, h a_179 = some (.inr (9, fs_204)) ∧ (w_X8_isSame (fun (z_180 : Int32) => ((¬ z_180 = 0 → (post none h)) ∧ (z_180 = 0 → (∃ (fs_185 : List Value) (r_188 : Option Nat), h b0 = some (.inr (12, fs_185)) ∧ fs_185[2]? = some (va_rf r_188) ∧ ((r_188 = none → (w_X11_done_64 post b0 x1 x2 h 0 0)) ∧ (∀ a_190 : Nat, r_188 = some a_190 → (∃ (fs_194 : List Value) (r_197 : Option Nat), h b0 = some (.inr (12, fs_194)) ∧ fs_194[2]? = some (va_rf r_197) ∧ (∃ a_198 : Nat, r_197 = some a_198 ∧ (w_Tst 200 (fun (z_199 : Int32) => ((¬ z_199 = 0 → (w_X11_done_64 post b0 x1 x2 h 0 0)) ∧ (z_199 = 0 → (post none h)))) a_198 (some a_143) x2 h))))))))) a_179 r_178 h))))))))))))))))
theorem b_X11_done_204 {post : (Option Nat) → (AH) → Prop}   {b0 : Nat} {x1 : Option Nat} {x2 : Int32}    : ∀ (n0 : Nat) (x5 : Option Nat) (x6 : Int32) (h : AH) (k : Nat) (n : Nat), w_X11_done_204 post b0 x1 x2 n0 x5 x6 h k n → VV l E X cX11_done RX11 "done" 7 r_X11_done (some (.object "NobodysBard$Phrase")) (vpq (fun (r : Option Nat) (h' : AH) => post r h')) h k n 204 [(0, va_rf (some b0)), (1, va_rf x1), (2, .int x2), (5, va_rf x5), (6, .int x6)] [] := by
  intro n0
  induction n0 with
  | zero =>
    intro x5 x6 h k n hw
    exact hw.elim
  | succ n0 ih =>
    intro x5 x6 h k n hw
    refine v_iload (q := 4) dX11_done_204 rfl ?_
    refine v_aload_n (q := 1) dX11_done_206 rfl rfl ?_
    obtain ⟨a_1, ea_1, hw⟩ := hw
    subst ea_1
    obtain ⟨fs_2, z_5, e_3, e_4, hw⟩ := hw
    refine v_getN in_X8 (ci := 9) rfl 1 (Nat.le_of_ble_eq_true rfl) q550 rfl dX11_done_207 e_3 e_4 ?_
    obtain ⟨hw_8, hw_9⟩ := hw
    refine v_icmp_ge (tgt := 231) dX11_done_210 (by decide) (fun c_6 => ?_) (fun c_7 => ?_)
    · have hw := hw_8 c_6
      refine v_aload (q := 3) dX11_done_231 rfl ?_
      exact v_aret dX11_done_233 rfl (Or.inl ⟨_, rfl⟩) ⟨_, rfl, hw⟩
    · have hw := hw_9 c_7
      refine v_aload (q := 3) dX11_done_213 rfl ?_
      refine v_aload_n (q := 1) dX11_done_215 rfl rfl ?_
      obtain ⟨fs_10, r_13, e_11, e_12, hw⟩ := hw
      refine v_getN in_X8 (ci := 9) rfl 0 (Nat.le_of_ble_eq_true rfl) q546 rfl dX11_done_216 e_11 e_12 ?_
      refine v_iload (q := 4) dX11_done_219 rfl ?_
      obtain ⟨a_14, ea_14, hw⟩ := hw
      subst ea_14
      obtain ⟨N_15, g_16, e_17, hi_18, hw⟩ := hw
      refine v_iald dX11_done_221 e_17 hi_18 ?_
      obtain ⟨a_19, ea_19, hw⟩ := hw
      subst ea_19
      obtain ⟨fs_22, e_23, hw⟩ := hw
      refine v_callV0 q970 q559 q560 q119 q561 (ci := 9) rfl e_23 n_X8_adds ⟨Nat.le_of_ble_eq_true rfl, Nat.le_of_ble_eq_true rfl⟩ [.int (g_16 (x6).toNatClampNeg)] [] (met_X8_adds hw) rfl (Nat.zero_le _) rfl rfl dX11_done_222 rfl (v_kv (fun h_20 hv => ?_))
      clear hw
      have hw := hv
      clear hv
      obtain ⟨z_21, e_21⟩ : ∃ z9 : Int32, z9 = x6 + (nI 1) := ⟨_, rfl⟩
      replace hw := hw z_21 e_21
      refine v_iinc (q := 4) (v := z_21) (lv1 := [(6, .int z_21), (0, va_rf (some b0)), (1, va_rf (some a_1)), (2, .int x2), (5, va_rf (some a_19))]) dX11_done_225 rfl (by rw [e_21, ic_1]) (Nat.le_of_ble_eq_true rfl) rfl ?_
      refine v_goto (tgt := 204) dX11_done_228 (by decide) ?_
      refine v_sub [1, 2, 3, 4, 0] rfl ?_
      exact ih (some a_19) z_21 h_20 k n hw
theorem b_X11_done_159 {post : (Option Nat) → (AH) → Prop}   {b0 : Nat} {x1 : Option Nat} {x2 : Int32}    : ∀ (n0 : Nat) (x4 : Int32) (x5 : Option Nat) (x6 : Int32) (h : AH) (k : Nat) (n : Nat), w_X11_done_159 post b0 x1 x2 n0 x4 x5 x6 h k n → VV l E X cX11_done RX11 "done" 7 r_X11_done (some (.object "NobodysBard$Phrase")) (vpq (fun (r : Option Nat) (h' : AH) => post r h')) h k n 159 [(0, va_rf (some b0)), (1, va_rf x1), (2, .int x2), (4, .int x4), (5, va_rf x5), (6, .int x6)] [] := by
  intro n0
  induction n0 with
  | zero =>
    intro x4 x5 x6 h k n hw
    exact hw.elim
  | succ n0 ih =>
    intro x4 x5 x6 h k n hw
    refine v_iload (q := 5) dX11_done_159 rfl ?_
    refine v_aload_n (q := 0) dX11_done_161 rfl rfl ?_
    obtain ⟨fs_24, r_27, e_25, e_26, hw⟩ := hw
    refine v_get in_X11 (ci := 12) rfl 1 (Nat.le_of_ble_eq_true rfl) q731 rfl dX11_done_162 e_25 e_26 ?_
    obtain ⟨a_28, ea_28, hw⟩ := hw
    subst ea_28
    obtain ⟨fs_29, z_32, e_30, e_31, hw⟩ := hw
    refine v_getN in_X8 (ci := 9) rfl 1 (Nat.le_of_ble_eq_true rfl) q550 rfl dX11_done_165 e_30 e_31 ?_
    obtain ⟨hw_35, hw_36⟩ := hw
    refine v_icmp_ge (tgt := 192) dX11_done_168 (by decide) (fun c_33 => ?_) (fun c_34 => ?_)
    · have hw := hw_35 c_33
      refine v_iload (q := 3) dX11_done_192 rfl ?_
      refine v_aload_n (q := 0) dX11_done_194 rfl rfl ?_
      obtain ⟨fs_37, r_40, e_38, e_39, hw⟩ := hw
      refine v_get in_X11 (ci := 12) rfl 0 (Nat.le_of_ble_eq_true rfl) q729 rfl dX11_done_195 e_38 e_39 ?_
      obtain ⟨a_41, ea_41, hw⟩ := hw
      subst ea_41
      obtain ⟨fs_42, z_45, e_43, e_44, hw⟩ := hw
      refine v_getN in_X8 (ci := 9) rfl 1 (Nat.le_of_ble_eq_true rfl) q550 rfl dX11_done_198 e_43 e_44 ?_
      refine v_iadd dX11_done_201 ?_
      refine v_topi (fun z_46 e_46 => ?_)
      replace hw := hw z_46 e_46
      refine v_istore (lv1 := [(6, .int z_46), (0, va_rf (some b0)), (1, va_rf x1), (2, .int x2), (4, .int x4), (5, va_rf x5)]) dX11_done_202 (Nat.le_of_ble_eq_true rfl) (by cases x5 <;> rfl) ?_
      obtain ⟨n_47, hw⟩ := hw
      refine v_sub [1, 2, 3, 5, 0] rfl ?_
      exact b_X11_done_204 n_47 x5 z_46 h k n hw
    · have hw := hw_36 c_34
      refine v_aload (q := 4) dX11_done_171 rfl ?_
      refine v_aload_n (q := 0) dX11_done_173 rfl rfl ?_
      obtain ⟨fs_48, r_51, e_49, e_50, hw⟩ := hw
      refine v_get in_X11 (ci := 12) rfl 1 (Nat.le_of_ble_eq_true rfl) q731 rfl dX11_done_174 e_49 e_50 ?_
      obtain ⟨a_52, ea_52, hw⟩ := hw
      subst ea_52
      obtain ⟨fs_53, r_56, e_54, e_55, hw⟩ := hw
      refine v_getN in_X8 (ci := 9) rfl 0 (Nat.le_of_ble_eq_true rfl) q546 rfl dX11_done_177 e_54 e_55 ?_
      refine v_iload (q := 5) dX11_done_180 rfl ?_
      obtain ⟨a_57, ea_57, hw⟩ := hw
      subst ea_57
      obtain ⟨N_58, g_59, e_60, hi_61, hw⟩ := hw
      refine v_iald dX11_done_182 e_60 hi_61 ?_
      obtain ⟨a_62, ea_62, hw⟩ := hw
      subst ea_62
      obtain ⟨fs_65, e_66, hw⟩ := hw
      refine v_callV0 q970 q559 q560 q119 q561 (ci := 9) rfl e_66 n_X8_adds ⟨Nat.le_of_ble_eq_true rfl, Nat.le_of_ble_eq_true rfl⟩ [.int (g_59 (x6).toNatClampNeg)] [] (met_X8_adds hw) rfl (Nat.zero_le _) rfl rfl dX11_done_183 rfl (v_kv (fun h_63 hv => ?_))
      clear hw
      have hw := hv
      clear hv
      obtain ⟨z_64, e_64⟩ : ∃ z9 : Int32, z9 = x6 + (nI 1) := ⟨_, rfl⟩
      replace hw := hw z_64 e_64
      refine v_iinc (q := 5) (v := z_64) (lv1 := [(6, .int z_64), (0, va_rf (some b0)), (1, va_rf x1), (2, .int x2), (4, .int x4), (5, va_rf (some a_62))]) dX11_done_186 rfl (by rw [e_64, ic_1]) (Nat.le_of_ble_eq_true rfl) rfl ?_
      refine v_goto (tgt := 159) dX11_done_189 (by decide) ?_
      refine v_sub [1, 2, 3, 4, 5, 0] rfl ?_
      exact ih x4 (some a_62) z_64 h_63 k n hw
theorem b_X11_done_131 {post : (Option Nat) → (AH) → Prop}   {b0 : Nat} {x1 : Option Nat} {x2 : Int32}    : ∀ (n0 : Nat) (x4 : Int32) (x5 : Option Nat) (x6 : Int32) (h : AH) (k : Nat) (n : Nat), w_X11_done_131 post b0 x1 x2 n0 x4 x5 x6 h k n → VV l E X cX11_done RX11 "done" 7 r_X11_done (some (.object "NobodysBard$Phrase")) (vpq (fun (r : Option Nat) (h' : AH) => post r h')) h k n 131 [(0, va_rf (some b0)), (1, va_rf x1), (2, .int x2), (4, .int x4), (5, va_rf x5), (6, .int x6)] [] := by
  intro n0
  induction n0 with
  | zero =>
    intro x4 x5 x6 h k n hw
    exact hw.elim
  | succ n0 ih =>
    intro x4 x5 x6 h k n hw
    refine v_iload (q := 5) dX11_done_131 rfl ?_
    refine v_iload (q := 3) dX11_done_133 rfl ?_
    obtain ⟨hw_69, hw_70⟩ := hw
    refine v_icmp_ge (tgt := 156) dX11_done_135 (by decide) (fun c_67 => ?_) (fun c_68 => ?_)
    · have hw := hw_69 c_67
      refine v_iconst dX11_done_156 ic_0 ?_
      refine v_istore (lv1 := [(6, .int (nI 0)), (0, va_rf (some b0)), (1, va_rf x1), (2, .int x2), (4, .int x4), (5, va_rf x5)]) dX11_done_157 (Nat.le_of_ble_eq_true rfl) (by cases x5 <;> rfl) ?_
      obtain ⟨n_71, hw⟩ := hw
      refine v_sub [1, 2, 3, 4, 5, 0] rfl ?_
      exact b_X11_done_159 n_71 x4 x5 (nI 0) h k n hw
    · have hw := hw_70 c_68
      refine v_aload (q := 4) dX11_done_138 rfl ?_
      refine v_aload_n (q := 1) dX11_done_140 rfl rfl ?_
      obtain ⟨a_72, ea_72, hw⟩ := hw
      subst ea_72
      obtain ⟨fs_73, r_76, e_74, e_75, hw⟩ := hw
      refine v_getN in_X8 (ci := 9) rfl 0 (Nat.le_of_ble_eq_true rfl) q546 rfl dX11_done_141 e_74 e_75 ?_
      refine v_iload (q := 5) dX11_done_144 rfl ?_
      obtain ⟨a_77, ea_77, hw⟩ := hw
      subst ea_77
      obtain ⟨N_78, g_79, e_80, hi_81, hw⟩ := hw
      refine v_iald dX11_done_146 e_80 hi_81 ?_
      obtain ⟨a_82, ea_82, hw⟩ := hw
      subst ea_82
      obtain ⟨fs_85, e_86, hw⟩ := hw
      refine v_callV0 q970 q559 q560 q119 q561 (ci := 9) rfl e_86 n_X8_adds ⟨Nat.le_of_ble_eq_true rfl, Nat.le_of_ble_eq_true rfl⟩ [.int (g_79 (x6).toNatClampNeg)] [] (met_X8_adds hw) rfl (Nat.zero_le _) rfl rfl dX11_done_147 rfl (v_kv (fun h_83 hv => ?_))
      clear hw
      have hw := hv
      clear hv
      obtain ⟨z_84, e_84⟩ : ∃ z9 : Int32, z9 = x6 + (nI 1) := ⟨_, rfl⟩
      replace hw := hw z_84 e_84
      refine v_iinc (q := 5) (v := z_84) (lv1 := [(6, .int z_84), (0, va_rf (some b0)), (1, va_rf (some a_72)), (2, .int x2), (4, .int x4), (5, va_rf (some a_82))]) dX11_done_150 rfl (by rw [e_84, ic_1]) (Nat.le_of_ble_eq_true rfl) rfl ?_
      refine v_goto (tgt := 131) dX11_done_153 (by decide) ?_
      refine v_sub [1, 2, 3, 4, 5, 0] rfl ?_
      exact ih x4 (some a_82) z_84 h_83 k n hw
theorem b_X11_done_100 {post : (Option Nat) → (AH) → Prop}   {b0 : Nat} {x1 : Option Nat} {x2 : Int32}    (x4 : Int32) (h : AH) (k : Nat) (n : Nat) (hw : w_X11_done_100 post b0 x1 x2 x4 h k n) : VV l E X cX11_done RX11 "done" 7 r_X11_done (some (.object "NobodysBard$Phrase")) (vpq (fun (r : Option Nat) (h' : AH) => post r h')) h k n 100 [(0, va_rf (some b0)), (1, va_rf x1), (2, .int x2), (4, .int x4)] [] := by
  refine v_iload (q := 3) dX11_done_100 rfl ?_
  refine v_aload_n (q := 0) dX11_done_102 rfl rfl ?_
  obtain ⟨fs_87, r_90, e_88, e_89, hw⟩ := hw
  refine v_get in_X11 (ci := 12) rfl 0 (Nat.le_of_ble_eq_true rfl) q729 rfl dX11_done_103 e_88 e_89 ?_
  obtain ⟨a_91, ea_91, hw⟩ := hw
  subst ea_91
  obtain ⟨fs_92, z_95, e_93, e_94, hw⟩ := hw
  refine v_getN in_X8 (ci := 9) rfl 1 (Nat.le_of_ble_eq_true rfl) q550 rfl dX11_done_106 e_93 e_94 ?_
  refine v_iadd dX11_done_109 ?_
  refine v_aload_n (q := 1) dX11_done_110 rfl rfl ?_
  obtain ⟨a_96, ea_96, hw⟩ := hw
  subst ea_96
  obtain ⟨fs_97, z_100, e_98, e_99, hw⟩ := hw
  refine v_getN in_X8 (ci := 9) rfl 1 (Nat.le_of_ble_eq_true rfl) q550 rfl dX11_done_111 e_98 e_99 ?_
  obtain ⟨hw_103, hw_104⟩ := hw
  refine v_icmp_le (tgt := 119) dX11_done_114 (by decide) (fun c_101 => ?_) (fun c_102 => ?_)
  · have hw := hw_103 c_101
    obtain ⟨e_108, e_109, hw⟩ := hw
    refine v_new in_X8 (ci := 9) rfl tyX8 tyX8_ok q727 q540 q119 dfX8_ok e_108 e_109 dX11_done_119 (fun a_105 e_106 => ?_)
    obtain ⟨h_107, eh_107⟩ : ∃ z9 : AH, z9 = va_up h a_105 (some (.inr (9, dfX8))) := ⟨_, rfl⟩
    replace hw := hw a_105 e_106 h_107 eh_107
    rw [← eh_107]
    refine v_dup dX11_done_122 (v_rf1 _) ?_
    obtain ⟨e_114, e_115, hw⟩ := hw
    refine v_callIN q728 q542 q119 q543 rfl n_X8_init ⟨Nat.le_of_ble_eq_true rfl, Nat.le_of_ble_eq_true rfl⟩ [] [va_rf (some a_105)] (met_X8_init hw) rfl (by simp only [List.map_cons, List.map_nil, List.sum_cons, List.sum_nil, v_rf1, v_cI, v_cJ]; decide) ⟨e_114, e_115⟩ dX11_done_123 rfl (v_kv (fun h_112 hv => ?_))
    clear hw
    have hw := hv
    clear hv
    refine v_astore (lv1 := [(5, va_rf (some a_105)), (0, va_rf (some b0)), (1, va_rf (some a_96)), (2, .int x2), (4, .int x4)]) dX11_done_126 (Nat.le_of_ble_eq_true rfl) rfl ?_
    refine v_iconst dX11_done_128 ic_0 ?_
    refine v_istore (lv1 := [(6, .int (nI 0)), (5, va_rf (some a_105)), (0, va_rf (some b0)), (1, va_rf (some a_96)), (2, .int x2), (4, .int x4)]) dX11_done_129 (Nat.le_of_ble_eq_true rfl) rfl ?_
    obtain ⟨n_113, hw⟩ := hw
    refine v_sub [2, 3, 4, 5, 1, 0] rfl ?_
    exact b_X11_done_131 n_113 x4 (some a_105) (nI 0) h_112 ((k + 1) + 1) ((n + 2) + 8) hw
  · have hw := hw_104 c_102
    refine v_null dX11_done_117 ?_
    exact v_aret dX11_done_118 rfl (Or.inl ⟨_, rfl⟩) ⟨_, rfl, hw⟩
theorem b_X11_done_67 {post : (Option Nat) → (AH) → Prop}   {b0 : Nat} {x1 : Option Nat} {x2 : Int32}    : ∀ (n0 : Nat) (x4 : Int32) (h : AH) (k : Nat) (n : Nat), w_X11_done_67 post b0 x1 x2 n0 x4 h k n → VV l E X cX11_done RX11 "done" 7 r_X11_done (some (.object "NobodysBard$Phrase")) (vpq (fun (r : Option Nat) (h' : AH) => post r h')) h k n 67 [(0, va_rf (some b0)), (1, va_rf x1), (2, .int x2), (4, .int x4)] [] := by
  intro n0
  induction n0 with
  | zero =>
    intro x4 h k n hw
    exact hw.elim
  | succ n0 ih =>
    intro x4 h k n hw
    refine v_iload (q := 3) dX11_done_67 rfl ?_
    refine v_aload_n (q := 0) dX11_done_69 rfl rfl ?_
    obtain ⟨fs_116, r_119, e_117, e_118, hw⟩ := hw
    refine v_get in_X11 (ci := 12) rfl 0 (Nat.le_of_ble_eq_true rfl) q729 rfl dX11_done_70 e_117 e_118 ?_
    obtain ⟨a_120, ea_120, hw⟩ := hw
    subst ea_120
    obtain ⟨fs_121, z_124, e_122, e_123, hw⟩ := hw
    refine v_getN in_X8 (ci := 9) rfl 1 (Nat.le_of_ble_eq_true rfl) q550 rfl dX11_done_73 e_122 e_123 ?_
    refine v_iadd dX11_done_76 ?_
    refine v_aload_n (q := 1) dX11_done_77 rfl rfl ?_
    obtain ⟨a_125, ea_125, hw⟩ := hw
    subst ea_125
    obtain ⟨fs_126, z_129, e_127, e_128, hw⟩ := hw
    refine v_getN in_X8 (ci := 9) rfl 1 (Nat.le_of_ble_eq_true rfl) q550 rfl dX11_done_78 e_127 e_128 ?_
    obtain ⟨hw_132, hw_133⟩ := hw
    refine v_icmp_gt (tgt := 100) dX11_done_81 (by decide) (fun c_130 => ?_) (fun c_131 => ?_)
    · have hw := hw_132 c_130
      refine v_sub [0, 1, 2, 3] rfl ?_
      exact b_X11_done_100 x4 h k n hw
    · have hw := hw_133 c_131
      refine v_aload_n (q := 0) dX11_done_84 rfl rfl ?_
      refine v_aload_n (q := 1) dX11_done_85 rfl rfl ?_
      refine v_iload (q := 3) dX11_done_86 rfl ?_
      obtain ⟨fs_140, e_141, hw⟩ := hw
      refine v_callV0 q966 q968 qs27 q124 q969 (ci := 12) rfl e_141 n_X11_standsAt ⟨Nat.le_of_ble_eq_true rfl, Nat.le_of_ble_eq_true rfl⟩ [va_rf (some a_125), .int x4] [] (met_X11_standsAt hw) rfl (Nat.zero_le _) rfl rfl dX11_done_88 rfl (v_ki (fun z_134 h1 hv => ?_))
      clear hw
      obtain ⟨e9, hw⟩ := hv
      refine v_heap e9 ?_
      clear e9
      obtain ⟨hw_137, hw_138⟩ := hw
      refine v_if_ne (tgt := 100) dX11_done_91 (by decide) (fun c_135 => ?_) (fun c_136 => ?_)
      · have hw := hw_137 c_135
        refine v_sub [0, 1, 2, 3] rfl ?_
        exact b_X11_done_100 x4 h k n hw
      · have hw := hw_138 c_136
        obtain ⟨z_139, e_139⟩ : ∃ z9 : Int32, z9 = x4 + (nI 1) := ⟨_, rfl⟩
        replace hw := hw z_139 e_139
        refine v_iinc (q := 3) (v := z_139) (lv1 := [(4, .int z_139), (0, va_rf (some b0)), (1, va_rf (some a_125)), (2, .int x2)]) dX11_done_94 rfl (by rw [e_139, ic_1]) (Nat.le_of_ble_eq_true rfl) rfl ?_
        refine v_goto (tgt := 67) dX11_done_97 (by decide) ?_
        refine v_sub [1, 2, 3, 0] rfl ?_
        exact ih z_139 h k n hw
theorem b_X11_done_64 {post : (Option Nat) → (AH) → Prop}   {b0 : Nat} {x1 : Option Nat} {x2 : Int32}    (h : AH) (k : Nat) (n : Nat) (hw : w_X11_done_64 post b0 x1 x2 h k n) : VV l E X cX11_done RX11 "done" 7 r_X11_done (some (.object "NobodysBard$Phrase")) (vpq (fun (r : Option Nat) (h' : AH) => post r h')) h k n 64 [(0, va_rf (some b0)), (1, va_rf x1), (2, .int x2)] [] := by
  refine v_iconst dX11_done_64 ic_0 ?_
  refine v_istore (lv1 := [(4, .int (nI 0)), (0, va_rf (some b0)), (1, va_rf x1), (2, .int x2)]) dX11_done_65 (Nat.le_of_ble_eq_true rfl) rfl ?_
  obtain ⟨n_142, hw⟩ := hw
  refine v_sub [1, 2, 3, 0] rfl ?_
  exact b_X11_done_67 n_142 (nI 0) h k n hw
theorem e_X11_done {post : (Option Nat) → (AH) → Prop}   {b0 : Nat} {x1 : Option Nat} {x2 : Int32} {h : AH}  (hw : w_X11_done post  b0 x1 x2 h) : VV l E X cX11_done RX11 "done" 7 r_X11_done (some (.object "NobodysBard$Phrase")) (vpq (fun (r : Option Nat) (h' : AH) => post r h')) h 0 0 0 [(0, va_rf (some b0)), (1, va_rf x1), (2, .int x2)] [] := by
  refine v_aload_n (q := 1) dX11_done_0 rfl rfl ?_
  obtain ⟨a_143, ea_143, hw⟩ := hw
  subst ea_143
  obtain ⟨fs_144, z_147, e_145, e_146, hw⟩ := hw
  refine v_getN in_X8 (ci := 9) rfl 1 (Nat.le_of_ble_eq_true rfl) q550 rfl dX11_done_1 e_145 e_146 ?_
  refine v_aload_n (q := 0) dX11_done_4 rfl rfl ?_
  obtain ⟨fs_148, r_151, e_149, e_150, hw⟩ := hw
  refine v_get in_X11 (ci := 12) rfl 0 (Nat.le_of_ble_eq_true rfl) q729 rfl dX11_done_5 e_149 e_150 ?_
  obtain ⟨a_152, ea_152, hw⟩ := hw
  subst ea_152
  obtain ⟨fs_153, z_156, e_154, e_155, hw⟩ := hw
  refine v_getN in_X8 (ci := 9) rfl 1 (Nat.le_of_ble_eq_true rfl) q550 rfl dX11_done_8 e_154 e_155 ?_
  refine v_isub dX11_done_11 ?_
  refine v_aload_n (q := 0) dX11_done_12 rfl rfl ?_
  obtain ⟨fs_157, r_160, e_158, e_159, hw⟩ := hw
  refine v_get in_X11 (ci := 12) rfl 1 (Nat.le_of_ble_eq_true rfl) q731 rfl dX11_done_13 e_158 e_159 ?_
  obtain ⟨a_161, ea_161, hw⟩ := hw
  subst ea_161
  obtain ⟨fs_162, z_165, e_163, e_164, hw⟩ := hw
  refine v_getN in_X8 (ci := 9) rfl 1 (Nat.le_of_ble_eq_true rfl) q550 rfl dX11_done_16 e_163 e_164 ?_
  refine v_iadd dX11_done_19 ?_
  refine v_topi (fun z_166 e_166 => ?_)
  replace hw := hw z_166 e_166
  refine v_istore_n (lv1 := [(3, .int z_166), (0, va_rf (some b0)), (1, va_rf (some a_143)), (2, .int x2)]) dX11_done_20 rfl (Nat.le_of_ble_eq_true rfl) rfl ?_
  refine v_iload_n (q := 0) dX11_done_21 rfl rfl ?_
  refine v_bipush dX11_done_22 bp_8 ?_
  obtain ⟨hw_169, hw_170⟩ := hw
  refine v_icmp_gt (tgt := 62) dX11_done_24 (by decide) (fun c_167 => ?_) (fun c_168 => ?_)
  · have hw := hw_169 c_167
    refine v_null dX11_done_62 ?_
    exact v_aret dX11_done_63 rfl (Or.inl ⟨_, rfl⟩) ⟨_, rfl, hw⟩
  · have hw := hw_170 c_168
    refine v_aload_n (q := 1) dX11_done_27 rfl rfl ?_
    obtain ⟨fs_171, r_174, e_172, e_173, hw⟩ := hw
    refine v_get in_X11 (ci := 12) rfl 0 (Nat.le_of_ble_eq_true rfl) q729 rfl dX11_done_28 e_172 e_173 ?_
    refine v_aload_n (q := 1) dX11_done_31 rfl rfl ?_
    obtain ⟨fs_175, r_178, e_176, e_177, hw⟩ := hw
    refine v_get in_X11 (ci := 12) rfl 1 (Nat.le_of_ble_eq_true rfl) q731 rfl dX11_done_32 e_176 e_177 ?_
    obtain ⟨a_179, ea_179, hw⟩ := hw
    subst ea_179
    obtain ⟨fs_204, e_205, hw⟩ := hw
    refine v_callV0 q920 q921 q922 q119 q923 (ci := 9) rfl e_205 n_X8_isSame ⟨Nat.le_of_ble_eq_true rfl, Nat.le_of_ble_eq_true rfl⟩ [va_rf r_178] [] (met_X8_isSame hw) rfl (Nat.zero_le _) rfl rfl dX11_done_35 rfl (v_ki (fun z_180 h1 hv => ?_))
    clear hw
    obtain ⟨e9, hw⟩ := hv
    refine v_heap e9 ?_
    clear e9
    obtain ⟨hw_183, hw_184⟩ := hw
    refine v_if_ne (tgt := 62) dX11_done_38 (by decide) (fun c_181 => ?_) (fun c_182 => ?_)
    · have hw := hw_183 c_181
      refine v_null dX11_done_62 ?_
      exact v_aret dX11_done_63 rfl (Or.inl ⟨_, rfl⟩) ⟨_, rfl, hw⟩
    · have hw := hw_184 c_182
      refine v_aload_n (q := 1) dX11_done_41 rfl rfl ?_
      obtain ⟨fs_185, r_188, e_186, e_187, hw⟩ := hw
      refine v_get in_X11 (ci := 12) rfl 2 (Nat.le_of_ble_eq_true rfl) q733 rfl dX11_done_42 e_186 e_187 ?_
      obtain ⟨hw_192, hw_193⟩ := hw
      refine v_ifnull (tgt := 64) dX11_done_45 (by decide) (fun c_189 => ?_) (fun a_190 c_191 => ?_)
      · have hw := hw_192 c_189
        subst c_189
        refine v_sub [1, 2, 3] rfl ?_
        exact b_X11_done_64 h 0 0 hw
      · have hw := hw_193 a_190 c_191
        subst c_191
        refine v_aload_n (q := 1) dX11_done_48 rfl rfl ?_
        obtain ⟨fs_194, r_197, e_195, e_196, hw⟩ := hw
        refine v_get in_X11 (ci := 12) rfl 2 (Nat.le_of_ble_eq_true rfl) q733 rfl dX11_done_49 e_195 e_196 ?_
        refine v_aload_n (q := 2) dX11_done_52 rfl rfl ?_
        refine v_iload_n (q := 3) dX11_done_53 rfl rfl ?_
        obtain ⟨a_198, ea_198, hw⟩ := hw
        subst ea_198
        refine v_Tst q925 ⟨Nat.le_of_ble_eq_true rfl, Nat.le_of_ble_eq_true rfl⟩ [] hw (Nat.zero_le _) dX11_done_54 (fun z_199 hv => ?_)
        clear hw
        have hw := hv
        clear hv
        obtain ⟨hw_202, hw_203⟩ := hw
        refine v_if_ne (tgt := 64) dX11_done_59 (by decide) (fun c_200 => ?_) (fun c_201 => ?_)
        · have hw := hw_202 c_200
          refine v_sub [1, 2, 3] rfl ?_
          exact b_X11_done_64 h 0 0 hw
        · have hw := hw_203 c_201
          refine v_null dX11_done_62 ?_
          exact v_aret dX11_done_63 rfl (Or.inl ⟨_, rfl⟩) ⟨_, rfl, hw⟩
theorem met_X11_done {post : (Option Nat) → (AH) → Prop}   {b0 : Nat} {x1 : Option Nat} {x2 : Int32} {h : AH}  (hw : w_X11_done post  b0 x1 x2 h) : Mt l E yX11_done (ws_ yX11_done cX11_done 7 (some (.object "NobodysBard$Phrase"))) r_X11_done [va_rf (some b0), va_rf x1, .int x2] h (vpq (fun (r : Option Nat) (h' : AH) => post r h')) := v_entry (by decide +kernel) (by cases x1 <;> exact (Nat.le_of_ble_eq_true rfl)) (by cases x1 <;> exact rfl) (fun _ => e_X11_done hw)
/-! X0_smooths -/
abbrev r_X0_smooths : Room := { frames := 206, cells := 24, slots := 120, locals := 8226 }
theorem n_X0_smooths : vdn yX0_smooths 2 := ⟨by decide +kernel, by decide +kernel, by decide +kernel⟩
def w_X0_smooths_66 (post : (Option Nat) → (AH) → Prop) (k5 : (Option Nat) → (Int32) → (AH) → (Nat) → (Nat) → Prop) (b0 : Nat) (x1 : Option Nat) (x2 : Int32) (x3 : Option Nat) (x4 : Int32) (x5 : Option Nat) (h : AH) (k : Nat) (n : Nat) : Prop :=
 ((x5 = none → (post x3 h)) ∧ (∀ a_2 : Nat, x5 = some a_2 → (∀ z_6 : Int32, z_6 = x4 + (nI 1) → (k5 (some a_2) z_6 h k n))))
def w_X0_smooths_18 (post : (Option Nat) → (AH) → Prop) (k5 : (Option Nat) → (Int32) → (AH) → (Nat) → (Nat) → Prop) (b0 : Nat) (x1 : Option Nat) (x2 : Int32) : Nat → (Option Nat) → (Int32) → (Option Nat) → (Int32) → (AH) → (Nat) → (Nat) → Prop
 | 0, _, _, _, _, _, _, _ => False
 | n0 + 1, x3, x4, x5, x6, h, k, n =>
 (∃ (fs_7 : List Value) (r_10 : Option Nat), h b0 = some (.inr (0, fs_7)) ∧ fs_7[1]? = some (va_rf r_10) ∧ (∃ a_11 : Nat, r_10 = some a_11 ∧ (∃ (fs_12 : List Value) (r_15 : Option Nat), h a_11 = some (.inr (1, fs_12)) ∧ fs_12[15]? = some (va_rf r_15) ∧ (∃ a_16 : Nat, r_15 = some a_16 ∧ (∃ fs_50 : List Value, h a_16 = some (.inr (2, fs_50)) ∧ (w_J2_size (fun (z_17 : Int32) => ((z_17 ≤ x6 → (w_X0_smooths_66 post k5 b0 x1 x2 x3 x4 x5 h k n)) ∧ (¬ z_17 ≤ x6 → ((x5 = none → (∃ (fs_27 : List Value) (r_30 : Option Nat), h b0 = some (.inr (0, fs_27)) ∧ fs_27[1]? = some (va_rf r_30) ∧ (∃ a_31 : Nat, r_30 = some a_31 ∧ (∃ (fs_32 : List Value) (r_35 : Option Nat), h a_31 = some (.inr (1, fs_32)) ∧ fs_32[15]? = some (va_rf r_35) ∧ (∃ a_36 : Nat, r_35 = some a_36 ∧ (∃ fs_48 : List Value, h a_36 = some (.inr (2, fs_48)) ∧ (w_J2_get (fun (r_37 : Option Nat) => (∃ a_38 : Nat, r_37 = some a_38 ∧ (∃ fs_39 : List Value, h a_38 = some (.inr (12, fs_39)) ∧ (∃ fs_46 : List Value, h a_38 = some (.inr (12, fs_46)) ∧ (k + 2 ≤ 24 ∧ n + 10 ≤ 120 ∧ (w_X11_done (fun (r_41 : Option Nat) (h_42 : AH) => (∀ z_43 : Int32, z_43 = x6 + (nI 1) → (w_X0_smooths_18 post k5 b0 x1 x2 n0 x3 x4 r_41 z_43 h_42 (k + 2) (n + 10)))) a_38 x3 x2 h)))))) a_36 x6 h))))))) ∧ (∀ a_23 : Nat, x5 = some a_23 → (w_X0_smooths_66 post k5 b0 x1 x2 x3 x4 (some a_23) h k n)))))) a_16 h))))))
def w_X0_smooths_5 (post : (Option Nat) → (AH) → Prop) (b0 : Nat) (x1 : Option Nat) (x2 : Int32) : Nat → (Option Nat) → (Int32) → (AH) → (Nat) → (Nat) → Prop
 | 0, _, _, _, _, _ => False
 | n0 + 1, x3, x4, h, k, n =>
 (((nI 12) ≤ x4 → (post x3 h)) ∧ (¬ (nI 12) ≤ x4 → (∃ n1 : Nat, (w_X0_smooths_18 post (fun (q0 : Option Nat) (q1 : Int32) (q2 : AH) (q3 : Nat) (q4 : Nat) => w_X0_smooths_5 post b0 x1 x2 n0 q0 q1 q2 q3 q4) b0 x1 x2 n1 x3 x4 none (nI 0) h k n))))
def w_X0_smooths (post : (Option Nat) → (AH) → Prop) (b0 : Nat) (x1 : Option Nat) (x2 : Int32) (h : AH) : Prop :=
 (∃ n1 : Nat, (w_X0_smooths_5 post b0 x1 x2 n1 x1 (nI 0) h 0 0))
theorem b_X0_smooths_66 {post : (Option Nat) → (AH) → Prop}   {b0 : Nat} {x1 : Option Nat} {x2 : Int32} {k5 : (Option Nat) → (Int32) → (AH) → (Nat) → (Nat) → Prop}  (hk5 : ∀ (x3 : Option Nat) (x4 : Int32) (h : AH) (k : Nat) (n : Nat), k5 x3 x4 h k n → VV l E X cX0_smooths RX0 "smooths" 7 r_X0_smooths (some (.object "NobodysBard$Phrase")) (vpq (fun (r : Option Nat) (h' : AH) => post r h')) h k n 5 [(0, va_rf (some b0)), (1, va_rf x1), (2, .int x2), (3, va_rf x3), (4, .int x4)] []) (x3 : Option Nat) (x4 : Int32) (x5 : Option Nat) (h : AH) (k : Nat) (n : Nat) (hw : w_X0_smooths_66 post k5 b0 x1 x2 x3 x4 x5 h k n) : VV l E X cX0_smooths RX0 "smooths" 7 r_X0_smooths (some (.object "NobodysBard$Phrase")) (vpq (fun (r : Option Nat) (h' : AH) => post r h')) h k n 66 [(0, va_rf (some b0)), (1, va_rf x1), (2, .int x2), (3, va_rf x3), (4, .int x4), (5, va_rf x5)] [] := by
  refine v_aload (q := 5) dX0_smooths_66 rfl ?_
  obtain ⟨hw_4, hw_5⟩ := hw
  refine v_ifnonnull (tgt := 73) dX0_smooths_68 (by decide) (fun c_1 => ?_) (fun a_2 c_3 => ?_)
  · have hw := hw_4 c_1
    subst c_1
    refine v_aload_n (q := 3) dX0_smooths_71 rfl rfl ?_
    exact v_aret dX0_smooths_72 rfl (Or.inl ⟨_, rfl⟩) ⟨_, rfl, hw⟩
  · have hw := hw_5 a_2 c_3
    subst c_3
    refine v_aload (q := 5) dX0_smooths_73 rfl ?_
    refine v_astore_n (lv1 := [(3, va_rf (some a_2)), (0, va_rf (some b0)), (1, va_rf x1), (2, .int x2), (4, .int x4), (5, va_rf (some a_2))]) dX0_smooths_75 rfl (Nat.le_of_ble_eq_true rfl) rfl ?_
    obtain ⟨z_6, e_6⟩ : ∃ z9 : Int32, z9 = x4 + (nI 1) := ⟨_, rfl⟩
    replace hw := hw z_6 e_6
    refine v_iinc (q := 4) (v := z_6) (lv1 := [(4, .int z_6), (3, va_rf (some a_2)), (0, va_rf (some b0)), (1, va_rf x1), (2, .int x2), (5, va_rf (some a_2))]) dX0_smooths_76 rfl (by rw [e_6, ic_1]) (Nat.le_of_ble_eq_true rfl) rfl ?_
    refine v_goto (tgt := 5) dX0_smooths_79 (by decide) ?_
    refine v_sub [2, 3, 4, 1, 0] rfl ?_
    exact hk5 (some a_2) z_6 h k n hw
theorem b_X0_smooths_18 {post : (Option Nat) → (AH) → Prop}   {b0 : Nat} {x1 : Option Nat} {x2 : Int32} {k5 : (Option Nat) → (Int32) → (AH) → (Nat) → (Nat) → Prop}  (hk5 : ∀ (x3 : Option Nat) (x4 : Int32) (h : AH) (k : Nat) (n : Nat), k5 x3 x4 h k n → VV l E X cX0_smooths RX0 "smooths" 7 r_X0_smooths (some (.object "NobodysBard$Phrase")) (vpq (fun (r : Option Nat) (h' : AH) => post r h')) h k n 5 [(0, va_rf (some b0)), (1, va_rf x1), (2, .int x2), (3, va_rf x3), (4, .int x4)] []) : ∀ (n0 : Nat) (x3 : Option Nat) (x4 : Int32) (x5 : Option Nat) (x6 : Int32) (h : AH) (k : Nat) (n : Nat), w_X0_smooths_18 post k5 b0 x1 x2 n0 x3 x4 x5 x6 h k n → VV l E X cX0_smooths RX0 "smooths" 7 r_X0_smooths (some (.object "NobodysBard$Phrase")) (vpq (fun (r : Option Nat) (h' : AH) => post r h')) h k n 18 [(0, va_rf (some b0)), (1, va_rf x1), (2, .int x2), (3, va_rf x3), (4, .int x4), (5, va_rf x5), (6, .int x6)] [] := by
  intro n0
  induction n0 with
  | zero =>
    intro x3 x4 x5 x6 h k n hw
    exact hw.elim
  | succ n0 ih =>
    intro x3 x4 x5 x6 h k n hw
    refine v_iload (q := 6) dX0_smooths_18 rfl ?_
    refine v_aload_n (q := 0) dX0_smooths_20 rfl rfl ?_
    obtain ⟨fs_7, r_10, e_8, e_9, hw⟩ := hw
    refine v_get in_X0 (ci := 0) rfl 1 (Nat.le_of_ble_eq_true rfl) q319 rfl dX0_smooths_21 e_8 e_9 ?_
    obtain ⟨a_11, ea_11, hw⟩ := hw
    subst ea_11
    obtain ⟨fs_12, r_15, e_13, e_14, hw⟩ := hw
    refine v_getN in_X1 (ci := 1) rfl 15 (Nat.le_of_ble_eq_true rfl) q250 rfl dX0_smooths_24 e_13 e_14 ?_
    obtain ⟨a_16, ea_16, hw⟩ := hw
    subst ea_16
    obtain ⟨fs_50, e_51, hw⟩ := hw
    refine v_callV0 q413 q414 q415 q108 q416 (ci := 2) rfl e_51 n_J2_size ⟨Nat.le_of_ble_eq_true rfl, Nat.le_of_ble_eq_true rfl⟩ [] [.int x6] (met_J2_size hw) rfl (Nat.le_of_ble_eq_true rfl) rfl rfl dX0_smooths_27 rfl (v_ki (fun z_17 h1 hv => ?_))
    clear hw
    obtain ⟨e9, hw⟩ := hv
    refine v_heap e9 ?_
    clear e9
    obtain ⟨hw_20, hw_21⟩ := hw
    refine v_icmp_ge (tgt := 66) dX0_smooths_30 (by decide) (fun c_18 => ?_) (fun c_19 => ?_)
    · have hw := hw_20 c_18
      refine v_sub [0, 1, 2, 3, 4, 5] rfl ?_
      exact b_X0_smooths_66 hk5 x3 x4 x5 h k n hw
    · have hw := hw_21 c_19
      refine v_aload (q := 5) dX0_smooths_33 rfl ?_
      obtain ⟨hw_25, hw_26⟩ := hw
      refine v_ifnonnull (tgt := 66) dX0_smooths_35 (by decide) (fun c_22 => ?_) (fun a_23 c_24 => ?_)
      · have hw := hw_25 c_22
        subst c_22
        refine v_aload_n (q := 0) dX0_smooths_38 rfl rfl ?_
        obtain ⟨fs_27, r_30, e_28, e_29, hw⟩ := hw
        refine v_get in_X0 (ci := 0) rfl 1 (Nat.le_of_ble_eq_true rfl) q319 rfl dX0_smooths_39 e_28 e_29 ?_
        obtain ⟨a_31, ea_31, hw⟩ := hw
        subst ea_31
        obtain ⟨fs_32, r_35, e_33, e_34, hw⟩ := hw
        refine v_getN in_X1 (ci := 1) rfl 15 (Nat.le_of_ble_eq_true rfl) q250 rfl dX0_smooths_42 e_33 e_34 ?_
        refine v_iload (q := 6) dX0_smooths_45 rfl ?_
        obtain ⟨a_36, ea_36, hw⟩ := hw
        subst ea_36
        obtain ⟨fs_48, e_49, hw⟩ := hw
        refine v_callV0 q577 q578 q579 q108 q580 (ci := 2) rfl e_49 n_J2_get ⟨Nat.le_of_ble_eq_true rfl, Nat.le_of_ble_eq_true rfl⟩ [.int x6] [] (met_J2_get hw) rfl (Nat.zero_le _) rfl rfl dX0_smooths_47 rfl (v_kq (fun r_37 h1 hv => ?_))
        clear hw
        obtain ⟨e9, hw⟩ := hv
        refine v_heap e9 ?_
        clear e9
        obtain ⟨a_38, ea_38, hw⟩ := hw
        subst ea_38
        obtain ⟨fs_39, e_40, hw⟩ := hw
        refine v_cast (ci := 12) rfl q915 dX0_smooths_50 e_40 ?_
        refine v_aload_n (q := 3) dX0_smooths_53 rfl rfl ?_
        refine v_iload_n (q := 2) dX0_smooths_54 rfl rfl ?_
        obtain ⟨fs_46, e_47, hw⟩ := hw
        obtain ⟨e_44, e_45, hw⟩ := hw
        refine v_callV q916 q917 q918 q124 q919 (ci := 12) rfl e_47 n_X11_done ⟨Nat.le_of_ble_eq_true rfl, Nat.le_of_ble_eq_true rfl⟩ [va_rf x3, .int x2] [] (met_X11_done hw) rfl (Nat.zero_le _) ⟨e_44, e_45⟩ dX0_smooths_55 rfl (v_kq (fun r_41 h_42 hv => ?_))
        clear hw
        have hw := hv
        clear hv
        refine v_astore (lv1 := [(5, va_rf r_41), (0, va_rf (some b0)), (1, va_rf x1), (2, .int x2), (3, va_rf x3), (4, .int x4), (6, .int x6)]) dX0_smooths_58 (Nat.le_of_ble_eq_true rfl) rfl ?_
        obtain ⟨z_43, e_43⟩ : ∃ z9 : Int32, z9 = x6 + (nI 1) := ⟨_, rfl⟩
        replace hw := hw z_43 e_43
        refine v_iinc (q := 6) (v := z_43) (lv1 := [(6, .int z_43), (5, va_rf r_41), (0, va_rf (some b0)), (1, va_rf x1), (2, .int x2), (3, va_rf x3), (4, .int x4)]) dX0_smooths_60 rfl (by rw [e_43, ic_1]) (Nat.le_of_ble_eq_true rfl) (by cases r_41 <;> rfl) ?_
        refine v_goto (tgt := 18) dX0_smooths_63 (by decide) ?_
        refine v_sub [2, 3, 4, 5, 6, 1, 0] rfl ?_
        exact ih x3 x4 r_41 z_43 h_42 (k + 2) (n + 10) hw
      · have hw := hw_26 a_23 c_24
        subst c_24
        refine v_sub [0, 1, 2, 3, 4, 5] rfl ?_
        exact b_X0_smooths_66 hk5 x3 x4 (some a_23) h k n hw
theorem b_X0_smooths_5 {post : (Option Nat) → (AH) → Prop}   {b0 : Nat} {x1 : Option Nat} {x2 : Int32}    : ∀ (n0 : Nat) (x3 : Option Nat) (x4 : Int32) (h : AH) (k : Nat) (n : Nat), w_X0_smooths_5 post b0 x1 x2 n0 x3 x4 h k n → VV l E X cX0_smooths RX0 "smooths" 7 r_X0_smooths (some (.object "NobodysBard$Phrase")) (vpq (fun (r : Option Nat) (h' : AH) => post r h')) h k n 5 [(0, va_rf (some b0)), (1, va_rf x1), (2, .int x2), (3, va_rf x3), (4, .int x4)] [] := by
  intro n0
  induction n0 with
  | zero =>
    intro x3 x4 h k n hw
    exact hw.elim
  | succ n0 ih =>
    intro x3 x4 h k n hw
    refine v_iload (q := 4) dX0_smooths_5 rfl ?_
    refine v_bipush dX0_smooths_7 bp_12 ?_
    obtain ⟨hw_54, hw_55⟩ := hw
    refine v_icmp_ge (tgt := 82) dX0_smooths_9 (by decide) (fun c_52 => ?_) (fun c_53 => ?_)
    · have hw := hw_54 c_52
      refine v_aload_n (q := 3) dX0_smooths_82 rfl rfl ?_
      exact v_aret dX0_smooths_83 rfl (Or.inl ⟨_, rfl⟩) ⟨_, rfl, hw⟩
    · have hw := hw_55 c_53
      refine v_null dX0_smooths_12 ?_
      refine v_astore (lv1 := [(5, va_rf none), (0, va_rf (some b0)), (1, va_rf x1), (2, .int x2), (3, va_rf x3), (4, .int x4)]) dX0_smooths_13 (Nat.le_of_ble_eq_true rfl) rfl ?_
      refine v_iconst dX0_smooths_15 ic_0 ?_
      refine v_istore (lv1 := [(6, .int (nI 0)), (5, va_rf none), (0, va_rf (some b0)), (1, va_rf x1), (2, .int x2), (3, va_rf x3), (4, .int x4)]) dX0_smooths_16 (Nat.le_of_ble_eq_true rfl) rfl ?_
      obtain ⟨n_56, hw⟩ := hw
      refine v_sub [2, 3, 4, 5, 6, 1, 0] rfl ?_
      exact b_X0_smooths_18 (fun q0 q1 q2 q3 q4 z => ih q0 q1 q2 q3 q4 z) n_56 x3 x4 none (nI 0) h k n hw
theorem e_X0_smooths {post : (Option Nat) → (AH) → Prop}   {b0 : Nat} {x1 : Option Nat} {x2 : Int32} {h : AH}  (hw : w_X0_smooths post  b0 x1 x2 h) : VV l E X cX0_smooths RX0 "smooths" 7 r_X0_smooths (some (.object "NobodysBard$Phrase")) (vpq (fun (r : Option Nat) (h' : AH) => post r h')) h 0 0 0 [(0, va_rf (some b0)), (1, va_rf x1), (2, .int x2)] [] := by
  refine v_aload_n (q := 1) dX0_smooths_0 rfl rfl ?_
  refine v_astore_n (lv1 := [(3, va_rf x1), (0, va_rf (some b0)), (1, va_rf x1), (2, .int x2)]) dX0_smooths_1 rfl (Nat.le_of_ble_eq_true rfl) rfl ?_
  refine v_iconst dX0_smooths_2 ic_0 ?_
  refine v_istore (lv1 := [(4, .int (nI 0)), (3, va_rf x1), (0, va_rf (some b0)), (1, va_rf x1), (2, .int x2)]) dX0_smooths_3 (Nat.le_of_ble_eq_true rfl) (by cases x1 <;> rfl) ?_
  obtain ⟨n_57, hw⟩ := hw
  refine v_sub [2, 3, 4, 1, 0] rfl ?_
  exact b_X0_smooths_5 n_57 x1 (nI 0) h 0 0 hw
theorem met_X0_smooths {post : (Option Nat) → (AH) → Prop}   {b0 : Nat} {x1 : Option Nat} {x2 : Int32} {h : AH}  (hw : w_X0_smooths post  b0 x1 x2 h) : Mt l E yX0_smooths (ws_ yX0_smooths cX0_smooths 7 (some (.object "NobodysBard$Phrase"))) r_X0_smooths [va_rf (some b0), va_rf x1, .int x2] h (vpq (fun (r : Option Nat) (h' : AH) => post r h')) := v_entry (by decide +kernel) (by cases x1 <;> exact (Nat.le_of_ble_eq_true rfl)) (by cases x1 <;> exact rfl) (fun _ => e_X0_smooths hw)
/-! X0_smoothed -/
abbrev r_X0_smoothed : Room := { frames := 207, cells := 26, slots := 130, locals := 8252 }
theorem n_X0_smoothed : vdn yX0_smoothed 2 := ⟨by decide +kernel, by decide +kernel, by decide +kernel⟩
def w_X0_smoothed_29 (post : (Int64) → (AH) → Prop) (b0 : Nat) (x1 : Int64) (x3 : Int32) (h : AH) (k : Nat) (n : Nat) : Prop :=
 (∃ fs_3 : List Value, h b0 = some (.inr (0, fs_3)) ∧ (w_X0_refuse (fun (z_1 : Int32) (h_2 : AH) => (post ((z_1).toInt64) h_2)) b0 (-3) h))
def w_X0_smoothed (post : (Int64) → (AH) → Prop) (b0 : Nat) (x1 : Int64) (x3 : Int32) (h : AH) : Prop :=
 (w_X0_hasWords (fun (z_5 : Int32) => ((z_5 = 0 → (w_X0_smoothed_29 post b0 x1 x3 h 0 0)) ∧ (¬ z_5 = 0 → (w_X0_isTale (fun (z_10 : Int32) => ((z_10 = 0 → (w_X0_smoothed_29 post b0 x1 x3 h 0 0)) ∧ (¬ z_10 = 0 → (0 + 2 ≤ 26 ∧ 0 + 10 ≤ 130 ∧ (w_X8_of (fun (r_15 : Option Nat) (h_16 : AH) => (∃ fs_25 : List Value, h_16 b0 = some (.inr (0, fs_25)) ∧ ((0 + 2) + 24 ≤ 26 ∧ (0 + 10) + 120 ≤ 130 ∧ (w_X0_smooths (fun (r_17 : Option Nat) (h_18 : AH) => (∃ a_19 : Nat, r_17 = some a_19 ∧ (∃ fs_21 : List Value, h_18 a_19 = some (.inr (9, fs_21)) ∧ (w_X8_told (fun (y_20 : Int64) => (post y_20 h_18)) a_19 h_18)))) b0 r_15 x3 h_16)))) x1 h))))) x3)))) x1)
theorem b_X0_smoothed_29 {post : (Int64) → (AH) → Prop}   {b0 : Nat} {x1 : Int64} {x3 : Int32}    (h : AH) (k : Nat) (n : Nat) (hw : w_X0_smoothed_29 post b0 x1 x3 h k n) : VV l E X cX0_smoothed RX0 "smoothed" 4 r_X0_smoothed (some .long) (vpl (fun (r : Int64) (h' : AH) => post r h')) h k n 29 [(0, va_rf (some b0)), (1, .long x1), (3, .int x3)] [] := by
  refine v_aload_n (q := 0) dX0_smoothed_29 rfl rfl ?_
  refine v_bipush dX0_smoothed_30 bp_m3 ?_
  obtain ⟨fs_3, e_4, hw⟩ := hw
  refine v_callV0 q396 q398 qs0 q104 q399 (ci := 0) rfl e_4 n_X0_refuse ⟨Nat.le_of_ble_eq_true rfl, Nat.le_of_ble_eq_true rfl⟩ [.int (-3)] [] (met_X0_refuse hw) rfl (Nat.zero_le _) rfl rfl dX0_smoothed_32 rfl (v_ki (fun z_1 h_2 hv => ?_))
  clear hw
  have hw := hv
  clear hv
  refine v_i2l dX0_smoothed_35 ?_
  exact v_lret dX0_smoothed_36 rfl ⟨_, rfl, hw⟩
theorem e_X0_smoothed {post : (Int64) → (AH) → Prop}   {b0 : Nat} {x1 : Int64} {x3 : Int32} {h : AH}  (hw : w_X0_smoothed post  b0 x1 x3 h) : VV l E X cX0_smoothed RX0 "smoothed" 4 r_X0_smoothed (some .long) (vpl (fun (r : Int64) (h' : AH) => post r h')) h 0 0 0 [(0, va_rf (some b0)), (1, .long x1), (3, .int x3)] [] := by
  refine v_lload_n (q := 1) dX0_smoothed_0 rfl rfl ?_
  refine v_callS0 q533 q534 q104 q535 n_X0_hasWords ⟨Nat.le_of_ble_eq_true rfl, Nat.le_of_ble_eq_true rfl⟩ [.long x1] [] (met_X0_hasWords hw) rfl (Nat.zero_le _) rfl rfl dX0_smoothed_1 rfl (v_ki (fun z_5 h1 hv => ?_))
  clear hw
  obtain ⟨e9, hw⟩ := hv
  refine v_heap e9 ?_
  clear e9
  obtain ⟨hw_8, hw_9⟩ := hw
  refine v_if_eq (tgt := 29) dX0_smoothed_4 (by decide) (fun c_6 => ?_) (fun c_7 => ?_)
  · have hw := hw_8 c_6
    refine v_sub [0, 1, 2] rfl ?_
    exact b_X0_smoothed_29 h 0 0 hw
  · have hw := hw_9 c_7
    refine v_iload_n (q := 2) dX0_smoothed_7 rfl rfl ?_
    refine v_callS0 q400 q401 q104 q402 n_X0_isTale ⟨Nat.le_of_ble_eq_true rfl, Nat.le_of_ble_eq_true rfl⟩ [.int x3] [] (met_X0_isTale hw) rfl (Nat.zero_le _) rfl rfl dX0_smoothed_8 rfl (v_ki (fun z_10 h1 hv => ?_))
    clear hw
    obtain ⟨e9, hw⟩ := hv
    refine v_heap e9 ?_
    clear e9
    obtain ⟨hw_13, hw_14⟩ := hw
    refine v_if_eq (tgt := 29) dX0_smoothed_11 (by decide) (fun c_11 => ?_) (fun c_12 => ?_)
    · have hw := hw_13 c_11
      refine v_sub [0, 1, 2] rfl ?_
      exact b_X0_smoothed_29 h 0 0 hw
    · have hw := hw_14 c_12
      refine v_aload_n (q := 0) dX0_smoothed_14 rfl rfl ?_
      refine v_lload_n (q := 1) dX0_smoothed_15 rfl rfl ?_
      obtain ⟨e_27, e_28, hw⟩ := hw
      refine v_callS q536 q537 q119 q538 n_X8_of ⟨Nat.le_of_ble_eq_true rfl, Nat.le_of_ble_eq_true rfl⟩ [.long x1] [va_rf (some b0)] (met_X8_of hw) rfl (by simp only [List.map_cons, List.map_nil, List.sum_cons, List.sum_nil, v_rf1, v_cI, v_cJ]; decide) ⟨e_27, e_28⟩ dX0_smoothed_16 rfl (v_kq (fun r_15 h_16 hv => ?_))
      clear hw
      have hw := hv
      clear hv
      refine v_iload_n (q := 2) dX0_smoothed_19 rfl rfl ?_
      obtain ⟨fs_25, e_26, hw⟩ := hw
      obtain ⟨e_23, e_24, hw⟩ := hw
      refine v_callV q911 q913 qs26 q104 q914 (ci := 0) rfl e_26 n_X0_smooths ⟨Nat.le_of_ble_eq_true rfl, Nat.le_of_ble_eq_true rfl⟩ [va_rf r_15, .int x3] [] (met_X0_smooths hw) rfl (Nat.zero_le _) ⟨e_23, e_24⟩ dX0_smoothed_20 rfl (v_kq (fun r_17 h_18 hv => ?_))
      clear hw
      have hw := hv
      clear hv
      obtain ⟨a_19, ea_19, hw⟩ := hw
      subst ea_19
      obtain ⟨fs_21, e_22, hw⟩ := hw
      refine v_callV0 q613 q614 q615 q119 q616 (ci := 9) rfl e_22 n_X8_told ⟨Nat.le_of_ble_eq_true rfl, Nat.le_of_ble_eq_true rfl⟩ [] [] (met_X8_told hw) rfl (Nat.zero_le _) rfl rfl dX0_smoothed_23 rfl (v_kl (fun y_20 h1 hv => ?_))
      clear hw
      obtain ⟨e9, hw⟩ := hv
      refine v_heap e9 ?_
      clear e9
      refine v_goto (tgt := 36) dX0_smoothed_26 (by decide) ?_
      exact v_lret dX0_smoothed_36 rfl ⟨_, rfl, hw⟩
theorem met_X0_smoothed {post : (Int64) → (AH) → Prop}   {b0 : Nat} {x1 : Int64} {x3 : Int32} {h : AH}  (hw : w_X0_smoothed post  b0 x1 x3 h) : Mt l E yX0_smoothed (ws_ yX0_smoothed cX0_smoothed 4 (some .long)) r_X0_smoothed [va_rf (some b0), .long x1, .int x3] h (vpl (fun (r : Int64) (h' : AH) => post r h')) := v_entry (by decide +kernel) (Nat.le_of_ble_eq_true rfl) rfl (fun _ => e_X0_smoothed hw)
/-! X0_told -/
abbrev r_X0_told : Room := { frames := 207, cells := 400, slots := 4000, locals := 8252 }
theorem n_X0_told : vdn yX0_told 4 := ⟨by decide +kernel, by decide +kernel, by decide +kernel⟩
def w_X0_told_29 (post : (Int32) → (AH) → Prop) (b0 : Nat) (x1 : Int32) (x2 : Int32) (x3 : Int32) (x4 : Int32) (h : AH) (k : Nat) (n : Nat) : Prop :=
 (∃ fs_3 : List Value, h b0 = some (.inr (0, fs_3)) ∧ (w_X0_refuse (fun (z_1 : Int32) (h_2 : AH) => (post z_1 h_2)) b0 (-3) h))
def w_X0_told_198 (post : (Int32) → (AH) → Prop) (k104 : (Option Nat) → (Option Nat) → (Int32) → (AH) → (Nat) → (Nat) → Prop) (b0 : Nat) (x1 : Int32) (x2 : Int32) (x3 : Int32) (x4 : Int32) (x5 : Option Nat) (x6 : Option Nat) (x7 : Int32) (h : AH) (k : Nat) (n : Nat) : Prop :=
 (∀ z_5 : Int32, z_5 = x7 + (nI 1) → (k104 x5 x6 z_5 h k n))
def w_X0_told_194 (post : (Int32) → (AH) → Prop) (k104 : (Option Nat) → (Option Nat) → (Int32) → (AH) → (Nat) → (Nat) → Prop) (b0 : Nat) (x1 : Int32) (x2 : Int32) (x3 : Int32) (x4 : Int32) (x5 : Option Nat) (x6 : Option Nat) (x7 : Int32) (s0 : Option Nat) (s1 : Option Nat) (h : AH) (k : Nat) (n : Nat) : Prop :=
 (∃ a_6 : Nat, s1 = some a_6 ∧ (∃ fs_11 : List Value, h a_6 = some (.inr (2, fs_11)) ∧ (k + 1 ≤ 400 ∧ n + 63 ≤ 4000 ∧ (w_J2_add (fun (z_7 : Int32) (h_8 : AH) => (w_X0_told_198 post k104 b0 x1 x2 x3 x4 x5 x6 x7 h_8 (k + 1) (n + 63))) a_6 s0 h))))
def w_X0_told_289 (post : (Int32) → (AH) → Prop) (k225 : (Option Nat) → (Int32) → (AH) → (Nat) → (Nat) → Prop) (b0 : Nat) (x1 : Int32) (x2 : Int32) (x3 : Int32) (x4 : Int32) (x6 : Option Nat) (x7 : Int32) (h : AH) (k : Nat) (n : Nat) : Prop :=
 (∀ z_13 : Int32, z_13 = x7 + (nI 1) → (k225 x6 z_13 h k n))
def w_X0_told_225 (post : (Int32) → (AH) → Prop) (b0 : Nat) (x1 : Int32) (x2 : Int32) (x3 : Int32) (x4 : Int32) : Nat → (Option Nat) → (Int32) → (AH) → (Nat) → (Nat) → Prop
 | 0, _, _, _, _, _ => False
 | n0 + 1, x6, x7, h, k, n =>
 (∃ a_14 : Nat, x6 = some a_14 ∧ (∃ (fs_15 : List Value) (r_18 : Option Nat), h a_14 = some (.inr (8, fs_15)) ∧ fs_15[4]? = some (va_rf r_18) ∧ (∃ a_19 : Nat, r_18 = some a_19 ∧ (∃ fs_102 : List Value, h a_19 = some (.inr (2, fs_102)) ∧ (w_J2_size (fun (z_20 : Int32) => ((z_20 ≤ (x7 + (nI 1)) → (∃ fs_25 : List Value, h b0 = some (.inr (0, fs_25)) ∧ 16 < fs_25.length ∧ ∀ h_28 : AH, h_28 = va_up h b0 (some (.inr (0, fs_25.set 16 (.int (nI 0))))) → (∃ (fs_29 : List Value) (r_32 : Option Nat), h_28 b0 = some (.inr (0, fs_29)) ∧ fs_29[1]? = some (va_rf r_32) ∧ (∃ a_33 : Nat, r_32 = some a_33 ∧ (∃ (fs_34 : List Value) (r_37 : Option Nat), h_28 a_33 = some (.inr (1, fs_34)) ∧ fs_34[3]? = some (va_rf r_37) ∧ (∃ a_38 : Nat, r_37 = some a_38 ∧ (∃ fs_56 : List Value, h_28 a_38 = some (.inr (2, fs_56)) ∧ (k + 1 ≤ 400 ∧ n + 63 ≤ 4000 ∧ (w_J2_add (fun (z_39 : Int32) (h_40 : AH) => (∃ (fs_41 : List Value) (r_44 : Option Nat), h_40 b0 = some (.inr (0, fs_41)) ∧ fs_41[1]? = some (va_rf r_44) ∧ (∃ a_45 : Nat, r_44 = some a_45 ∧ (∃ (fs_46 : List Value) (r_49 : Option Nat), h_40 a_45 = some (.inr (1, fs_46)) ∧ fs_46[3]? = some (va_rf r_49) ∧ (∃ a_50 : Nat, r_49 = some a_50 ∧ (∃ fs_52 : List Value, h_40 a_50 = some (.inr (2, fs_52)) ∧ (w_J2_size (fun (z_51 : Int32) => (post (z_51 - (nI 1)) h_40)) a_50 h_40))))))) a_38 (some a_14) h_28))))))))) ∧ (¬ z_20 ≤ (x7 + (nI 1)) → (∃ fs_100 : List Value, h b0 = some (.inr (0, fs_100)) ∧ (w_X0_draw (fun (z_58 : Int32) (h_59 : AH) => (∃ (fs_60 : List Value) (r_63 : Option Nat), h_59 b0 = some (.inr (0, fs_60)) ∧ fs_60[1]? = some (va_rf r_63) ∧ (∃ a_64 : Nat, r_63 = some a_64 ∧ (∃ (fs_65 : List Value) (r_68 : Option Nat), h_59 a_64 = some (.inr (1, fs_65)) ∧ fs_65[16]? = some (va_rf r_68) ∧ (∃ a_69 : Nat, r_68 = some a_69 ∧ (∃ (fs_70 : List Value) (z_73 : Int32), h_59 a_69 = some (.inr (3, fs_70)) ∧ fs_70[1]? = some (.int z_73) ∧ ((z_58 < z_73 → (∃ (fs_78 : List Value) (r_81 : Option Nat), h_59 a_14 = some (.inr (8, fs_78)) ∧ fs_78[4]? = some (va_rf r_81) ∧ (∃ a_82 : Nat, r_81 = some a_82 ∧ (∃ fs_98 : List Value, h_59 a_82 = some (.inr (2, fs_98)) ∧ (w_J2_remove (fun (r_83 : Option Nat) (h_84 : AH) => (∃ a_85 : Nat, r_83 = some a_85 ∧ (∃ fs_86 : List Value, h_84 a_85 = some (.inr (9, fs_86)) ∧ (∃ (fs_88 : List Value) (r_91 : Option Nat), h_84 a_14 = some (.inr (8, fs_88)) ∧ fs_88[4]? = some (va_rf r_91) ∧ (∃ a_92 : Nat, r_91 = some a_92 ∧ (∃ fs_96 : List Value, h_84 a_92 = some (.inr (2, fs_96)) ∧ (k + 1 ≤ 400 ∧ n + 63 ≤ 4000 ∧ (w_J2_add_3 (fun (h_93 : AH) => (w_X0_told_289 post (fun (q0 : Option Nat) (q1 : Int32) (q2 : AH) (q3 : Nat) (q4 : Nat) => w_X0_told_225 post b0 x1 x2 x3 x4 n0 q0 q1 q2 q3 q4) b0 x1 x2 x3 x4 (some a_14) x7 h_93 (k + 1) (n + 63))) a_92 (x7 + (nI 1)) (some a_85) h_84)))))))) a_82 x7 h_59))))) ∧ (¬ z_58 < z_73 → (w_X0_told_289 post (fun (q0 : Option Nat) (q1 : Int32) (q2 : AH) (q3 : Nat) (q4 : Nat) => w_X0_told_225 post b0 x1 x2 x3 x4 n0 q0 q1 q2 q3 q4) b0 x1 x2 x3 x4 (some a_14) x7 h_59 k n))))))))) b0 h))))) a_19 h)))))
def w_X0_told_104 (post : (Int32) → (AH) → Prop) (b0 : Nat) (x1 : Int32) (x2 : Int32) (x3 : Int32) (x4 : Int32) : Nat → (Option Nat) → (Option Nat) → (Int32) → (AH) → (Nat) → (Nat) → Prop
 | 0, _, _, _, _, _, _ => False
 | n0 + 1, x5, x6, x7, h, k, n =>
 (∃ a_104 : Nat, x5 = some a_104 ∧ (∃ (fs_105 : List Value) (r_108 : Option Nat), h a_104 = some (.inr (8, fs_105)) ∧ fs_105[4]? = some (va_rf r_108) ∧ (∃ a_109 : Nat, r_108 = some a_109 ∧ (∃ fs_209 : List Value, h a_109 = some (.inr (2, fs_209)) ∧ (w_J2_size (fun (z_110 : Int32) => ((z_110 ≤ x7 → (∃ a_115 : Nat, x6 = some a_115 ∧ (∃ (fs_116 : List Value) (r_119 : Option Nat), h a_115 = some (.inr (8, fs_116)) ∧ fs_116[4]? = some (va_rf r_119) ∧ (∃ a_120 : Nat, r_119 = some a_120 ∧ (∃ fs_131 : List Value, h a_120 = some (.inr (2, fs_131)) ∧ (w_J2_isEmpty (fun (z_121 : Int32) => ((z_121 = 0 → (∃ n1 : Nat, (w_X0_told_225 post b0 x1 x2 x3 x4 n1 (some a_115) (nI 0) h k n))) ∧ (¬ z_121 = 0 → (∃ fs_129 : List Value, h b0 = some (.inr (0, fs_129)) ∧ (w_X0_refuse (fun (z_127 : Int32) (h_128 : AH) => (post z_127 h_128)) b0 (-5) h))))) a_120 h)))))) ∧ (¬ z_110 ≤ x7 → (∃ fs_207 : List Value, h b0 = some (.inr (0, fs_207)) ∧ (w_X0_draw (fun (z_133 : Int32) (h_134 : AH) => (∃ (fs_135 : List Value) (r_138 : Option Nat), h_134 b0 = some (.inr (0, fs_135)) ∧ fs_135[1]? = some (va_rf r_138) ∧ (∃ a_139 : Nat, r_138 = some a_139 ∧ (∃ (fs_140 : List Value) (r_143 : Option Nat), h_134 a_139 = some (.inr (1, fs_140)) ∧ fs_140[16]? = some (va_rf r_143) ∧ (∃ a_144 : Nat, r_143 = some a_144 ∧ (∃ (fs_145 : List Value) (z_148 : Int32), h_134 a_144 = some (.inr (3, fs_145)) ∧ fs_145[0]? = some (.int z_148) ∧ ((z_148 ≤ z_133 → (∃ (fs_153 : List Value) (r_156 : Option Nat), h_134 a_104 = some (.inr (8, fs_153)) ∧ fs_153[4]? = some (va_rf r_156) ∧ (∃ a_157 : Nat, r_156 = some a_157 ∧ (∃ fs_205 : List Value, h_134 a_157 = some (.inr (2, fs_205)) ∧ (w_J2_get (fun (r_158 : Option Nat) => (∃ a_159 : Nat, r_158 = some a_159 ∧ (∃ fs_160 : List Value, h_134 a_159 = some (.inr (9, fs_160)) ∧ (∃ fs_203 : List Value, h_134 b0 = some (.inr (0, fs_203)) ∧ (k + 2 ≤ 400 ∧ n + 10 ≤ 4000 ∧ (w_X0_said (fun (r_162 : Option Nat) (h_163 : AH) => (∃ a_164 : Nat, x6 = some a_164 ∧ (∃ (fs_165 : List Value) (r_168 : Option Nat), h_163 a_164 = some (.inr (8, fs_165)) ∧ fs_165[4]? = some (va_rf r_168) ∧ (∃ fs_199 : List Value, h_163 b0 = some (.inr (0, fs_199)) ∧ (w_X0_draw (fun (z_169 : Int32) (h_170 : AH) => (∃ (fs_171 : List Value) (r_174 : Option Nat), h_170 b0 = some (.inr (0, fs_171)) ∧ fs_171[1]? = some (va_rf r_174) ∧ (∃ a_175 : Nat, r_174 = some a_175 ∧ (∃ (fs_176 : List Value) (r_179 : Option Nat), h_170 a_175 = some (.inr (1, fs_176)) ∧ fs_176[16]? = some (va_rf r_179) ∧ (∃ a_180 : Nat, r_179 = some a_180 ∧ (∃ (fs_181 : List Value) (z_184 : Int32), h_170 a_180 = some (.inr (3, fs_181)) ∧ fs_181[2]? = some (.int z_184) ∧ ((z_184 ≤ z_169 → (w_X0_told_194 post (fun (q0 : Option Nat) (q1 : Option Nat) (q2 : Int32) (q3 : AH) (q4 : Nat) (q5 : Nat) => w_X0_told_104 post b0 x1 x2 x3 x4 n0 q0 q1 q2 q3 q4 q5) b0 x1 x2 x3 x4 (some a_104) (some a_164) x7 r_162 r_168 h_170 (k + 2) (n + 10))) ∧ (¬ z_184 ≤ z_169 → (∃ (fs_189 : List Value) (z_192 : Int32), h_170 a_104 = some (.inr (8, fs_189)) ∧ fs_189[1]? = some (.int z_192) ∧ (∃ fs_197 : List Value, h_170 b0 = some (.inr (0, fs_197)) ∧ ((k + 2) + 24 ≤ 400 ∧ (n + 10) + 120 ≤ 4000 ∧ (w_X0_smooths (fun (r_193 : Option Nat) (h_194 : AH) => (w_X0_told_194 post (fun (q0 : Option Nat) (q1 : Option Nat) (q2 : Int32) (q3 : AH) (q4 : Nat) (q5 : Nat) => w_X0_told_104 post b0 x1 x2 x3 x4 n0 q0 q1 q2 q3 q4 q5) b0 x1 x2 x3 x4 (some a_104) (some a_164) x7 r_193 r_168 h_194 ((k + 2) + 24) ((n + 10) + 120))) b0 r_162 z_192 h_170)))))))))))) b0 h_163))))) b0 (some a_159) h_134)))))) a_157 x7 h_134))))) ∧ (¬ z_148 ≤ z_133 → (w_X0_told_198 post (fun (q0 : Option Nat) (q1 : Option Nat) (q2 : Int32) (q3 : AH) (q4 : Nat) (q5 : Nat) => w_X0_told_104 post b0 x1 x2 x3 x4 n0 q0 q1 q2 q3 q4 q5) b0 x1 x2 x3 x4 (some a_104) x6 x7 h_134 k n))))))))) b0 h))))) a_109 h)))))
def w_X0_told (post : (Int32) → (AH) → Prop) (b0 : Nat) (x1 : Int32) (x2 : Int32) (x3 : Int32) (x4 : Int32) (h : AH) : Prop :=
 (∃ fs_290 : List Value, h b0 = some (.inr (0, fs_290)) ∧ (w_X0_isSong (fun (z_211 : Int32) => ((¬ z_211 = 0 → (w_X0_isGlen (fun (z_216 : Int32) => ((z_216 = 0 → (w_X0_told_29 post b0 x1 x2 x3 x4 h 0 0)) ∧ (¬ z_216 = 0 → (w_X0_isDay (fun (z_221 : Int32) => ((¬ z_221 = 0 → (∃ (fs_226 : List Value) (r_229 : Option Nat), h b0 = some (.inr (0, fs_226)) ∧ fs_226[1]? = some (va_rf r_229) ∧ (∃ a_230 : Nat, r_229 = some a_230 ∧ (∃ (fs_231 : List Value) (r_234 : Option Nat), h a_230 = some (.inr (1, fs_231)) ∧ fs_231[3]? = some (va_rf r_234) ∧ (∃ a_235 : Nat, r_234 = some a_235 ∧ (∃ fs_284 : List Value, h a_235 = some (.inr (2, fs_284)) ∧ (w_J2_size (fun (z_236 : Int32) => ((¬ z_236 = (nI 40) → (∃ (fs_241 : List Value) (r_244 : Option Nat), h b0 = some (.inr (0, fs_241)) ∧ fs_241[1]? = some (va_rf r_244) ∧ (∃ a_245 : Nat, r_244 = some a_245 ∧ (∃ (fs_246 : List Value) (r_249 : Option Nat), h a_245 = some (.inr (1, fs_246)) ∧ fs_246[3]? = some (va_rf r_249) ∧ (∃ a_250 : Nat, r_249 = some a_250 ∧ (∃ fs_278 : List Value, h a_250 = some (.inr (2, fs_278)) ∧ (w_J2_get (fun (r_251 : Option Nat) => (∃ a_252 : Nat, r_251 = some a_252 ∧ (∃ fs_253 : List Value, h a_252 = some (.inr (8, fs_253)) ∧ (0 + 1 ≤ 400 ∧ 0 + 5 ≤ 4000 ∧ ∀ a_255 : Nat, h a_255 = none → ∀ h_257 : AH, h_257 = va_up h a_255 (some (.inr (8, dfX7))) → (∃ (fs_262 : List Value) (z_265 : Int32), h_257 a_252 = some (.inr (8, fs_262)) ∧ fs_262[1]? = some (.int z_265) ∧ (∃ (fs_266 : List Value) (z_269 : Int32), h_257 a_252 = some (.inr (8, fs_266)) ∧ fs_266[1]? = some (.int z_269) ∧ ((0 + 1) + 2 ≤ 400 ∧ (0 + 5) + 5 ≤ 4000 ∧ (w_X7_init (fun (h_270 : AH) => (∃ fs_271 : List Value, h_270 b0 = some (.inr (0, fs_271)) ∧ 8 < fs_271.length ∧ ∀ h_274 : AH, h_274 = va_up h_270 b0 (some (.inr (0, fs_271.set 8 (.int x4)))) → (∃ n1 : Nat, (w_X0_told_104 post b0 x1 x2 x3 x4 n1 (some a_252) (some a_255) (nI 0) h_274 ((0 + 1) + 2) ((0 + 5) + 5))))) a_255 z_265 z_269 x2 x3 h_257)))))))) a_250 x1 h))))))) ∧ (z_236 = (nI 40) → (∃ fs_282 : List Value, h b0 = some (.inr (0, fs_282)) ∧ (w_X0_refuse (fun (z_280 : Int32) (h_281 : AH) => (post z_280 h_281)) b0 (-4) h))))) a_235 h))))))) ∧ (z_221 = 0 → (w_X0_told_29 post b0 x1 x2 x3 x4 h 0 0)))) x3)))) x2)) ∧ (z_211 = 0 → (∃ fs_288 : List Value, h b0 = some (.inr (0, fs_288)) ∧ (w_X0_refuse (fun (z_286 : Int32) (h_287 : AH) => (post z_286 h_287)) b0 (-2) h))))) b0 x1 h))
theorem b_X0_told_29 {post : (Int32) → (AH) → Prop}   {b0 : Nat} {x1 : Int32} {x2 : Int32} {x3 : Int32} {x4 : Int32}    (h : AH) (k : Nat) (n : Nat) (hw : w_X0_told_29 post b0 x1 x2 x3 x4 h k n) : VV l E X cX0_told RX0 "told" 9 r_X0_told (some .int) (vpi (fun (r : Int32) (h' : AH) => post r h')) h k n 29 [(0, va_rf (some b0)), (1, .int x1), (2, .int x2), (3, .int x3), (4, .int x4)] [] := by
  refine v_aload_n (q := 0) dX0_told_29 rfl rfl ?_
  refine v_bipush dX0_told_30 bp_m3 ?_
  obtain ⟨fs_3, e_4, hw⟩ := hw
  refine v_callV0 q396 q398 qs0 q104 q399 (ci := 0) rfl e_4 n_X0_refuse ⟨Nat.le_of_ble_eq_true rfl, Nat.le_of_ble_eq_true rfl⟩ [.int (-3)] [] (met_X0_refuse hw) rfl (Nat.zero_le _) rfl rfl dX0_told_32 rfl (v_ki (fun z_1 h_2 hv => ?_))
  clear hw
  have hw := hv
  clear hv
  exact v_iret dX0_told_35 rfl ⟨_, rfl, hw⟩
theorem b_X0_told_198 {post : (Int32) → (AH) → Prop}   {b0 : Nat} {x1 : Int32} {x2 : Int32} {x3 : Int32} {x4 : Int32} {k104 : (Option Nat) → (Option Nat) → (Int32) → (AH) → (Nat) → (Nat) → Prop}  (hk104 : ∀ (x5 : Option Nat) (x6 : Option Nat) (x7 : Int32) (h : AH) (k : Nat) (n : Nat), k104 x5 x6 x7 h k n → VV l E X cX0_told RX0 "told" 9 r_X0_told (some .int) (vpi (fun (r : Int32) (h' : AH) => post r h')) h k n 104 [(0, va_rf (some b0)), (1, .int x1), (2, .int x2), (3, .int x3), (4, .int x4), (5, va_rf x5), (6, va_rf x6), (7, .int x7)] []) (x5 : Option Nat) (x6 : Option Nat) (x7 : Int32) (h : AH) (k : Nat) (n : Nat) (hw : w_X0_told_198 post k104 b0 x1 x2 x3 x4 x5 x6 x7 h k n) : VV l E X cX0_told RX0 "told" 9 r_X0_told (some .int) (vpi (fun (r : Int32) (h' : AH) => post r h')) h k n 198 [(0, va_rf (some b0)), (1, .int x1), (2, .int x2), (3, .int x3), (4, .int x4), (5, va_rf x5), (6, va_rf x6), (7, .int x7)] [] := by
  obtain ⟨z_5, e_5⟩ : ∃ z9 : Int32, z9 = x7 + (nI 1) := ⟨_, rfl⟩
  replace hw := hw z_5 e_5
  refine v_iinc (q := 7) (v := z_5) (lv1 := [(7, .int z_5), (0, va_rf (some b0)), (1, .int x1), (2, .int x2), (3, .int x3), (4, .int x4), (5, va_rf x5), (6, va_rf x6)]) dX0_told_198 rfl (by rw [e_5, ic_1]) (Nat.le_of_ble_eq_true rfl) (by cases x6 <;> rfl) ?_
  refine v_goto (tgt := 104) dX0_told_201 (by decide) ?_
  refine v_sub [1, 2, 3, 4, 5, 6, 7, 0] rfl ?_
  exact hk104 x5 x6 z_5 h k n hw
theorem b_X0_told_194 {post : (Int32) → (AH) → Prop}   {b0 : Nat} {x1 : Int32} {x2 : Int32} {x3 : Int32} {x4 : Int32} {k104 : (Option Nat) → (Option Nat) → (Int32) → (AH) → (Nat) → (Nat) → Prop}  (hk104 : ∀ (x5 : Option Nat) (x6 : Option Nat) (x7 : Int32) (h : AH) (k : Nat) (n : Nat), k104 x5 x6 x7 h k n → VV l E X cX0_told RX0 "told" 9 r_X0_told (some .int) (vpi (fun (r : Int32) (h' : AH) => post r h')) h k n 104 [(0, va_rf (some b0)), (1, .int x1), (2, .int x2), (3, .int x3), (4, .int x4), (5, va_rf x5), (6, va_rf x6), (7, .int x7)] []) (x5 : Option Nat) (x6 : Option Nat) (x7 : Int32) (s0 : Option Nat) (s1 : Option Nat) (h : AH) (k : Nat) (n : Nat) (hw : w_X0_told_194 post k104 b0 x1 x2 x3 x4 x5 x6 x7 s0 s1 h k n) : VV l E X cX0_told RX0 "told" 9 r_X0_told (some .int) (vpi (fun (r : Int32) (h' : AH) => post r h')) h k n 194 [(0, va_rf (some b0)), (1, .int x1), (2, .int x2), (3, .int x3), (4, .int x4), (5, va_rf x5), (6, va_rf x6), (7, .int x7)] [va_rf s0, va_rf s1] := by
  obtain ⟨a_6, ea_6, hw⟩ := hw
  subst ea_6
  obtain ⟨fs_11, e_12, hw⟩ := hw
  obtain ⟨e_9, e_10, hw⟩ := hw
  refine v_callV q445 q446 q447 q108 q448 (ci := 2) rfl e_12 n_J2_add ⟨Nat.le_of_ble_eq_true rfl, Nat.le_of_ble_eq_true rfl⟩ [va_rf s0] [] (met_J2_add hw) rfl (Nat.zero_le _) ⟨e_9, e_10⟩ dX0_told_194 rfl (v_ki (fun z_7 h_8 hv => ?_))
  clear hw
  have hw := hv
  clear hv
  refine v_pop dX0_told_197 rfl ?_
  refine v_sub [0, 1, 2, 3, 4, 5, 6, 7] rfl ?_
  exact b_X0_told_198 hk104 x5 x6 x7 h_8 (k + 1) (n + 63) hw
theorem b_X0_told_289 {post : (Int32) → (AH) → Prop}   {b0 : Nat} {x1 : Int32} {x2 : Int32} {x3 : Int32} {x4 : Int32} {k225 : (Option Nat) → (Int32) → (AH) → (Nat) → (Nat) → Prop}  (hk225 : ∀ (x6 : Option Nat) (x7 : Int32) (h : AH) (k : Nat) (n : Nat), k225 x6 x7 h k n → VV l E X cX0_told RX0 "told" 9 r_X0_told (some .int) (vpi (fun (r : Int32) (h' : AH) => post r h')) h k n 225 [(0, va_rf (some b0)), (1, .int x1), (2, .int x2), (3, .int x3), (4, .int x4), (6, va_rf x6), (7, .int x7)] []) (x6 : Option Nat) (x7 : Int32) (h : AH) (k : Nat) (n : Nat) (hw : w_X0_told_289 post k225 b0 x1 x2 x3 x4 x6 x7 h k n) : VV l E X cX0_told RX0 "told" 9 r_X0_told (some .int) (vpi (fun (r : Int32) (h' : AH) => post r h')) h k n 289 [(0, va_rf (some b0)), (1, .int x1), (2, .int x2), (3, .int x3), (4, .int x4), (6, va_rf x6), (7, .int x7)] [] := by
  obtain ⟨z_13, e_13⟩ : ∃ z9 : Int32, z9 = x7 + (nI 1) := ⟨_, rfl⟩
  replace hw := hw z_13 e_13
  refine v_iinc (q := 6) (v := z_13) (lv1 := [(7, .int z_13), (0, va_rf (some b0)), (1, .int x1), (2, .int x2), (3, .int x3), (4, .int x4), (6, va_rf x6)]) dX0_told_289 rfl (by rw [e_13, ic_1]) (Nat.le_of_ble_eq_true rfl) (by cases x6 <;> rfl) ?_
  refine v_goto (tgt := 225) dX0_told_292 (by decide) ?_
  refine v_sub [1, 2, 3, 4, 5, 6, 0] rfl ?_
  exact hk225 x6 z_13 h k n hw
theorem b_X0_told_225 {post : (Int32) → (AH) → Prop}   {b0 : Nat} {x1 : Int32} {x2 : Int32} {x3 : Int32} {x4 : Int32}    : ∀ (n0 : Nat) (x6 : Option Nat) (x7 : Int32) (h : AH) (k : Nat) (n : Nat), w_X0_told_225 post b0 x1 x2 x3 x4 n0 x6 x7 h k n → VV l E X cX0_told RX0 "told" 9 r_X0_told (some .int) (vpi (fun (r : Int32) (h' : AH) => post r h')) h k n 225 [(0, va_rf (some b0)), (1, .int x1), (2, .int x2), (3, .int x3), (4, .int x4), (6, va_rf x6), (7, .int x7)] [] := by
  intro n0
  induction n0 with
  | zero =>
    intro x6 x7 h k n hw
    exact hw.elim
  | succ n0 ih =>
    intro x6 x7 h k n hw
    refine v_iload (q := 6) dX0_told_225 rfl ?_
    refine v_iconst dX0_told_227 ic_1 ?_
    refine v_iadd dX0_told_228 ?_
    refine v_aload (q := 5) dX0_told_229 rfl ?_
    obtain ⟨a_14, ea_14, hw⟩ := hw
    subst ea_14
    obtain ⟨fs_15, r_18, e_16, e_17, hw⟩ := hw
    refine v_getN in_X7 (ci := 8) rfl 4 (Nat.le_of_ble_eq_true rfl) q433 rfl dX0_told_231 e_16 e_17 ?_
    obtain ⟨a_19, ea_19, hw⟩ := hw
    subst ea_19
    obtain ⟨fs_102, e_103, hw⟩ := hw
    refine v_callV0 q413 q414 q415 q108 q416 (ci := 2) rfl e_103 n_J2_size ⟨Nat.le_of_ble_eq_true rfl, Nat.le_of_ble_eq_true rfl⟩ [] [.int (x7 + (nI 1))] (met_J2_size hw) rfl (Nat.le_of_ble_eq_true rfl) rfl rfl dX0_told_234 rfl (v_ki (fun z_20 h1 hv => ?_))
    clear hw
    obtain ⟨e9, hw⟩ := hv
    refine v_heap e9 ?_
    clear e9
    obtain ⟨hw_23, hw_24⟩ := hw
    refine v_icmp_ge (tgt := 295) dX0_told_237 (by decide) (fun c_21 => ?_) (fun c_22 => ?_)
    · have hw := hw_23 c_21
      refine v_aload_n (q := 0) dX0_told_295 rfl rfl ?_
      refine v_iconst dX0_told_296 ic_0 ?_
      obtain ⟨fs_25, e_26, e_27, hw⟩ := hw
      obtain ⟨h_28, eh_28⟩ : ∃ z9 : AH, z9 = va_up h b0 (some (.inr (0, fs_25.set 16 (.int (nI 0))))) := ⟨_, rfl⟩
      replace hw := hw h_28 eh_28
      refine v_put in_X0 (ci := 0) rfl 16 (Nat.le_of_ble_eq_true rfl) tyX0 tyX0_ok nmX0 q335 rfl rfl rfl rfl rfl dX0_told_297 e_26 e_27 ?_
      rw [← eh_28]
      refine v_aload_n (q := 0) dX0_told_300 rfl rfl ?_
      obtain ⟨fs_29, r_32, e_30, e_31, hw⟩ := hw
      refine v_get in_X0 (ci := 0) rfl 1 (Nat.le_of_ble_eq_true rfl) q319 rfl dX0_told_301 e_30 e_31 ?_
      obtain ⟨a_33, ea_33, hw⟩ := hw
      subst ea_33
      obtain ⟨fs_34, r_37, e_35, e_36, hw⟩ := hw
      refine v_getN in_X1 (ci := 1) rfl 3 (Nat.le_of_ble_eq_true rfl) q226 rfl dX0_told_304 e_35 e_36 ?_
      refine v_aload (q := 5) dX0_told_307 rfl ?_
      obtain ⟨a_38, ea_38, hw⟩ := hw
      subst ea_38
      obtain ⟨fs_56, e_57, hw⟩ := hw
      obtain ⟨e_54, e_55, hw⟩ := hw
      refine v_callV q445 q446 q447 q108 q448 (ci := 2) rfl e_57 n_J2_add ⟨Nat.le_of_ble_eq_true rfl, Nat.le_of_ble_eq_true rfl⟩ [va_rf (some a_14)] [] (met_J2_add hw) rfl (Nat.zero_le _) ⟨e_54, e_55⟩ dX0_told_309 rfl (v_ki (fun z_39 h_40 hv => ?_))
      clear hw
      have hw := hv
      clear hv
      refine v_pop dX0_told_312 rfl ?_
      refine v_aload_n (q := 0) dX0_told_313 rfl rfl ?_
      obtain ⟨fs_41, r_44, e_42, e_43, hw⟩ := hw
      refine v_get in_X0 (ci := 0) rfl 1 (Nat.le_of_ble_eq_true rfl) q319 rfl dX0_told_314 e_42 e_43 ?_
      obtain ⟨a_45, ea_45, hw⟩ := hw
      subst ea_45
      obtain ⟨fs_46, r_49, e_47, e_48, hw⟩ := hw
      refine v_getN in_X1 (ci := 1) rfl 3 (Nat.le_of_ble_eq_true rfl) q226 rfl dX0_told_317 e_47 e_48 ?_
      obtain ⟨a_50, ea_50, hw⟩ := hw
      subst ea_50
      obtain ⟨fs_52, e_53, hw⟩ := hw
      refine v_callV0 q413 q414 q415 q108 q416 (ci := 2) rfl e_53 n_J2_size ⟨Nat.le_of_ble_eq_true rfl, Nat.le_of_ble_eq_true rfl⟩ [] [] (met_J2_size hw) rfl (Nat.zero_le _) rfl rfl dX0_told_320 rfl (v_ki (fun z_51 h1 hv => ?_))
      clear hw
      obtain ⟨e9, hw⟩ := hv
      refine v_heap e9 ?_
      clear e9
      refine v_iconst dX0_told_323 ic_1 ?_
      refine v_isub dX0_told_324 ?_
      exact v_iret dX0_told_325 rfl ⟨_, rfl, hw⟩
    · have hw := hw_24 c_22
      refine v_aload_n (q := 0) dX0_told_240 rfl rfl ?_
      obtain ⟨fs_100, e_101, hw⟩ := hw
      refine v_callV0 q975 q977 qs28 q104 q978 (ci := 0) rfl e_101 n_X0_draw ⟨Nat.le_of_ble_eq_true rfl, Nat.le_of_ble_eq_true rfl⟩ [] [] (met_X0_draw hw) rfl (Nat.zero_le _) rfl rfl dX0_told_241 rfl (v_ki (fun z_58 h_59 hv => ?_))
      clear hw
      have hw := hv
      clear hv
      refine v_aload_n (q := 0) dX0_told_244 rfl rfl ?_
      obtain ⟨fs_60, r_63, e_61, e_62, hw⟩ := hw
      refine v_get in_X0 (ci := 0) rfl 1 (Nat.le_of_ble_eq_true rfl) q319 rfl dX0_told_245 e_61 e_62 ?_
      obtain ⟨a_64, ea_64, hw⟩ := hw
      subst ea_64
      obtain ⟨fs_65, r_68, e_66, e_67, hw⟩ := hw
      refine v_getN in_X1 (ci := 1) rfl 16 (Nat.le_of_ble_eq_true rfl) q252 rfl dX0_told_248 e_66 e_67 ?_
      obtain ⟨a_69, ea_69, hw⟩ := hw
      subst ea_69
      obtain ⟨fs_70, z_73, e_71, e_72, hw⟩ := hw
      refine v_getN in_X2 (ci := 3) rfl 1 (Nat.le_of_ble_eq_true rfl) q200 rfl dX0_told_251 e_71 e_72 ?_
      obtain ⟨hw_76, hw_77⟩ := hw
      refine v_icmp_lt (tgt := 260) dX0_told_254 (by decide) (fun c_74 => ?_) (fun c_75 => ?_)
      · have hw := hw_76 c_74
        refine v_aload (q := 5) dX0_told_260 rfl ?_
        obtain ⟨fs_78, r_81, e_79, e_80, hw⟩ := hw
        refine v_getN in_X7 (ci := 8) rfl 4 (Nat.le_of_ble_eq_true rfl) q433 rfl dX0_told_262 e_79 e_80 ?_
        refine v_iload (q := 6) dX0_told_265 rfl ?_
        obtain ⟨a_82, ea_82, hw⟩ := hw
        subst ea_82
        obtain ⟨fs_98, e_99, hw⟩ := hw
        refine v_callV0 q990 q991 q992 q108 q993 (ci := 2) rfl e_99 n_J2_remove ⟨Nat.le_of_ble_eq_true rfl, Nat.le_of_ble_eq_true rfl⟩ [.int x7] [] (met_J2_remove hw) rfl (Nat.zero_le _) rfl rfl dX0_told_267 rfl (v_kq (fun r_83 h_84 hv => ?_))
        clear hw
        have hw := hv
        clear hv
        obtain ⟨a_85, ea_85, hw⟩ := hw
        subst ea_85
        obtain ⟨fs_86, e_87, hw⟩ := hw
        refine v_cast (ci := 9) rfl q304 dX0_told_270 e_87 ?_
        refine v_astore (lv1 := [(8, va_rf (some a_85)), (0, va_rf (some b0)), (1, .int x1), (2, .int x2), (3, .int x3), (4, .int x4), (6, va_rf (some a_14)), (7, .int x7)]) dX0_told_273 (Nat.le_of_ble_eq_true rfl) rfl ?_
        refine v_aload (q := 6) dX0_told_275 rfl ?_
        obtain ⟨fs_88, r_91, e_89, e_90, hw⟩ := hw
        refine v_getN in_X7 (ci := 8) rfl 4 (Nat.le_of_ble_eq_true rfl) q433 rfl dX0_told_277 e_89 e_90 ?_
        refine v_iload (q := 7) dX0_told_280 rfl ?_
        refine v_iconst dX0_told_282 ic_1 ?_
        refine v_iadd dX0_told_283 ?_
        refine v_aload (q := 0) dX0_told_284 rfl ?_
        obtain ⟨a_92, ea_92, hw⟩ := hw
        subst ea_92
        obtain ⟨fs_96, e_97, hw⟩ := hw
        obtain ⟨e_94, e_95, hw⟩ := hw
        refine v_callV q999 q1000 q1001 q108 q1002 (ci := 2) rfl e_97 n_J2_add_3 ⟨Nat.le_of_ble_eq_true rfl, Nat.le_of_ble_eq_true rfl⟩ [.int (x7 + (nI 1)), va_rf (some a_85)] [] (met_J2_add_3 hw) rfl (Nat.zero_le _) ⟨e_94, e_95⟩ dX0_told_286 rfl (v_kv (fun h_93 hv => ?_))
        clear hw
        have hw := hv
        clear hv
        refine v_sub [1, 2, 3, 4, 5, 6, 7] rfl ?_
        exact b_X0_told_289 (fun q0 q1 q2 q3 q4 z => ih q0 q1 q2 q3 q4 z) (some a_14) x7 h_93 (k + 1) (n + 63) hw
      · have hw := hw_77 c_75
        refine v_goto (tgt := 289) dX0_told_257 (by decide) ?_
        refine v_sub [0, 1, 2, 3, 4, 5, 6] rfl ?_
        exact b_X0_told_289 (fun q0 q1 q2 q3 q4 z => ih q0 q1 q2 q3 q4 z) (some a_14) x7 h_59 k n hw
theorem b_X0_told_104 {post : (Int32) → (AH) → Prop}   {b0 : Nat} {x1 : Int32} {x2 : Int32} {x3 : Int32} {x4 : Int32}    : ∀ (n0 : Nat) (x5 : Option Nat) (x6 : Option Nat) (x7 : Int32) (h : AH) (k : Nat) (n : Nat), w_X0_told_104 post b0 x1 x2 x3 x4 n0 x5 x6 x7 h k n → VV l E X cX0_told RX0 "told" 9 r_X0_told (some .int) (vpi (fun (r : Int32) (h' : AH) => post r h')) h k n 104 [(0, va_rf (some b0)), (1, .int x1), (2, .int x2), (3, .int x3), (4, .int x4), (5, va_rf x5), (6, va_rf x6), (7, .int x7)] [] := by
  intro n0
  induction n0 with
  | zero =>
    intro x5 x6 x7 h k n hw
    exact hw.elim
  | succ n0 ih =>
    intro x5 x6 x7 h k n hw
    refine v_iload (q := 7) dX0_told_104 rfl ?_
    refine v_aload (q := 5) dX0_told_106 rfl ?_
    obtain ⟨a_104, ea_104, hw⟩ := hw
    subst ea_104
    obtain ⟨fs_105, r_108, e_106, e_107, hw⟩ := hw
    refine v_getN in_X7 (ci := 8) rfl 4 (Nat.le_of_ble_eq_true rfl) q433 rfl dX0_told_108 e_106 e_107 ?_
    obtain ⟨a_109, ea_109, hw⟩ := hw
    subst ea_109
    obtain ⟨fs_209, e_210, hw⟩ := hw
    refine v_callV0 q413 q414 q415 q108 q416 (ci := 2) rfl e_210 n_J2_size ⟨Nat.le_of_ble_eq_true rfl, Nat.le_of_ble_eq_true rfl⟩ [] [.int x7] (met_J2_size hw) rfl (Nat.le_of_ble_eq_true rfl) rfl rfl dX0_told_111 rfl (v_ki (fun z_110 h1 hv => ?_))
    clear hw
    obtain ⟨e9, hw⟩ := hv
    refine v_heap e9 ?_
    clear e9
    obtain ⟨hw_113, hw_114⟩ := hw
    refine v_icmp_ge (tgt := 204) dX0_told_114 (by decide) (fun c_111 => ?_) (fun c_112 => ?_)
    · have hw := hw_113 c_111
      refine v_aload (q := 6) dX0_told_204 rfl ?_
      obtain ⟨a_115, ea_115, hw⟩ := hw
      subst ea_115
      obtain ⟨fs_116, r_119, e_117, e_118, hw⟩ := hw
      refine v_getN in_X7 (ci := 8) rfl 4 (Nat.le_of_ble_eq_true rfl) q433 rfl dX0_told_206 e_117 e_118 ?_
      obtain ⟨a_120, ea_120, hw⟩ := hw
      subst ea_120
      obtain ⟨fs_131, e_132, hw⟩ := hw
      refine v_callV0 q986 q987 q988 q108 q989 (ci := 2) rfl e_132 n_J2_isEmpty ⟨Nat.le_of_ble_eq_true rfl, Nat.le_of_ble_eq_true rfl⟩ [] [] (met_J2_isEmpty hw) rfl (Nat.zero_le _) rfl rfl dX0_told_209 rfl (v_ki (fun z_121 h1 hv => ?_))
      clear hw
      obtain ⟨e9, hw⟩ := hv
      refine v_heap e9 ?_
      clear e9
      obtain ⟨hw_124, hw_125⟩ := hw
      refine v_if_eq (tgt := 222) dX0_told_212 (by decide) (fun c_122 => ?_) (fun c_123 => ?_)
      · have hw := hw_124 c_122
        refine v_iconst dX0_told_222 ic_0 ?_
        refine v_istore (lv1 := [(7, .int (nI 0)), (0, va_rf (some b0)), (1, .int x1), (2, .int x2), (3, .int x3), (4, .int x4), (5, va_rf (some a_104)), (6, va_rf (some a_115))]) dX0_told_223 (Nat.le_of_ble_eq_true rfl) rfl ?_
        obtain ⟨n_126, hw⟩ := hw
        refine v_sub [1, 2, 3, 4, 5, 7, 0] rfl ?_
        exact b_X0_told_225 n_126 (some a_115) (nI 0) h k n hw
      · have hw := hw_125 c_123
        refine v_aload_n (q := 0) dX0_told_215 rfl rfl ?_
        refine v_bipush dX0_told_216 bp_m5 ?_
        obtain ⟨fs_129, e_130, hw⟩ := hw
        refine v_callV0 q396 q398 qs0 q104 q399 (ci := 0) rfl e_130 n_X0_refuse ⟨Nat.le_of_ble_eq_true rfl, Nat.le_of_ble_eq_true rfl⟩ [.int (-5)] [] (met_X0_refuse hw) rfl (Nat.zero_le _) rfl rfl dX0_told_218 rfl (v_ki (fun z_127 h_128 hv => ?_))
        clear hw
        have hw := hv
        clear hv
        exact v_iret dX0_told_221 rfl ⟨_, rfl, hw⟩
    · have hw := hw_114 c_112
      refine v_aload_n (q := 0) dX0_told_117 rfl rfl ?_
      obtain ⟨fs_207, e_208, hw⟩ := hw
      refine v_callV0 q975 q977 qs28 q104 q978 (ci := 0) rfl e_208 n_X0_draw ⟨Nat.le_of_ble_eq_true rfl, Nat.le_of_ble_eq_true rfl⟩ [] [] (met_X0_draw hw) rfl (Nat.zero_le _) rfl rfl dX0_told_118 rfl (v_ki (fun z_133 h_134 hv => ?_))
      clear hw
      have hw := hv
      clear hv
      refine v_aload_n (q := 0) dX0_told_121 rfl rfl ?_
      obtain ⟨fs_135, r_138, e_136, e_137, hw⟩ := hw
      refine v_get in_X0 (ci := 0) rfl 1 (Nat.le_of_ble_eq_true rfl) q319 rfl dX0_told_122 e_136 e_137 ?_
      obtain ⟨a_139, ea_139, hw⟩ := hw
      subst ea_139
      obtain ⟨fs_140, r_143, e_141, e_142, hw⟩ := hw
      refine v_getN in_X1 (ci := 1) rfl 16 (Nat.le_of_ble_eq_true rfl) q252 rfl dX0_told_125 e_141 e_142 ?_
      obtain ⟨a_144, ea_144, hw⟩ := hw
      subst ea_144
      obtain ⟨fs_145, z_148, e_146, e_147, hw⟩ := hw
      refine v_getN in_X2 (ci := 3) rfl 0 (Nat.le_of_ble_eq_true rfl) q198 rfl dX0_told_128 e_146 e_147 ?_
      obtain ⟨hw_151, hw_152⟩ := hw
      refine v_icmp_ge (tgt := 137) dX0_told_131 (by decide) (fun c_149 => ?_) (fun c_150 => ?_)
      · have hw := hw_151 c_149
        refine v_aload_n (q := 0) dX0_told_137 rfl rfl ?_
        refine v_aload (q := 5) dX0_told_138 rfl ?_
        obtain ⟨fs_153, r_156, e_154, e_155, hw⟩ := hw
        refine v_getN in_X7 (ci := 8) rfl 4 (Nat.le_of_ble_eq_true rfl) q433 rfl dX0_told_140 e_154 e_155 ?_
        refine v_iload (q := 7) dX0_told_143 rfl ?_
        obtain ⟨a_157, ea_157, hw⟩ := hw
        subst ea_157
        obtain ⟨fs_205, e_206, hw⟩ := hw
        refine v_callV0 q577 q578 q579 q108 q580 (ci := 2) rfl e_206 n_J2_get ⟨Nat.le_of_ble_eq_true rfl, Nat.le_of_ble_eq_true rfl⟩ [.int x7] [va_rf (some b0)] (met_J2_get hw) rfl (by simp only [List.map_cons, List.map_nil, List.sum_cons, List.sum_nil, v_rf1, v_cI, v_cJ]; decide) rfl rfl dX0_told_145 rfl (v_kq (fun r_158 h1 hv => ?_))
        clear hw
        obtain ⟨e9, hw⟩ := hv
        refine v_heap e9 ?_
        clear e9
        obtain ⟨a_159, ea_159, hw⟩ := hw
        subst ea_159
        obtain ⟨fs_160, e_161, hw⟩ := hw
        refine v_cast (ci := 9) rfl q304 dX0_told_148 e_161 ?_
        obtain ⟨fs_203, e_204, hw⟩ := hw
        obtain ⟨e_201, e_202, hw⟩ := hw
        refine v_callV q980 q982 qs29 q104 q983 (ci := 0) rfl e_204 n_X0_said ⟨Nat.le_of_ble_eq_true rfl, Nat.le_of_ble_eq_true rfl⟩ [va_rf (some a_159)] [] (met_X0_said hw) rfl (Nat.zero_le _) ⟨e_201, e_202⟩ dX0_told_151 rfl (v_kq (fun r_162 h_163 hv => ?_))
        clear hw
        have hw := hv
        clear hv
        refine v_astore (lv1 := [(8, va_rf r_162), (0, va_rf (some b0)), (1, .int x1), (2, .int x2), (3, .int x3), (4, .int x4), (5, va_rf (some a_104)), (6, va_rf x6), (7, .int x7)]) dX0_told_154 (Nat.le_of_ble_eq_true rfl) rfl ?_
        refine v_aload (q := 7) dX0_told_156 rfl ?_
        obtain ⟨a_164, ea_164, hw⟩ := hw
        subst ea_164
        obtain ⟨fs_165, r_168, e_166, e_167, hw⟩ := hw
        refine v_getN in_X7 (ci := 8) rfl 4 (Nat.le_of_ble_eq_true rfl) q433 rfl dX0_told_158 e_166 e_167 ?_
        refine v_aload_n (q := 1) dX0_told_161 rfl rfl ?_
        obtain ⟨fs_199, e_200, hw⟩ := hw
        refine v_callV0 q975 q977 qs28 q104 q978 (ci := 0) rfl e_200 n_X0_draw ⟨Nat.le_of_ble_eq_true rfl, Nat.le_of_ble_eq_true rfl⟩ [] [va_rf r_168] (met_X0_draw hw) rfl (by simp only [List.map_cons, List.map_nil, List.sum_cons, List.sum_nil, v_rf1, v_cI, v_cJ]; decide) rfl rfl dX0_told_162 rfl (v_ki (fun z_169 h_170 hv => ?_))
        clear hw
        have hw := hv
        clear hv
        refine v_aload_n (q := 1) dX0_told_165 rfl rfl ?_
        obtain ⟨fs_171, r_174, e_172, e_173, hw⟩ := hw
        refine v_get in_X0 (ci := 0) rfl 1 (Nat.le_of_ble_eq_true rfl) q319 rfl dX0_told_166 e_172 e_173 ?_
        obtain ⟨a_175, ea_175, hw⟩ := hw
        subst ea_175
        obtain ⟨fs_176, r_179, e_177, e_178, hw⟩ := hw
        refine v_getN in_X1 (ci := 1) rfl 16 (Nat.le_of_ble_eq_true rfl) q252 rfl dX0_told_169 e_177 e_178 ?_
        obtain ⟨a_180, ea_180, hw⟩ := hw
        subst ea_180
        obtain ⟨fs_181, z_184, e_182, e_183, hw⟩ := hw
        refine v_getN in_X2 (ci := 3) rfl 2 (Nat.le_of_ble_eq_true rfl) q202 rfl dX0_told_172 e_182 e_183 ?_
        obtain ⟨hw_187, hw_188⟩ := hw
        refine v_icmp_ge (tgt := 192) dX0_told_175 (by decide) (fun c_185 => ?_) (fun c_186 => ?_)
        · have hw := hw_187 c_185
          refine v_aload (q := 0) dX0_told_192 rfl ?_
          refine v_sub [1, 2, 3, 4, 5, 6, 7, 8] rfl ?_
          exact b_X0_told_194 (fun q0 q1 q2 q3 q4 q5 z => ih q0 q1 q2 q3 q4 q5 z) (some a_104) (some a_164) x7 r_162 r_168 h_170 (k + 2) (n + 10) hw
        · have hw := hw_188 c_186
          refine v_aload_n (q := 1) dX0_told_178 rfl rfl ?_
          refine v_aload (q := 0) dX0_told_179 rfl ?_
          refine v_aload (q := 6) dX0_told_181 rfl ?_
          obtain ⟨fs_189, z_192, e_190, e_191, hw⟩ := hw
          refine v_getN in_X7 (ci := 8) rfl 1 (Nat.le_of_ble_eq_true rfl) q428 rfl dX0_told_183 e_190 e_191 ?_
          obtain ⟨fs_197, e_198, hw⟩ := hw
          obtain ⟨e_195, e_196, hw⟩ := hw
          refine v_callV q911 q913 qs26 q104 q914 (ci := 0) rfl e_198 n_X0_smooths ⟨Nat.le_of_ble_eq_true rfl, Nat.le_of_ble_eq_true rfl⟩ [va_rf r_162, .int z_192] [va_rf r_168] (met_X0_smooths hw) rfl (by simp only [List.map_cons, List.map_nil, List.sum_cons, List.sum_nil, v_rf1, v_cI, v_cJ]; decide) ⟨e_195, e_196⟩ dX0_told_186 rfl (v_kq (fun r_193 h_194 hv => ?_))
          clear hw
          have hw := hv
          clear hv
          refine v_goto (tgt := 194) dX0_told_189 (by decide) ?_
          refine v_sub [1, 2, 3, 4, 5, 6, 7, 8] rfl ?_
          exact b_X0_told_194 (fun q0 q1 q2 q3 q4 q5 z => ih q0 q1 q2 q3 q4 q5 z) (some a_104) (some a_164) x7 r_193 r_168 h_194 ((k + 2) + 24) ((n + 10) + 120) hw
      · have hw := hw_152 c_150
        refine v_goto (tgt := 198) dX0_told_134 (by decide) ?_
        refine v_sub [0, 1, 2, 3, 4, 5, 6, 7] rfl ?_
        exact b_X0_told_198 (fun q0 q1 q2 q3 q4 q5 z => ih q0 q1 q2 q3 q4 q5 z) (some a_104) x6 x7 h_134 k n hw
theorem e_X0_told {post : (Int32) → (AH) → Prop}   {b0 : Nat} {x1 : Int32} {x2 : Int32} {x3 : Int32} {x4 : Int32} {h : AH}  (hw : w_X0_told post  b0 x1 x2 x3 x4 h) : VV l E X cX0_told RX0 "told" 9 r_X0_told (some .int) (vpi (fun (r : Int32) (h' : AH) => post r h')) h 0 0 0 [(0, va_rf (some b0)), (1, .int x1), (2, .int x2), (3, .int x3), (4, .int x4)] [] := by
  refine v_aload_n (q := 0) dX0_told_0 rfl rfl ?_
  refine v_iload_n (q := 1) dX0_told_1 rfl rfl ?_
  obtain ⟨fs_290, e_291, hw⟩ := hw
  refine v_callV0 q525 q527 qs4 q104 q528 (ci := 0) rfl e_291 n_X0_isSong ⟨Nat.le_of_ble_eq_true rfl, Nat.le_of_ble_eq_true rfl⟩ [.int x1] [] (met_X0_isSong hw) rfl (Nat.zero_le _) rfl rfl dX0_told_2 rfl (v_ki (fun z_211 h1 hv => ?_))
  clear hw
  obtain ⟨e9, hw⟩ := hv
  refine v_heap e9 ?_
  clear e9
  obtain ⟨hw_214, hw_215⟩ := hw
  refine v_if_ne (tgt := 15) dX0_told_5 (by decide) (fun c_212 => ?_) (fun c_213 => ?_)
  · have hw := hw_214 c_212
    refine v_iload_n (q := 2) dX0_told_15 rfl rfl ?_
    refine v_callS0 q404 q405 q104 q406 n_X0_isGlen ⟨Nat.le_of_ble_eq_true rfl, Nat.le_of_ble_eq_true rfl⟩ [.int x2] [] (met_X0_isGlen hw) rfl (Nat.zero_le _) rfl rfl dX0_told_16 rfl (v_ki (fun z_216 h1 hv => ?_))
    clear hw
    obtain ⟨e9, hw⟩ := hv
    refine v_heap e9 ?_
    clear e9
    obtain ⟨hw_219, hw_220⟩ := hw
    refine v_if_eq (tgt := 29) dX0_told_19 (by decide) (fun c_217 => ?_) (fun c_218 => ?_)
    · have hw := hw_219 c_217
      refine v_sub [0, 1, 2, 3, 4] rfl ?_
      exact b_X0_told_29 h 0 0 hw
    · have hw := hw_220 c_218
      refine v_iload_n (q := 3) dX0_told_22 rfl rfl ?_
      refine v_callS0 q408 q409 q104 q410 n_X0_isDay ⟨Nat.le_of_ble_eq_true rfl, Nat.le_of_ble_eq_true rfl⟩ [.int x3] [] (met_X0_isDay hw) rfl (Nat.zero_le _) rfl rfl dX0_told_23 rfl (v_ki (fun z_221 h1 hv => ?_))
      clear hw
      obtain ⟨e9, hw⟩ := hv
      refine v_heap e9 ?_
      clear e9
      obtain ⟨hw_224, hw_225⟩ := hw
      refine v_if_ne (tgt := 36) dX0_told_26 (by decide) (fun c_222 => ?_) (fun c_223 => ?_)
      · have hw := hw_224 c_222
        refine v_aload_n (q := 0) dX0_told_36 rfl rfl ?_
        obtain ⟨fs_226, r_229, e_227, e_228, hw⟩ := hw
        refine v_get in_X0 (ci := 0) rfl 1 (Nat.le_of_ble_eq_true rfl) q319 rfl dX0_told_37 e_227 e_228 ?_
        obtain ⟨a_230, ea_230, hw⟩ := hw
        subst ea_230
        obtain ⟨fs_231, r_234, e_232, e_233, hw⟩ := hw
        refine v_getN in_X1 (ci := 1) rfl 3 (Nat.le_of_ble_eq_true rfl) q226 rfl dX0_told_40 e_232 e_233 ?_
        obtain ⟨a_235, ea_235, hw⟩ := hw
        subst ea_235
        obtain ⟨fs_284, e_285, hw⟩ := hw
        refine v_callV0 q413 q414 q415 q108 q416 (ci := 2) rfl e_285 n_J2_size ⟨Nat.le_of_ble_eq_true rfl, Nat.le_of_ble_eq_true rfl⟩ [] [] (met_J2_size hw) rfl (Nat.zero_le _) rfl rfl dX0_told_43 rfl (v_ki (fun z_236 h1 hv => ?_))
        clear hw
        obtain ⟨e9, hw⟩ := hv
        refine v_heap e9 ?_
        clear e9
        refine v_bipush dX0_told_46 bp_40 ?_
        obtain ⟨hw_239, hw_240⟩ := hw
        refine v_icmp_ne (tgt := 58) dX0_told_48 (by decide) (fun c_237 => ?_) (fun c_238 => ?_)
        · have hw := hw_239 c_237
          refine v_aload_n (q := 0) dX0_told_58 rfl rfl ?_
          obtain ⟨fs_241, r_244, e_242, e_243, hw⟩ := hw
          refine v_get in_X0 (ci := 0) rfl 1 (Nat.le_of_ble_eq_true rfl) q319 rfl dX0_told_59 e_242 e_243 ?_
          obtain ⟨a_245, ea_245, hw⟩ := hw
          subst ea_245
          obtain ⟨fs_246, r_249, e_247, e_248, hw⟩ := hw
          refine v_getN in_X1 (ci := 1) rfl 3 (Nat.le_of_ble_eq_true rfl) q226 rfl dX0_told_62 e_247 e_248 ?_
          refine v_iload_n (q := 1) dX0_told_65 rfl rfl ?_
          obtain ⟨a_250, ea_250, hw⟩ := hw
          subst ea_250
          obtain ⟨fs_278, e_279, hw⟩ := hw
          refine v_callV0 q577 q578 q579 q108 q580 (ci := 2) rfl e_279 n_J2_get ⟨Nat.le_of_ble_eq_true rfl, Nat.le_of_ble_eq_true rfl⟩ [.int x1] [] (met_J2_get hw) rfl (Nat.zero_le _) rfl rfl dX0_told_66 rfl (v_kq (fun r_251 h1 hv => ?_))
          clear hw
          obtain ⟨e9, hw⟩ := hv
          refine v_heap e9 ?_
          clear e9
          obtain ⟨a_252, ea_252, hw⟩ := hw
          subst ea_252
          obtain ⟨fs_253, e_254, hw⟩ := hw
          refine v_cast (ci := 8) rfl q417 dX0_told_69 e_254 ?_
          refine v_astore (lv1 := [(5, va_rf (some a_252)), (0, va_rf (some b0)), (1, .int x1), (2, .int x2), (3, .int x3), (4, .int x4)]) dX0_told_72 (Nat.le_of_ble_eq_true rfl) rfl ?_
          obtain ⟨e_258, e_259, hw⟩ := hw
          refine v_new in_X7 (ci := 8) rfl tyX7 tyX7_ok q417 q418 q114 dfX7_ok e_258 e_259 dX0_told_74 (fun a_255 e_256 => ?_)
          obtain ⟨h_257, eh_257⟩ : ∃ z9 : AH, z9 = va_up h a_255 (some (.inr (8, dfX7))) := ⟨_, rfl⟩
          replace hw := hw a_255 e_256 h_257 eh_257
          rw [← eh_257]
          refine v_dup dX0_told_77 (v_rf1 _) ?_
          refine v_aload (q := 0) dX0_told_78 rfl ?_
          obtain ⟨fs_262, z_265, e_263, e_264, hw⟩ := hw
          refine v_getN in_X7 (ci := 8) rfl 1 (Nat.le_of_ble_eq_true rfl) q428 rfl dX0_told_80 e_263 e_264 ?_
          refine v_aload (q := 0) dX0_told_83 rfl ?_
          obtain ⟨fs_266, z_269, e_267, e_268, hw⟩ := hw
          refine v_getN in_X7 (ci := 8) rfl 1 (Nat.le_of_ble_eq_true rfl) q428 rfl dX0_told_85 e_267 e_268 ?_
          refine v_iload_n (q := 3) dX0_told_88 rfl rfl ?_
          refine v_iload_n (q := 4) dX0_told_89 rfl rfl ?_
          obtain ⟨e_276, e_277, hw⟩ := hw
          refine v_callI q419 q420 q114 q421 rfl n_X7_init ⟨Nat.le_of_ble_eq_true rfl, Nat.le_of_ble_eq_true rfl⟩ [.int z_265, .int z_269, .int x2, .int x3] [va_rf (some a_255)] (met_X7_init hw) rfl (by simp only [List.map_cons, List.map_nil, List.sum_cons, List.sum_nil, v_rf1, v_cI, v_cJ]; decide) ⟨e_276, e_277⟩ dX0_told_90 rfl (v_kv (fun h_270 hv => ?_))
          clear hw
          have hw := hv
          clear hv
          refine v_astore (lv1 := [(6, va_rf (some a_255)), (5, va_rf (some a_252)), (0, va_rf (some b0)), (1, .int x1), (2, .int x2), (3, .int x3), (4, .int x4)]) dX0_told_93 (Nat.le_of_ble_eq_true rfl) rfl ?_
          refine v_aload_n (q := 2) dX0_told_95 rfl rfl ?_
          refine v_iload (q := 6) dX0_told_96 rfl ?_
          obtain ⟨fs_271, e_272, e_273, hw⟩ := hw
          obtain ⟨h_274, eh_274⟩ : ∃ z9 : AH, z9 = va_up h_270 b0 (some (.inr (0, fs_271.set 8 (.int x4)))) := ⟨_, rfl⟩
          replace hw := hw h_274 eh_274
          refine v_put in_X0 (ci := 0) rfl 8 (Nat.le_of_ble_eq_true rfl) tyX0 tyX0_ok nmX0 q327 rfl rfl rfl rfl rfl dX0_told_98 e_272 e_273 ?_
          rw [← eh_274]
          refine v_iconst dX0_told_101 ic_0 ?_
          refine v_istore (lv1 := [(7, .int (nI 0)), (6, va_rf (some a_255)), (5, va_rf (some a_252)), (0, va_rf (some b0)), (1, .int x1), (2, .int x2), (3, .int x3), (4, .int x4)]) dX0_told_102 (Nat.le_of_ble_eq_true rfl) rfl ?_
          obtain ⟨n_275, hw⟩ := hw
          refine v_sub [3, 4, 5, 6, 7, 2, 1, 0] rfl ?_
          exact b_X0_told_104 n_275 (some a_252) (some a_255) (nI 0) h_274 ((0 + 1) + 2) ((0 + 5) + 5) hw
        · have hw := hw_240 c_238
          refine v_aload_n (q := 0) dX0_told_51 rfl rfl ?_
          refine v_bipush dX0_told_52 bp_m4 ?_
          obtain ⟨fs_282, e_283, hw⟩ := hw
          refine v_callV0 q396 q398 qs0 q104 q399 (ci := 0) rfl e_283 n_X0_refuse ⟨Nat.le_of_ble_eq_true rfl, Nat.le_of_ble_eq_true rfl⟩ [.int (-4)] [] (met_X0_refuse hw) rfl (Nat.zero_le _) rfl rfl dX0_told_54 rfl (v_ki (fun z_280 h_281 hv => ?_))
          clear hw
          have hw := hv
          clear hv
          exact v_iret dX0_told_57 rfl ⟨_, rfl, hw⟩
      · have hw := hw_225 c_223
        refine v_sub [0, 1, 2, 3, 4] rfl ?_
        exact b_X0_told_29 h 0 0 hw
  · have hw := hw_215 c_213
    refine v_aload_n (q := 0) dX0_told_8 rfl rfl ?_
    refine v_bipush dX0_told_9 bp_m2 ?_
    obtain ⟨fs_288, e_289, hw⟩ := hw
    refine v_callV0 q396 q398 qs0 q104 q399 (ci := 0) rfl e_289 n_X0_refuse ⟨Nat.le_of_ble_eq_true rfl, Nat.le_of_ble_eq_true rfl⟩ [.int (-2)] [] (met_X0_refuse hw) rfl (Nat.zero_le _) rfl rfl dX0_told_11 rfl (v_ki (fun z_286 h_287 hv => ?_))
    clear hw
    have hw := hv
    clear hv
    exact v_iret dX0_told_14 rfl ⟨_, rfl, hw⟩
theorem met_X0_told {post : (Int32) → (AH) → Prop}   {b0 : Nat} {x1 : Int32} {x2 : Int32} {x3 : Int32} {x4 : Int32} {h : AH}  (hw : w_X0_told post  b0 x1 x2 x3 x4 h) : Mt l E yX0_told (ws_ yX0_told cX0_told 9 (some .int)) r_X0_told [va_rf (some b0), .int x1, .int x2, .int x3, .int x4] h (vpi (fun (r : Int32) (h' : AH) => post r h')) := v_entry (by decide +kernel) (Nat.le_of_ble_eq_true rfl) rfl (fun _ => e_X0_told hw)
/-! X0_laySmooth -/
abbrev r_X0_laySmooth : Room := { frames := 207, cells := 11520, slots := 57600, locals := 8252 }
theorem n_X0_laySmooth : vdn yX0_laySmooth 0 := ⟨by decide +kernel, by decide +kernel, by decide +kernel⟩
def w_X0_laySmooth_101 (post : (AH) → Prop) (k15 : (Int32) → (AH) → (Nat) → (Nat) → Prop) (b0 : Nat) (x1 : Int32) (h : AH) (k : Nat) (n : Nat) : Prop :=
 (∀ z_1 : Int32, z_1 = x1 + (nI 1) → (k15 z_1 h k n))
def w_X0_laySmooth_46 (post : (AH) → Prop) (k15 : (Int32) → (AH) → (Nat) → (Nat) → Prop) (b0 : Nat) : Nat → (Int32) → (Option Nat) → (Int32) → (AH) → (Nat) → (Nat) → Prop
 | 0, _, _, _, _, _, _ => False
 | n0 + 1, x1, x2, x3, h, k, n =>
 (∃ fs_57 : List Value, h b0 = some (.inr (0, fs_57)) ∧ (w_X0_isEarly (fun (z_2 : Int32) => ((z_2 = 0 → (w_X0_laySmooth_101 post k15 b0 x1 h k n)) ∧ (¬ z_2 = 0 → (∃ a_7 : Nat, x2 = some a_7 ∧ (∃ (fs_8 : List Value) (r_11 : Option Nat), h a_7 = some (.inr (8, fs_8)) ∧ fs_8[4]? = some (va_rf r_11) ∧ (∃ a_12 : Nat, r_11 = some a_12 ∧ (∃ fs_55 : List Value, h a_12 = some (.inr (2, fs_55)) ∧ (w_J2_size (fun (z_13 : Int32) => ((z_13 ≤ x3 → (w_X0_laySmooth_101 post k15 b0 x1 h k n)) ∧ (¬ z_13 ≤ x3 → (∃ (fs_18 : List Value) (r_21 : Option Nat), h b0 = some (.inr (0, fs_18)) ∧ fs_18[14]? = some (va_rf r_21) ∧ (∃ (fs_22 : List Value) (r_25 : Option Nat), h a_7 = some (.inr (8, fs_22)) ∧ fs_22[4]? = some (va_rf r_25) ∧ (∃ a_26 : Nat, r_25 = some a_26 ∧ (∃ fs_53 : List Value, h a_26 = some (.inr (2, fs_53)) ∧ (w_J2_get (fun (r_27 : Option Nat) => (∃ a_28 : Nat, r_27 = some a_28 ∧ (∃ fs_29 : List Value, h a_28 = some (.inr (9, fs_29)) ∧ (∃ (fs_31 : List Value) (z_34 : Int32), h a_7 = some (.inr (8, fs_31)) ∧ fs_31[1]? = some (.int z_34) ∧ (∃ fs_51 : List Value, h b0 = some (.inr (0, fs_51)) ∧ (k + 24 ≤ 11520 ∧ n + 120 ≤ 57600 ∧ (w_X0_smooths (fun (r_35 : Option Nat) (h_36 : AH) => (∃ a_37 : Nat, r_21 = some a_37 ∧ (∃ a_43 : Nat, r_35 = some a_43 ∧ (∃ fs_44 : List Value, h_36 a_43 = some (.inr (9, fs_44)) ∧ ∃ (N_38 : Nat) (g_39 : Nat → Option Nat), h_36 a_37 = (some (.inl (6, N_38, .inr (.inr (.inr (.inr g_39)))))) ∧ vp_in (((nI 12) * x1) + x3) N_38 ∧ ∀ h_42 : AH, h_42 = va_up h_36 a_37 (some (.inl (6, N_38, .inr (.inr (.inr (.inr (va_up g_39 ((((nI 12) * x1) + x3)).toNatClampNeg (some a_43)))))))) → (∀ z_48 : Int32, z_48 = x3 + (nI 1) → (w_X0_laySmooth_46 post k15 b0 n0 x1 (some a_7) z_48 h_42 (k + 24) (n + 120))))))) b0 (some a_28) z_34 h))))))) a_26 x3 h)))))))) a_12 h)))))))) b0 x2 h))
def w_X0_laySmooth_15 (post : (AH) → Prop) (b0 : Nat) : Nat → (Int32) → (AH) → (Nat) → (Nat) → Prop
 | 0, _, _, _, _ => False
 | n0 + 1, x1, h, k, n =>
 (∃ (fs_59 : List Value) (r_62 : Option Nat), h b0 = some (.inr (0, fs_59)) ∧ fs_59[1]? = some (va_rf r_62) ∧ (∃ a_63 : Nat, r_62 = some a_63 ∧ (∃ (fs_64 : List Value) (r_67 : Option Nat), h a_63 = some (.inr (1, fs_64)) ∧ fs_64[3]? = some (va_rf r_67) ∧ (∃ a_68 : Nat, r_67 = some a_68 ∧ (∃ fs_91 : List Value, h a_68 = some (.inr (2, fs_91)) ∧ (w_J2_size (fun (z_69 : Int32) => ((z_69 ≤ x1 → (post h)) ∧ (¬ z_69 ≤ x1 → (∃ (fs_74 : List Value) (r_77 : Option Nat), h b0 = some (.inr (0, fs_74)) ∧ fs_74[1]? = some (va_rf r_77) ∧ (∃ a_78 : Nat, r_77 = some a_78 ∧ (∃ (fs_79 : List Value) (r_82 : Option Nat), h a_78 = some (.inr (1, fs_79)) ∧ fs_79[3]? = some (va_rf r_82) ∧ (∃ a_83 : Nat, r_82 = some a_83 ∧ (∃ fs_89 : List Value, h a_83 = some (.inr (2, fs_89)) ∧ (w_J2_get (fun (r_84 : Option Nat) => (∃ a_85 : Nat, r_84 = some a_85 ∧ (∃ fs_86 : List Value, h a_85 = some (.inr (8, fs_86)) ∧ (∃ n1 : Nat, (w_X0_laySmooth_46 post (fun (q0 : Int32) (q1 : AH) (q2 : Nat) (q3 : Nat) => w_X0_laySmooth_15 post b0 n0 q0 q1 q2 q3) b0 n1 x1 (some a_85) (nI 0) h k n))))) a_83 x1 h))))))))) a_68 h))))))
def w_X0_laySmooth (post : (AH) → Prop) (b0 : Nat) (h : AH) : Prop :=
 (∃ (fs_93 : List Value) (z_96 : Int32), h b0 = some (.inr (0, fs_93)) ∧ fs_93[16]? = some (.int z_96) ∧ ((z_96 = 0 → (∃ fs_101 : List Value, h b0 = some (.inr (0, fs_101)) ∧ 16 < fs_101.length ∧ ∀ h_104 : AH, h_104 = va_up h b0 (some (.inr (0, fs_101.set 16 (.int (nI 1))))) → (∃ n1 : Nat, (w_X0_laySmooth_15 post b0 n1 (nI 0) h_104 0 0)))) ∧ (¬ z_96 = 0 → (post h))))
theorem b_X0_laySmooth_101 {post : (AH) → Prop}   {b0 : Nat} {k15 : (Int32) → (AH) → (Nat) → (Nat) → Prop}  (hk15 : ∀ (x1 : Int32) (h : AH) (k : Nat) (n : Nat), k15 x1 h k n → VV l E X cX0_laySmooth RX0 "laySmooth" 4 r_X0_laySmooth none (vpv (fun (h' : AH) => post h')) h k n 15 [(0, va_rf (some b0)), (1, .int x1)] []) (x1 : Int32) (h : AH) (k : Nat) (n : Nat) (hw : w_X0_laySmooth_101 post k15 b0 x1 h k n) : VV l E X cX0_laySmooth RX0 "laySmooth" 4 r_X0_laySmooth none (vpv (fun (h' : AH) => post h')) h k n 101 [(0, va_rf (some b0)), (1, .int x1)] [] := by
  obtain ⟨z_1, e_1⟩ : ∃ z9 : Int32, z9 = x1 + (nI 1) := ⟨_, rfl⟩
  replace hw := hw z_1 e_1
  refine v_iinc (q := 1) (v := z_1) (lv1 := [(1, .int z_1), (0, va_rf (some b0))]) dX0_laySmooth_101 rfl (by rw [e_1, ic_1]) (Nat.le_of_ble_eq_true rfl) rfl ?_
  refine v_goto (tgt := 15) dX0_laySmooth_104 (by decide) ?_
  refine v_sub [1, 0] rfl ?_
  exact hk15 z_1 h k n hw
theorem b_X0_laySmooth_46 {post : (AH) → Prop}   {b0 : Nat} {k15 : (Int32) → (AH) → (Nat) → (Nat) → Prop}  (hk15 : ∀ (x1 : Int32) (h : AH) (k : Nat) (n : Nat), k15 x1 h k n → VV l E X cX0_laySmooth RX0 "laySmooth" 4 r_X0_laySmooth none (vpv (fun (h' : AH) => post h')) h k n 15 [(0, va_rf (some b0)), (1, .int x1)] []) : ∀ (n0 : Nat) (x1 : Int32) (x2 : Option Nat) (x3 : Int32) (h : AH) (k : Nat) (n : Nat), w_X0_laySmooth_46 post k15 b0 n0 x1 x2 x3 h k n → VV l E X cX0_laySmooth RX0 "laySmooth" 4 r_X0_laySmooth none (vpv (fun (h' : AH) => post h')) h k n 46 [(0, va_rf (some b0)), (1, .int x1), (2, va_rf x2), (3, .int x3)] [] := by
  intro n0
  induction n0 with
  | zero =>
    intro x1 x2 x3 h k n hw
    exact hw.elim
  | succ n0 ih =>
    intro x1 x2 x3 h k n hw
    refine v_aload_n (q := 0) dX0_laySmooth_46 rfl rfl ?_
    refine v_aload_n (q := 2) dX0_laySmooth_47 rfl rfl ?_
    obtain ⟨fs_57, e_58, hw⟩ := hw
    refine v_callV0 q1015 q1017 qs33 q104 q1018 (ci := 0) rfl e_58 n_X0_isEarly ⟨Nat.le_of_ble_eq_true rfl, Nat.le_of_ble_eq_true rfl⟩ [va_rf x2] [] (met_X0_isEarly hw) rfl (Nat.zero_le _) rfl rfl dX0_laySmooth_48 rfl (v_ki (fun z_2 h1 hv => ?_))
    clear hw
    obtain ⟨e9, hw⟩ := hv
    refine v_heap e9 ?_
    clear e9
    obtain ⟨hw_5, hw_6⟩ := hw
    refine v_if_eq (tgt := 101) dX0_laySmooth_51 (by decide) (fun c_3 => ?_) (fun c_4 => ?_)
    · have hw := hw_5 c_3
      refine v_sub [0, 1] rfl ?_
      exact b_X0_laySmooth_101 hk15 x1 h k n hw
    · have hw := hw_6 c_4
      refine v_iload_n (q := 3) dX0_laySmooth_54 rfl rfl ?_
      refine v_aload_n (q := 2) dX0_laySmooth_55 rfl rfl ?_
      obtain ⟨a_7, ea_7, hw⟩ := hw
      subst ea_7
      obtain ⟨fs_8, r_11, e_9, e_10, hw⟩ := hw
      refine v_getN in_X7 (ci := 8) rfl 4 (Nat.le_of_ble_eq_true rfl) q433 rfl dX0_laySmooth_56 e_9 e_10 ?_
      obtain ⟨a_12, ea_12, hw⟩ := hw
      subst ea_12
      obtain ⟨fs_55, e_56, hw⟩ := hw
      refine v_callV0 q413 q414 q415 q108 q416 (ci := 2) rfl e_56 n_J2_size ⟨Nat.le_of_ble_eq_true rfl, Nat.le_of_ble_eq_true rfl⟩ [] [.int x3] (met_J2_size hw) rfl (Nat.le_of_ble_eq_true rfl) rfl rfl dX0_laySmooth_59 rfl (v_ki (fun z_13 h1 hv => ?_))
      clear hw
      obtain ⟨e9, hw⟩ := hv
      refine v_heap e9 ?_
      clear e9
      obtain ⟨hw_16, hw_17⟩ := hw
      refine v_icmp_ge (tgt := 101) dX0_laySmooth_62 (by decide) (fun c_14 => ?_) (fun c_15 => ?_)
      · have hw := hw_16 c_14
        refine v_sub [0, 1] rfl ?_
        exact b_X0_laySmooth_101 hk15 x1 h k n hw
      · have hw := hw_17 c_15
        refine v_aload_n (q := 0) dX0_laySmooth_65 rfl rfl ?_
        obtain ⟨fs_18, r_21, e_19, e_20, hw⟩ := hw
        refine v_get in_X0 (ci := 0) rfl 14 (Nat.le_of_ble_eq_true rfl) q333 rfl dX0_laySmooth_66 e_19 e_20 ?_
        refine v_bipush dX0_laySmooth_69 bp_12 ?_
        refine v_iload_n (q := 1) dX0_laySmooth_71 rfl rfl ?_
        refine v_imul dX0_laySmooth_72 ?_
        refine v_iload_n (q := 3) dX0_laySmooth_73 rfl rfl ?_
        refine v_iadd dX0_laySmooth_74 ?_
        refine v_aload_n (q := 0) dX0_laySmooth_75 rfl rfl ?_
        refine v_aload_n (q := 2) dX0_laySmooth_76 rfl rfl ?_
        obtain ⟨fs_22, r_25, e_23, e_24, hw⟩ := hw
        refine v_getN in_X7 (ci := 8) rfl 4 (Nat.le_of_ble_eq_true rfl) q433 rfl dX0_laySmooth_77 e_23 e_24 ?_
        refine v_iload_n (q := 3) dX0_laySmooth_80 rfl rfl ?_
        obtain ⟨a_26, ea_26, hw⟩ := hw
        subst ea_26
        obtain ⟨fs_53, e_54, hw⟩ := hw
        refine v_callV0 q577 q578 q579 q108 q580 (ci := 2) rfl e_54 n_J2_get ⟨Nat.le_of_ble_eq_true rfl, Nat.le_of_ble_eq_true rfl⟩ [.int x3] [va_rf (some b0), .int (((nI 12) * x1) + x3), va_rf r_21] (met_J2_get hw) rfl (by simp only [List.map_cons, List.map_nil, List.sum_cons, List.sum_nil, v_rf1, v_cI, v_cJ]; decide) rfl rfl dX0_laySmooth_81 rfl (v_kq (fun r_27 h1 hv => ?_))
        clear hw
        obtain ⟨e9, hw⟩ := hv
        refine v_heap e9 ?_
        clear e9
        obtain ⟨a_28, ea_28, hw⟩ := hw
        subst ea_28
        obtain ⟨fs_29, e_30, hw⟩ := hw
        refine v_cast (ci := 9) rfl q304 dX0_laySmooth_84 e_30 ?_
        refine v_aload_n (q := 2) dX0_laySmooth_87 rfl rfl ?_
        obtain ⟨fs_31, z_34, e_32, e_33, hw⟩ := hw
        refine v_getN in_X7 (ci := 8) rfl 1 (Nat.le_of_ble_eq_true rfl) q428 rfl dX0_laySmooth_88 e_32 e_33 ?_
        obtain ⟨fs_51, e_52, hw⟩ := hw
        obtain ⟨e_49, e_50, hw⟩ := hw
        refine v_callV q911 q913 qs26 q104 q914 (ci := 0) rfl e_52 n_X0_smooths ⟨Nat.le_of_ble_eq_true rfl, Nat.le_of_ble_eq_true rfl⟩ [va_rf (some a_28), .int z_34] [.int (((nI 12) * x1) + x3), va_rf r_21] (met_X0_smooths hw) rfl (by simp only [List.map_cons, List.map_nil, List.sum_cons, List.sum_nil, v_rf1, v_cI, v_cJ]; decide) ⟨e_49, e_50⟩ dX0_laySmooth_91 rfl (v_kq (fun r_35 h_36 hv => ?_))
        clear hw
        have hw := hv
        clear hv
        obtain ⟨a_37, ea_37, hw⟩ := hw
        subst ea_37
        obtain ⟨a_43, ea_43, hw⟩ := hw
        subst ea_43
        obtain ⟨fs_44, e_45, N_38, g_39, e_40, hi_41, hw⟩ := hw
        obtain ⟨h_42, eh_42⟩ : ∃ z9 : AH, z9 = va_up h_36 a_37 (some (.inl (6, N_38, .inr (.inr (.inr (.inr (va_up g_39 ((((nI 12) * x1) + x3)).toNatClampNeg (some a_43)))))))) := ⟨_, rfl⟩
        replace hw := hw h_42 eh_42
        refine v_aastP (ci := 9) rfl dX0_laySmooth_94 e_40 hi_41 e_45 ?_
        rw [← eh_42]
        obtain ⟨z_48, e_48⟩ : ∃ z9 : Int32, z9 = x3 + (nI 1) := ⟨_, rfl⟩
        replace hw := hw z_48 e_48
        refine v_iinc (q := 3) (v := z_48) (lv1 := [(3, .int z_48), (0, va_rf (some b0)), (1, .int x1), (2, va_rf (some a_7))]) dX0_laySmooth_95 rfl (by rw [e_48, ic_1]) (Nat.le_of_ble_eq_true rfl) rfl ?_
        refine v_goto (tgt := 46) dX0_laySmooth_98 (by decide) ?_
        refine v_sub [1, 2, 3, 0] rfl ?_
        exact ih x1 (some a_7) z_48 h_42 (k + 24) (n + 120) hw
theorem b_X0_laySmooth_15 {post : (AH) → Prop}   {b0 : Nat}    : ∀ (n0 : Nat) (x1 : Int32) (h : AH) (k : Nat) (n : Nat), w_X0_laySmooth_15 post b0 n0 x1 h k n → VV l E X cX0_laySmooth RX0 "laySmooth" 4 r_X0_laySmooth none (vpv (fun (h' : AH) => post h')) h k n 15 [(0, va_rf (some b0)), (1, .int x1)] [] := by
  intro n0
  induction n0 with
  | zero =>
    intro x1 h k n hw
    exact hw.elim
  | succ n0 ih =>
    intro x1 h k n hw
    refine v_iload_n (q := 1) dX0_laySmooth_15 rfl rfl ?_
    refine v_aload_n (q := 0) dX0_laySmooth_16 rfl rfl ?_
    obtain ⟨fs_59, r_62, e_60, e_61, hw⟩ := hw
    refine v_get in_X0 (ci := 0) rfl 1 (Nat.le_of_ble_eq_true rfl) q319 rfl dX0_laySmooth_17 e_60 e_61 ?_
    obtain ⟨a_63, ea_63, hw⟩ := hw
    subst ea_63
    obtain ⟨fs_64, r_67, e_65, e_66, hw⟩ := hw
    refine v_getN in_X1 (ci := 1) rfl 3 (Nat.le_of_ble_eq_true rfl) q226 rfl dX0_laySmooth_20 e_65 e_66 ?_
    obtain ⟨a_68, ea_68, hw⟩ := hw
    subst ea_68
    obtain ⟨fs_91, e_92, hw⟩ := hw
    refine v_callV0 q413 q414 q415 q108 q416 (ci := 2) rfl e_92 n_J2_size ⟨Nat.le_of_ble_eq_true rfl, Nat.le_of_ble_eq_true rfl⟩ [] [.int x1] (met_J2_size hw) rfl (Nat.le_of_ble_eq_true rfl) rfl rfl dX0_laySmooth_23 rfl (v_ki (fun z_69 h1 hv => ?_))
    clear hw
    obtain ⟨e9, hw⟩ := hv
    refine v_heap e9 ?_
    clear e9
    obtain ⟨hw_72, hw_73⟩ := hw
    refine v_icmp_ge (tgt := 107) dX0_laySmooth_26 (by decide) (fun c_70 => ?_) (fun c_71 => ?_)
    · have hw := hw_72 c_70
      exact v_vret dX0_laySmooth_107 rfl ⟨rfl, hw⟩
    · have hw := hw_73 c_71
      refine v_aload_n (q := 0) dX0_laySmooth_29 rfl rfl ?_
      obtain ⟨fs_74, r_77, e_75, e_76, hw⟩ := hw
      refine v_get in_X0 (ci := 0) rfl 1 (Nat.le_of_ble_eq_true rfl) q319 rfl dX0_laySmooth_30 e_75 e_76 ?_
      obtain ⟨a_78, ea_78, hw⟩ := hw
      subst ea_78
      obtain ⟨fs_79, r_82, e_80, e_81, hw⟩ := hw
      refine v_getN in_X1 (ci := 1) rfl 3 (Nat.le_of_ble_eq_true rfl) q226 rfl dX0_laySmooth_33 e_80 e_81 ?_
      refine v_iload_n (q := 1) dX0_laySmooth_36 rfl rfl ?_
      obtain ⟨a_83, ea_83, hw⟩ := hw
      subst ea_83
      obtain ⟨fs_89, e_90, hw⟩ := hw
      refine v_callV0 q577 q578 q579 q108 q580 (ci := 2) rfl e_90 n_J2_get ⟨Nat.le_of_ble_eq_true rfl, Nat.le_of_ble_eq_true rfl⟩ [.int x1] [] (met_J2_get hw) rfl (Nat.zero_le _) rfl rfl dX0_laySmooth_37 rfl (v_kq (fun r_84 h1 hv => ?_))
      clear hw
      obtain ⟨e9, hw⟩ := hv
      refine v_heap e9 ?_
      clear e9
      obtain ⟨a_85, ea_85, hw⟩ := hw
      subst ea_85
      obtain ⟨fs_86, e_87, hw⟩ := hw
      refine v_cast (ci := 8) rfl q417 dX0_laySmooth_40 e_87 ?_
      refine v_astore_n (lv1 := [(2, va_rf (some a_85)), (0, va_rf (some b0)), (1, .int x1)]) dX0_laySmooth_43 rfl (Nat.le_of_ble_eq_true rfl) rfl ?_
      refine v_iconst dX0_laySmooth_44 ic_0 ?_
      refine v_istore_n (lv1 := [(3, .int (nI 0)), (2, va_rf (some a_85)), (0, va_rf (some b0)), (1, .int x1)]) dX0_laySmooth_45 rfl (Nat.le_of_ble_eq_true rfl) rfl ?_
      obtain ⟨n_88, hw⟩ := hw
      refine v_sub [2, 3, 1, 0] rfl ?_
      exact b_X0_laySmooth_46 (fun q0 q1 q2 q3 z => ih q0 q1 q2 q3 z) n_88 x1 (some a_85) (nI 0) h k n hw
theorem e_X0_laySmooth {post : (AH) → Prop}   {b0 : Nat} {h : AH}  (hw : w_X0_laySmooth post  b0 h) : VV l E X cX0_laySmooth RX0 "laySmooth" 4 r_X0_laySmooth none (vpv (fun (h' : AH) => post h')) h 0 0 0 [(0, va_rf (some b0))] [] := by
  refine v_aload_n (q := 0) dX0_laySmooth_0 rfl rfl ?_
  obtain ⟨fs_93, z_96, e_94, e_95, hw⟩ := hw
  refine v_get in_X0 (ci := 0) rfl 16 (Nat.le_of_ble_eq_true rfl) q335 rfl dX0_laySmooth_1 e_94 e_95 ?_
  obtain ⟨hw_99, hw_100⟩ := hw
  refine v_if_eq (tgt := 8) dX0_laySmooth_4 (by decide) (fun c_97 => ?_) (fun c_98 => ?_)
  · have hw := hw_99 c_97
    refine v_aload_n (q := 0) dX0_laySmooth_8 rfl rfl ?_
    refine v_iconst dX0_laySmooth_9 ic_1 ?_
    obtain ⟨fs_101, e_102, e_103, hw⟩ := hw
    obtain ⟨h_104, eh_104⟩ : ∃ z9 : AH, z9 = va_up h b0 (some (.inr (0, fs_101.set 16 (.int (nI 1))))) := ⟨_, rfl⟩
    replace hw := hw h_104 eh_104
    refine v_put in_X0 (ci := 0) rfl 16 (Nat.le_of_ble_eq_true rfl) tyX0 tyX0_ok nmX0 q335 rfl rfl rfl rfl rfl dX0_laySmooth_10 e_102 e_103 ?_
    rw [← eh_104]
    refine v_iconst dX0_laySmooth_13 ic_0 ?_
    refine v_istore_n (lv1 := [(1, .int (nI 0)), (0, va_rf (some b0))]) dX0_laySmooth_14 rfl (Nat.le_of_ble_eq_true rfl) rfl ?_
    obtain ⟨n_105, hw⟩ := hw
    refine v_sub [1, 0] rfl ?_
    exact b_X0_laySmooth_15 n_105 (nI 0) h_104 0 0 hw
  · have hw := hw_100 c_98
    exact v_vret dX0_laySmooth_7 rfl ⟨rfl, hw⟩
theorem met_X0_laySmooth {post : (AH) → Prop}   {b0 : Nat} {h : AH}  (hw : w_X0_laySmooth post  b0 h) : Mt l E yX0_laySmooth (ws_ yX0_laySmooth cX0_laySmooth 4 none) r_X0_laySmooth [va_rf (some b0)] h (vpv (fun (h' : AH) => post h')) := v_entry (by decide +kernel) (Nat.le_of_ble_eq_true rfl) rfl (fun _ => e_X0_laySmooth hw)
/-! X0_whose -/
abbrev r_X0_whose : Room := { frames := 208, cells := 11521, slots := 57601, locals := 8275 }
theorem n_X0_whose : vdn yX0_whose 2 := ⟨by decide +kernel, by decide +kernel, by decide +kernel⟩
def w_X0_whose_18 (post : (Int32) → (AH) → Prop) (b0 : Nat) (x1 : Int32) (x2 : Int32) (h : AH) (k : Nat) (n : Nat) : Prop :=
 (∃ fs_3 : List Value, h b0 = some (.inr (0, fs_3)) ∧ (w_X0_refuse (fun (z_1 : Int32) (h_2 : AH) => (post z_1 h_2)) b0 (-2) h))
def w_X0_whose (post : (Int32) → (AH) → Prop) (b0 : Nat) (x1 : Int32) (x2 : Int32) (h : AH) : Prop :=
 (∃ fs_50 : List Value, h b0 = some (.inr (0, fs_50)) ∧ (w_X0_isPrinted (fun (z_5 : Int32) => ((z_5 = 0 → (w_X0_whose_18 post b0 x1 x2 h 0 0)) ∧ (¬ z_5 = 0 → (w_X0_in (fun (z_10 : Int32) => ((¬ z_10 = 0 → (∃ fs_48 : List Value, h b0 = some (.inr (0, fs_48)) ∧ (0 + 11520 ≤ 11521 ∧ 0 + 57600 ≤ 57601 ∧ (w_X0_laySmooth (fun (h_15 : AH) => (∃ (fs_16 : List Value) (r_19 : Option Nat), h_15 b0 = some (.inr (0, fs_16)) ∧ fs_16[1]? = some (va_rf r_19) ∧ (∃ a_20 : Nat, r_19 = some a_20 ∧ (∃ (fs_21 : List Value) (r_24 : Option Nat), h_15 a_20 = some (.inr (1, fs_21)) ∧ fs_21[5]? = some (va_rf r_24) ∧ (∃ a_25 : Nat, r_24 = some a_25 ∧ (∃ fs_44 : List Value, h_15 a_25 = some (.inr (2, fs_44)) ∧ (w_J2_get (fun (r_26 : Option Nat) => (∃ a_27 : Nat, r_26 = some a_27 ∧ (∃ fs_28 : List Value, h_15 a_27 = some (.inr (10, fs_28)) ∧ (∃ fs_42 : List Value, h_15 b0 = some (.inr (0, fs_42)) ∧ ((0 + 11520) + 1 ≤ 11521 ∧ (0 + 57600) + 1 ≤ 57601 ∧ (w_X0_comes (fun (r_30 : Option Nat) (h_31 : AH) => ((¬ x2 = 0 → (∃ a_36 : Nat, r_30 = some a_36 ∧ (w_From (fun (z_37 : Int32) => (post z_37 h_31)) a_36 h_31))) ∧ (x2 = 0 → (∃ a_38 : Nat, r_30 = some a_38 ∧ (w_Kind (fun (z_39 : Int32) => (post z_39 h_31)) a_38 h_31))))) b0 (some a_27) h_15)))))) a_25 x1 h_15))))))) b0 h)))) ∧ (z_10 = 0 → (w_X0_whose_18 post b0 x1 x2 h 0 0)))) ((x2).toInt64) (lN 0) (lN 1))))) b0 x1 h))
theorem b_X0_whose_18 {post : (Int32) → (AH) → Prop}   {b0 : Nat} {x1 : Int32} {x2 : Int32}    (h : AH) (k : Nat) (n : Nat) (hw : w_X0_whose_18 post b0 x1 x2 h k n) : VV l E X cX0_whose RX0 "whose" 4 r_X0_whose (some .int) (vpi (fun (r : Int32) (h' : AH) => post r h')) h k n 18 [(0, va_rf (some b0)), (1, .int x1), (2, .int x2)] [] := by
  refine v_aload_n (q := 0) dX0_whose_18 rfl rfl ?_
  refine v_bipush dX0_whose_19 bp_m2 ?_
  obtain ⟨fs_3, e_4, hw⟩ := hw
  refine v_callV0 q396 q398 qs0 q104 q399 (ci := 0) rfl e_4 n_X0_refuse ⟨Nat.le_of_ble_eq_true rfl, Nat.le_of_ble_eq_true rfl⟩ [.int (-2)] [] (met_X0_refuse hw) rfl (Nat.zero_le _) rfl rfl dX0_whose_21 rfl (v_ki (fun z_1 h_2 hv => ?_))
  clear hw
  have hw := hv
  clear hv
  exact v_iret dX0_whose_24 rfl ⟨_, rfl, hw⟩
theorem e_X0_whose {post : (Int32) → (AH) → Prop}   {b0 : Nat} {x1 : Int32} {x2 : Int32} {h : AH}  (hw : w_X0_whose post  b0 x1 x2 h) : VV l E X cX0_whose RX0 "whose" 4 r_X0_whose (some .int) (vpi (fun (r : Int32) (h' : AH) => post r h')) h 0 0 0 [(0, va_rf (some b0)), (1, .int x1), (2, .int x2)] [] := by
  refine v_aload_n (q := 0) dX0_whose_0 rfl rfl ?_
  refine v_iload_n (q := 1) dX0_whose_1 rfl rfl ?_
  obtain ⟨fs_50, e_51, hw⟩ := hw
  refine v_callV0 q608 q610 qs7 q104 q611 (ci := 0) rfl e_51 n_X0_isPrinted ⟨Nat.le_of_ble_eq_true rfl, Nat.le_of_ble_eq_true rfl⟩ [.int x1] [] (met_X0_isPrinted hw) rfl (Nat.zero_le _) rfl rfl dX0_whose_2 rfl (v_ki (fun z_5 h1 hv => ?_))
  clear hw
  obtain ⟨e9, hw⟩ := hv
  refine v_heap e9 ?_
  clear e9
  obtain ⟨hw_8, hw_9⟩ := hw
  refine v_if_eq (tgt := 18) dX0_whose_5 (by decide) (fun c_6 => ?_) (fun c_7 => ?_)
  · have hw := hw_8 c_6
    refine v_sub [0, 1, 2] rfl ?_
    exact b_X0_whose_18 h 0 0 hw
  · have hw := hw_9 c_7
    refine v_iload_n (q := 2) dX0_whose_8 rfl rfl ?_
    refine v_i2l dX0_whose_9 ?_
    refine v_lconst (v := lN 0) dX0_whose_10 rfl ?_
    refine v_lconst (v := lN 1) dX0_whose_11 rfl ?_
    refine v_callS0 q393 q394 q104 q395 n_X0_in ⟨Nat.le_of_ble_eq_true rfl, Nat.le_of_ble_eq_true rfl⟩ [.long ((x2).toInt64), .long (lN 0), .long (lN 1)] [] (met_X0_in hw) rfl (Nat.zero_le _) rfl rfl dX0_whose_12 rfl (v_ki (fun z_10 h1 hv => ?_))
    clear hw
    obtain ⟨e9, hw⟩ := hv
    refine v_heap e9 ?_
    clear e9
    obtain ⟨hw_13, hw_14⟩ := hw
    refine v_if_ne (tgt := 25) dX0_whose_15 (by decide) (fun c_11 => ?_) (fun c_12 => ?_)
    · have hw := hw_13 c_11
      refine v_aload_n (q := 0) dX0_whose_25 rfl rfl ?_
      obtain ⟨fs_48, e_49, hw⟩ := hw
      obtain ⟨e_46, e_47, hw⟩ := hw
      refine v_callV q1011 q1013 qs32 q104 q1014 (ci := 0) rfl e_49 n_X0_laySmooth ⟨Nat.le_of_ble_eq_true rfl, Nat.le_of_ble_eq_true rfl⟩ [] [] (met_X0_laySmooth hw) rfl (Nat.zero_le _) ⟨e_46, e_47⟩ dX0_whose_26 rfl (v_kv (fun h_15 hv => ?_))
      clear hw
      have hw := hv
      clear hv
      refine v_aload_n (q := 0) dX0_whose_29 rfl rfl ?_
      refine v_aload_n (q := 0) dX0_whose_30 rfl rfl ?_
      obtain ⟨fs_16, r_19, e_17, e_18, hw⟩ := hw
      refine v_get in_X0 (ci := 0) rfl 1 (Nat.le_of_ble_eq_true rfl) q319 rfl dX0_whose_31 e_17 e_18 ?_
      obtain ⟨a_20, ea_20, hw⟩ := hw
      subst ea_20
      obtain ⟨fs_21, r_24, e_22, e_23, hw⟩ := hw
      refine v_getN in_X1 (ci := 1) rfl 5 (Nat.le_of_ble_eq_true rfl) q230 rfl dX0_whose_34 e_22 e_23 ?_
      refine v_iload_n (q := 1) dX0_whose_37 rfl rfl ?_
      obtain ⟨a_25, ea_25, hw⟩ := hw
      subst ea_25
      obtain ⟨fs_44, e_45, hw⟩ := hw
      refine v_callV0 q577 q578 q579 q108 q580 (ci := 2) rfl e_45 n_J2_get ⟨Nat.le_of_ble_eq_true rfl, Nat.le_of_ble_eq_true rfl⟩ [.int x1] [va_rf (some b0)] (met_J2_get hw) rfl (by simp only [List.map_cons, List.map_nil, List.sum_cons, List.sum_nil, v_rf1, v_cI, v_cJ]; decide) rfl rfl dX0_whose_38 rfl (v_kq (fun r_26 h1 hv => ?_))
      clear hw
      obtain ⟨e9, hw⟩ := hv
      refine v_heap e9 ?_
      clear e9
      obtain ⟨a_27, ea_27, hw⟩ := hw
      subst ea_27
      obtain ⟨fs_28, e_29, hw⟩ := hw
      refine v_cast (ci := 10) rfl q562 dX0_whose_41 e_29 ?_
      obtain ⟨fs_42, e_43, hw⟩ := hw
      obtain ⟨e_40, e_41, hw⟩ := hw
      refine v_callV q1019 q1021 qs34 q104 q1022 (ci := 0) rfl e_43 n_X0_comes ⟨Nat.le_of_ble_eq_true rfl, Nat.le_of_ble_eq_true rfl⟩ [va_rf (some a_27)] [] (met_X0_comes hw) rfl (Nat.zero_le _) ⟨e_40, e_41⟩ dX0_whose_44 rfl (v_kq (fun r_30 h_31 hv => ?_))
      clear hw
      have hw := hv
      clear hv
      refine v_astore_n (lv1 := [(3, va_rf r_30), (0, va_rf (some b0)), (1, .int x1), (2, .int x2)]) dX0_whose_47 rfl (Nat.le_of_ble_eq_true rfl) rfl ?_
      refine v_iload_n (q := 3) dX0_whose_48 rfl rfl ?_
      obtain ⟨hw_34, hw_35⟩ := hw
      refine v_if_ne (tgt := 61) dX0_whose_49 (by decide) (fun c_32 => ?_) (fun c_33 => ?_)
      · have hw := hw_34 c_32
        refine v_aload_n (q := 0) dX0_whose_61 rfl rfl ?_
        obtain ⟨a_36, ea_36, hw⟩ := hw
        subst ea_36
        refine v_From q1113 ⟨Nat.le_of_ble_eq_true rfl, Nat.le_of_ble_eq_true rfl⟩ [] hw (Nat.zero_le _) dX0_whose_62 (fun z_37 hv => ?_)
        clear hw
        have hw := hv
        clear hv
        exact v_iret dX0_whose_67 rfl ⟨_, rfl, hw⟩
      · have hw := hw_35 c_33
        refine v_aload_n (q := 0) dX0_whose_52 rfl rfl ?_
        obtain ⟨a_38, ea_38, hw⟩ := hw
        subst ea_38
        refine v_Kind q1073 ⟨Nat.le_of_ble_eq_true rfl, Nat.le_of_ble_eq_true rfl⟩ [] hw (Nat.zero_le _) dX0_whose_53 (fun z_39 hv => ?_)
        clear hw
        have hw := hv
        clear hv
        refine v_goto (tgt := 67) dX0_whose_58 (by decide) ?_
        exact v_iret dX0_whose_67 rfl ⟨_, rfl, hw⟩
    · have hw := hw_14 c_12
      refine v_sub [0, 1, 2] rfl ?_
      exact b_X0_whose_18 h 0 0 hw
theorem met_X0_whose {post : (Int32) → (AH) → Prop}   {b0 : Nat} {x1 : Int32} {x2 : Int32} {h : AH}  (hw : w_X0_whose post  b0 x1 x2 h) : Mt l E yX0_whose (ws_ yX0_whose cX0_whose 4 (some .int)) r_X0_whose [va_rf (some b0), .int x1, .int x2] h (vpi (fun (r : Int32) (h' : AH) => post r h')) := v_entry (by decide +kernel) (Nat.le_of_ble_eq_true rfl) rfl (fun _ => e_X0_whose hw)
/-! X0_layKinds -/
abbrev r_X0_layKinds : Room := { frames := 208, cells := 11580, slots := 57660, locals := 8275 }
theorem n_X0_layKinds : vdn yX0_layKinds 0 := ⟨by decide +kernel, by decide +kernel, by decide +kernel⟩
def w_X0_layKinds_27 (post : (AH) → Prop) (b0 : Nat) : Nat → (Int32) → (AH) → (Nat) → (Nat) → Prop
 | 0, _, _, _, _ => False
 | n0 + 1, x1, h, k, n =>
 (∃ (fs_1 : List Value) (r_4 : Option Nat), h b0 = some (.inr (0, fs_1)) ∧ fs_1[1]? = some (va_rf r_4) ∧ (∃ a_5 : Nat, r_4 = some a_5 ∧ (∃ (fs_6 : List Value) (r_9 : Option Nat), h a_5 = some (.inr (1, fs_6)) ∧ fs_6[5]? = some (va_rf r_9) ∧ (∃ a_10 : Nat, r_9 = some a_10 ∧ (∃ fs_55 : List Value, h a_10 = some (.inr (2, fs_55)) ∧ (w_J2_size (fun (z_11 : Int32) => ((z_11 ≤ x1 → (post h)) ∧ (¬ z_11 ≤ x1 → (∃ (fs_16 : List Value) (r_19 : Option Nat), h b0 = some (.inr (0, fs_16)) ∧ fs_16[17]? = some (va_rf r_19) ∧ (∃ (fs_20 : List Value) (r_23 : Option Nat), h b0 = some (.inr (0, fs_20)) ∧ fs_20[1]? = some (va_rf r_23) ∧ (∃ a_24 : Nat, r_23 = some a_24 ∧ (∃ (fs_25 : List Value) (r_28 : Option Nat), h a_24 = some (.inr (1, fs_25)) ∧ fs_25[5]? = some (va_rf r_28) ∧ (∃ a_29 : Nat, r_28 = some a_29 ∧ (∃ fs_53 : List Value, h a_29 = some (.inr (2, fs_53)) ∧ (w_J2_get (fun (r_30 : Option Nat) => (∃ a_31 : Nat, r_30 = some a_31 ∧ (∃ fs_32 : List Value, h a_31 = some (.inr (10, fs_32)) ∧ (∃ fs_51 : List Value, h b0 = some (.inr (0, fs_51)) ∧ (k + 1 ≤ 11580 ∧ n + 1 ≤ 57660 ∧ (w_X0_comes (fun (r_34 : Option Nat) (h_35 : AH) => (∃ a_36 : Nat, r_34 = some a_36 ∧ (w_Kind (fun (z_37 : Int32) => (∃ a_38 : Nat, r_19 = some a_38 ∧ (∃ (N_39 : Nat) (g_40 : Nat → Int32), h_35 a_38 = some (.inl (0, N_39, .inl g_40)) ∧ vp_in z_37 N_39 ∧ (∃ (N_43 : Nat) (g_44 : Nat → Int32), h_35 a_38 = some (.inl (0, N_43, .inl g_44)) ∧ vp_in z_37 N_43 ∧ ∀ h_47 : AH, h_47 = va_up h_35 a_38 (some (.inl (0, N_43, .inl (upd g_44 (z_37).toNatClampNeg ((g_40 (z_37).toNatClampNeg) + (nI 1)))))) → (∀ z_48 : Int32, z_48 = x1 + (nI 1) → (w_X0_layKinds_27 post b0 n0 z_48 h_47 (k + 1) (n + 1))))))) a_36 h_35))) b0 (some a_31) h)))))) a_29 x1 h)))))))))) a_10 h))))))
def w_X0_layKinds_6 (post : (AH) → Prop) (b0 : Nat) : Nat → (Int32) → (AH) → (Nat) → (Nat) → Prop
 | 0, _, _, _, _ => False
 | n0 + 1, x1, h, k, n =>
 (((nI 6) ≤ x1 → (∃ n1 : Nat, (w_X0_layKinds_27 post b0 n1 (nI 0) h k n))) ∧ (¬ (nI 6) ≤ x1 → (∃ (fs_62 : List Value) (r_65 : Option Nat), h b0 = some (.inr (0, fs_62)) ∧ fs_62[17]? = some (va_rf r_65) ∧ (∃ a_66 : Nat, r_65 = some a_66 ∧ (∃ (N_67 : Nat) (g_68 : Nat → Int32), h a_66 = some (.inl (0, N_67, .inl g_68)) ∧ vp_in x1 N_67 ∧ ∀ h_71 : AH, h_71 = va_up h a_66 (some (.inl (0, N_67, .inl (upd g_68 (x1).toNatClampNeg (nI 0))))) → (∀ z_72 : Int32, z_72 = x1 + (nI 1) → (w_X0_layKinds_6 post b0 n0 z_72 h_71 k n)))))))
def w_X0_layKinds (post : (AH) → Prop) (b0 : Nat) (h : AH) : Prop :=
 (∃ fs_77 : List Value, h b0 = some (.inr (0, fs_77)) ∧ (0 + 11520 ≤ 11580 ∧ 0 + 57600 ≤ 57660 ∧ (w_X0_laySmooth (fun (h_73 : AH) => (∃ n1 : Nat, (w_X0_layKinds_6 post b0 n1 (nI 0) h_73 (0 + 11520) (0 + 57600)))) b0 h)))
theorem b_X0_layKinds_27 {post : (AH) → Prop}   {b0 : Nat}    : ∀ (n0 : Nat) (x1 : Int32) (h : AH) (k : Nat) (n : Nat), w_X0_layKinds_27 post b0 n0 x1 h k n → VV l E X cX0_layKinds RX0 "layKinds" 2 r_X0_layKinds none (vpv (fun (h' : AH) => post h')) h k n 27 [(0, va_rf (some b0)), (1, .int x1)] [] := by
  intro n0
  induction n0 with
  | zero =>
    intro x1 h k n hw
    exact hw.elim
  | succ n0 ih =>
    intro x1 h k n hw
    refine v_iload_n (q := 1) dX0_layKinds_27 rfl rfl ?_
    refine v_aload_n (q := 0) dX0_layKinds_28 rfl rfl ?_
    obtain ⟨fs_1, r_4, e_2, e_3, hw⟩ := hw
    refine v_get in_X0 (ci := 0) rfl 1 (Nat.le_of_ble_eq_true rfl) q319 rfl dX0_layKinds_29 e_2 e_3 ?_
    obtain ⟨a_5, ea_5, hw⟩ := hw
    subst ea_5
    obtain ⟨fs_6, r_9, e_7, e_8, hw⟩ := hw
    refine v_getN in_X1 (ci := 1) rfl 5 (Nat.le_of_ble_eq_true rfl) q230 rfl dX0_layKinds_32 e_7 e_8 ?_
    obtain ⟨a_10, ea_10, hw⟩ := hw
    subst ea_10
    obtain ⟨fs_55, e_56, hw⟩ := hw
    refine v_callV0 q413 q414 q415 q108 q416 (ci := 2) rfl e_56 n_J2_size ⟨Nat.le_of_ble_eq_true rfl, Nat.le_of_ble_eq_true rfl⟩ [] [.int x1] (met_J2_size hw) rfl (Nat.le_of_ble_eq_true rfl) rfl rfl dX0_layKinds_35 rfl (v_ki (fun z_11 h1 hv => ?_))
    clear hw
    obtain ⟨e9, hw⟩ := hv
    refine v_heap e9 ?_
    clear e9
    obtain ⟨hw_14, hw_15⟩ := hw
    refine v_icmp_ge (tgt := 79) dX0_layKinds_38 (by decide) (fun c_12 => ?_) (fun c_13 => ?_)
    · have hw := hw_14 c_12
      exact v_vret dX0_layKinds_79 rfl ⟨rfl, hw⟩
    · have hw := hw_15 c_13
      refine v_aload_n (q := 0) dX0_layKinds_41 rfl rfl ?_
      obtain ⟨fs_16, r_19, e_17, e_18, hw⟩ := hw
      refine v_get in_X0 (ci := 0) rfl 17 (Nat.le_of_ble_eq_true rfl) q336 rfl dX0_layKinds_42 e_17 e_18 ?_
      refine v_aload_n (q := 0) dX0_layKinds_45 rfl rfl ?_
      refine v_aload_n (q := 0) dX0_layKinds_46 rfl rfl ?_
      obtain ⟨fs_20, r_23, e_21, e_22, hw⟩ := hw
      refine v_get in_X0 (ci := 0) rfl 1 (Nat.le_of_ble_eq_true rfl) q319 rfl dX0_layKinds_47 e_21 e_22 ?_
      obtain ⟨a_24, ea_24, hw⟩ := hw
      subst ea_24
      obtain ⟨fs_25, r_28, e_26, e_27, hw⟩ := hw
      refine v_getN in_X1 (ci := 1) rfl 5 (Nat.le_of_ble_eq_true rfl) q230 rfl dX0_layKinds_50 e_26 e_27 ?_
      refine v_iload_n (q := 1) dX0_layKinds_53 rfl rfl ?_
      obtain ⟨a_29, ea_29, hw⟩ := hw
      subst ea_29
      obtain ⟨fs_53, e_54, hw⟩ := hw
      refine v_callV0 q577 q578 q579 q108 q580 (ci := 2) rfl e_54 n_J2_get ⟨Nat.le_of_ble_eq_true rfl, Nat.le_of_ble_eq_true rfl⟩ [.int x1] [va_rf (some b0), va_rf r_19] (met_J2_get hw) rfl (by simp only [List.map_cons, List.map_nil, List.sum_cons, List.sum_nil, v_rf1, v_cI, v_cJ]; decide) rfl rfl dX0_layKinds_54 rfl (v_kq (fun r_30 h1 hv => ?_))
      clear hw
      obtain ⟨e9, hw⟩ := hv
      refine v_heap e9 ?_
      clear e9
      obtain ⟨a_31, ea_31, hw⟩ := hw
      subst ea_31
      obtain ⟨fs_32, e_33, hw⟩ := hw
      refine v_cast (ci := 10) rfl q562 dX0_layKinds_57 e_33 ?_
      obtain ⟨fs_51, e_52, hw⟩ := hw
      obtain ⟨e_49, e_50, hw⟩ := hw
      refine v_callV q1019 q1021 qs34 q104 q1022 (ci := 0) rfl e_52 n_X0_comes ⟨Nat.le_of_ble_eq_true rfl, Nat.le_of_ble_eq_true rfl⟩ [va_rf (some a_31)] [va_rf r_19] (met_X0_comes hw) rfl (by simp only [List.map_cons, List.map_nil, List.sum_cons, List.sum_nil, v_rf1, v_cI, v_cJ]; decide) ⟨e_49, e_50⟩ dX0_layKinds_60 rfl (v_kq (fun r_34 h_35 hv => ?_))
      clear hw
      have hw := hv
      clear hv
      obtain ⟨a_36, ea_36, hw⟩ := hw
      subst ea_36
      refine v_Kind q1073 ⟨Nat.le_of_ble_eq_true rfl, Nat.le_of_ble_eq_true rfl⟩ [va_rf r_19] hw (by simp only [List.map_cons, List.map_nil, List.sum_cons, List.sum_nil, v_rf1, v_cI, v_cJ]; decide) dX0_layKinds_63 (fun z_37 hv => ?_)
      clear hw
      have hw := hv
      clear hv
      refine v_dup2 dX0_layKinds_68 rfl (v_rf1 _) ?_
      obtain ⟨a_38, ea_38, hw⟩ := hw
      subst ea_38
      obtain ⟨N_39, g_40, e_41, hi_42, hw⟩ := hw
      refine v_iald dX0_layKinds_69 e_41 hi_42 ?_
      refine v_iconst dX0_layKinds_70 ic_1 ?_
      refine v_iadd dX0_layKinds_71 ?_
      obtain ⟨N_43, g_44, e_45, hi_46, hw⟩ := hw
      obtain ⟨h_47, eh_47⟩ : ∃ z9 : AH, z9 = va_up h_35 a_38 (some (.inl (0, N_43, .inl (upd g_44 (z_37).toNatClampNeg ((g_40 (z_37).toNatClampNeg) + (nI 1)))))) := ⟨_, rfl⟩
      replace hw := hw h_47 eh_47
      refine v_iast dX0_layKinds_72 e_45 hi_46 ?_
      rw [← eh_47]
      obtain ⟨z_48, e_48⟩ : ∃ z9 : Int32, z9 = x1 + (nI 1) := ⟨_, rfl⟩
      replace hw := hw z_48 e_48
      refine v_iinc (q := 1) (v := z_48) (lv1 := [(1, .int z_48), (0, va_rf (some b0))]) dX0_layKinds_73 rfl (by rw [e_48, ic_1]) (Nat.le_of_ble_eq_true rfl) rfl ?_
      refine v_goto (tgt := 27) dX0_layKinds_76 (by decide) ?_
      refine v_sub [1, 0] rfl ?_
      exact ih z_48 h_47 (k + 1) (n + 1) hw
theorem b_X0_layKinds_6 {post : (AH) → Prop}   {b0 : Nat}    : ∀ (n0 : Nat) (x1 : Int32) (h : AH) (k : Nat) (n : Nat), w_X0_layKinds_6 post b0 n0 x1 h k n → VV l E X cX0_layKinds RX0 "layKinds" 2 r_X0_layKinds none (vpv (fun (h' : AH) => post h')) h k n 6 [(0, va_rf (some b0)), (1, .int x1)] [] := by
  intro n0
  induction n0 with
  | zero =>
    intro x1 h k n hw
    exact hw.elim
  | succ n0 ih =>
    intro x1 h k n hw
    refine v_iload_n (q := 1) dX0_layKinds_6 rfl rfl ?_
    refine v_bipush dX0_layKinds_7 bp_6 ?_
    obtain ⟨hw_59, hw_60⟩ := hw
    refine v_icmp_ge (tgt := 25) dX0_layKinds_9 (by decide) (fun c_57 => ?_) (fun c_58 => ?_)
    · have hw := hw_59 c_57
      refine v_iconst dX0_layKinds_25 ic_0 ?_
      refine v_istore_n (lv1 := [(1, .int (nI 0)), (0, va_rf (some b0))]) dX0_layKinds_26 rfl (Nat.le_of_ble_eq_true rfl) rfl ?_
      obtain ⟨n_61, hw⟩ := hw
      refine v_sub [1, 0] rfl ?_
      exact b_X0_layKinds_27 n_61 (nI 0) h k n hw
    · have hw := hw_60 c_58
      refine v_aload_n (q := 0) dX0_layKinds_12 rfl rfl ?_
      obtain ⟨fs_62, r_65, e_63, e_64, hw⟩ := hw
      refine v_get in_X0 (ci := 0) rfl 17 (Nat.le_of_ble_eq_true rfl) q336 rfl dX0_layKinds_13 e_63 e_64 ?_
      refine v_iload_n (q := 1) dX0_layKinds_16 rfl rfl ?_
      refine v_iconst dX0_layKinds_17 ic_0 ?_
      obtain ⟨a_66, ea_66, hw⟩ := hw
      subst ea_66
      obtain ⟨N_67, g_68, e_69, hi_70, hw⟩ := hw
      obtain ⟨h_71, eh_71⟩ : ∃ z9 : AH, z9 = va_up h a_66 (some (.inl (0, N_67, .inl (upd g_68 (x1).toNatClampNeg (nI 0))))) := ⟨_, rfl⟩
      replace hw := hw h_71 eh_71
      refine v_iast dX0_layKinds_18 e_69 hi_70 ?_
      rw [← eh_71]
      obtain ⟨z_72, e_72⟩ : ∃ z9 : Int32, z9 = x1 + (nI 1) := ⟨_, rfl⟩
      replace hw := hw z_72 e_72
      refine v_iinc (q := 1) (v := z_72) (lv1 := [(1, .int z_72), (0, va_rf (some b0))]) dX0_layKinds_19 rfl (by rw [e_72, ic_1]) (Nat.le_of_ble_eq_true rfl) rfl ?_
      refine v_goto (tgt := 6) dX0_layKinds_22 (by decide) ?_
      refine v_sub [1, 0] rfl ?_
      exact ih z_72 h_71 k n hw
theorem e_X0_layKinds {post : (AH) → Prop}   {b0 : Nat} {h : AH}  (hw : w_X0_layKinds post  b0 h) : VV l E X cX0_layKinds RX0 "layKinds" 2 r_X0_layKinds none (vpv (fun (h' : AH) => post h')) h 0 0 0 [(0, va_rf (some b0))] [] := by
  refine v_aload_n (q := 0) dX0_layKinds_0 rfl rfl ?_
  obtain ⟨fs_77, e_78, hw⟩ := hw
  obtain ⟨e_75, e_76, hw⟩ := hw
  refine v_callV q1011 q1013 qs32 q104 q1014 (ci := 0) rfl e_78 n_X0_laySmooth ⟨Nat.le_of_ble_eq_true rfl, Nat.le_of_ble_eq_true rfl⟩ [] [] (met_X0_laySmooth hw) rfl (Nat.zero_le _) ⟨e_75, e_76⟩ dX0_layKinds_1 rfl (v_kv (fun h_73 hv => ?_))
  clear hw
  have hw := hv
  clear hv
  refine v_iconst dX0_layKinds_4 ic_0 ?_
  refine v_istore_n (lv1 := [(1, .int (nI 0)), (0, va_rf (some b0))]) dX0_layKinds_5 rfl (Nat.le_of_ble_eq_true rfl) rfl ?_
  obtain ⟨n_74, hw⟩ := hw
  refine v_sub [1, 0] rfl ?_
  exact b_X0_layKinds_6 n_74 (nI 0) h_73 (0 + 11520) (0 + 57600) hw
theorem met_X0_layKinds {post : (AH) → Prop}   {b0 : Nat} {h : AH}  (hw : w_X0_layKinds post  b0 h) : Mt l E yX0_layKinds (ws_ yX0_layKinds cX0_layKinds 2 none) r_X0_layKinds [va_rf (some b0)] h (vpv (fun (h' : AH) => post h')) := v_entry (by decide +kernel) (Nat.le_of_ble_eq_true rfl) rfl (fun _ => e_X0_layKinds hw)
/-! X0_share -/
abbrev r_X0_share : Room := { frames := 209, cells := 11580, slots := 57660, locals := 8296 }
theorem n_X0_share : vdn yX0_share 2 := ⟨by decide +kernel, by decide +kernel, by decide +kernel⟩
def w_X0_share_22 (post : (Int32) → (AH) → Prop) (b0 : Nat) (x1 : Int32) (x2 : Int32) (h : AH) (k : Nat) (n : Nat) : Prop :=
 (∃ fs_3 : List Value, h b0 = some (.inr (0, fs_3)) ∧ (w_X0_refuse (fun (z_1 : Int32) (h_2 : AH) => (post z_1 h_2)) b0 (-2) h))
def w_X0_share (post : (Int32) → (AH) → Prop) (b0 : Nat) (x1 : Int32) (x2 : Int32) (h : AH) : Prop :=
 (w_X0_in (fun (z_5 : Int32) => ((z_5 = 0 → (w_X0_share_22 post b0 x1 x2 h 0 0)) ∧ (¬ z_5 = 0 → (w_X0_in (fun (z_10 : Int32) => ((¬ z_10 = 0 → (∃ (fs_15 : List Value) (r_18 : Option Nat), h b0 = some (.inr (0, fs_15)) ∧ fs_15[1]? = some (va_rf r_18) ∧ (∃ a_19 : Nat, r_18 = some a_19 ∧ (∃ (fs_20 : List Value) (r_23 : Option Nat), h a_19 = some (.inr (1, fs_20)) ∧ fs_20[5]? = some (va_rf r_23) ∧ (∃ a_24 : Nat, r_23 = some a_24 ∧ (∃ fs_75 : List Value, h a_24 = some (.inr (2, fs_75)) ∧ (w_J2_isEmpty (fun (z_25 : Int32) => ((z_25 = 0 → (∃ fs_69 : List Value, h b0 = some (.inr (0, fs_69)) ∧ (0 + 11580 ≤ 11580 ∧ 0 + 57660 ≤ 57660 ∧ (w_X0_layKinds (fun (h_30 : AH) => ((¬ x2 = 0 → (∃ (fs_35 : List Value) (r_38 : Option Nat), h_30 b0 = some (.inr (0, fs_35)) ∧ fs_35[17]? = some (va_rf r_38) ∧ (∃ a_39 : Nat, r_38 = some a_39 ∧ (∃ (N_40 : Nat) (g_41 : Nat → Int32), h_30 a_39 = some (.inl (0, N_40, .inl g_41)) ∧ vp_in x1 N_40 ∧ (∃ (fs_44 : List Value) (r_47 : Option Nat), h_30 b0 = some (.inr (0, fs_44)) ∧ fs_44[1]? = some (va_rf r_47) ∧ (∃ a_48 : Nat, r_47 = some a_48 ∧ (∃ (fs_49 : List Value) (r_52 : Option Nat), h_30 a_48 = some (.inr (1, fs_49)) ∧ fs_49[5]? = some (va_rf r_52) ∧ (∃ a_53 : Nat, r_52 = some a_53 ∧ (∃ fs_56 : List Value, h_30 a_53 = some (.inr (2, fs_56)) ∧ (w_J2_size (fun (z_54 : Int32) => (¬ z_54 = 0 ∧ (post (((nI 1000) * (g_41 (x1).toNatClampNeg)) / z_54) h_30))) a_53 h_30)))))))))) ∧ (x2 = 0 → (∃ (fs_58 : List Value) (r_61 : Option Nat), h_30 b0 = some (.inr (0, fs_58)) ∧ fs_58[17]? = some (va_rf r_61) ∧ (∃ a_62 : Nat, r_61 = some a_62 ∧ (∃ (N_63 : Nat) (g_64 : Nat → Int32), h_30 a_62 = some (.inl (0, N_63, .inl g_64)) ∧ vp_in x1 N_63 ∧ (post (g_64 (x1).toNatClampNeg) h_30))))))) b0 h)))) ∧ (¬ z_25 = 0 → (∃ fs_73 : List Value, h b0 = some (.inr (0, fs_73)) ∧ (w_X0_refuse (fun (z_71 : Int32) (h_72 : AH) => (post z_71 h_72)) b0 (-5) h))))) a_24 h))))))) ∧ (z_10 = 0 → (w_X0_share_22 post b0 x1 x2 h 0 0)))) ((x2).toInt64) (lN 0) (lN 1))))) ((x1).toInt64) (lN 0) (lN 5))
theorem b_X0_share_22 {post : (Int32) → (AH) → Prop}   {b0 : Nat} {x1 : Int32} {x2 : Int32}    (h : AH) (k : Nat) (n : Nat) (hw : w_X0_share_22 post b0 x1 x2 h k n) : VV l E X cX0_share RX0 "share" 3 r_X0_share (some .int) (vpi (fun (r : Int32) (h' : AH) => post r h')) h k n 22 [(0, va_rf (some b0)), (1, .int x1), (2, .int x2)] [] := by
  refine v_aload_n (q := 0) dX0_share_22 rfl rfl ?_
  refine v_bipush dX0_share_23 bp_m2 ?_
  obtain ⟨fs_3, e_4, hw⟩ := hw
  refine v_callV0 q396 q398 qs0 q104 q399 (ci := 0) rfl e_4 n_X0_refuse ⟨Nat.le_of_ble_eq_true rfl, Nat.le_of_ble_eq_true rfl⟩ [.int (-2)] [] (met_X0_refuse hw) rfl (Nat.zero_le _) rfl rfl dX0_share_25 rfl (v_ki (fun z_1 h_2 hv => ?_))
  clear hw
  have hw := hv
  clear hv
  exact v_iret dX0_share_28 rfl ⟨_, rfl, hw⟩
theorem e_X0_share {post : (Int32) → (AH) → Prop}   {b0 : Nat} {x1 : Int32} {x2 : Int32} {h : AH}  (hw : w_X0_share post  b0 x1 x2 h) : VV l E X cX0_share RX0 "share" 3 r_X0_share (some .int) (vpi (fun (r : Int32) (h' : AH) => post r h')) h 0 0 0 [(0, va_rf (some b0)), (1, .int x1), (2, .int x2)] [] := by
  refine v_iload_n (q := 1) dX0_share_0 rfl rfl ?_
  refine v_i2l dX0_share_1 ?_
  refine v_lconst (v := lN 0) dX0_share_2 rfl ?_
  refine v_ldc2 (v := (lN 5)) dX0_share_3 q412 ?_
  refine v_callS0 q393 q394 q104 q395 n_X0_in ⟨Nat.le_of_ble_eq_true rfl, Nat.le_of_ble_eq_true rfl⟩ [.long ((x1).toInt64), .long (lN 0), .long (lN 5)] [] (met_X0_in hw) rfl (Nat.zero_le _) rfl rfl dX0_share_6 rfl (v_ki (fun z_5 h1 hv => ?_))
  clear hw
  obtain ⟨e9, hw⟩ := hv
  refine v_heap e9 ?_
  clear e9
  obtain ⟨hw_8, hw_9⟩ := hw
  refine v_if_eq (tgt := 22) dX0_share_9 (by decide) (fun c_6 => ?_) (fun c_7 => ?_)
  · have hw := hw_8 c_6
    refine v_sub [0, 1, 2] rfl ?_
    exact b_X0_share_22 h 0 0 hw
  · have hw := hw_9 c_7
    refine v_iload_n (q := 2) dX0_share_12 rfl rfl ?_
    refine v_i2l dX0_share_13 ?_
    refine v_lconst (v := lN 0) dX0_share_14 rfl ?_
    refine v_lconst (v := lN 1) dX0_share_15 rfl ?_
    refine v_callS0 q393 q394 q104 q395 n_X0_in ⟨Nat.le_of_ble_eq_true rfl, Nat.le_of_ble_eq_true rfl⟩ [.long ((x2).toInt64), .long (lN 0), .long (lN 1)] [] (met_X0_in hw) rfl (Nat.zero_le _) rfl rfl dX0_share_16 rfl (v_ki (fun z_10 h1 hv => ?_))
    clear hw
    obtain ⟨e9, hw⟩ := hv
    refine v_heap e9 ?_
    clear e9
    obtain ⟨hw_13, hw_14⟩ := hw
    refine v_if_ne (tgt := 29) dX0_share_19 (by decide) (fun c_11 => ?_) (fun c_12 => ?_)
    · have hw := hw_13 c_11
      refine v_aload_n (q := 0) dX0_share_29 rfl rfl ?_
      obtain ⟨fs_15, r_18, e_16, e_17, hw⟩ := hw
      refine v_get in_X0 (ci := 0) rfl 1 (Nat.le_of_ble_eq_true rfl) q319 rfl dX0_share_30 e_16 e_17 ?_
      obtain ⟨a_19, ea_19, hw⟩ := hw
      subst ea_19
      obtain ⟨fs_20, r_23, e_21, e_22, hw⟩ := hw
      refine v_getN in_X1 (ci := 1) rfl 5 (Nat.le_of_ble_eq_true rfl) q230 rfl dX0_share_33 e_21 e_22 ?_
      obtain ⟨a_24, ea_24, hw⟩ := hw
      subst ea_24
      obtain ⟨fs_75, e_76, hw⟩ := hw
      refine v_callV0 q986 q987 q988 q108 q989 (ci := 2) rfl e_76 n_J2_isEmpty ⟨Nat.le_of_ble_eq_true rfl, Nat.le_of_ble_eq_true rfl⟩ [] [] (met_J2_isEmpty hw) rfl (Nat.zero_le _) rfl rfl dX0_share_36 rfl (v_ki (fun z_25 h1 hv => ?_))
      clear hw
      obtain ⟨e9, hw⟩ := hv
      refine v_heap e9 ?_
      clear e9
      obtain ⟨hw_28, hw_29⟩ := hw
      refine v_if_eq (tgt := 49) dX0_share_39 (by decide) (fun c_26 => ?_) (fun c_27 => ?_)
      · have hw := hw_28 c_26
        refine v_aload_n (q := 0) dX0_share_49 rfl rfl ?_
        obtain ⟨fs_69, e_70, hw⟩ := hw
        obtain ⟨e_67, e_68, hw⟩ := hw
        refine v_callV q1148 q1150 qs40 q104 q1151 (ci := 0) rfl e_70 n_X0_layKinds ⟨Nat.le_of_ble_eq_true rfl, Nat.le_of_ble_eq_true rfl⟩ [] [] (met_X0_layKinds hw) rfl (Nat.zero_le _) ⟨e_67, e_68⟩ dX0_share_50 rfl (v_kv (fun h_30 hv => ?_))
        clear hw
        have hw := hv
        clear hv
        refine v_iload_n (q := 2) dX0_share_53 rfl rfl ?_
        obtain ⟨hw_33, hw_34⟩ := hw
        refine v_if_ne (tgt := 66) dX0_share_54 (by decide) (fun c_31 => ?_) (fun c_32 => ?_)
        · have hw := hw_33 c_31
          refine v_sipush dX0_share_66 sp_1000 ?_
          refine v_aload_n (q := 0) dX0_share_69 rfl rfl ?_
          obtain ⟨fs_35, r_38, e_36, e_37, hw⟩ := hw
          refine v_get in_X0 (ci := 0) rfl 17 (Nat.le_of_ble_eq_true rfl) q336 rfl dX0_share_70 e_36 e_37 ?_
          refine v_iload_n (q := 1) dX0_share_73 rfl rfl ?_
          obtain ⟨a_39, ea_39, hw⟩ := hw
          subst ea_39
          obtain ⟨N_40, g_41, e_42, hi_43, hw⟩ := hw
          refine v_iald dX0_share_74 e_42 hi_43 ?_
          refine v_imul dX0_share_75 ?_
          refine v_aload_n (q := 0) dX0_share_76 rfl rfl ?_
          obtain ⟨fs_44, r_47, e_45, e_46, hw⟩ := hw
          refine v_get in_X0 (ci := 0) rfl 1 (Nat.le_of_ble_eq_true rfl) q319 rfl dX0_share_77 e_45 e_46 ?_
          obtain ⟨a_48, ea_48, hw⟩ := hw
          subst ea_48
          obtain ⟨fs_49, r_52, e_50, e_51, hw⟩ := hw
          refine v_getN in_X1 (ci := 1) rfl 5 (Nat.le_of_ble_eq_true rfl) q230 rfl dX0_share_80 e_50 e_51 ?_
          obtain ⟨a_53, ea_53, hw⟩ := hw
          subst ea_53
          obtain ⟨fs_56, e_57, hw⟩ := hw
          refine v_callV0 q413 q414 q415 q108 q416 (ci := 2) rfl e_57 n_J2_size ⟨Nat.le_of_ble_eq_true rfl, Nat.le_of_ble_eq_true rfl⟩ [] [.int ((nI 1000) * (g_41 (x1).toNatClampNeg))] (met_J2_size hw) rfl (Nat.le_of_ble_eq_true rfl) rfl rfl dX0_share_83 rfl (v_ki (fun z_54 h1 hv => ?_))
          clear hw
          obtain ⟨e9, hw⟩ := hv
          refine v_heap e9 ?_
          clear e9
          obtain ⟨hz_55, hw⟩ := hw
          refine v_idiv dX0_share_86 hz_55 ?_
          exact v_iret dX0_share_87 rfl ⟨_, rfl, hw⟩
        · have hw := hw_34 c_32
          refine v_aload_n (q := 0) dX0_share_57 rfl rfl ?_
          obtain ⟨fs_58, r_61, e_59, e_60, hw⟩ := hw
          refine v_get in_X0 (ci := 0) rfl 17 (Nat.le_of_ble_eq_true rfl) q336 rfl dX0_share_58 e_59 e_60 ?_
          refine v_iload_n (q := 1) dX0_share_61 rfl rfl ?_
          obtain ⟨a_62, ea_62, hw⟩ := hw
          subst ea_62
          obtain ⟨N_63, g_64, e_65, hi_66, hw⟩ := hw
          refine v_iald dX0_share_62 e_65 hi_66 ?_
          refine v_goto (tgt := 87) dX0_share_63 (by decide) ?_
          exact v_iret dX0_share_87 rfl ⟨_, rfl, hw⟩
      · have hw := hw_29 c_27
        refine v_aload_n (q := 0) dX0_share_42 rfl rfl ?_
        refine v_bipush dX0_share_43 bp_m5 ?_
        obtain ⟨fs_73, e_74, hw⟩ := hw
        refine v_callV0 q396 q398 qs0 q104 q399 (ci := 0) rfl e_74 n_X0_refuse ⟨Nat.le_of_ble_eq_true rfl, Nat.le_of_ble_eq_true rfl⟩ [.int (-5)] [] (met_X0_refuse hw) rfl (Nat.zero_le _) rfl rfl dX0_share_45 rfl (v_ki (fun z_71 h_72 hv => ?_))
        clear hw
        have hw := hv
        clear hv
        exact v_iret dX0_share_48 rfl ⟨_, rfl, hw⟩
    · have hw := hw_14 c_12
      refine v_sub [0, 1, 2] rfl ?_
      exact b_X0_share_22 h 0 0 hw
theorem met_X0_share {post : (Int32) → (AH) → Prop}   {b0 : Nat} {x1 : Int32} {x2 : Int32} {h : AH}  (hw : w_X0_share post  b0 x1 x2 h) : Mt l E yX0_share (ws_ yX0_share cX0_share 3 (some .int)) r_X0_share [va_rf (some b0), .int x1, .int x2] h (vpi (fun (r : Int32) (h' : AH) => post r h')) := v_entry (by decide +kernel) (Nat.le_of_ble_eq_true rfl) rfl (fun _ => e_X0_share hw)
/-! X0_span -/
abbrev r_X0_span : Room := { frames := 209, cells := 11580, slots := 57660, locals := 8296 }
theorem n_X0_span : vdn yX0_span 1 := ⟨by decide +kernel, by decide +kernel, by decide +kernel⟩
def w_X0_span_75 (post : (Int32) → (AH) → Prop) (b0 : Nat) (x1 : Int32) (s0 : Int32) (s1 : Int32) (h : AH) (k : Nat) (n : Nat) : Prop :=
 (∀ z_1 : Int32, z_1 = (s1 + s0) → (∃ (fs_2 : List Value) (r_5 : Option Nat), h b0 = some (.inr (0, fs_2)) ∧ fs_2[1]? = some (va_rf r_5) ∧ (∃ a_6 : Nat, r_5 = some a_6 ∧ (∃ (fs_7 : List Value) (r_10 : Option Nat), h a_6 = some (.inr (1, fs_7)) ∧ fs_7[5]? = some (va_rf r_10) ∧ (∃ a_11 : Nat, r_10 = some a_11 ∧ (∃ fs_14 : List Value, h a_11 = some (.inr (2, fs_14)) ∧ (w_J2_size (fun (z_12 : Int32) => (¬ z_12 = 0 ∧ (post (((nI 1000) * z_1) / z_12) h))) a_11 h)))))))
def w_X0_span (post : (Int32) → (AH) → Prop) (b0 : Nat) (x1 : Int32) (h : AH) : Prop :=
 (w_X0_in (fun (z_16 : Int32) => ((¬ z_16 = 0 → (∃ (fs_21 : List Value) (r_24 : Option Nat), h b0 = some (.inr (0, fs_21)) ∧ fs_21[1]? = some (va_rf r_24) ∧ (∃ a_25 : Nat, r_24 = some a_25 ∧ (∃ (fs_26 : List Value) (r_29 : Option Nat), h a_25 = some (.inr (1, fs_26)) ∧ fs_26[5]? = some (va_rf r_29) ∧ (∃ a_30 : Nat, r_29 = some a_30 ∧ (∃ fs_85 : List Value, h a_30 = some (.inr (2, fs_85)) ∧ (w_J2_isEmpty (fun (z_31 : Int32) => ((z_31 = 0 → (∃ fs_79 : List Value, h b0 = some (.inr (0, fs_79)) ∧ (0 + 11580 ≤ 11580 ∧ 0 + 57660 ≤ 57660 ∧ (w_X0_layKinds (fun (h_36 : AH) => (∃ (fs_37 : List Value) (r_40 : Option Nat), h_36 b0 = some (.inr (0, fs_37)) ∧ fs_37[17]? = some (va_rf r_40) ∧ (∃ a_41 : Nat, r_40 = some a_41 ∧ (∃ (N_42 : Nat) (g_43 : Nat → Int32), h_36 a_41 = some (.inl (0, N_42, .inl g_43)) ∧ vp_in (nI 0) N_42 ∧ (∃ (fs_46 : List Value) (r_49 : Option Nat), h_36 b0 = some (.inr (0, fs_46)) ∧ fs_46[17]? = some (va_rf r_49) ∧ (∃ a_50 : Nat, r_49 = some a_50 ∧ (∃ (N_51 : Nat) (g_52 : Nat → Int32), h_36 a_50 = some (.inl (0, N_51, .inl g_52)) ∧ vp_in (nI 1) N_51 ∧ (∃ (fs_55 : List Value) (r_58 : Option Nat), h_36 b0 = some (.inr (0, fs_55)) ∧ fs_55[17]? = some (va_rf r_58) ∧ (∃ a_59 : Nat, r_58 = some a_59 ∧ (∃ (N_60 : Nat) (g_61 : Nat → Int32), h_36 a_59 = some (.inl (0, N_60, .inl g_61)) ∧ vp_in (nI 2) N_60 ∧ ((¬ x1 = 0 → (∃ (fs_68 : List Value) (r_71 : Option Nat), h_36 b0 = some (.inr (0, fs_68)) ∧ fs_68[17]? = some (va_rf r_71) ∧ (∃ a_72 : Nat, r_71 = some a_72 ∧ (∃ (N_73 : Nat) (g_74 : Nat → Int32), h_36 a_72 = some (.inl (0, N_73, .inl g_74)) ∧ vp_in (nI 4) N_73 ∧ (w_X0_span_75 post b0 x1 (g_74 ((nI 4)).toNatClampNeg) (((g_43 ((nI 0)).toNatClampNeg) + (g_52 ((nI 1)).toNatClampNeg)) + (g_61 ((nI 2)).toNatClampNeg)) h_36 (0 + 11580) (0 + 57660)))))) ∧ (x1 = 0 → (w_X0_span_75 post b0 x1 (nI 0) (((g_43 ((nI 0)).toNatClampNeg) + (g_52 ((nI 1)).toNatClampNeg)) + (g_61 ((nI 2)).toNatClampNeg)) h_36 (0 + 11580) (0 + 57660)))))))))))))) b0 h)))) ∧ (¬ z_31 = 0 → (∃ fs_83 : List Value, h b0 = some (.inr (0, fs_83)) ∧ (w_X0_refuse (fun (z_81 : Int32) (h_82 : AH) => (post z_81 h_82)) b0 (-5) h))))) a_30 h))))))) ∧ (z_16 = 0 → (∃ fs_89 : List Value, h b0 = some (.inr (0, fs_89)) ∧ (w_X0_refuse (fun (z_87 : Int32) (h_88 : AH) => (post z_87 h_88)) b0 (-2) h))))) ((x1).toInt64) (lN 0) (lN 1))
theorem b_X0_span_75 {post : (Int32) → (AH) → Prop}   {b0 : Nat} {x1 : Int32}    (s0 : Int32) (s1 : Int32) (h : AH) (k : Nat) (n : Nat) (hw : w_X0_span_75 post b0 x1 s0 s1 h k n) : VV l E X cX0_span RX0 "span" 3 r_X0_span (some .int) (vpi (fun (r : Int32) (h' : AH) => post r h')) h k n 75 [(0, va_rf (some b0)), (1, .int x1)] [.int s0, .int s1] := by
  refine v_iadd dX0_span_75 ?_
  refine v_topi (fun z_1 e_1 => ?_)
  replace hw := hw z_1 e_1
  refine v_istore_n (lv1 := [(2, .int z_1), (0, va_rf (some b0)), (1, .int x1)]) dX0_span_76 rfl (Nat.le_of_ble_eq_true rfl) rfl ?_
  refine v_sipush dX0_span_77 sp_1000 ?_
  refine v_iload_n (q := 0) dX0_span_80 rfl rfl ?_
  refine v_imul dX0_span_81 ?_
  refine v_aload_n (q := 1) dX0_span_82 rfl rfl ?_
  obtain ⟨fs_2, r_5, e_3, e_4, hw⟩ := hw
  refine v_get in_X0 (ci := 0) rfl 1 (Nat.le_of_ble_eq_true rfl) q319 rfl dX0_span_83 e_3 e_4 ?_
  obtain ⟨a_6, ea_6, hw⟩ := hw
  subst ea_6
  obtain ⟨fs_7, r_10, e_8, e_9, hw⟩ := hw
  refine v_getN in_X1 (ci := 1) rfl 5 (Nat.le_of_ble_eq_true rfl) q230 rfl dX0_span_86 e_8 e_9 ?_
  obtain ⟨a_11, ea_11, hw⟩ := hw
  subst ea_11
  obtain ⟨fs_14, e_15, hw⟩ := hw
  refine v_callV0 q413 q414 q415 q108 q416 (ci := 2) rfl e_15 n_J2_size ⟨Nat.le_of_ble_eq_true rfl, Nat.le_of_ble_eq_true rfl⟩ [] [.int ((nI 1000) * z_1)] (met_J2_size hw) rfl (Nat.le_of_ble_eq_true rfl) rfl rfl dX0_span_89 rfl (v_ki (fun z_12 h1 hv => ?_))
  clear hw
  obtain ⟨e9, hw⟩ := hv
  refine v_heap e9 ?_
  clear e9
  obtain ⟨hz_13, hw⟩ := hw
  refine v_idiv dX0_span_92 hz_13 ?_
  exact v_iret dX0_span_93 rfl ⟨_, rfl, hw⟩
theorem e_X0_span {post : (Int32) → (AH) → Prop}   {b0 : Nat} {x1 : Int32} {h : AH}  (hw : w_X0_span post  b0 x1 h) : VV l E X cX0_span RX0 "span" 3 r_X0_span (some .int) (vpi (fun (r : Int32) (h' : AH) => post r h')) h 0 0 0 [(0, va_rf (some b0)), (1, .int x1)] [] := by
  refine v_iload_n (q := 1) dX0_span_0 rfl rfl ?_
  refine v_i2l dX0_span_1 ?_
  refine v_lconst (v := lN 0) dX0_span_2 rfl ?_
  refine v_lconst (v := lN 1) dX0_span_3 rfl ?_
  refine v_callS0 q393 q394 q104 q395 n_X0_in ⟨Nat.le_of_ble_eq_true rfl, Nat.le_of_ble_eq_true rfl⟩ [.long ((x1).toInt64), .long (lN 0), .long (lN 1)] [] (met_X0_in hw) rfl (Nat.zero_le _) rfl rfl dX0_span_4 rfl (v_ki (fun z_16 h1 hv => ?_))
  clear hw
  obtain ⟨e9, hw⟩ := hv
  refine v_heap e9 ?_
  clear e9
  obtain ⟨hw_19, hw_20⟩ := hw
  refine v_if_ne (tgt := 17) dX0_span_7 (by decide) (fun c_17 => ?_) (fun c_18 => ?_)
  · have hw := hw_19 c_17
    refine v_aload_n (q := 0) dX0_span_17 rfl rfl ?_
    obtain ⟨fs_21, r_24, e_22, e_23, hw⟩ := hw
    refine v_get in_X0 (ci := 0) rfl 1 (Nat.le_of_ble_eq_true rfl) q319 rfl dX0_span_18 e_22 e_23 ?_
    obtain ⟨a_25, ea_25, hw⟩ := hw
    subst ea_25
    obtain ⟨fs_26, r_29, e_27, e_28, hw⟩ := hw
    refine v_getN in_X1 (ci := 1) rfl 5 (Nat.le_of_ble_eq_true rfl) q230 rfl dX0_span_21 e_27 e_28 ?_
    obtain ⟨a_30, ea_30, hw⟩ := hw
    subst ea_30
    obtain ⟨fs_85, e_86, hw⟩ := hw
    refine v_callV0 q986 q987 q988 q108 q989 (ci := 2) rfl e_86 n_J2_isEmpty ⟨Nat.le_of_ble_eq_true rfl, Nat.le_of_ble_eq_true rfl⟩ [] [] (met_J2_isEmpty hw) rfl (Nat.zero_le _) rfl rfl dX0_span_24 rfl (v_ki (fun z_31 h1 hv => ?_))
    clear hw
    obtain ⟨e9, hw⟩ := hv
    refine v_heap e9 ?_
    clear e9
    obtain ⟨hw_34, hw_35⟩ := hw
    refine v_if_eq (tgt := 37) dX0_span_27 (by decide) (fun c_32 => ?_) (fun c_33 => ?_)
    · have hw := hw_34 c_32
      refine v_aload_n (q := 0) dX0_span_37 rfl rfl ?_
      obtain ⟨fs_79, e_80, hw⟩ := hw
      obtain ⟨e_77, e_78, hw⟩ := hw
      refine v_callV q1148 q1150 qs40 q104 q1151 (ci := 0) rfl e_80 n_X0_layKinds ⟨Nat.le_of_ble_eq_true rfl, Nat.le_of_ble_eq_true rfl⟩ [] [] (met_X0_layKinds hw) rfl (Nat.zero_le _) ⟨e_77, e_78⟩ dX0_span_38 rfl (v_kv (fun h_36 hv => ?_))
      clear hw
      have hw := hv
      clear hv
      refine v_aload_n (q := 0) dX0_span_41 rfl rfl ?_
      obtain ⟨fs_37, r_40, e_38, e_39, hw⟩ := hw
      refine v_get in_X0 (ci := 0) rfl 17 (Nat.le_of_ble_eq_true rfl) q336 rfl dX0_span_42 e_38 e_39 ?_
      refine v_iconst dX0_span_45 ic_0 ?_
      obtain ⟨a_41, ea_41, hw⟩ := hw
      subst ea_41
      obtain ⟨N_42, g_43, e_44, hi_45, hw⟩ := hw
      refine v_iald dX0_span_46 e_44 hi_45 ?_
      refine v_aload_n (q := 0) dX0_span_47 rfl rfl ?_
      obtain ⟨fs_46, r_49, e_47, e_48, hw⟩ := hw
      refine v_get in_X0 (ci := 0) rfl 17 (Nat.le_of_ble_eq_true rfl) q336 rfl dX0_span_48 e_47 e_48 ?_
      refine v_iconst dX0_span_51 ic_1 ?_
      obtain ⟨a_50, ea_50, hw⟩ := hw
      subst ea_50
      obtain ⟨N_51, g_52, e_53, hi_54, hw⟩ := hw
      refine v_iald dX0_span_52 e_53 hi_54 ?_
      refine v_iadd dX0_span_53 ?_
      refine v_aload_n (q := 0) dX0_span_54 rfl rfl ?_
      obtain ⟨fs_55, r_58, e_56, e_57, hw⟩ := hw
      refine v_get in_X0 (ci := 0) rfl 17 (Nat.le_of_ble_eq_true rfl) q336 rfl dX0_span_55 e_56 e_57 ?_
      refine v_iconst dX0_span_58 ic_2 ?_
      obtain ⟨a_59, ea_59, hw⟩ := hw
      subst ea_59
      obtain ⟨N_60, g_61, e_62, hi_63, hw⟩ := hw
      refine v_iald dX0_span_59 e_62 hi_63 ?_
      refine v_iadd dX0_span_60 ?_
      refine v_iload_n (q := 1) dX0_span_61 rfl rfl ?_
      obtain ⟨hw_66, hw_67⟩ := hw
      refine v_if_ne (tgt := 69) dX0_span_62 (by decide) (fun c_64 => ?_) (fun c_65 => ?_)
      · have hw := hw_66 c_64
        refine v_aload_n (q := 0) dX0_span_69 rfl rfl ?_
        obtain ⟨fs_68, r_71, e_69, e_70, hw⟩ := hw
        refine v_get in_X0 (ci := 0) rfl 17 (Nat.le_of_ble_eq_true rfl) q336 rfl dX0_span_70 e_69 e_70 ?_
        refine v_iconst dX0_span_73 ic_4 ?_
        obtain ⟨a_72, ea_72, hw⟩ := hw
        subst ea_72
        obtain ⟨N_73, g_74, e_75, hi_76, hw⟩ := hw
        refine v_iald dX0_span_74 e_75 hi_76 ?_
        refine v_sub [0, 1] rfl ?_
        exact b_X0_span_75 (g_74 ((nI 4)).toNatClampNeg) (((g_43 ((nI 0)).toNatClampNeg) + (g_52 ((nI 1)).toNatClampNeg)) + (g_61 ((nI 2)).toNatClampNeg)) h_36 (0 + 11580) (0 + 57660) hw
      · have hw := hw_67 c_65
        refine v_iconst dX0_span_65 ic_0 ?_
        refine v_goto (tgt := 75) dX0_span_66 (by decide) ?_
        refine v_sub [0, 1] rfl ?_
        exact b_X0_span_75 (nI 0) (((g_43 ((nI 0)).toNatClampNeg) + (g_52 ((nI 1)).toNatClampNeg)) + (g_61 ((nI 2)).toNatClampNeg)) h_36 (0 + 11580) (0 + 57660) hw
    · have hw := hw_35 c_33
      refine v_aload_n (q := 0) dX0_span_30 rfl rfl ?_
      refine v_bipush dX0_span_31 bp_m5 ?_
      obtain ⟨fs_83, e_84, hw⟩ := hw
      refine v_callV0 q396 q398 qs0 q104 q399 (ci := 0) rfl e_84 n_X0_refuse ⟨Nat.le_of_ble_eq_true rfl, Nat.le_of_ble_eq_true rfl⟩ [.int (-5)] [] (met_X0_refuse hw) rfl (Nat.zero_le _) rfl rfl dX0_span_33 rfl (v_ki (fun z_81 h_82 hv => ?_))
      clear hw
      have hw := hv
      clear hv
      exact v_iret dX0_span_36 rfl ⟨_, rfl, hw⟩
  · have hw := hw_20 c_18
    refine v_aload_n (q := 0) dX0_span_10 rfl rfl ?_
    refine v_bipush dX0_span_11 bp_m2 ?_
    obtain ⟨fs_89, e_90, hw⟩ := hw
    refine v_callV0 q396 q398 qs0 q104 q399 (ci := 0) rfl e_90 n_X0_refuse ⟨Nat.le_of_ble_eq_true rfl, Nat.le_of_ble_eq_true rfl⟩ [.int (-2)] [] (met_X0_refuse hw) rfl (Nat.zero_le _) rfl rfl dX0_span_13 rfl (v_ki (fun z_87 h_88 hv => ?_))
    clear hw
    have hw := hv
    clear hv
    exact v_iret dX0_span_16 rfl ⟨_, rfl, hw⟩
theorem met_X0_span {post : (Int32) → (AH) → Prop}   {b0 : Nat} {x1 : Int32} {h : AH}  (hw : w_X0_span post  b0 x1 h) : Mt l E yX0_span (ws_ yX0_span cX0_span 3 (some .int)) r_X0_span [va_rf (some b0), .int x1] h (vpi (fun (r : Int32) (h' : AH) => post r h')) := v_entry (by decide +kernel) (Nat.le_of_ble_eq_true rfl) rfl (fun _ => e_X0_span hw)
end WALK
